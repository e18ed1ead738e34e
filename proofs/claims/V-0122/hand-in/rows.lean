section
/-! pure rows to paste: stores, nI and lN arithmetic, masks, shifts, narrowing, branches by naturals (pk_le, pk_lt, pk_eq), loops (lp1 .. lp16: the measure of the state; rp1 ..: recursion), negatives. Take what you need -/
theorem pk_us {f : Nat → Int32} {k : Nat} {x : Int32} : upd f k x k = x := if_pos rfl
theorem pk_un {f : Nat → Int32} {k j : Nat} {x : Int32} (h : j ≠ k) : upd f k x j = f j := if_neg h
theorem pk_uLs {f : Nat → Int64} {k : Nat} {x : Int64} : vp_updL f k x k = x := if_pos rfl
theorem pk_uLn {f : Nat → Int64} {k j : Nat} {x : Int64} (h : j ≠ k) : vp_updL f k x j = f j := if_neg h
theorem pk_sub {a b : Nat} (h : b ≤ a) : nI a - nI b = nI (a - b) := by
  obtain ⟨c, rfl⟩ : ∃ c, a = c + b := ⟨a - b, by omega⟩
  rw [← nI_add, Int32.add_sub_cancel, Nat.add_sub_cancel]
theorem pk_m1 (n : Nat) : nI (n + 1) + (-1) = nI n := by
  rw [← nI_1, Int32.add_assoc, show (1 : Int32) + (-1) = 0 from rfl, Int32.add_zero]
theorem pk_mul (a b : Nat) : nI a * nI b = nI (a * b) := (Int32.ofNat_mul a b).symm
theorem pk_div {a d : Nat} (ha : a < 2 ^ 31) (h0 : 0 < d) (hd : d < 2 ^ 31) : nI a / nI d = nI (a / d) := by
  apply Int32.toInt_inj.mp
  rw [lg_idiv_nonneg (by rw [nI_toInt ha]; omega) (by rw [nI_toInt hd]; omega), nI_toInt ha, nI_toInt hd, nI_toInt (Nat.lt_of_le_of_lt (Nat.div_le_self a d) ha)]
  first | rfl | exact (Int.natCast_ediv _ _).symm
theorem pk_rem {a d : Nat} (ha : a < 2 ^ 31) (h0 : 0 < d) (hd : d < 2 ^ 31) : nI a - nI a / nI d * nI d = nI (a % d) := by
  rw [pk_div ha h0 hd, pk_mul, pk_sub (Nat.div_mul_le_self a d)]
  exact congrArg nI (by have := Nat.div_add_mod' a d; omega)
theorem pk_sub_toInt {a b : Nat} (ha : a < 2 ^ 30) (hb : b < 2 ^ 30) : (nI a - nI b).toInt = (a : Int) - b := by
  rw [Int32.toInt_sub, nI_toInt (by omega), nI_toInt (by omega)]
  exact Int.bmod_eq_of_le (by omega) (by omega)
theorem pk_sneg {a b : Nat} (hb : b < 2 ^ 30) (h : a < b) : nI a - nI b < 0 := by
  rw [Int32.lt_iff_toInt_lt, pk_sub_toInt (by omega) hb, show (0 : Int32).toInt = 0 from by decide]
  omega
theorem pk_ix (x : Int32) {n : Nat} (hn : n < 2 ^ 31) : x < 0 ∨ nI n ≤ x ∨ ∃ j : Nat, j < n ∧ x = nI j := by
  by_cases h : x < 0
  · exact Or.inl h
  · obtain ⟨j, hj, rfl⟩ := nI_of h
    by_cases h2 : j < n
    · exact Or.inr (Or.inr ⟨j, h2, rfl⟩)
    · exact Or.inr (Or.inl (nI_le (by omega) hj))
theorem pk_le {x y : Int32} {A B : Prop} (a b : Nat) (f : a ≤ b → A) (g : b < a → B) (hx : x = nI a := by rfl) (hy : y = nI b := by rfl) (ha : a < 2 ^ 31 := by omega) (hb : b < 2 ^ 31 := by omega) : (x ≤ y → A) ∧ (¬ x ≤ y → B) := by
  subst hx hy
  rw [nI_leI ha hb]
  exact ⟨f, fun z => g (by omega)⟩
theorem pk_lt {x y : Int32} {A B : Prop} (a b : Nat) (f : a < b → A) (g : b ≤ a → B) (hx : x = nI a := by rfl) (hy : y = nI b := by rfl) (ha : a < 2 ^ 31 := by omega) (hb : b < 2 ^ 31 := by omega) : (x < y → A) ∧ (¬ x < y → B) := by
  subst hx hy
  rw [nI_ltI ha hb]
  exact ⟨f, fun z => g (by omega)⟩
theorem pk_eq {x y : Int32} {A B : Prop} (a b : Nat) (f : a = b → A) (g : a ≠ b → B) (hx : x = nI a := by rfl) (hy : y = nI b := by rfl) (ha : a < 2 ^ 31 := by omega) (hb : b < 2 ^ 31 := by omega) : (x = y → A) ∧ (¬ x = y → B) := by
  subst hx hy
  rw [nI_eq ha hb]
  exact ⟨f, g⟩
theorem pk_in {x : Int32} (n N : Nat) (h : n < N) (hx : x = nI n := by rfl) (hN : N < 2 ^ 31 := by omega) : vp_in x N := by
  subst hx
  exact vp_in_nI h hN
theorem pk_cl {x : Int32} (n : Nat) (hx : x = nI n := by rfl) (h : n < 2 ^ 31 := by omega) : x.toNatClampNeg = n := by
  subst hx
  exact nI_clamp h
theorem pk_tn {n : Nat} (h : n < 2 ^ 32) : (nI n).toBitVec.toNat = n := Nat.mod_eq_of_lt h
theorem pk_and (x : Int32) {m : Int32} (k : Nat) (hm : m.toBitVec.toNat = 2 ^ k - 1) : x &&& m = nI (x.toBitVec.toNat % 2 ^ k) := by
  apply Int32.toBitVec_inj.mp
  apply BitVec.eq_of_toNat_eq
  rw [Int32.toBitVec_and, BitVec.toNat_and, hm, Nat.and_two_pow_sub_one_eq_mod]
  show _ = (BitVec.ofNat 32 _).toNat
  rw [BitVec.toNat_ofNat]
  exact (Nat.mod_eq_of_lt (Nat.lt_of_le_of_lt (Nat.mod_le _ _) x.toBitVec.isLt)).symm
theorem pk_andN {n : Nat} (h : n < 2 ^ 32) {m : Int32} (k : Nat) (hm : m.toBitVec.toNat = 2 ^ k - 1) : nI n &&& m = nI (n % 2 ^ k) := by
  rw [pk_and _ k hm, pk_tn h]
theorem pk_andE (x : Int32) {m : Int32} (k : Nat) (hm : m.toBitVec.toNat = 2 ^ k - 1) : ∃ j : Nat, j < 2 ^ k ∧ x &&& m = nI j := ⟨_, Nat.mod_lt _ (Nat.two_pow_pos k), pk_and x k hm⟩
theorem pk_andIn (x : Int32) {m : Int32} (k : Nat) (hm : m.toBitVec.toNat = 2 ^ k - 1) (hk : k ≤ 30) : vp_in (x &&& m) (2 ^ k) := by
  obtain ⟨j, hj, e⟩ := pk_andE x k hm
  rw [e]
  exact vp_in_nI hj (Nat.lt_of_le_of_lt (Nat.pow_le_pow_right (by decide) hk) (by decide))
theorem pk_shl (a s : Int32) (k : Nat) (hs : (s.toBitVec.smod 32).toNat = k) : (a <<< s).toBitVec.toNat = a.toBitVec.toNat * 2 ^ k % 2 ^ 32 := by
  show (a.toBitVec <<< (s.toBitVec.smod 32).toNat).toNat = _
  rw [hs, BitVec.toNat_shiftLeft, Nat.shiftLeft_eq]
theorem pk_shlN {n : Nat} (s : Int32) (k : Nat) (hs : (s.toBitVec.smod 32).toNat = k) (h : n * 2 ^ k < 2 ^ 32) : nI n <<< s = nI (n * 2 ^ k) := by
  apply Int32.toBitVec_inj.mp
  apply BitVec.eq_of_toNat_eq
  have hn : n < 2 ^ 32 := Nat.lt_of_le_of_lt (Nat.le_mul_of_pos_right n (Nat.two_pow_pos k)) h
  rw [pk_shl _ _ k hs, pk_tn hn, pk_tn h, Nat.mod_eq_of_lt h]
theorem pk_shr (a s : Int32) (k : Nat) (hs : (s.toBitVec.smod 32).toNat = k) : (a >>> s).toInt = a.toInt >>> k := by
  show (a.toBitVec.sshiftRight (s.toBitVec.smod 32).toNat).toInt = _
  rw [hs, BitVec.toInt_sshiftRight]
  rfl
theorem pk_shrN {n : Nat} (h : n < 2 ^ 31) (s : Int32) (k : Nat) (hs : (s.toBitVec.smod 32).toNat = k) : nI n >>> s = nI (n / 2 ^ k) := by
  apply Int32.toInt_inj.mp
  have h2 : n / 2 ^ k ≤ n := Nat.div_le_self _ _
  rw [pk_shr _ _ k hs, nI_toInt h, nI_toInt (by omega), Int.shiftRight_eq_div_pow]
  rfl
theorem pk_ushr (x s : Int32) (k : Nat) (hs : ((s.toUInt32 &&& Int32.toUInt32 31).toBitVec % 32).toNat = k) : (x.toUInt32 >>> (s.toUInt32 &&& Int32.toUInt32 31)).toInt32.toBitVec.toNat = x.toBitVec.toNat / 2 ^ k := by
  have e : (x.toUInt32 >>> (s.toUInt32 &&& Int32.toUInt32 31)).toInt32.toBitVec = x.toBitVec >>> k := by
    rw [← hs]
    exact UInt32.toBitVec_shiftRight _ _
  rw [e, BitVec.toNat_ushiftRight, Nat.shiftRight_eq_div_pow]
theorem pk_ushrN {n : Nat} (hn : n < 2 ^ 32) (s : Int32) (k : Nat) (hs : ((s.toUInt32 &&& Int32.toUInt32 31).toBitVec % 32).toNat = k) : ((nI n).toUInt32 >>> (s.toUInt32 &&& Int32.toUInt32 31)).toInt32 = nI (n / 2 ^ k) := by
  apply Int32.toBitVec_inj.mp
  apply BitVec.eq_of_toNat_eq
  rw [pk_ushr _ s k hs, pk_tn hn, pk_tn (Nat.lt_of_le_of_lt (Nat.div_le_self _ _) hn)]
theorem pk_nb (z : Int32) : narrow .byte (.int z.toInt8.toInt32) = .int z.toInt8.toInt32 := congrArg Value.int (by simp)
theorem pk_ns (z : Int32) : narrow .short (.int z.toInt16.toInt32) = .int z.toInt16.toInt32 := congrArg Value.int (by simp)
theorem pk_fb (r : Int32) : fits .byte (.int r.toInt8.toInt32) = true := by
  have ⟨a, b⟩ := lg_i2b_range r
  have h1 : (-128 : Int32).toInt = -128 := by decide
  have h2 : (127 : Int32).toInt = 127 := by decide
  simp only [fits, Bool.and_eq_true, decide_eq_true_eq, Int32.le_iff_toInt_le, h1, h2]
  omega
theorem pk_fs (r : Int32) : fits .short (.int r.toInt16.toInt32) = true := by
  have ⟨a, b⟩ := lg_i2s_range r
  have h1 : (-32768 : Int32).toInt = -32768 := by decide
  have h2 : (32767 : Int32).toInt = 32767 := by decide
  simp only [fits, Bool.and_eq_true, decide_eq_true_eq, Int32.le_iff_toInt_le, h1, h2]
  omega
theorem pk_charN {q : Nat} (hq : q < 65536) : narrow .char (.int (nI q)) = .int (nI q) ∧ fits .char (.int (nI q)) = true := by
  constructor
  · have e : (nI q).toUInt32.toUInt16.toUInt32.toInt32 = nI q := by
      apply Int32.toBitVec_inj.mp
      apply BitVec.eq_of_toNat_eq
      show (nI q).toUInt32.toUInt16.toUInt32.toNat = q % 2 ^ 32
      rw [UInt16.toNat_toUInt32, UInt32.toNat_toUInt16, show (nI q).toUInt32.toNat = q % 2 ^ 32 from rfl]
      omega
    exact congrArg Value.int e
  · have a : (0 : Int32) ≤ nI q := nI_pos' (by omega)
    have b : nI q ≤ 65535 := nI_le (b := 65535) (by omega) (by decide)
    show (decide ((0 : Int32) ≤ nI q) && decide (nI q ≤ 65535)) = true
    rw [decide_eq_true a, decide_eq_true b]
    rfl
theorem pk_char (x : Int32) : (x.toUInt32 % 65536).toInt32 = nI (x.toBitVec.toNat % 65536) := by
  apply Int32.toBitVec_inj.mp
  apply BitVec.eq_of_toNat_eq
  rw [pk_tn (by omega)]
  show (x.toUInt32 % 65536).toNat = _
  rw [UInt32.toNat_mod]
  rfl
theorem pk_nc (x : Int32) : narrow .char (.int (x.toUInt32 % 65536).toInt32) = .int (x.toUInt32 % 65536).toInt32 := by
  rw [pk_char]
  exact (pk_charN (Nat.mod_lt _ (by decide))).1
theorem pk_fc (x : Int32) : fits .char (.int (x.toUInt32 % 65536).toInt32) = true := by
  rw [pk_char]
  exact (pk_charN (Nat.mod_lt _ (by decide))).2
theorem pk_vb (z : Int32) : vp_nar .byte z.toInt8.toInt32 = z.toInt8.toInt32 := by rw [vp_nar_byte]; simp
theorem pk_vs (z : Int32) : vp_nar .short z.toInt16.toInt32 = z.toInt16.toInt32 := by rw [vp_nar_short]; simp
theorem pk_vc (z : Int32) : vp_nar .char (z.toUInt32 % 65536).toInt32 = (z.toUInt32 % 65536).toInt32 := Value.int.inj (pk_nc z)
theorem pk_lT {n : Nat} (h : n < 2 ^ 63) : (lN n).toInt = (n : Int) := lg_ofNat_toInt h
theorem pk_lLT {a b : Nat} (ha : a < 2 ^ 63) (hb : b < 2 ^ 63) : lN a < lN b ↔ a < b := by
  rw [Int64.lt_iff_toInt_lt, pk_lT ha, pk_lT hb]; omega
theorem pk_lLE {a b : Nat} (ha : a < 2 ^ 63) (hb : b < 2 ^ 63) : lN a ≤ lN b ↔ a ≤ b := by
  rw [Int64.le_iff_toInt_le, pk_lT ha, pk_lT hb]; omega
theorem pk_lEQ {a b : Nat} (ha : a < 2 ^ 63) (hb : b < 2 ^ 63) : lN a = lN b ↔ a = b := by
  rw [← Int64.toInt_inj, pk_lT ha, pk_lT hb]; omega
theorem pk_lOf {x : Int64} (h : ¬ x < 0) : ∃ k : Nat, k < 2 ^ 63 ∧ x = lN k := by
  rw [Int64.lt_iff_toInt_lt] at h
  have h0 : (0 : Int64).toInt = 0 := by decide
  have hx := Int64.toInt_lt x
  refine ⟨x.toInt.toNat, by omega, Int64.toInt_inj.mp ?_⟩
  rw [pk_lT (by omega)]
  omega
theorem pk_lDiv {a b : Nat} (ha : a < 2 ^ 63) (h0 : 0 < b) (hb : b < 2 ^ 63) : lN a / lN b = lN (a / b) := by
  apply Int64.toInt_inj.mp
  rw [lg_ldiv_nonneg (by rw [pk_lT ha]; omega) (by rw [pk_lT hb]; omega), pk_lT ha, pk_lT hb, pk_lT (Nat.lt_of_le_of_lt (Nat.div_le_self a b) ha)]
  rfl
theorem pk_lRem {a b : Nat} (ha : a < 2 ^ 63) (h0 : 0 < b) (hb : b < 2 ^ 63) : lN a - lN a / lN b * lN b = lN (a % b) := by
  rw [pk_lDiv ha h0 hb, lN_mul, lN_sub (Nat.div_mul_le_self a b)]
  exact congrArg lN (by have := Nat.div_add_mod' a b; omega)
theorem pk_loop {σ : Type} (W : Nat → Nat → σ → Prop) (I : Nat → σ → Prop) (e i0 : Nat) (s : σ) (hi : i0 ≤ e) (h0 : I i0 s) (hx : ∀ n s, I e s → W (n + 1) e s)
    (hs : ∀ n i s, i < e → I i s → (∀ s', I (i + 1) s' → W n (i + 1) s') → W (n + 1) i s) : ∃ n, W n i0 s :=
  ⟨e + 1, loop_i W I e hx hs (e + 1) i0 s hi (by omega) h0⟩
theorem pk_loopD {σ : Type} (W : Nat → Nat → σ → Prop) (I : Nat → σ → Prop) (hx : ∀ n s, I 0 s → W (n + 1) 0 s)
    (hs : ∀ n i s, I (i + 1) s → (∀ s', I i s' → W n i s') → W (n + 1) (i + 1) s) : ∀ (e : Nat) (s : σ), I e s → W (e + 1) e s := by
  intro e
  induction e with
  | zero => exact fun s h => hx 0 s h
  | succ e ih => exact fun s h => hs (e + 1) e s h (fun s' h' => ih s' h')
theorem lp1 {A1 : Type} (W : Nat → A1 → Prop) (I : A1 → Prop) (μ : A1 → Nat) (hs : ∀ (n : Nat) (a1 : A1), I a1 → (∀ (b1 : A1), I b1 → μ b1 < μ a1 → W n b1) → W (n + 1) a1) (a1 : A1) (h : I a1) : ∃ n, W n a1 :=
  loop_m (σ := A1) (fun n s => W n s) (fun s => I s) (fun s => μ s) (fun n s hI hk => hs n s hI (fun b1 h9 hm => hk b1 h9 hm)) a1 h
theorem lp2 {A1 A2 : Type} (W : Nat → A1 → A2 → Prop) (I : A1 → A2 → Prop) (μ : A1 → A2 → Nat) (hs : ∀ (n : Nat) (a1 : A1) (a2 : A2), I a1 a2 → (∀ (b1 : A1) (b2 : A2), I b1 b2 → μ b1 b2 < μ a1 a2 → W n b1 b2) → W (n + 1) a1 a2) (a1 : A1) (a2 : A2) (h : I a1 a2) : ∃ n, W n a1 a2 :=
  loop_m (σ := A1 × A2) (fun n s => W n s.1 s.2) (fun s => I s.1 s.2) (fun s => μ s.1 s.2) (fun n s hI hk => hs n s.1 s.2 hI (fun b1 b2 h9 hm => hk (b1, b2) h9 hm)) (a1, a2) h
theorem lp3 {A1 A2 A3 : Type} (W : Nat → A1 → A2 → A3 → Prop) (I : A1 → A2 → A3 → Prop) (μ : A1 → A2 → A3 → Nat) (hs : ∀ (n : Nat) (a1 : A1) (a2 : A2) (a3 : A3), I a1 a2 a3 → (∀ (b1 : A1) (b2 : A2) (b3 : A3), I b1 b2 b3 → μ b1 b2 b3 < μ a1 a2 a3 → W n b1 b2 b3) → W (n + 1) a1 a2 a3) (a1 : A1) (a2 : A2) (a3 : A3) (h : I a1 a2 a3) : ∃ n, W n a1 a2 a3 :=
  loop_m (σ := A1 × A2 × A3) (fun n s => W n s.1 s.2.1 s.2.2) (fun s => I s.1 s.2.1 s.2.2) (fun s => μ s.1 s.2.1 s.2.2) (fun n s hI hk => hs n s.1 s.2.1 s.2.2 hI (fun b1 b2 b3 h9 hm => hk (b1, b2, b3) h9 hm)) (a1, a2, a3) h
theorem lp4 {A1 A2 A3 A4 : Type} (W : Nat → A1 → A2 → A3 → A4 → Prop) (I : A1 → A2 → A3 → A4 → Prop) (μ : A1 → A2 → A3 → A4 → Nat) (hs : ∀ (n : Nat) (a1 : A1) (a2 : A2) (a3 : A3) (a4 : A4), I a1 a2 a3 a4 → (∀ (b1 : A1) (b2 : A2) (b3 : A3) (b4 : A4), I b1 b2 b3 b4 → μ b1 b2 b3 b4 < μ a1 a2 a3 a4 → W n b1 b2 b3 b4) → W (n + 1) a1 a2 a3 a4) (a1 : A1) (a2 : A2) (a3 : A3) (a4 : A4) (h : I a1 a2 a3 a4) : ∃ n, W n a1 a2 a3 a4 :=
  loop_m (σ := A1 × A2 × A3 × A4) (fun n s => W n s.1 s.2.1 s.2.2.1 s.2.2.2) (fun s => I s.1 s.2.1 s.2.2.1 s.2.2.2) (fun s => μ s.1 s.2.1 s.2.2.1 s.2.2.2) (fun n s hI hk => hs n s.1 s.2.1 s.2.2.1 s.2.2.2 hI (fun b1 b2 b3 b4 h9 hm => hk (b1, b2, b3, b4) h9 hm)) (a1, a2, a3, a4) h
theorem lp5 {A1 A2 A3 A4 A5 : Type} (W : Nat → A1 → A2 → A3 → A4 → A5 → Prop) (I : A1 → A2 → A3 → A4 → A5 → Prop) (μ : A1 → A2 → A3 → A4 → A5 → Nat) (hs : ∀ (n : Nat) (a1 : A1) (a2 : A2) (a3 : A3) (a4 : A4) (a5 : A5), I a1 a2 a3 a4 a5 → (∀ (b1 : A1) (b2 : A2) (b3 : A3) (b4 : A4) (b5 : A5), I b1 b2 b3 b4 b5 → μ b1 b2 b3 b4 b5 < μ a1 a2 a3 a4 a5 → W n b1 b2 b3 b4 b5) → W (n + 1) a1 a2 a3 a4 a5) (a1 : A1) (a2 : A2) (a3 : A3) (a4 : A4) (a5 : A5) (h : I a1 a2 a3 a4 a5) : ∃ n, W n a1 a2 a3 a4 a5 :=
  loop_m (σ := A1 × A2 × A3 × A4 × A5) (fun n s => W n s.1 s.2.1 s.2.2.1 s.2.2.2.1 s.2.2.2.2) (fun s => I s.1 s.2.1 s.2.2.1 s.2.2.2.1 s.2.2.2.2) (fun s => μ s.1 s.2.1 s.2.2.1 s.2.2.2.1 s.2.2.2.2) (fun n s hI hk => hs n s.1 s.2.1 s.2.2.1 s.2.2.2.1 s.2.2.2.2 hI (fun b1 b2 b3 b4 b5 h9 hm => hk (b1, b2, b3, b4, b5) h9 hm)) (a1, a2, a3, a4, a5) h
theorem lp6 {A1 A2 A3 A4 A5 A6 : Type} (W : Nat → A1 → A2 → A3 → A4 → A5 → A6 → Prop) (I : A1 → A2 → A3 → A4 → A5 → A6 → Prop) (μ : A1 → A2 → A3 → A4 → A5 → A6 → Nat) (hs : ∀ (n : Nat) (a1 : A1) (a2 : A2) (a3 : A3) (a4 : A4) (a5 : A5) (a6 : A6), I a1 a2 a3 a4 a5 a6 → (∀ (b1 : A1) (b2 : A2) (b3 : A3) (b4 : A4) (b5 : A5) (b6 : A6), I b1 b2 b3 b4 b5 b6 → μ b1 b2 b3 b4 b5 b6 < μ a1 a2 a3 a4 a5 a6 → W n b1 b2 b3 b4 b5 b6) → W (n + 1) a1 a2 a3 a4 a5 a6) (a1 : A1) (a2 : A2) (a3 : A3) (a4 : A4) (a5 : A5) (a6 : A6) (h : I a1 a2 a3 a4 a5 a6) : ∃ n, W n a1 a2 a3 a4 a5 a6 :=
  loop_m (σ := A1 × A2 × A3 × A4 × A5 × A6) (fun n s => W n s.1 s.2.1 s.2.2.1 s.2.2.2.1 s.2.2.2.2.1 s.2.2.2.2.2) (fun s => I s.1 s.2.1 s.2.2.1 s.2.2.2.1 s.2.2.2.2.1 s.2.2.2.2.2) (fun s => μ s.1 s.2.1 s.2.2.1 s.2.2.2.1 s.2.2.2.2.1 s.2.2.2.2.2) (fun n s hI hk => hs n s.1 s.2.1 s.2.2.1 s.2.2.2.1 s.2.2.2.2.1 s.2.2.2.2.2 hI (fun b1 b2 b3 b4 b5 b6 h9 hm => hk (b1, b2, b3, b4, b5, b6) h9 hm)) (a1, a2, a3, a4, a5, a6) h
theorem lp7 {A1 A2 A3 A4 A5 A6 A7 : Type} (W : Nat → A1 → A2 → A3 → A4 → A5 → A6 → A7 → Prop) (I : A1 → A2 → A3 → A4 → A5 → A6 → A7 → Prop) (μ : A1 → A2 → A3 → A4 → A5 → A6 → A7 → Nat) (hs : ∀ (n : Nat) (a1 : A1) (a2 : A2) (a3 : A3) (a4 : A4) (a5 : A5) (a6 : A6) (a7 : A7), I a1 a2 a3 a4 a5 a6 a7 → (∀ (b1 : A1) (b2 : A2) (b3 : A3) (b4 : A4) (b5 : A5) (b6 : A6) (b7 : A7), I b1 b2 b3 b4 b5 b6 b7 → μ b1 b2 b3 b4 b5 b6 b7 < μ a1 a2 a3 a4 a5 a6 a7 → W n b1 b2 b3 b4 b5 b6 b7) → W (n + 1) a1 a2 a3 a4 a5 a6 a7) (a1 : A1) (a2 : A2) (a3 : A3) (a4 : A4) (a5 : A5) (a6 : A6) (a7 : A7) (h : I a1 a2 a3 a4 a5 a6 a7) : ∃ n, W n a1 a2 a3 a4 a5 a6 a7 :=
  loop_m (σ := A1 × A2 × A3 × A4 × A5 × A6 × A7) (fun n s => W n s.1 s.2.1 s.2.2.1 s.2.2.2.1 s.2.2.2.2.1 s.2.2.2.2.2.1 s.2.2.2.2.2.2) (fun s => I s.1 s.2.1 s.2.2.1 s.2.2.2.1 s.2.2.2.2.1 s.2.2.2.2.2.1 s.2.2.2.2.2.2) (fun s => μ s.1 s.2.1 s.2.2.1 s.2.2.2.1 s.2.2.2.2.1 s.2.2.2.2.2.1 s.2.2.2.2.2.2) (fun n s hI hk => hs n s.1 s.2.1 s.2.2.1 s.2.2.2.1 s.2.2.2.2.1 s.2.2.2.2.2.1 s.2.2.2.2.2.2 hI (fun b1 b2 b3 b4 b5 b6 b7 h9 hm => hk (b1, b2, b3, b4, b5, b6, b7) h9 hm)) (a1, a2, a3, a4, a5, a6, a7) h
theorem lp8 {A1 A2 A3 A4 A5 A6 A7 A8 : Type} (W : Nat → A1 → A2 → A3 → A4 → A5 → A6 → A7 → A8 → Prop) (I : A1 → A2 → A3 → A4 → A5 → A6 → A7 → A8 → Prop) (μ : A1 → A2 → A3 → A4 → A5 → A6 → A7 → A8 → Nat) (hs : ∀ (n : Nat) (a1 : A1) (a2 : A2) (a3 : A3) (a4 : A4) (a5 : A5) (a6 : A6) (a7 : A7) (a8 : A8), I a1 a2 a3 a4 a5 a6 a7 a8 → (∀ (b1 : A1) (b2 : A2) (b3 : A3) (b4 : A4) (b5 : A5) (b6 : A6) (b7 : A7) (b8 : A8), I b1 b2 b3 b4 b5 b6 b7 b8 → μ b1 b2 b3 b4 b5 b6 b7 b8 < μ a1 a2 a3 a4 a5 a6 a7 a8 → W n b1 b2 b3 b4 b5 b6 b7 b8) → W (n + 1) a1 a2 a3 a4 a5 a6 a7 a8) (a1 : A1) (a2 : A2) (a3 : A3) (a4 : A4) (a5 : A5) (a6 : A6) (a7 : A7) (a8 : A8) (h : I a1 a2 a3 a4 a5 a6 a7 a8) : ∃ n, W n a1 a2 a3 a4 a5 a6 a7 a8 :=
  loop_m (σ := A1 × A2 × A3 × A4 × A5 × A6 × A7 × A8) (fun n s => W n s.1 s.2.1 s.2.2.1 s.2.2.2.1 s.2.2.2.2.1 s.2.2.2.2.2.1 s.2.2.2.2.2.2.1 s.2.2.2.2.2.2.2) (fun s => I s.1 s.2.1 s.2.2.1 s.2.2.2.1 s.2.2.2.2.1 s.2.2.2.2.2.1 s.2.2.2.2.2.2.1 s.2.2.2.2.2.2.2) (fun s => μ s.1 s.2.1 s.2.2.1 s.2.2.2.1 s.2.2.2.2.1 s.2.2.2.2.2.1 s.2.2.2.2.2.2.1 s.2.2.2.2.2.2.2) (fun n s hI hk => hs n s.1 s.2.1 s.2.2.1 s.2.2.2.1 s.2.2.2.2.1 s.2.2.2.2.2.1 s.2.2.2.2.2.2.1 s.2.2.2.2.2.2.2 hI (fun b1 b2 b3 b4 b5 b6 b7 b8 h9 hm => hk (b1, b2, b3, b4, b5, b6, b7, b8) h9 hm)) (a1, a2, a3, a4, a5, a6, a7, a8) h
theorem lp9 {A1 A2 A3 A4 A5 A6 A7 A8 A9 : Type} (W : Nat → A1 → A2 → A3 → A4 → A5 → A6 → A7 → A8 → A9 → Prop) (I : A1 → A2 → A3 → A4 → A5 → A6 → A7 → A8 → A9 → Prop) (μ : A1 → A2 → A3 → A4 → A5 → A6 → A7 → A8 → A9 → Nat) (hs : ∀ (n : Nat) (a1 : A1) (a2 : A2) (a3 : A3) (a4 : A4) (a5 : A5) (a6 : A6) (a7 : A7) (a8 : A8) (a9 : A9), I a1 a2 a3 a4 a5 a6 a7 a8 a9 → (∀ (b1 : A1) (b2 : A2) (b3 : A3) (b4 : A4) (b5 : A5) (b6 : A6) (b7 : A7) (b8 : A8) (b9 : A9), I b1 b2 b3 b4 b5 b6 b7 b8 b9 → μ b1 b2 b3 b4 b5 b6 b7 b8 b9 < μ a1 a2 a3 a4 a5 a6 a7 a8 a9 → W n b1 b2 b3 b4 b5 b6 b7 b8 b9) → W (n + 1) a1 a2 a3 a4 a5 a6 a7 a8 a9) (a1 : A1) (a2 : A2) (a3 : A3) (a4 : A4) (a5 : A5) (a6 : A6) (a7 : A7) (a8 : A8) (a9 : A9) (h : I a1 a2 a3 a4 a5 a6 a7 a8 a9) : ∃ n, W n a1 a2 a3 a4 a5 a6 a7 a8 a9 :=
  loop_m (σ := A1 × A2 × A3 × A4 × A5 × A6 × A7 × A8 × A9) (fun n s => W n s.1 s.2.1 s.2.2.1 s.2.2.2.1 s.2.2.2.2.1 s.2.2.2.2.2.1 s.2.2.2.2.2.2.1 s.2.2.2.2.2.2.2.1 s.2.2.2.2.2.2.2.2) (fun s => I s.1 s.2.1 s.2.2.1 s.2.2.2.1 s.2.2.2.2.1 s.2.2.2.2.2.1 s.2.2.2.2.2.2.1 s.2.2.2.2.2.2.2.1 s.2.2.2.2.2.2.2.2) (fun s => μ s.1 s.2.1 s.2.2.1 s.2.2.2.1 s.2.2.2.2.1 s.2.2.2.2.2.1 s.2.2.2.2.2.2.1 s.2.2.2.2.2.2.2.1 s.2.2.2.2.2.2.2.2) (fun n s hI hk => hs n s.1 s.2.1 s.2.2.1 s.2.2.2.1 s.2.2.2.2.1 s.2.2.2.2.2.1 s.2.2.2.2.2.2.1 s.2.2.2.2.2.2.2.1 s.2.2.2.2.2.2.2.2 hI (fun b1 b2 b3 b4 b5 b6 b7 b8 b9 h9 hm => hk (b1, b2, b3, b4, b5, b6, b7, b8, b9) h9 hm)) (a1, a2, a3, a4, a5, a6, a7, a8, a9) h
theorem lp10 {A1 A2 A3 A4 A5 A6 A7 A8 A9 A10 : Type} (W : Nat → A1 → A2 → A3 → A4 → A5 → A6 → A7 → A8 → A9 → A10 → Prop) (I : A1 → A2 → A3 → A4 → A5 → A6 → A7 → A8 → A9 → A10 → Prop) (μ : A1 → A2 → A3 → A4 → A5 → A6 → A7 → A8 → A9 → A10 → Nat) (hs : ∀ (n : Nat) (a1 : A1) (a2 : A2) (a3 : A3) (a4 : A4) (a5 : A5) (a6 : A6) (a7 : A7) (a8 : A8) (a9 : A9) (a10 : A10), I a1 a2 a3 a4 a5 a6 a7 a8 a9 a10 → (∀ (b1 : A1) (b2 : A2) (b3 : A3) (b4 : A4) (b5 : A5) (b6 : A6) (b7 : A7) (b8 : A8) (b9 : A9) (b10 : A10), I b1 b2 b3 b4 b5 b6 b7 b8 b9 b10 → μ b1 b2 b3 b4 b5 b6 b7 b8 b9 b10 < μ a1 a2 a3 a4 a5 a6 a7 a8 a9 a10 → W n b1 b2 b3 b4 b5 b6 b7 b8 b9 b10) → W (n + 1) a1 a2 a3 a4 a5 a6 a7 a8 a9 a10) (a1 : A1) (a2 : A2) (a3 : A3) (a4 : A4) (a5 : A5) (a6 : A6) (a7 : A7) (a8 : A8) (a9 : A9) (a10 : A10) (h : I a1 a2 a3 a4 a5 a6 a7 a8 a9 a10) : ∃ n, W n a1 a2 a3 a4 a5 a6 a7 a8 a9 a10 :=
  loop_m (σ := A1 × A2 × A3 × A4 × A5 × A6 × A7 × A8 × A9 × A10) (fun n s => W n s.1 s.2.1 s.2.2.1 s.2.2.2.1 s.2.2.2.2.1 s.2.2.2.2.2.1 s.2.2.2.2.2.2.1 s.2.2.2.2.2.2.2.1 s.2.2.2.2.2.2.2.2.1 s.2.2.2.2.2.2.2.2.2) (fun s => I s.1 s.2.1 s.2.2.1 s.2.2.2.1 s.2.2.2.2.1 s.2.2.2.2.2.1 s.2.2.2.2.2.2.1 s.2.2.2.2.2.2.2.1 s.2.2.2.2.2.2.2.2.1 s.2.2.2.2.2.2.2.2.2) (fun s => μ s.1 s.2.1 s.2.2.1 s.2.2.2.1 s.2.2.2.2.1 s.2.2.2.2.2.1 s.2.2.2.2.2.2.1 s.2.2.2.2.2.2.2.1 s.2.2.2.2.2.2.2.2.1 s.2.2.2.2.2.2.2.2.2) (fun n s hI hk => hs n s.1 s.2.1 s.2.2.1 s.2.2.2.1 s.2.2.2.2.1 s.2.2.2.2.2.1 s.2.2.2.2.2.2.1 s.2.2.2.2.2.2.2.1 s.2.2.2.2.2.2.2.2.1 s.2.2.2.2.2.2.2.2.2 hI (fun b1 b2 b3 b4 b5 b6 b7 b8 b9 b10 h9 hm => hk (b1, b2, b3, b4, b5, b6, b7, b8, b9, b10) h9 hm)) (a1, a2, a3, a4, a5, a6, a7, a8, a9, a10) h
theorem lp11 {A1 A2 A3 A4 A5 A6 A7 A8 A9 A10 A11 : Type} (W : Nat → A1 → A2 → A3 → A4 → A5 → A6 → A7 → A8 → A9 → A10 → A11 → Prop) (I : A1 → A2 → A3 → A4 → A5 → A6 → A7 → A8 → A9 → A10 → A11 → Prop) (μ : A1 → A2 → A3 → A4 → A5 → A6 → A7 → A8 → A9 → A10 → A11 → Nat) (hs : ∀ (n : Nat) (a1 : A1) (a2 : A2) (a3 : A3) (a4 : A4) (a5 : A5) (a6 : A6) (a7 : A7) (a8 : A8) (a9 : A9) (a10 : A10) (a11 : A11), I a1 a2 a3 a4 a5 a6 a7 a8 a9 a10 a11 → (∀ (b1 : A1) (b2 : A2) (b3 : A3) (b4 : A4) (b5 : A5) (b6 : A6) (b7 : A7) (b8 : A8) (b9 : A9) (b10 : A10) (b11 : A11), I b1 b2 b3 b4 b5 b6 b7 b8 b9 b10 b11 → μ b1 b2 b3 b4 b5 b6 b7 b8 b9 b10 b11 < μ a1 a2 a3 a4 a5 a6 a7 a8 a9 a10 a11 → W n b1 b2 b3 b4 b5 b6 b7 b8 b9 b10 b11) → W (n + 1) a1 a2 a3 a4 a5 a6 a7 a8 a9 a10 a11) (a1 : A1) (a2 : A2) (a3 : A3) (a4 : A4) (a5 : A5) (a6 : A6) (a7 : A7) (a8 : A8) (a9 : A9) (a10 : A10) (a11 : A11) (h : I a1 a2 a3 a4 a5 a6 a7 a8 a9 a10 a11) : ∃ n, W n a1 a2 a3 a4 a5 a6 a7 a8 a9 a10 a11 :=
  loop_m (σ := A1 × A2 × A3 × A4 × A5 × A6 × A7 × A8 × A9 × A10 × A11) (fun n s => W n s.1 s.2.1 s.2.2.1 s.2.2.2.1 s.2.2.2.2.1 s.2.2.2.2.2.1 s.2.2.2.2.2.2.1 s.2.2.2.2.2.2.2.1 s.2.2.2.2.2.2.2.2.1 s.2.2.2.2.2.2.2.2.2.1 s.2.2.2.2.2.2.2.2.2.2) (fun s => I s.1 s.2.1 s.2.2.1 s.2.2.2.1 s.2.2.2.2.1 s.2.2.2.2.2.1 s.2.2.2.2.2.2.1 s.2.2.2.2.2.2.2.1 s.2.2.2.2.2.2.2.2.1 s.2.2.2.2.2.2.2.2.2.1 s.2.2.2.2.2.2.2.2.2.2) (fun s => μ s.1 s.2.1 s.2.2.1 s.2.2.2.1 s.2.2.2.2.1 s.2.2.2.2.2.1 s.2.2.2.2.2.2.1 s.2.2.2.2.2.2.2.1 s.2.2.2.2.2.2.2.2.1 s.2.2.2.2.2.2.2.2.2.1 s.2.2.2.2.2.2.2.2.2.2) (fun n s hI hk => hs n s.1 s.2.1 s.2.2.1 s.2.2.2.1 s.2.2.2.2.1 s.2.2.2.2.2.1 s.2.2.2.2.2.2.1 s.2.2.2.2.2.2.2.1 s.2.2.2.2.2.2.2.2.1 s.2.2.2.2.2.2.2.2.2.1 s.2.2.2.2.2.2.2.2.2.2 hI (fun b1 b2 b3 b4 b5 b6 b7 b8 b9 b10 b11 h9 hm => hk (b1, b2, b3, b4, b5, b6, b7, b8, b9, b10, b11) h9 hm)) (a1, a2, a3, a4, a5, a6, a7, a8, a9, a10, a11) h
theorem lp12 {A1 A2 A3 A4 A5 A6 A7 A8 A9 A10 A11 A12 : Type} (W : Nat → A1 → A2 → A3 → A4 → A5 → A6 → A7 → A8 → A9 → A10 → A11 → A12 → Prop) (I : A1 → A2 → A3 → A4 → A5 → A6 → A7 → A8 → A9 → A10 → A11 → A12 → Prop) (μ : A1 → A2 → A3 → A4 → A5 → A6 → A7 → A8 → A9 → A10 → A11 → A12 → Nat) (hs : ∀ (n : Nat) (a1 : A1) (a2 : A2) (a3 : A3) (a4 : A4) (a5 : A5) (a6 : A6) (a7 : A7) (a8 : A8) (a9 : A9) (a10 : A10) (a11 : A11) (a12 : A12), I a1 a2 a3 a4 a5 a6 a7 a8 a9 a10 a11 a12 → (∀ (b1 : A1) (b2 : A2) (b3 : A3) (b4 : A4) (b5 : A5) (b6 : A6) (b7 : A7) (b8 : A8) (b9 : A9) (b10 : A10) (b11 : A11) (b12 : A12), I b1 b2 b3 b4 b5 b6 b7 b8 b9 b10 b11 b12 → μ b1 b2 b3 b4 b5 b6 b7 b8 b9 b10 b11 b12 < μ a1 a2 a3 a4 a5 a6 a7 a8 a9 a10 a11 a12 → W n b1 b2 b3 b4 b5 b6 b7 b8 b9 b10 b11 b12) → W (n + 1) a1 a2 a3 a4 a5 a6 a7 a8 a9 a10 a11 a12) (a1 : A1) (a2 : A2) (a3 : A3) (a4 : A4) (a5 : A5) (a6 : A6) (a7 : A7) (a8 : A8) (a9 : A9) (a10 : A10) (a11 : A11) (a12 : A12) (h : I a1 a2 a3 a4 a5 a6 a7 a8 a9 a10 a11 a12) : ∃ n, W n a1 a2 a3 a4 a5 a6 a7 a8 a9 a10 a11 a12 :=
  loop_m (σ := A1 × A2 × A3 × A4 × A5 × A6 × A7 × A8 × A9 × A10 × A11 × A12) (fun n s => W n s.1 s.2.1 s.2.2.1 s.2.2.2.1 s.2.2.2.2.1 s.2.2.2.2.2.1 s.2.2.2.2.2.2.1 s.2.2.2.2.2.2.2.1 s.2.2.2.2.2.2.2.2.1 s.2.2.2.2.2.2.2.2.2.1 s.2.2.2.2.2.2.2.2.2.2.1 s.2.2.2.2.2.2.2.2.2.2.2) (fun s => I s.1 s.2.1 s.2.2.1 s.2.2.2.1 s.2.2.2.2.1 s.2.2.2.2.2.1 s.2.2.2.2.2.2.1 s.2.2.2.2.2.2.2.1 s.2.2.2.2.2.2.2.2.1 s.2.2.2.2.2.2.2.2.2.1 s.2.2.2.2.2.2.2.2.2.2.1 s.2.2.2.2.2.2.2.2.2.2.2) (fun s => μ s.1 s.2.1 s.2.2.1 s.2.2.2.1 s.2.2.2.2.1 s.2.2.2.2.2.1 s.2.2.2.2.2.2.1 s.2.2.2.2.2.2.2.1 s.2.2.2.2.2.2.2.2.1 s.2.2.2.2.2.2.2.2.2.1 s.2.2.2.2.2.2.2.2.2.2.1 s.2.2.2.2.2.2.2.2.2.2.2) (fun n s hI hk => hs n s.1 s.2.1 s.2.2.1 s.2.2.2.1 s.2.2.2.2.1 s.2.2.2.2.2.1 s.2.2.2.2.2.2.1 s.2.2.2.2.2.2.2.1 s.2.2.2.2.2.2.2.2.1 s.2.2.2.2.2.2.2.2.2.1 s.2.2.2.2.2.2.2.2.2.2.1 s.2.2.2.2.2.2.2.2.2.2.2 hI (fun b1 b2 b3 b4 b5 b6 b7 b8 b9 b10 b11 b12 h9 hm => hk (b1, b2, b3, b4, b5, b6, b7, b8, b9, b10, b11, b12) h9 hm)) (a1, a2, a3, a4, a5, a6, a7, a8, a9, a10, a11, a12) h
theorem lp13 {A1 A2 A3 A4 A5 A6 A7 A8 A9 A10 A11 A12 A13 : Type} (W : Nat → A1 → A2 → A3 → A4 → A5 → A6 → A7 → A8 → A9 → A10 → A11 → A12 → A13 → Prop) (I : A1 → A2 → A3 → A4 → A5 → A6 → A7 → A8 → A9 → A10 → A11 → A12 → A13 → Prop) (μ : A1 → A2 → A3 → A4 → A5 → A6 → A7 → A8 → A9 → A10 → A11 → A12 → A13 → Nat) (hs : ∀ (n : Nat) (a1 : A1) (a2 : A2) (a3 : A3) (a4 : A4) (a5 : A5) (a6 : A6) (a7 : A7) (a8 : A8) (a9 : A9) (a10 : A10) (a11 : A11) (a12 : A12) (a13 : A13), I a1 a2 a3 a4 a5 a6 a7 a8 a9 a10 a11 a12 a13 → (∀ (b1 : A1) (b2 : A2) (b3 : A3) (b4 : A4) (b5 : A5) (b6 : A6) (b7 : A7) (b8 : A8) (b9 : A9) (b10 : A10) (b11 : A11) (b12 : A12) (b13 : A13), I b1 b2 b3 b4 b5 b6 b7 b8 b9 b10 b11 b12 b13 → μ b1 b2 b3 b4 b5 b6 b7 b8 b9 b10 b11 b12 b13 < μ a1 a2 a3 a4 a5 a6 a7 a8 a9 a10 a11 a12 a13 → W n b1 b2 b3 b4 b5 b6 b7 b8 b9 b10 b11 b12 b13) → W (n + 1) a1 a2 a3 a4 a5 a6 a7 a8 a9 a10 a11 a12 a13) (a1 : A1) (a2 : A2) (a3 : A3) (a4 : A4) (a5 : A5) (a6 : A6) (a7 : A7) (a8 : A8) (a9 : A9) (a10 : A10) (a11 : A11) (a12 : A12) (a13 : A13) (h : I a1 a2 a3 a4 a5 a6 a7 a8 a9 a10 a11 a12 a13) : ∃ n, W n a1 a2 a3 a4 a5 a6 a7 a8 a9 a10 a11 a12 a13 :=
  loop_m (σ := A1 × A2 × A3 × A4 × A5 × A6 × A7 × A8 × A9 × A10 × A11 × A12 × A13) (fun n s => W n s.1 s.2.1 s.2.2.1 s.2.2.2.1 s.2.2.2.2.1 s.2.2.2.2.2.1 s.2.2.2.2.2.2.1 s.2.2.2.2.2.2.2.1 s.2.2.2.2.2.2.2.2.1 s.2.2.2.2.2.2.2.2.2.1 s.2.2.2.2.2.2.2.2.2.2.1 s.2.2.2.2.2.2.2.2.2.2.2.1 s.2.2.2.2.2.2.2.2.2.2.2.2) (fun s => I s.1 s.2.1 s.2.2.1 s.2.2.2.1 s.2.2.2.2.1 s.2.2.2.2.2.1 s.2.2.2.2.2.2.1 s.2.2.2.2.2.2.2.1 s.2.2.2.2.2.2.2.2.1 s.2.2.2.2.2.2.2.2.2.1 s.2.2.2.2.2.2.2.2.2.2.1 s.2.2.2.2.2.2.2.2.2.2.2.1 s.2.2.2.2.2.2.2.2.2.2.2.2) (fun s => μ s.1 s.2.1 s.2.2.1 s.2.2.2.1 s.2.2.2.2.1 s.2.2.2.2.2.1 s.2.2.2.2.2.2.1 s.2.2.2.2.2.2.2.1 s.2.2.2.2.2.2.2.2.1 s.2.2.2.2.2.2.2.2.2.1 s.2.2.2.2.2.2.2.2.2.2.1 s.2.2.2.2.2.2.2.2.2.2.2.1 s.2.2.2.2.2.2.2.2.2.2.2.2) (fun n s hI hk => hs n s.1 s.2.1 s.2.2.1 s.2.2.2.1 s.2.2.2.2.1 s.2.2.2.2.2.1 s.2.2.2.2.2.2.1 s.2.2.2.2.2.2.2.1 s.2.2.2.2.2.2.2.2.1 s.2.2.2.2.2.2.2.2.2.1 s.2.2.2.2.2.2.2.2.2.2.1 s.2.2.2.2.2.2.2.2.2.2.2.1 s.2.2.2.2.2.2.2.2.2.2.2.2 hI (fun b1 b2 b3 b4 b5 b6 b7 b8 b9 b10 b11 b12 b13 h9 hm => hk (b1, b2, b3, b4, b5, b6, b7, b8, b9, b10, b11, b12, b13) h9 hm)) (a1, a2, a3, a4, a5, a6, a7, a8, a9, a10, a11, a12, a13) h
theorem lp14 {A1 A2 A3 A4 A5 A6 A7 A8 A9 A10 A11 A12 A13 A14 : Type} (W : Nat → A1 → A2 → A3 → A4 → A5 → A6 → A7 → A8 → A9 → A10 → A11 → A12 → A13 → A14 → Prop) (I : A1 → A2 → A3 → A4 → A5 → A6 → A7 → A8 → A9 → A10 → A11 → A12 → A13 → A14 → Prop) (μ : A1 → A2 → A3 → A4 → A5 → A6 → A7 → A8 → A9 → A10 → A11 → A12 → A13 → A14 → Nat) (hs : ∀ (n : Nat) (a1 : A1) (a2 : A2) (a3 : A3) (a4 : A4) (a5 : A5) (a6 : A6) (a7 : A7) (a8 : A8) (a9 : A9) (a10 : A10) (a11 : A11) (a12 : A12) (a13 : A13) (a14 : A14), I a1 a2 a3 a4 a5 a6 a7 a8 a9 a10 a11 a12 a13 a14 → (∀ (b1 : A1) (b2 : A2) (b3 : A3) (b4 : A4) (b5 : A5) (b6 : A6) (b7 : A7) (b8 : A8) (b9 : A9) (b10 : A10) (b11 : A11) (b12 : A12) (b13 : A13) (b14 : A14), I b1 b2 b3 b4 b5 b6 b7 b8 b9 b10 b11 b12 b13 b14 → μ b1 b2 b3 b4 b5 b6 b7 b8 b9 b10 b11 b12 b13 b14 < μ a1 a2 a3 a4 a5 a6 a7 a8 a9 a10 a11 a12 a13 a14 → W n b1 b2 b3 b4 b5 b6 b7 b8 b9 b10 b11 b12 b13 b14) → W (n + 1) a1 a2 a3 a4 a5 a6 a7 a8 a9 a10 a11 a12 a13 a14) (a1 : A1) (a2 : A2) (a3 : A3) (a4 : A4) (a5 : A5) (a6 : A6) (a7 : A7) (a8 : A8) (a9 : A9) (a10 : A10) (a11 : A11) (a12 : A12) (a13 : A13) (a14 : A14) (h : I a1 a2 a3 a4 a5 a6 a7 a8 a9 a10 a11 a12 a13 a14) : ∃ n, W n a1 a2 a3 a4 a5 a6 a7 a8 a9 a10 a11 a12 a13 a14 :=
  loop_m (σ := A1 × A2 × A3 × A4 × A5 × A6 × A7 × A8 × A9 × A10 × A11 × A12 × A13 × A14) (fun n s => W n s.1 s.2.1 s.2.2.1 s.2.2.2.1 s.2.2.2.2.1 s.2.2.2.2.2.1 s.2.2.2.2.2.2.1 s.2.2.2.2.2.2.2.1 s.2.2.2.2.2.2.2.2.1 s.2.2.2.2.2.2.2.2.2.1 s.2.2.2.2.2.2.2.2.2.2.1 s.2.2.2.2.2.2.2.2.2.2.2.1 s.2.2.2.2.2.2.2.2.2.2.2.2.1 s.2.2.2.2.2.2.2.2.2.2.2.2.2) (fun s => I s.1 s.2.1 s.2.2.1 s.2.2.2.1 s.2.2.2.2.1 s.2.2.2.2.2.1 s.2.2.2.2.2.2.1 s.2.2.2.2.2.2.2.1 s.2.2.2.2.2.2.2.2.1 s.2.2.2.2.2.2.2.2.2.1 s.2.2.2.2.2.2.2.2.2.2.1 s.2.2.2.2.2.2.2.2.2.2.2.1 s.2.2.2.2.2.2.2.2.2.2.2.2.1 s.2.2.2.2.2.2.2.2.2.2.2.2.2) (fun s => μ s.1 s.2.1 s.2.2.1 s.2.2.2.1 s.2.2.2.2.1 s.2.2.2.2.2.1 s.2.2.2.2.2.2.1 s.2.2.2.2.2.2.2.1 s.2.2.2.2.2.2.2.2.1 s.2.2.2.2.2.2.2.2.2.1 s.2.2.2.2.2.2.2.2.2.2.1 s.2.2.2.2.2.2.2.2.2.2.2.1 s.2.2.2.2.2.2.2.2.2.2.2.2.1 s.2.2.2.2.2.2.2.2.2.2.2.2.2) (fun n s hI hk => hs n s.1 s.2.1 s.2.2.1 s.2.2.2.1 s.2.2.2.2.1 s.2.2.2.2.2.1 s.2.2.2.2.2.2.1 s.2.2.2.2.2.2.2.1 s.2.2.2.2.2.2.2.2.1 s.2.2.2.2.2.2.2.2.2.1 s.2.2.2.2.2.2.2.2.2.2.1 s.2.2.2.2.2.2.2.2.2.2.2.1 s.2.2.2.2.2.2.2.2.2.2.2.2.1 s.2.2.2.2.2.2.2.2.2.2.2.2.2 hI (fun b1 b2 b3 b4 b5 b6 b7 b8 b9 b10 b11 b12 b13 b14 h9 hm => hk (b1, b2, b3, b4, b5, b6, b7, b8, b9, b10, b11, b12, b13, b14) h9 hm)) (a1, a2, a3, a4, a5, a6, a7, a8, a9, a10, a11, a12, a13, a14) h
theorem lp15 {A1 A2 A3 A4 A5 A6 A7 A8 A9 A10 A11 A12 A13 A14 A15 : Type} (W : Nat → A1 → A2 → A3 → A4 → A5 → A6 → A7 → A8 → A9 → A10 → A11 → A12 → A13 → A14 → A15 → Prop) (I : A1 → A2 → A3 → A4 → A5 → A6 → A7 → A8 → A9 → A10 → A11 → A12 → A13 → A14 → A15 → Prop) (μ : A1 → A2 → A3 → A4 → A5 → A6 → A7 → A8 → A9 → A10 → A11 → A12 → A13 → A14 → A15 → Nat) (hs : ∀ (n : Nat) (a1 : A1) (a2 : A2) (a3 : A3) (a4 : A4) (a5 : A5) (a6 : A6) (a7 : A7) (a8 : A8) (a9 : A9) (a10 : A10) (a11 : A11) (a12 : A12) (a13 : A13) (a14 : A14) (a15 : A15), I a1 a2 a3 a4 a5 a6 a7 a8 a9 a10 a11 a12 a13 a14 a15 → (∀ (b1 : A1) (b2 : A2) (b3 : A3) (b4 : A4) (b5 : A5) (b6 : A6) (b7 : A7) (b8 : A8) (b9 : A9) (b10 : A10) (b11 : A11) (b12 : A12) (b13 : A13) (b14 : A14) (b15 : A15), I b1 b2 b3 b4 b5 b6 b7 b8 b9 b10 b11 b12 b13 b14 b15 → μ b1 b2 b3 b4 b5 b6 b7 b8 b9 b10 b11 b12 b13 b14 b15 < μ a1 a2 a3 a4 a5 a6 a7 a8 a9 a10 a11 a12 a13 a14 a15 → W n b1 b2 b3 b4 b5 b6 b7 b8 b9 b10 b11 b12 b13 b14 b15) → W (n + 1) a1 a2 a3 a4 a5 a6 a7 a8 a9 a10 a11 a12 a13 a14 a15) (a1 : A1) (a2 : A2) (a3 : A3) (a4 : A4) (a5 : A5) (a6 : A6) (a7 : A7) (a8 : A8) (a9 : A9) (a10 : A10) (a11 : A11) (a12 : A12) (a13 : A13) (a14 : A14) (a15 : A15) (h : I a1 a2 a3 a4 a5 a6 a7 a8 a9 a10 a11 a12 a13 a14 a15) : ∃ n, W n a1 a2 a3 a4 a5 a6 a7 a8 a9 a10 a11 a12 a13 a14 a15 :=
  loop_m (σ := A1 × A2 × A3 × A4 × A5 × A6 × A7 × A8 × A9 × A10 × A11 × A12 × A13 × A14 × A15) (fun n s => W n s.1 s.2.1 s.2.2.1 s.2.2.2.1 s.2.2.2.2.1 s.2.2.2.2.2.1 s.2.2.2.2.2.2.1 s.2.2.2.2.2.2.2.1 s.2.2.2.2.2.2.2.2.1 s.2.2.2.2.2.2.2.2.2.1 s.2.2.2.2.2.2.2.2.2.2.1 s.2.2.2.2.2.2.2.2.2.2.2.1 s.2.2.2.2.2.2.2.2.2.2.2.2.1 s.2.2.2.2.2.2.2.2.2.2.2.2.2.1 s.2.2.2.2.2.2.2.2.2.2.2.2.2.2) (fun s => I s.1 s.2.1 s.2.2.1 s.2.2.2.1 s.2.2.2.2.1 s.2.2.2.2.2.1 s.2.2.2.2.2.2.1 s.2.2.2.2.2.2.2.1 s.2.2.2.2.2.2.2.2.1 s.2.2.2.2.2.2.2.2.2.1 s.2.2.2.2.2.2.2.2.2.2.1 s.2.2.2.2.2.2.2.2.2.2.2.1 s.2.2.2.2.2.2.2.2.2.2.2.2.1 s.2.2.2.2.2.2.2.2.2.2.2.2.2.1 s.2.2.2.2.2.2.2.2.2.2.2.2.2.2) (fun s => μ s.1 s.2.1 s.2.2.1 s.2.2.2.1 s.2.2.2.2.1 s.2.2.2.2.2.1 s.2.2.2.2.2.2.1 s.2.2.2.2.2.2.2.1 s.2.2.2.2.2.2.2.2.1 s.2.2.2.2.2.2.2.2.2.1 s.2.2.2.2.2.2.2.2.2.2.1 s.2.2.2.2.2.2.2.2.2.2.2.1 s.2.2.2.2.2.2.2.2.2.2.2.2.1 s.2.2.2.2.2.2.2.2.2.2.2.2.2.1 s.2.2.2.2.2.2.2.2.2.2.2.2.2.2) (fun n s hI hk => hs n s.1 s.2.1 s.2.2.1 s.2.2.2.1 s.2.2.2.2.1 s.2.2.2.2.2.1 s.2.2.2.2.2.2.1 s.2.2.2.2.2.2.2.1 s.2.2.2.2.2.2.2.2.1 s.2.2.2.2.2.2.2.2.2.1 s.2.2.2.2.2.2.2.2.2.2.1 s.2.2.2.2.2.2.2.2.2.2.2.1 s.2.2.2.2.2.2.2.2.2.2.2.2.1 s.2.2.2.2.2.2.2.2.2.2.2.2.2.1 s.2.2.2.2.2.2.2.2.2.2.2.2.2.2 hI (fun b1 b2 b3 b4 b5 b6 b7 b8 b9 b10 b11 b12 b13 b14 b15 h9 hm => hk (b1, b2, b3, b4, b5, b6, b7, b8, b9, b10, b11, b12, b13, b14, b15) h9 hm)) (a1, a2, a3, a4, a5, a6, a7, a8, a9, a10, a11, a12, a13, a14, a15) h
theorem lp16 {A1 A2 A3 A4 A5 A6 A7 A8 A9 A10 A11 A12 A13 A14 A15 A16 : Type} (W : Nat → A1 → A2 → A3 → A4 → A5 → A6 → A7 → A8 → A9 → A10 → A11 → A12 → A13 → A14 → A15 → A16 → Prop) (I : A1 → A2 → A3 → A4 → A5 → A6 → A7 → A8 → A9 → A10 → A11 → A12 → A13 → A14 → A15 → A16 → Prop) (μ : A1 → A2 → A3 → A4 → A5 → A6 → A7 → A8 → A9 → A10 → A11 → A12 → A13 → A14 → A15 → A16 → Nat) (hs : ∀ (n : Nat) (a1 : A1) (a2 : A2) (a3 : A3) (a4 : A4) (a5 : A5) (a6 : A6) (a7 : A7) (a8 : A8) (a9 : A9) (a10 : A10) (a11 : A11) (a12 : A12) (a13 : A13) (a14 : A14) (a15 : A15) (a16 : A16), I a1 a2 a3 a4 a5 a6 a7 a8 a9 a10 a11 a12 a13 a14 a15 a16 → (∀ (b1 : A1) (b2 : A2) (b3 : A3) (b4 : A4) (b5 : A5) (b6 : A6) (b7 : A7) (b8 : A8) (b9 : A9) (b10 : A10) (b11 : A11) (b12 : A12) (b13 : A13) (b14 : A14) (b15 : A15) (b16 : A16), I b1 b2 b3 b4 b5 b6 b7 b8 b9 b10 b11 b12 b13 b14 b15 b16 → μ b1 b2 b3 b4 b5 b6 b7 b8 b9 b10 b11 b12 b13 b14 b15 b16 < μ a1 a2 a3 a4 a5 a6 a7 a8 a9 a10 a11 a12 a13 a14 a15 a16 → W n b1 b2 b3 b4 b5 b6 b7 b8 b9 b10 b11 b12 b13 b14 b15 b16) → W (n + 1) a1 a2 a3 a4 a5 a6 a7 a8 a9 a10 a11 a12 a13 a14 a15 a16) (a1 : A1) (a2 : A2) (a3 : A3) (a4 : A4) (a5 : A5) (a6 : A6) (a7 : A7) (a8 : A8) (a9 : A9) (a10 : A10) (a11 : A11) (a12 : A12) (a13 : A13) (a14 : A14) (a15 : A15) (a16 : A16) (h : I a1 a2 a3 a4 a5 a6 a7 a8 a9 a10 a11 a12 a13 a14 a15 a16) : ∃ n, W n a1 a2 a3 a4 a5 a6 a7 a8 a9 a10 a11 a12 a13 a14 a15 a16 :=
  loop_m (σ := A1 × A2 × A3 × A4 × A5 × A6 × A7 × A8 × A9 × A10 × A11 × A12 × A13 × A14 × A15 × A16) (fun n s => W n s.1 s.2.1 s.2.2.1 s.2.2.2.1 s.2.2.2.2.1 s.2.2.2.2.2.1 s.2.2.2.2.2.2.1 s.2.2.2.2.2.2.2.1 s.2.2.2.2.2.2.2.2.1 s.2.2.2.2.2.2.2.2.2.1 s.2.2.2.2.2.2.2.2.2.2.1 s.2.2.2.2.2.2.2.2.2.2.2.1 s.2.2.2.2.2.2.2.2.2.2.2.2.1 s.2.2.2.2.2.2.2.2.2.2.2.2.2.1 s.2.2.2.2.2.2.2.2.2.2.2.2.2.2.1 s.2.2.2.2.2.2.2.2.2.2.2.2.2.2.2) (fun s => I s.1 s.2.1 s.2.2.1 s.2.2.2.1 s.2.2.2.2.1 s.2.2.2.2.2.1 s.2.2.2.2.2.2.1 s.2.2.2.2.2.2.2.1 s.2.2.2.2.2.2.2.2.1 s.2.2.2.2.2.2.2.2.2.1 s.2.2.2.2.2.2.2.2.2.2.1 s.2.2.2.2.2.2.2.2.2.2.2.1 s.2.2.2.2.2.2.2.2.2.2.2.2.1 s.2.2.2.2.2.2.2.2.2.2.2.2.2.1 s.2.2.2.2.2.2.2.2.2.2.2.2.2.2.1 s.2.2.2.2.2.2.2.2.2.2.2.2.2.2.2) (fun s => μ s.1 s.2.1 s.2.2.1 s.2.2.2.1 s.2.2.2.2.1 s.2.2.2.2.2.1 s.2.2.2.2.2.2.1 s.2.2.2.2.2.2.2.1 s.2.2.2.2.2.2.2.2.1 s.2.2.2.2.2.2.2.2.2.1 s.2.2.2.2.2.2.2.2.2.2.1 s.2.2.2.2.2.2.2.2.2.2.2.1 s.2.2.2.2.2.2.2.2.2.2.2.2.1 s.2.2.2.2.2.2.2.2.2.2.2.2.2.1 s.2.2.2.2.2.2.2.2.2.2.2.2.2.2.1 s.2.2.2.2.2.2.2.2.2.2.2.2.2.2.2) (fun n s hI hk => hs n s.1 s.2.1 s.2.2.1 s.2.2.2.1 s.2.2.2.2.1 s.2.2.2.2.2.1 s.2.2.2.2.2.2.1 s.2.2.2.2.2.2.2.1 s.2.2.2.2.2.2.2.2.1 s.2.2.2.2.2.2.2.2.2.1 s.2.2.2.2.2.2.2.2.2.2.1 s.2.2.2.2.2.2.2.2.2.2.2.1 s.2.2.2.2.2.2.2.2.2.2.2.2.1 s.2.2.2.2.2.2.2.2.2.2.2.2.2.1 s.2.2.2.2.2.2.2.2.2.2.2.2.2.2.1 s.2.2.2.2.2.2.2.2.2.2.2.2.2.2.2 hI (fun b1 b2 b3 b4 b5 b6 b7 b8 b9 b10 b11 b12 b13 b14 b15 b16 h9 hm => hk (b1, b2, b3, b4, b5, b6, b7, b8, b9, b10, b11, b12, b13, b14, b15, b16) h9 hm)) (a1, a2, a3, a4, a5, a6, a7, a8, a9, a10, a11, a12, a13, a14, a15, a16) h
theorem pk_least (P : Nat → Prop) (h : ∃ k, P k) : ∃ k, P k ∧ ∀ j, j < k → ¬ P j := by
  obtain ⟨k, hk⟩ := h
  induction k using Nat.strongRecOn with
  | ind k ih =>
    by_cases e : ∃ j, j < k ∧ P j
    · obtain ⟨j, hj, pj⟩ := e
      exact ih j hj pj
    · exact ⟨k, hk, fun j hj pj => e ⟨j, hj, pj⟩⟩
theorem rp1 {ρ A1 : Type} (W : Nat → (ρ → Prop) → A1 → Prop) (ok : A1 → Prop) (μ : A1 → Nat) (val : A1 → ρ)
    (hs : ∀ (d : Nat) (post : ρ → Prop) (a1 : A1), ok a1 → post (val a1) → (∀ (post' : ρ → Prop) (b1 : A1), ok b1 → μ b1 < μ a1 → post' (val b1) → W d post' b1) → W (d + 1) post a1) :
    ∀ (d : Nat) (post : ρ → Prop) (a1 : A1), ok a1 → μ a1 < d → post (val a1) → W d post a1 := by
  intro d
  induction d with
  | zero => intro post a1 _ h; omega
  | succ d ih =>
    intro post a1 ho hm hp
    exact hs d post a1 ho hp (fun post' b1 ho' hm' hp' => ih post' b1 ho' (by omega) hp')
theorem rp2 {ρ A1 A2 : Type} (W : Nat → (ρ → Prop) → A1 → A2 → Prop) (ok : A1 → A2 → Prop) (μ : A1 → A2 → Nat) (val : A1 → A2 → ρ)
    (hs : ∀ (d : Nat) (post : ρ → Prop) (a1 : A1) (a2 : A2), ok a1 a2 → post (val a1 a2) → (∀ (post' : ρ → Prop) (b1 : A1) (b2 : A2), ok b1 b2 → μ b1 b2 < μ a1 a2 → post' (val b1 b2) → W d post' b1 b2) → W (d + 1) post a1 a2) :
    ∀ (d : Nat) (post : ρ → Prop) (a1 : A1) (a2 : A2), ok a1 a2 → μ a1 a2 < d → post (val a1 a2) → W d post a1 a2 := by
  intro d
  induction d with
  | zero => intro post a1 a2 _ h; omega
  | succ d ih =>
    intro post a1 a2 ho hm hp
    exact hs d post a1 a2 ho hp (fun post' b1 b2 ho' hm' hp' => ih post' b1 b2 ho' (by omega) hp')
theorem rp3 {ρ A1 A2 A3 : Type} (W : Nat → (ρ → Prop) → A1 → A2 → A3 → Prop) (ok : A1 → A2 → A3 → Prop) (μ : A1 → A2 → A3 → Nat) (val : A1 → A2 → A3 → ρ)
    (hs : ∀ (d : Nat) (post : ρ → Prop) (a1 : A1) (a2 : A2) (a3 : A3), ok a1 a2 a3 → post (val a1 a2 a3) → (∀ (post' : ρ → Prop) (b1 : A1) (b2 : A2) (b3 : A3), ok b1 b2 b3 → μ b1 b2 b3 < μ a1 a2 a3 → post' (val b1 b2 b3) → W d post' b1 b2 b3) → W (d + 1) post a1 a2 a3) :
    ∀ (d : Nat) (post : ρ → Prop) (a1 : A1) (a2 : A2) (a3 : A3), ok a1 a2 a3 → μ a1 a2 a3 < d → post (val a1 a2 a3) → W d post a1 a2 a3 := by
  intro d
  induction d with
  | zero => intro post a1 a2 a3 _ h; omega
  | succ d ih =>
    intro post a1 a2 a3 ho hm hp
    exact hs d post a1 a2 a3 ho hp (fun post' b1 b2 b3 ho' hm' hp' => ih post' b1 b2 b3 ho' (by omega) hp')
theorem rp4 {ρ A1 A2 A3 A4 : Type} (W : Nat → (ρ → Prop) → A1 → A2 → A3 → A4 → Prop) (ok : A1 → A2 → A3 → A4 → Prop) (μ : A1 → A2 → A3 → A4 → Nat) (val : A1 → A2 → A3 → A4 → ρ)
    (hs : ∀ (d : Nat) (post : ρ → Prop) (a1 : A1) (a2 : A2) (a3 : A3) (a4 : A4), ok a1 a2 a3 a4 → post (val a1 a2 a3 a4) → (∀ (post' : ρ → Prop) (b1 : A1) (b2 : A2) (b3 : A3) (b4 : A4), ok b1 b2 b3 b4 → μ b1 b2 b3 b4 < μ a1 a2 a3 a4 → post' (val b1 b2 b3 b4) → W d post' b1 b2 b3 b4) → W (d + 1) post a1 a2 a3 a4) :
    ∀ (d : Nat) (post : ρ → Prop) (a1 : A1) (a2 : A2) (a3 : A3) (a4 : A4), ok a1 a2 a3 a4 → μ a1 a2 a3 a4 < d → post (val a1 a2 a3 a4) → W d post a1 a2 a3 a4 := by
  intro d
  induction d with
  | zero => intro post a1 a2 a3 a4 _ h; omega
  | succ d ih =>
    intro post a1 a2 a3 a4 ho hm hp
    exact hs d post a1 a2 a3 a4 ho hp (fun post' b1 b2 b3 b4 ho' hm' hp' => ih post' b1 b2 b3 b4 ho' (by omega) hp')
theorem rp5 {ρ A1 A2 A3 A4 A5 : Type} (W : Nat → (ρ → Prop) → A1 → A2 → A3 → A4 → A5 → Prop) (ok : A1 → A2 → A3 → A4 → A5 → Prop) (μ : A1 → A2 → A3 → A4 → A5 → Nat) (val : A1 → A2 → A3 → A4 → A5 → ρ)
    (hs : ∀ (d : Nat) (post : ρ → Prop) (a1 : A1) (a2 : A2) (a3 : A3) (a4 : A4) (a5 : A5), ok a1 a2 a3 a4 a5 → post (val a1 a2 a3 a4 a5) → (∀ (post' : ρ → Prop) (b1 : A1) (b2 : A2) (b3 : A3) (b4 : A4) (b5 : A5), ok b1 b2 b3 b4 b5 → μ b1 b2 b3 b4 b5 < μ a1 a2 a3 a4 a5 → post' (val b1 b2 b3 b4 b5) → W d post' b1 b2 b3 b4 b5) → W (d + 1) post a1 a2 a3 a4 a5) :
    ∀ (d : Nat) (post : ρ → Prop) (a1 : A1) (a2 : A2) (a3 : A3) (a4 : A4) (a5 : A5), ok a1 a2 a3 a4 a5 → μ a1 a2 a3 a4 a5 < d → post (val a1 a2 a3 a4 a5) → W d post a1 a2 a3 a4 a5 := by
  intro d
  induction d with
  | zero => intro post a1 a2 a3 a4 a5 _ h; omega
  | succ d ih =>
    intro post a1 a2 a3 a4 a5 ho hm hp
    exact hs d post a1 a2 a3 a4 a5 ho hp (fun post' b1 b2 b3 b4 b5 ho' hm' hp' => ih post' b1 b2 b3 b4 b5 ho' (by omega) hp')
theorem rp6 {ρ A1 A2 A3 A4 A5 A6 : Type} (W : Nat → (ρ → Prop) → A1 → A2 → A3 → A4 → A5 → A6 → Prop) (ok : A1 → A2 → A3 → A4 → A5 → A6 → Prop) (μ : A1 → A2 → A3 → A4 → A5 → A6 → Nat) (val : A1 → A2 → A3 → A4 → A5 → A6 → ρ)
    (hs : ∀ (d : Nat) (post : ρ → Prop) (a1 : A1) (a2 : A2) (a3 : A3) (a4 : A4) (a5 : A5) (a6 : A6), ok a1 a2 a3 a4 a5 a6 → post (val a1 a2 a3 a4 a5 a6) → (∀ (post' : ρ → Prop) (b1 : A1) (b2 : A2) (b3 : A3) (b4 : A4) (b5 : A5) (b6 : A6), ok b1 b2 b3 b4 b5 b6 → μ b1 b2 b3 b4 b5 b6 < μ a1 a2 a3 a4 a5 a6 → post' (val b1 b2 b3 b4 b5 b6) → W d post' b1 b2 b3 b4 b5 b6) → W (d + 1) post a1 a2 a3 a4 a5 a6) :
    ∀ (d : Nat) (post : ρ → Prop) (a1 : A1) (a2 : A2) (a3 : A3) (a4 : A4) (a5 : A5) (a6 : A6), ok a1 a2 a3 a4 a5 a6 → μ a1 a2 a3 a4 a5 a6 < d → post (val a1 a2 a3 a4 a5 a6) → W d post a1 a2 a3 a4 a5 a6 := by
  intro d
  induction d with
  | zero => intro post a1 a2 a3 a4 a5 a6 _ h; omega
  | succ d ih =>
    intro post a1 a2 a3 a4 a5 a6 ho hm hp
    exact hs d post a1 a2 a3 a4 a5 a6 ho hp (fun post' b1 b2 b3 b4 b5 b6 ho' hm' hp' => ih post' b1 b2 b3 b4 b5 b6 ho' (by omega) hp')
theorem rec_p {σ ρ : Type} (W : Nat → (ρ → Prop) → σ → Prop) (ok : σ → Prop) (μ : σ → Nat) (val : σ → ρ)
    (hs : ∀ d s post, ok s → post (val s) → (∀ s' post', ok s' → μ s' < μ s → post' (val s') → W d post' s') → W (d + 1) post s) :
    ∀ d s post, ok s → μ s < d → post (val s) → W d post s := by
  intro d
  induction d with
  | zero => intro s post _ h; omega
  | succ d ih =>
    intro s post ho hm hp
    exact hs d s post ho hp (fun s' post' ho' hm' hp' => ih s' post' ho' (by omega) hp')
theorem rec_q {σ ρ : Type} (W : Nat → (ρ → Prop) → σ → Prop) (ok : σ → Prop) (μ : σ → Nat) (Q : σ → ρ → Prop)
    (hs : ∀ d s post, ok s → (∀ r, Q s r → post r) → (∀ s' post', ok s' → μ s' < μ s → (∀ r, Q s' r → post' r) → W d post' s') → W (d + 1) post s) :
    ∀ d s post, ok s → μ s < d → (∀ r, Q s r → post r) → W d post s := by
  intro d
  induction d with
  | zero => intro s post _ h; omega
  | succ d ih =>
    intro s post ho hm hp
    exact hs d s post ho hp (fun s' post' ho' hm' hp' => ih s' post' ho' (by omega) hp')
def bx_sum (f : Nat → Int32) : Nat → Int32
  | 0 => 0
  | n + 1 => bx_sum f n + f n
theorem ek_u {A : Prop} {B : Nat → Prop} {k N : Nat} (hk : k < N) (h : B k) : (some k = none → A) ∧ (∀ y : Nat, some k = some y → (y < N ∧ B y)) :=
  ⟨fun z => absurd z (Option.some_ne_none k), fun _ e => (by cases e; exact ⟨hk, h⟩)⟩
theorem ek_nu {A : Prop} {B : Nat → Prop} (h : A) : ((none : Option Nat) = none → A) ∧ (∀ y : Nat, (none : Option Nat) = some y → B y) :=
  ⟨fun _ => h, fun _ e => (by cases e)⟩
theorem ek_if {c d A B : Prop} (e : c ↔ d) (f : d → A) (g : ¬ d → B) : (c → A) ∧ (¬ c → B) :=
  ⟨fun z => f (e.mp z), fun z => g (fun y => z (e.mpr y))⟩
theorem ek_v {α : Sort _} {P : α → Prop} {a b : α} (e : a = b) (h : P b) : P a := e ▸ h
theorem co_some {x : Option Nat} {A : Prop} {B : Nat → Prop} (i : Nat) (h : B i) (hx : x = some i := by rfl) : (x = none → A) ∧ (∀ y : Nat, x = some y → B y) := by
  subst hx
  exact ⟨fun e => (nomatch e), fun y e => Option.some.inj e ▸ h⟩
theorem co_none {x : Option Nat} {A : Prop} {B : Nat → Prop} (h : A) (hx : x = none := by rfl) : (x = none → A) ∧ (∀ y : Nat, x = some y → B y) := by
  subst hx
  exact ⟨fun _ => h, fun y e => (nomatch e)⟩
theorem co_any {x : Option Nat} {A : Prop} {B : Nat → Prop} (hn : x = none → A) (hs : ∀ i : Nat, x = some i → B i) : (x = none → A) ∧ (∀ y : Nat, x = some y → B y) := ⟨hn, hs⟩
theorem co_2 {P : Nat → Prop} (h0 : P 0) (h1 : P 1) {i : Nat} (hi : i < 2) : P i :=
  match i, hi with
  | 0, _ => h0
  | 1, _ => h1
theorem co_3 {P : Nat → Prop} (h0 : P 0) (h1 : P 1) (h2 : P 2) {i : Nat} (hi : i < 3) : P i :=
  match i, hi with
  | 0, _ => h0
  | 1, _ => h1
  | 2, _ => h2
theorem co_4 {P : Nat → Prop} (h0 : P 0) (h1 : P 1) (h2 : P 2) (h3 : P 3) {i : Nat} (hi : i < 4) : P i :=
  match i, hi with
  | 0, _ => h0
  | 1, _ => h1
  | 2, _ => h2
  | 3, _ => h3
theorem co_dec {N : Nat} {P : Nat → Prop} [DecidablePred P] (h : (List.range N).all (fun i => decide (P i)) = true) {i : Nat} (hi : i < N) : P i := by
  have := List.all_eq_true.mp h i (List.mem_range.mpr hi)
  exact of_decide_eq_true this
theorem co_tab {α : Type} {l : List α} {d : α} {P : α → Prop} (h : ∀ a, a ∈ l → P a) {i : Nat} (hi : i < l.length) : P (l.getD i d) := by
  rw [List.getD_eq_getElem?_getD, List.getElem?_eq_getElem hi]
  exact h _ (List.getElem_mem hi)
theorem pk_mu {x : Int32} {L : Nat} (h0 : ¬ x < 0) (h : ¬ nI L ≤ x) (hL : L < 2 ^ 31) : ∃ j : Nat, j < L ∧ x = nI j ∧ x + 1 = nI (j + 1) ∧ x.toNatClampNeg = j ∧ L - (x + 1).toNatClampNeg < L - x.toNatClampNeg := by
  obtain ⟨j, hj, rfl⟩ := nI_of h0
  have hl : j < L := Nat.not_le.mp fun q => h (nI_le q hj)
  refine ⟨j, hl, rfl, nI_1 j, nI_clamp hj, ?_⟩
  rw [nI_1, nI_clamp (by omega), nI_clamp hj]
  omega
theorem op_s {α : Type} {r : Option α} {A : Prop} {B : α → Prop} {y : α} (h : r = some y) (b : B y) : (r = none → A) ∧ ∀ z, r = some z → B z :=
  ⟨fun e => (by rw [h] at e; cases e), fun z e => (by rw [h] at e; cases e; exact b)⟩
def l_holds {α : Type} (a : Nat → Option Nat) (LP : List Nat) (p : Nat → α) (c : Nat) (b : Nat → α) : Prop :=
  ∀ j, j < c → ∃ y, a j = some y ∧ y ∈ LP ∧ p y = b j
theorem l_holds_0 {α : Type} {a : Nat → Option Nat} {LP : List Nat} {p b : Nat → α} : l_holds a LP p 0 b := fun j h => absurd h (Nat.not_lt_zero j)
theorem l_in_new (LP : List Nat) (q : Nat) : q ∈ LP ++ [q] := List.mem_append.mpr (Or.inr (List.mem_singleton.mpr rfl))
def l_sum (b : Nat → Int32) : Nat → Int32
  | 0 => 0
  | k + 1 => l_sum b k + b k
theorem sb_shr0 (x : Int32) : x >>> ((0 : Int32) &&& 31) = x := by
  rw [show ((0 : Int32) &&& 31) = 0 by decide]
  simp
theorem sb_shl0 (x : Int32) : x <<< ((0 : Int32) &&& 31) = x := by
  rw [show ((0 : Int32) &&& 31) = 0 by decide]
  simp
theorem sb_cl0 : (0 : Int32).toNatClampNeg = 0 := by decide
theorem sb_m1 {p : Nat} (h : 0 < p) : nI p + (-1) = nI (p - 1) := by
  obtain ⟨q, rfl⟩ : ∃ q, p = q + 1 := ⟨p - 1, by omega⟩
  exact pk_m1 q
def sb_b (c : Nat) : Int32 := (nI c).toInt8.toInt32
theorem sb_byte : ∀ c, c < 256 → sb_b c &&& 255 = nI c ∧ ((nI c).toUInt32 % 65536).toInt32 = nI c ∧ nI c ≤ 255 := by decide +kernel
def sb_Fit (a : Nat → Int32) : Prop := ∀ j, fits .byte (.int (a j)) = true
def sb_Lat (t : Nat → Nat) (n : Nat) (a : Nat → Int32) : Prop := ∀ j, j < n → t j < 256 ∧ a j = sb_b (t j)
theorem sb_fitB (c : Nat) : fits .byte (.int (sb_b c)) = true := pk_fb _
theorem sb_fit0 : sb_Fit (fun _ => 0) := fun _ => by
  show fits .byte (.int 0) = true
  decide
theorem sb_fitU {a : Nat → Int32} {k : Nat} {x : Int32} (h : sb_Fit a) (hx : fits .byte (.int x) = true) : sb_Fit (upd a k x) := by
  intro j
  by_cases e : j = k
  · subst e
    rw [pk_us]
    exact hx
  · rw [pk_un e]
    exact h j
def sb_cat (t : Nat → Nat) (n : Nat) (s : Nat → Nat) : Nat → Nat := fun j => if j < n then t j else s (j - n)
theorem sb_cat_lo {t s : Nat → Nat} {n j : Nat} (h : j < n) : sb_cat t n s j = t j := if_pos h
theorem sb_cat_hi {t s : Nat → Nat} {n j : Nat} : sb_cat t n s (n + j) = s j := by
  show (if n + j < n then t (n + j) else s (n + j - n)) = s j
  rw [if_neg (by omega), Nat.add_sub_cancel_left]
theorem sb_latPut {t s : Nat → Nat} {n w : Nat} {a a' : Nat → Int32} (h : sb_Lat t n a) (hk : ∀ j, j < n → a' j = a j) (hs : ∀ i, i < w → s i < 256 ∧ a' (n + i) = sb_b (s i)) : sb_Lat (sb_cat t n s) (n + w) a' := by
  intro j hj
  by_cases e : j < n
  · rw [sb_cat_lo e, hk j e]
    exact h j e
  · obtain ⟨i, rfl⟩ : ∃ i, j = n + i := ⟨j - n, by omega⟩
    rw [sb_cat_hi]
    exact hs i (by omega)
theorem sb_latKeep {t : Nat → Nat} {n : Nat} {a a' : Nat → Int32} (h : sb_Lat t n a) (hk : ∀ j, j < n → a' j = a j) : sb_Lat t n a' := fun j hj => by
  rw [hk j hj]
  exact h j hj
def sb_cap (q m : Nat) : Nat := if q ≤ m then m else if 2 * m + 2 < q then q else 2 * m + 2
def sb_Room (q m mc ms : Nat) : Prop := q ≤ m ∨ (1 ≤ mc ∧ sb_cap q m ≤ ms ∧ sb_cap q m ≤ 65536)
theorem sb_cap_ge (q m : Nat) : q ≤ sb_cap q m := by
  unfold sb_cap
  split
  · omega
  · split <;> omega
theorem sb_cap_gem (q m : Nat) : m ≤ sb_cap q m := by
  unfold sb_cap
  split
  · omega
  · split <;> omega
theorem sb_cap_le {q m mc ms : Nat} (hm : m ≤ 65536) (hr : sb_Room q m mc ms) : sb_cap q m ≤ 65536 := by
  rcases hr with h | h
  · rw [sb_cap, if_pos h]
    exact hm
  · exact h.2.2
theorem sb_at {P : Int32 → Prop} {x y : Int32} (e : x = y) (h : P y) : P x := e ▸ h
def sb_dg (w : Nat) : Nat := if w < 10 then 1 else if w < 100 then 2 else if w < 1000 then 3 else if w < 10000 then 4 else if w < 100000 then 5 else if w < 1000000 then 6 else if w < 10000000 then 7 else if w < 100000000 then 8 else if w < 1000000000 then 9 else 10
def sb_dec (v : Nat) : Nat → Nat := fun i => 48 + v / 10 ^ (sb_dg v - 1 - i) % 10
theorem sb_dg_in (w : Nat) : 1 ≤ sb_dg w ∧ sb_dg w ≤ 10 := by
  unfold sb_dg
  constructor <;> (repeat' split) <;> omega
theorem sb_dg100 {w : Nat} (h : 100 ≤ w) (hw : w < 2 ^ 31) : sb_dg w = sb_dg (w / 100) + 2 := by
  rw [sb_dg, sb_dg, if_neg (show ¬ w < 10 by omega), if_neg (show ¬ w < 100 by omega)]
  by_cases h3 : w < 1000
  · rw [if_pos h3, if_pos (show w / 100 < 10 by omega)]
  rw [if_neg h3, if_neg (show ¬ w / 100 < 10 by omega)]
  by_cases h4 : w < 10000
  · rw [if_pos h4, if_pos (show w / 100 < 100 by omega)]
  rw [if_neg h4, if_neg (show ¬ w / 100 < 100 by omega)]
  by_cases h5 : w < 100000
  · rw [if_pos h5, if_pos (show w / 100 < 1000 by omega)]
  rw [if_neg h5, if_neg (show ¬ w / 100 < 1000 by omega)]
  by_cases h6 : w < 1000000
  · rw [if_pos h6, if_pos (show w / 100 < 10000 by omega)]
  rw [if_neg h6, if_neg (show ¬ w / 100 < 10000 by omega)]
  by_cases h7 : w < 10000000
  · rw [if_pos h7, if_pos (show w / 100 < 100000 by omega)]
  rw [if_neg h7, if_neg (show ¬ w / 100 < 100000 by omega)]
  by_cases h8 : w < 100000000
  · rw [if_pos h8, if_pos (show w / 100 < 1000000 by omega)]
  rw [if_neg h8, if_neg (show ¬ w / 100 < 1000000 by omega)]
  by_cases h9 : w < 1000000000
  · rw [if_pos h9, if_pos (show w / 100 < 10000000 by omega)]
  rw [if_neg h9, if_neg (show ¬ w / 100 < 10000000 by omega)]
  rw [if_pos (show w / 100 < 100000000 by omega)]
theorem sb_negT {w : Nat} (h : w < 2 ^ 31) : (-nI w).toInt = -(w : Int) := by
  rw [Int32.toInt_neg, nI_toInt h]
  exact Int.bmod_eq_of_le (by omega) (by omega)
theorem sb_nle {a b : Nat} (ha : a < 2 ^ 31) (hb : b < 2 ^ 31) : -nI a ≤ -nI b ↔ b ≤ a := by
  rw [Int32.le_iff_toInt_le, sb_negT ha, sb_negT hb]
  omega
theorem sb_nlt {a b : Nat} (ha : a < 2 ^ 31) (hb : b < 2 ^ 31) : -nI a < -nI b ↔ b < a := by
  rw [Int32.lt_iff_toInt_lt, sb_negT ha, sb_negT hb]
  omega
theorem sb_cmp {A B : Prop} {x : Int32} (v c : Nat) (f : c ≤ v → A) (g : v < c → B) (hv : v < 2 ^ 31) (hx : x = -nI c := by rfl) (hc : c < 2 ^ 31 := by omega) : (-nI v ≤ x → A) ∧ (¬ -nI v ≤ x → B) := by
  subst hx
  rw [sb_nle hv hc]
  exact ⟨f, fun z => g (by omega)⟩
theorem sb_ndiv {w : Nat} (hw : w < 2 ^ 31) : (-nI w) / 100 = -nI (w / 100) := by
  apply Int32.toInt_inj.mp
  have h100 : (100 : Int32).toInt = 100 := by decide
  rw [Int32.toInt_div, sb_negT hw, h100, sb_negT (by omega), Int.neg_tdiv, Int.tdiv_eq_ediv_of_nonneg (by omega), Int.bmod_eq_of_le (by omega) (by omega)]
  omega
theorem sb_nrem {w : Nat} (hw : w < 2 ^ 31) : (-nI (w / 100)) * 100 - (-nI w) = nI (w % 100) := by
  have h := pk_rem (a := w) (d := 100) hw (by decide) (by decide)
  rw [pk_div hw (by decide) (by decide)] at h
  rw [← h]
  show (-nI (w / 100)) * nI 100 - (-nI w) = nI w - nI (w / 100) * nI 100
  rw [Int32.neg_mul, Int32.sub_neg, Int32.add_comm, ← Int32.sub_eq_add_neg]
end
section
/-! ===== three-valued facts: 2 unknown, 0 no, 1 yes; chains of states; counting ===== -/
def rk_le (x y : Int32) : Prop := x = 2 ∨ x = y
def rk_an (x y : Int32) : Int32 := if x = 0 then 0 else if y = 0 then 0 else if x = 1 then (if y = 1 then 1 else 2) else 2
def rk_or (x y : Int32) : Int32 := if x = 1 then 1 else if y = 1 then 1 else if x = 0 then (if y = 0 then 0 else 2) else 2
def rk_no (x : Int32) : Int32 := if x = 2 then 2 else 1 - x
def rk_v3 (x : Int32) : Prop := x = 0 ∨ x = 1 ∨ x = 2
theorem rk_le_r (x : Int32) : rk_le x x := Or.inr rfl
theorem rk_le_2 (x : Int32) : rk_le 2 x := Or.inl rfl
theorem rk_le_t {x y z : Int32} (a : rk_le x y) (b : rk_le y z) : rk_le x z := by
  rcases a with a | a
  · exact Or.inl a
  · rw [a]; exact b
theorem rk_le_a {x y : Int32} (a : rk_le x y) (b : rk_le y x) : x = y := by
  rcases a with a | a
  · rcases b with b | b
    · rw [a, b]
    · exact b.symm
  · exact a
theorem rk_le_n {x y : Int32} (a : rk_le x y) (h : x ≠ 2) : y = x := by
  rcases a with a | a
  · exact absurd a h
  · exact a.symm
theorem rk_an_2l (y : Int32) (x : Int32) : rk_le (rk_an 2 y) (rk_an x y) := by
  by_cases h : y = 0
  · right; subst h; unfold rk_an; by_cases h1 : x = 0 <;> simp [h1]
  · left; unfold rk_an; simp [h]
theorem rk_an_2r (y : Int32) (x : Int32) : rk_le (rk_an x 2) (rk_an x y) := by
  by_cases h : x = 0
  · right; subst h; simp [rk_an]
  · left; unfold rk_an; simp [h]
theorem rk_an_m {x x' y y' : Int32} (a : rk_le x x') (b : rk_le y y') : rk_le (rk_an x y) (rk_an x' y') := by
  refine rk_le_t (y := rk_an x' y) ?_ ?_
  · rcases a with a | a
    · rw [a]; exact rk_an_2l _ _
    · rw [a]; exact rk_le_r _
  · rcases b with b | b
    · rw [b]; exact rk_an_2r _ _
    · rw [b]; exact rk_le_r _
theorem rk_or_2l (y : Int32) (x : Int32) : rk_le (rk_or 2 y) (rk_or x y) := by
  by_cases h : y = 1
  · right; subst h; unfold rk_or; by_cases h1 : x = 1 <;> simp [h1]
  · left; unfold rk_or; simp [h]
theorem rk_or_2r (y : Int32) (x : Int32) : rk_le (rk_or x 2) (rk_or x y) := by
  by_cases h : x = 1
  · right; subst h; simp [rk_or]
  · left; unfold rk_or; simp [h]
theorem rk_or_m {x x' y y' : Int32} (a : rk_le x x') (b : rk_le y y') : rk_le (rk_or x y) (rk_or x' y') := by
  refine rk_le_t (y := rk_or x' y) ?_ ?_
  · rcases a with a | a
    · rw [a]; exact rk_or_2l _ _
    · rw [a]; exact rk_le_r _
  · rcases b with b | b
    · rw [b]; exact rk_or_2r _ _
    · rw [b]; exact rk_le_r _
theorem rk_no_m {x x' : Int32} (a : rk_le x x') : rk_le (rk_no x) (rk_no x') := by
  rcases a with a | a
  · left; rw [a]; rfl
  · rw [a]; exact rk_le_r _
theorem rk_v3_an (x y : Int32) : rk_v3 (rk_an x y) := by
  unfold rk_v3 rk_an; repeat' split
  all_goals simp
theorem rk_v3_or (x y : Int32) : rk_v3 (rk_or x y) := by
  unfold rk_v3 rk_or; repeat' split
  all_goals simp
theorem rk_v3_no {x : Int32} (h : rk_v3 x) : rk_v3 (rk_no x) := by
  rcases h with h | h | h <;> subst h <;> unfold rk_v3 <;> decide
theorem rk_v3_0 : rk_v3 0 := Or.inl rfl
theorem rk_v3_1 : rk_v3 1 := Or.inr (Or.inl rfl)
theorem rk_v3_2 : rk_v3 2 := Or.inr (Or.inr rfl)
theorem rk_or1 (x y : Int32) : rk_or x y = 1 ↔ x = 1 ∨ y = 1 := by
  unfold rk_or; repeat' split
  all_goals simp_all
theorem rk_or0 (x y : Int32) : rk_or x y = 0 ↔ x = 0 ∧ y = 0 := by
  unfold rk_or; repeat' split
  all_goals simp_all
theorem rk_an1 (x y : Int32) : rk_an x y = 1 ↔ x = 1 ∧ y = 1 := by
  unfold rk_an; repeat' split
  all_goals simp_all
theorem rk_an0 (x y : Int32) : rk_an x y = 0 ↔ x = 0 ∨ y = 0 := by
  unfold rk_an; repeat' split
  all_goals simp_all

/-! counting -/
noncomputable def rk_b (P : Prop) : Nat := @ite Nat P (Classical.propDecidable P) 1 0
theorem rk_b_t {P : Prop} (h : P) : rk_b P = 1 := by unfold rk_b; rw [if_pos h]
theorem rk_b_f {P : Prop} (h : ¬ P) : rk_b P = 0 := by unfold rk_b; rw [if_neg h]
theorem rk_b_le (P : Prop) : rk_b P ≤ 1 := by
  rcases Classical.em P with h | h
  · rw [rk_b_t h]; omega
  · rw [rk_b_f h]; omega
theorem rk_b_mono {P Q : Prop} (h : P → Q) : rk_b P ≤ rk_b Q := by
  rcases Classical.em P with hp | hp
  · rw [rk_b_t hp, rk_b_t (h hp)]; omega
  · rw [rk_b_f hp]; omega
noncomputable def rk_cn (P : Nat → Prop) : Nat → Nat
  | 0 => 0
  | k + 1 => rk_cn P k + rk_b (P k)
theorem rk_cn_mono {P Q : Nat → Prop} : ∀ {N : Nat}, (∀ k, k < N → P k → Q k) → rk_cn P N ≤ rk_cn Q N
  | 0, _ => Nat.le_refl _
  | N + 1, h => by
    have a := rk_cn_mono (P := P) (Q := Q) (N := N) (fun k hk => h k (by omega))
    have b := rk_b_mono (h N (by omega))
    simp only [rk_cn]; omega
theorem rk_cn_lt {P Q : Nat → Prop} {a : Nat} (hp : ¬ P a) (hq : Q a) : ∀ {N : Nat}, (∀ k, k < N → P k → Q k) → a < N → rk_cn P N < rk_cn Q N
  | 0, _, h => by omega
  | N + 1, h, ha => by
    simp only [rk_cn]
    rcases Nat.lt_or_ge a N with z | z
    · have x := rk_cn_lt hp hq (N := N) (fun k hk => h k (by omega)) z
      have b := rk_b_mono (h N (by omega))
      omega
    · have e : a = N := by omega
      subst e
      have x := rk_cn_mono (P := P) (Q := Q) (N := a) (fun k hk => h k (by omega))
      rw [rk_b_t hq, rk_b_f hp]; omega
theorem rk_cn_le (P : Nat → Prop) : ∀ N, rk_cn P N ≤ N
  | 0 => Nat.le_refl _
  | N + 1 => by have := rk_cn_le P N; have := rk_b_le (P N); simp only [rk_cn]; omega

/-! states ordered on the facts that exist -/
def rk_LE (E : Nat → Prop) (F G : Nat → Int32) : Prop := ∀ z, E z → rk_le (F z) (G z)
def rk_Mon (E : Nat → Prop) (Ru : (Nat → Int32) → Nat → Int32) : Prop := ∀ F G, rk_LE E F G → rk_LE E (Ru F) (Ru G)
noncomputable def rk_num (E : Nat → Prop) (B : Nat) (F : Nat → Int32) : Nat := rk_cn (fun z => E z ∧ F z ≠ 2) B
theorem rk_num_le (E : Nat → Prop) (B : Nat) (F : Nat → Int32) : rk_num E B F ≤ B := rk_cn_le _ _
theorem rk_num_lt {E : Nat → Prop} {B : Nat} {F G : Nat → Int32} (h : rk_LE E F G) {z : Nat} (hE : E z) (hz : z < B) (h1 : F z = 2) (h2 : G z ≠ 2) : rk_num E B F < rk_num E B G :=
  rk_cn_lt (a := z) (fun x => x.2 h1) ⟨hE, h2⟩ (fun k _ hk => ⟨hk.1, by rw [rk_le_n (h k hk.1) hk.2]; exact hk.2⟩) hz
theorem rk_chain {E : Nat → Prop} (B : Nat) (hE : ∀ z, E z → z < B) (c : Nat → Nat → Int32) (asc : ∀ t, rk_LE E (c t) (c (t + 1))) : ∃ t, t ≤ B ∧ ∀ z, E z → c t z = c (t + 1) z := by
  rcases Classical.em (∃ t, t ≤ B ∧ ∀ z, E z → c t z = c (t + 1) z) with h | h
  · exact h
  · exfalso
    have key : ∀ t, t ≤ B + 1 → t ≤ rk_num E B (c t) := by
      intro t
      induction t with
      | zero => intro _; exact Nat.zero_le _
      | succ t ih =>
        intro ht
        have a := ih (by omega)
        rcases Classical.em (∀ z, E z → c t z = c (t + 1) z) with g | g
        · exact absurd ⟨t, by omega, g⟩ h
        · have ⟨z, gz⟩ := Classical.not_forall.mp g
          have ⟨hz, hn⟩ := Classical.not_imp.mp gz
          have l := asc t z hz
          rcases l with l | l
          · have : rk_num E B (c t) < rk_num E B (c (t + 1)) := rk_num_lt (asc t) hz (hE z hz) l (fun q => hn (by rw [l, q]))
            omega
          · exact absurd l hn
    have a := key (B + 1) (Nat.le_refl _)
    have b := rk_num_le E B (c (B + 1))
    omega
theorem rk_cong {E : Nat → Prop} {Ru : (Nat → Int32) → Nat → Int32} (hM : rk_Mon E Ru) {F G : Nat → Int32} (h : ∀ z, E z → F z = G z) : ∀ z, E z → Ru F z = Ru G z := fun z hz =>
  rk_le_a (hM F G (fun y hy => Or.inr (h y hy)) z hz) (hM G F (fun y hy => Or.inr (h y hy).symm) z hz)
/-- the facts behind the signals, found in t rounds from the signals s (places below 128) -/
def rk_K (Ru : (Nat → Int32) → Nat → Int32) (s : Nat → Int32) : Nat → Nat → Int32
  | 0 => fun z => if z < 128 then s z else 2
  | t + 1 => fun z => if z < 128 then s z else Ru (rk_K Ru s t) z
theorem rk_K_lo (Ru : (Nat → Int32) → Nat → Int32) (s : Nat → Int32) (t z : Nat) (h : z < 128) : rk_K Ru s t z = s z := by
  cases t with
  | zero => simp only [rk_K]; rw [if_pos h]
  | succ t => simp only [rk_K]; rw [if_pos h]
theorem rk_K_hi (Ru : (Nat → Int32) → Nat → Int32) (s : Nat → Int32) (t z : Nat) (h : 128 ≤ z) : rk_K Ru s (t + 1) z = Ru (rk_K Ru s t) z := by
  simp only [rk_K]; rw [if_neg (by omega)]
theorem rk_K_asc {E : Nat → Prop} {Ru : (Nat → Int32) → Nat → Int32} (hM : rk_Mon E Ru) (s : Nat → Int32) : ∀ t, rk_LE E (rk_K Ru s t) (rk_K Ru s (t + 1)) := by
  intro t
  induction t with
  | zero =>
    intro z _
    by_cases h : z < 128
    · rw [rk_K_lo _ _ _ _ h, rk_K_lo _ _ _ _ h]; exact rk_le_r _
    · left; simp only [rk_K]; rw [if_neg h]
  | succ t ih =>
    intro z hz
    by_cases h : z < 128
    · rw [rk_K_lo _ _ _ _ h, rk_K_lo _ _ _ _ h]; exact rk_le_r _
    · rw [rk_K_hi _ _ _ _ (by omega), rk_K_hi _ _ _ _ (by omega)]; exact hM _ _ ih z hz
theorem rk_K_mono {E : Nat → Prop} {Ru : (Nat → Int32) → Nat → Int32} (hM : rk_Mon E Ru) {s s' : Nat → Int32} (h : ∀ z, E z → z < 128 → rk_le (s z) (s' z)) : ∀ t, rk_LE E (rk_K Ru s t) (rk_K Ru s' t) := by
  intro t
  induction t with
  | zero =>
    intro z hz
    by_cases g : z < 128
    · rw [rk_K_lo _ _ _ _ g, rk_K_lo _ _ _ _ g]; exact h z hz g
    · left; simp only [rk_K]; rw [if_neg g]
  | succ t ih =>
    intro z hz
    by_cases g : z < 128
    · rw [rk_K_lo _ _ _ _ g, rk_K_lo _ _ _ _ g]; exact h z hz g
    · rw [rk_K_hi _ _ _ _ (by omega), rk_K_hi _ _ _ _ (by omega)]; exact hM _ _ ih z hz
theorem rk_K_post {E : Nat → Prop} {Ru : (Nat → Int32) → Nat → Int32} (hM : rk_Mon E Ru) {s R : Nat → Int32} (hR : ∀ z, E z → rk_le (Ru R z) (R z)) (h : ∀ z, E z → z < 128 → rk_le (s z) (R z)) : ∀ t, rk_LE E (rk_K Ru s t) R := by
  intro t
  induction t with
  | zero =>
    intro z hz
    by_cases g : z < 128
    · rw [rk_K_lo _ _ _ _ g]; exact h z hz g
    · left; simp only [rk_K]; rw [if_neg g]
  | succ t ih =>
    intro z hz
    by_cases g : z < 128
    · rw [rk_K_lo _ _ _ _ g]; exact h z hz g
    · rw [rk_K_hi _ _ _ _ (by omega)]; exact rk_le_t (hM _ _ ih z hz) (hR z hz)
theorem rk_K_fix {E : Nat → Prop} {Ru : (Nat → Int32) → Nat → Int32} (hM : rk_Mon E Ru) (hE : ∀ z, E z → z < 848) (s : Nat → Int32) : ∀ z, E z → 128 ≤ z → Ru (rk_K Ru s 900) z = rk_K Ru s 900 z := by
  obtain ⟨t, ht, hs⟩ := rk_chain 848 hE (rk_K Ru s) (rk_K_asc hM s)
  have key : ∀ d, ∀ z, E z → rk_K Ru s (t + d) z = rk_K Ru s (t + d + 1) z := by
    intro d
    induction d with
    | zero => exact hs
    | succ d ih =>
      intro z hz
      by_cases g : z < 128
      · rw [rk_K_lo _ _ _ _ g, rk_K_lo _ _ _ _ g]
      · show rk_K Ru s (t + d + 1) z = rk_K Ru s (t + d + 1 + 1) z
        rw [rk_K_hi _ _ (t + d) _ (by omega), rk_K_hi _ _ (t + d + 1) _ (by omega)]
        exact rk_cong hM ih z hz
  intro z hz h
  have a := key (900 - t) z hz
  rw [show t + (900 - t) = 900 from by omega] at a
  rw [a, rk_K_hi _ _ 900 _ h]
theorem rk_K_v3 {Ru : (Nat → Int32) → Nat → Int32} (hV : ∀ F, (∀ z, rk_v3 (F z)) → ∀ z, rk_v3 (Ru F z)) {s : Nat → Int32} (hs : ∀ z, z < 128 → rk_v3 (s z)) : ∀ t z, rk_v3 (rk_K Ru s t z) := by
  intro t
  induction t with
  | zero =>
    intro z
    by_cases g : z < 128
    · rw [rk_K_lo _ _ _ _ g]; exact hs z g
    · simp only [rk_K]; rw [if_neg g]; exact rk_v3_2
  | succ t ih =>
    intro z
    by_cases g : z < 128
    · rw [rk_K_lo _ _ _ _ g]; exact hs z g
    · rw [rk_K_hi _ _ _ _ (by omega)]; exact hV _ ih z
end
section
/-! ===== the rules as pure functions; they are monotone ===== -/
def rk_ar (k : Int32) : Nat := if 3 < k then (if 6 < k then 1 else 2) else 0
def rk_w (F : Nat → Int32) (n i : Nat) : Int32 := F (128 + (n * 3 + i))
def rk_c (F : Nat → Int32) (n i k : Nat) : Int32 := F (248 + ((n * 3 + i) * 5 + k))
def rk_rW1 (kd se : Nat → Int32) (L Q : Nat → Nat) (sl : Nat → Nat → Nat) (F : Nat → Int32) (n i p : Nat) : Int32 :=
  if L p < i then (if se p = 0 then 0 else rk_c F n 0 0)
  else if kd p = 4 then
    (if i = 0 ∧ ¬ se p = 0 then (if se n = 0 then 0 else rk_w F p i)
     else rk_an (rk_w F p i) (if n = p + 1 then F (sl p i) else rk_no (F (sl p i))))
  else if kd p = 5 then
    (if (i = 0 ∧ ¬ se p = 0) ∧ ¬ se (Q p) = 0 then (if n = p + 1 then 0 else rk_w F p i)
     else (if n = p + 1 then rk_w F p i else rk_c F (p + 1) i 0))
  else if kd p = 6 then (if (i = 0 ∧ ¬ se p = 0) ∧ se n = 0 then 0 else rk_w F p i)
  else if kd p = 8 ∧ (i = 0 ∧ ¬ se p = 0) then rk_an (rk_w F p i) (rk_no (F (sl p i)))
  else rk_w F p i
def rk_rW (kd pa se : Nat → Int32) (L Q : Nat → Nat) (sl : Nat → Nat → Nat) (F : Nat → Int32) (n i : Nat) : Int32 :=
  if n = 0 then 1 else rk_rW1 kd se L Q sl F n i (pa n).toNatClampNeg
def rk_mx (a b : Nat) : Nat := if a ≤ b then b else a
def rk_pb (A B : Nat → Int32) (k a : Nat) (r : Int32) : Nat → Int32
  | 0 => r
  | b + 1 => if rk_mx a b = k then rk_or (rk_pb A B k a r b) (rk_an (A a) (B b)) else rk_pb A B k a r b
def rk_pa (A B : Nat → Int32) (k : Nat) : Nat → Int32
  | 0 => 0
  | a + 1 => rk_pb A B k a (rk_pa A B k a) 5
def rk_pr (se : Nat → Int32) (F : Nat → Int32) (n c i : Nat) (a : Nat) : Int32 :=
  if (i = 0 ∧ ¬ se n = 0) ∧ se c = 0 then (if a = 0 then rk_w F n i else 0) else rk_c F c i a
def rk_rC (kd ar se : Nat → Int32) (L Q : Nat → Nat) (sl : Nat → Nat → Nat) (F : Nat → Int32) (n i k : Nat) : Int32 :=
  if kd n = 0 ∨ kd n = 2 then (if k = 0 then rk_w F n i else 0)
  else if kd n = 1 then (if k = (if i = 0 ∧ ¬ se n = 0 then 0 else 1) then rk_w F n i else 0)
  else if kd n = 3 then (if k = (ar n).toNatClampNeg + 2 then rk_w F n i else 0)
  else if kd n = 4 then rk_or (rk_c F (n + 1) i k) (rk_c F (Q n) i k)
  else if kd n = 5 then (if k = 0 then rk_c F (Q n) i k else rk_or (rk_c F (n + 1) i k) (rk_c F (Q n) i k))
  else if kd n = 6 then rk_pa (rk_pr se F n (n + 1) i) (rk_pr se F n (Q n) i) k 5
  else if kd n = 7 then (if k = 0 then 0 else if i = 0 ∧ ¬ se n = 0 then rk_or (rk_c F (n + 1) i k) (rk_c F (n + 1) (L n + 1) k) else rk_c F (n + 1) i k)
  else if kd n = 8 ∧ (i = 0 ∧ ¬ se n = 0) ∧ k = 1 then rk_or (rk_an (rk_w F n i) (F (sl n i))) (rk_c F (n + 1) i k)
  else if kd n = 9 then (if k = 0 then rk_or (rk_c F (n + 1) i k) (rk_c F (n + 1) i 2) else if k = 4 then 0 else if k = 1 then rk_c F (n + 1) i k else rk_c F (n + 1) i (k + 1))
  else rk_c F (n + 1) i k
def rk_s1 (sl : Nat → Nat → Nat) (F : Nat → Int32) (n x : Nat) (r : Int32) : Nat → Int32
  | 0 => r
  | i + 1 => if sl n i = x then rk_or (rk_s1 sl F n x r i) (rk_w F n i) else rk_s1 sl F n x r i
def rk_s2 (kd : Nat → Int32) (L : Nat → Nat) (sl : Nat → Nat → Nat) (F : Nat → Int32) (x : Nat) (r : Int32) : Nat → Int32
  | 0 => r
  | n + 1 => if kd n = 2 then rk_s1 sl F n x (rk_s2 kd L sl F x r n) (L n + 1) else rk_s2 kd L sl F x r n
def rk_g0 (S : Nat) (gv : Nat → Int32) (x : Nat) : Int32 := if x < S ∧ ¬ gv x = 0 then 1 else 0
def rk_rS (N S : Nat) (kd gv : Nat → Int32) (L : Nat → Nat) (sl : Nat → Nat → Nat) (F : Nat → Int32) (x : Nat) : Int32 :=
  rk_s2 kd L sl F x (rk_g0 S gv x) N
def rk_Ru (N S : Nat) (kd ar pa se gv : Nat → Int32) (L Q : Nat → Nat) (sl : Nat → Nat → Nat) (F : Nat → Int32) (z : Nat) : Int32 :=
  if z < 128 then rk_rS N S kd gv L sl F z
  else if z < 248 then rk_rW kd pa se L Q sl F ((z - 128) / 3) ((z - 128) % 3)
  else rk_rC kd ar se L Q sl F ((z - 248) / 15) ((z - 248) / 5 % 3) ((z - 248) % 5)
def rk_E (N : Nat) (L : Nat → Nat) (ES : Nat → Prop) (z : Nat) : Prop :=
  (z < 128 ∧ ES z) ∨ (∃ n i, n < N ∧ i ≤ L n ∧ z = 128 + (n * 3 + i)) ∨ (∃ n i k, n < N ∧ i ≤ L n ∧ k < 5 ∧ z = 248 + ((n * 3 + i) * 5 + k))
/-- a complete tree: e n is the first node behind the nodes below n -/
def rk_CT (N : Nat) (kd pa : Nat → Int32) (L Q e : Nat → Nat) : Prop :=
  (0 < N ∧ N ≤ 40) ∧ (pa 0 = -1 ∧ L 0 = 0 ∧ e 0 = N) ∧ (∀ n, n < N → ∃ k, k ≤ 10 ∧ kd n = nI k) ∧ (∀ n, n < N → L n ≤ 2) ∧ (∀ n, n < N → n < e n ∧ e n ≤ N) ∧
  (∀ n, n < N → rk_ar (kd n) = 0 → e n = n + 1) ∧
  (∀ n, n < N → rk_ar (kd n) = 1 → n + 1 < N ∧ pa (n + 1) = nI n ∧ L (n + 1) = L n + (if kd n = 7 then 1 else 0) ∧ e n = e (n + 1)) ∧
  (∀ n, n < N → rk_ar (kd n) = 2 → n + 1 < N ∧ pa (n + 1) = nI n ∧ L (n + 1) = L n ∧ n + 1 < Q n ∧ Q n < N ∧ pa (Q n) = nI n ∧ L (Q n) = L n ∧ e (n + 1) = Q n ∧ e n = e (Q n)) ∧
  (∀ n, 0 < n → n < N → ∃ p, p < n ∧ pa n = nI p ∧ 0 < rk_ar (kd p) ∧ (n = p + 1 ∨ (rk_ar (kd p) = 2 ∧ n = Q p)))
def rk_US (N : Nat) (kd : Nat → Int32) (L : Nat → Nat) (sl : Nat → Nat → Nat) (ES : Nat → Prop) : Prop :=
  ∀ n, n < N → (kd n = 2 ∨ kd n = 4 ∨ kd n = 8) → ∀ i, i ≤ L n → ES (sl n i) ∧ sl n i < 128
theorem rk_ar_k : rk_ar 0 = 0 ∧ rk_ar 1 = 0 ∧ rk_ar 2 = 0 ∧ rk_ar 3 = 0 ∧ rk_ar 4 = 2 ∧ rk_ar 5 = 2 ∧ rk_ar 6 = 2 ∧ rk_ar 7 = 1 ∧ rk_ar 8 = 1 ∧ rk_ar 9 = 1 ∧ rk_ar 10 = 1 := by decide
theorem rk_kinds {x : Int32} (h : ∃ k, k ≤ 10 ∧ x = nI k) : x = 0 ∨ x = 1 ∨ x = 2 ∨ x = 3 ∨ x = 4 ∨ x = 5 ∨ x = 6 ∨ x = 7 ∨ x = 8 ∨ x = 9 ∨ x = 10 := by
  obtain ⟨k, hk, rfl⟩ := h
  have : ∀ k, k < 11 → (nI k = 0 ∨ nI k = 1 ∨ nI k = 2 ∨ nI k = 3 ∨ nI k = 4 ∨ nI k = 5 ∨ nI k = 6 ∨ nI k = 7 ∨ nI k = 8 ∨ nI k = 9 ∨ nI k = 10) := by decide +kernel
  exact this k (by omega)
section
variable {N S : Nat} {kd ar pa se gv : Nat → Int32} {L Q e : Nat → Nat} {sl : Nat → Nat → Nat} {ES : Nat → Prop}
theorem rk_E_s {x : Nat} (h : x < 128) (h2 : ES x) : rk_E N L ES x := Or.inl ⟨h, h2⟩
theorem rk_E_w {n i : Nat} (h : n < N) (h2 : i ≤ L n) : rk_E N L ES (128 + (n * 3 + i)) := Or.inr (Or.inl ⟨n, i, h, h2, rfl⟩)
theorem rk_E_c {n i k : Nat} (h : n < N) (h2 : i ≤ L n) (h3 : k < 5) : rk_E N L ES (248 + ((n * 3 + i) * 5 + k)) := Or.inr (Or.inr ⟨n, i, k, h, h2, h3, rfl⟩)
theorem rk_Ru_s {F : Nat → Int32} {x : Nat} (h : x < 128) : rk_Ru N S kd ar pa se gv L Q sl F x = rk_rS N S kd gv L sl F x := by unfold rk_Ru; rw [if_pos h]
theorem rk_Ru_w {F : Nat → Int32} {n i : Nat} (h : n < 40) (hi : i ≤ 2) : rk_Ru N S kd ar pa se gv L Q sl F (128 + (n * 3 + i)) = rk_rW kd pa se L Q sl F n i := by
  unfold rk_Ru
  rw [if_neg (by omega), if_pos (by omega), show (128 + (n * 3 + i) - 128) / 3 = n from by omega, show (128 + (n * 3 + i) - 128) % 3 = i from by omega]
theorem rk_Ru_c {F : Nat → Int32} {n i k : Nat} (hi : i ≤ 2) (hk : k < 5) : rk_Ru N S kd ar pa se gv L Q sl F (248 + ((n * 3 + i) * 5 + k)) = rk_rC kd ar se L Q sl F n i k := by
  unfold rk_Ru
  rw [if_neg (by omega), if_neg (by omega), show (248 + ((n * 3 + i) * 5 + k) - 248) / 15 = n from by omega, show (248 + ((n * 3 + i) * 5 + k) - 248) / 5 % 3 = i from by omega, show (248 + ((n * 3 + i) * 5 + k) - 248) % 5 = k from by omega]
theorem rk_E_lt (hN : N ≤ 40) (hL : ∀ n, n < N → L n ≤ 2) {z : Nat} (h : rk_E N L ES z) : z < 848 := by
  rcases h with h | ⟨n, i, h1, h2, h3⟩ | ⟨n, i, k, h1, h2, h3, h4⟩
  · omega
  · have := hL n h1; omega
  · have := hL n h1; omega
theorem rk_pb_m {A B A' B' : Nat → Int32} (hA : ∀ a, a < 5 → rk_le (A a) (A' a)) (hB : ∀ a, a < 5 → rk_le (B a) (B' a)) (k a : Nat) (ha : a < 5) {r r' : Int32} (hr : rk_le r r') : ∀ b, b ≤ 5 → rk_le (rk_pb A B k a r b) (rk_pb A' B' k a r' b) := by
  intro b
  induction b with
  | zero => intro _; exact hr
  | succ b ih =>
    intro hb
    have h1 := ih (by omega)
    unfold rk_pb
    by_cases h : rk_mx a b = k
    · rw [if_pos h, if_pos h]; exact rk_or_m h1 (rk_an_m (hA a ha) (hB b (by omega)))
    · rw [if_neg h, if_neg h]; exact h1
theorem rk_pa_m {A B A' B' : Nat → Int32} (hA : ∀ a, a < 5 → rk_le (A a) (A' a)) (hB : ∀ a, a < 5 → rk_le (B a) (B' a)) (k : Nat) : ∀ a, a ≤ 5 → rk_le (rk_pa A B k a) (rk_pa A' B' k a) := by
  intro a
  induction a with
  | zero => intro _; exact rk_le_r _
  | succ a ih =>
    intro ha
    unfold rk_pa
    exact rk_pb_m hA hB k a (by omega) (ih (by omega)) 5 (Nat.le_refl _)
theorem rk_s1_m {F G : Nat → Int32} {n x : Nat} {r r' : Int32} (hr : rk_le r r') : ∀ i, (∀ j, j < i → rk_le (rk_w F n j) (rk_w G n j)) → rk_le (rk_s1 sl F n x r i) (rk_s1 sl G n x r' i) := by
  intro i
  induction i with
  | zero => intro _; exact hr
  | succ i ih =>
    intro h
    have h1 := ih (fun j hj => h j (by omega))
    unfold rk_s1
    by_cases g : sl n i = x
    · rw [if_pos g, if_pos g]; exact rk_or_m h1 (h i (by omega))
    · rw [if_neg g, if_neg g]; exact h1
theorem rk_s2_m {F G : Nat → Int32} {x : Nat} {r : Int32} (h : ∀ n i, n < N → i ≤ L n → rk_le (rk_w F n i) (rk_w G n i)) : ∀ n, n ≤ N → rk_le (rk_s2 kd L sl F x r n) (rk_s2 kd L sl G x r n) := by
  intro n
  induction n with
  | zero => intro _; exact rk_le_r _
  | succ n ih =>
    intro hn
    have h1 := ih (by omega)
    unfold rk_s2
    by_cases g : kd n = 2
    · rw [if_pos g, if_pos g]; exact rk_s1_m h1 _ (fun j hj => h n j (by omega) (by omega))
    · rw [if_neg g, if_neg g]; exact h1
theorem rk_le_if {c : Prop} [Decidable c] {a b a' b' : Int32} (h1 : c → rk_le a a') (h2 : ¬ c → rk_le b b') : rk_le (if c then a else b) (if c then a' else b') := by
  by_cases h : c
  · rw [if_pos h, if_pos h]; exact h1 h
  · rw [if_neg h, if_neg h]; exact h2 h
theorem rk_rW_m (hT : rk_CT N kd pa L Q e) (hU : rk_US N kd L sl ES) {F G : Nat → Int32} (h : rk_LE (rk_E N L ES) F G) {n i : Nat} (hn : n < N) (hi : i ≤ L n) : rk_le (rk_rW kd pa se L Q sl F n i) (rk_rW kd pa se L Q sl G n i) := by
  unfold rk_rW
  refine rk_le_if (fun _ => rk_le_r _) (fun h0 => ?_)
  obtain ⟨hN, _, hK, hL2, _, _, h1, h2, hp⟩ := hT
  obtain ⟨p, hpn, hpe, hpa, hpc⟩ := hp n (by omega) hn
  rw [hpe, nI_clamp (by omega)]
  have hw : ∀ i, i ≤ L p → rk_le (rk_w F p i) (rk_w G p i) := fun i hi => h _ (rk_E_w (by omega) hi)
  have hc0 : rk_le (rk_c F n 0 0) (rk_c G n 0 0) := h _ (rk_E_c hn (by omega) (by omega))
  unfold rk_rW1
  refine rk_le_if (fun _ => rk_le_if (fun _ => rk_le_r _) (fun _ => hc0)) (fun hLi => ?_)
  have hw' := hw i (by omega)
  refine rk_le_if (fun k4 => ?_) (fun k4 => ?_)
  · have hs : rk_le (F (sl p i)) (G (sl p i)) := by
      have := hU p (by omega) (Or.inr (Or.inl k4)) i (by omega)
      exact h _ (rk_E_s this.2 this.1)
    exact rk_le_if (fun _ => rk_le_if (fun _ => rk_le_r _) (fun _ => hw')) (fun _ => rk_an_m hw' (rk_le_if (fun _ => hs) (fun _ => rk_no_m hs)))
  refine rk_le_if (fun k5 => ?_) (fun k5 => ?_)
  · have a2 := h2 p (by omega) (by rw [k5]; exact rk_ar_k.2.2.2.2.2.1)
    have hc : rk_le (rk_c F (p + 1) i 0) (rk_c G (p + 1) i 0) := h _ (rk_E_c a2.1 (by rw [a2.2.2.1]; omega) (by omega))
    exact rk_le_if (fun _ => rk_le_if (fun _ => rk_le_r _) (fun _ => hw')) (fun _ => rk_le_if (fun _ => hw') (fun _ => hc))
  refine rk_le_if (fun k6 => rk_le_if (fun _ => rk_le_r _) (fun _ => hw')) (fun k6 => ?_)
  refine rk_le_if (fun k8 => ?_) (fun k8 => hw')
  have hs : rk_le (F (sl p i)) (G (sl p i)) := by
    have := hU p (by omega) (Or.inr (Or.inr k8.1)) i (by omega)
    exact h _ (rk_E_s this.2 this.1)
  exact rk_an_m hw' (rk_no_m hs)
theorem rk_rC_m (hT : rk_CT N kd pa L Q e) (hU : rk_US N kd L sl ES) {F G : Nat → Int32} (h : rk_LE (rk_E N L ES) F G) {n i k : Nat} (hn : n < N) (hi : i ≤ L n) (hk : k < 5) : rk_le (rk_rC kd ar se L Q sl F n i k) (rk_rC kd ar se L Q sl G n i k) := by
  obtain ⟨hN, _, hK, hL2, _, _, h1, h2, hp⟩ := hT
  have hw : rk_le (rk_w F n i) (rk_w G n i) := h _ (rk_E_w hn hi)
  have hc : ∀ c k, c < N → i ≤ L c → k < 5 → rk_le (rk_c F c i k) (rk_c G c i k) := fun c k a b d => h _ (rk_E_c a b d)
  have a2 : rk_ar (kd n) = 2 → (n + 1 < N ∧ i ≤ L (n + 1)) ∧ (Q n < N ∧ i ≤ L (Q n)) := fun g => by
    have a := h2 n hn g
    exact ⟨⟨a.1, by rw [a.2.2.1]; exact hi⟩, a.2.2.2.2.1, by rw [a.2.2.2.2.2.2.1]; exact hi⟩
  have a1 : rk_ar (kd n) = 1 → (n + 1 < N ∧ i ≤ L (n + 1)) := fun g => by
    have a := h1 n hn g
    exact ⟨a.1, by rw [a.2.2.1]; omega⟩
  unfold rk_rC
  refine rk_le_if (fun _ => rk_le_if (fun _ => hw) (fun _ => rk_le_r _)) (fun k02 => ?_)
  refine rk_le_if (fun _ => rk_le_if (fun _ => hw) (fun _ => rk_le_r _)) (fun k1 => ?_)
  refine rk_le_if (fun _ => rk_le_if (fun _ => hw) (fun _ => rk_le_r _)) (fun k3 => ?_)
  refine rk_le_if (fun k4 => ?_) (fun k4 => ?_)
  · have a := a2 (by rw [k4]; exact rk_ar_k.2.2.2.2.1)
    exact rk_or_m (hc _ _ a.1.1 a.1.2 hk) (hc _ _ a.2.1 a.2.2 hk)
  refine rk_le_if (fun k5 => ?_) (fun k5 => ?_)
  · have a := a2 (by rw [k5]; exact rk_ar_k.2.2.2.2.2.1)
    exact rk_le_if (fun _ => hc _ _ a.2.1 a.2.2 hk) (fun _ => rk_or_m (hc _ _ a.1.1 a.1.2 hk) (hc _ _ a.2.1 a.2.2 hk))
  refine rk_le_if (fun k6 => ?_) (fun k6 => ?_)
  · have a := a2 (by rw [k6]; exact rk_ar_k.2.2.2.2.2.2.1)
    refine rk_pa_m (fun x hx => ?_) (fun x hx => ?_) k 5 (Nat.le_refl _)
    · unfold rk_pr; exact rk_le_if (fun _ => rk_le_if (fun _ => hw) (fun _ => rk_le_r _)) (fun _ => hc _ _ a.1.1 a.1.2 hx)
    · unfold rk_pr; exact rk_le_if (fun _ => rk_le_if (fun _ => hw) (fun _ => rk_le_r _)) (fun _ => hc _ _ a.2.1 a.2.2 hx)
  refine rk_le_if (fun k7 => ?_) (fun k7 => ?_)
  · have g : rk_ar (kd n) = 1 := by rw [k7]; exact rk_ar_k.2.2.2.2.2.2.2.1
    have a := h1 n hn g
    have b := a1 g
    have e1 : L (n + 1) = L n + 1 := by rw [a.2.2.1, if_pos k7]
    refine rk_le_if (fun _ => rk_le_r _) (fun _ => rk_le_if (fun _ => rk_or_m (hc _ _ b.1 b.2 hk) ?_) (fun _ => hc _ _ b.1 b.2 hk))
    exact h _ (rk_E_c b.1 (by omega) hk)
  have g : rk_ar (kd n) = 1 := by
    have c := rk_ar_k
    rcases rk_kinds (hK n hn) with x | x | x | x | x | x | x | x | x | x | x
    · exact absurd (Or.inl x) k02
    · exact absurd x k1
    · exact absurd (Or.inr x) k02
    · exact absurd x k3
    · exact absurd x k4
    · exact absurd x k5
    · exact absurd x k6
    · exact absurd x k7
    all_goals rw [x]
    · exact c.2.2.2.2.2.2.2.2.1
    · exact c.2.2.2.2.2.2.2.2.2.1
    · exact c.2.2.2.2.2.2.2.2.2.2
  have b := a1 g
  refine rk_le_if (fun k8 => ?_) (fun k8 => ?_)
  · have := hU n hn (Or.inr (Or.inr k8.1)) i hi
    exact rk_or_m (rk_an_m hw (h _ (rk_E_s this.2 this.1))) (hc _ _ b.1 b.2 hk)
  refine rk_le_if (fun k9 => ?_) (fun k9 => hc _ _ b.1 b.2 hk)
  refine rk_le_if (fun _ => rk_or_m (hc _ _ b.1 b.2 hk) (hc _ _ b.1 b.2 (by omega))) (fun g0 => rk_le_if (fun _ => rk_le_r _) (fun g4 => rk_le_if (fun _ => hc _ _ b.1 b.2 hk) (fun _ => hc _ _ b.1 b.2 (by omega))))
theorem rk_rS_m {F G : Nat → Int32} (h : rk_LE (rk_E N L ES) F G) (x : Nat) : rk_le (rk_rS N S kd gv L sl F x) (rk_rS N S kd gv L sl G x) := by
  unfold rk_rS
  exact rk_s2_m (fun n i hn hi => h _ (rk_E_w hn hi)) N (Nat.le_refl _)
theorem rk_Ru_m (hT : rk_CT N kd pa L Q e) (hU : rk_US N kd L sl ES) : rk_Mon (rk_E N L ES) (rk_Ru N S kd ar pa se gv L Q sl) := by
  intro F G h z hz
  have hT' := hT
  obtain ⟨hN, _, _, hL2, _⟩ := hT'
  rcases hz with hz | ⟨n, i, h1, h2, rfl⟩ | ⟨n, i, k, h1, h2, h3, rfl⟩
  · rw [rk_Ru_s hz.1, rk_Ru_s hz.1]; exact rk_rS_m h z
  · have := hL2 n h1
    rw [rk_Ru_w (by omega) (by omega), rk_Ru_w (by omega) (by omega)]; exact rk_rW_m hT hU h h1 h2
  · have := hL2 n h1
    rw [rk_Ru_c (by omega) h3, rk_Ru_c (by omega) h3]; exact rk_rC_m hT hU h h1 h2 h3
theorem rk_v3_if {c : Prop} [Decidable c] {a b : Int32} (h1 : rk_v3 a) (h2 : rk_v3 b) : rk_v3 (if c then a else b) := by
  by_cases h : c
  · rw [if_pos h]; exact h1
  · rw [if_neg h]; exact h2
theorem rk_pb_v {A B : Nat → Int32} {k a : Nat} {r : Int32} (hr : rk_v3 r) : ∀ b, rk_v3 (rk_pb A B k a r b) := by
  intro b
  induction b with
  | zero => exact hr
  | succ b ih => unfold rk_pb; exact rk_v3_if (rk_v3_or _ _) ih
theorem rk_pa_v {A B : Nat → Int32} {k : Nat} : ∀ a, rk_v3 (rk_pa A B k a) := by
  intro a
  induction a with
  | zero => exact rk_v3_0
  | succ a ih => unfold rk_pa; exact rk_pb_v ih 5
theorem rk_s1_v {F : Nat → Int32} {n x : Nat} {r : Int32} (hr : rk_v3 r) : ∀ i, rk_v3 (rk_s1 sl F n x r i) := by
  intro i
  induction i with
  | zero => exact hr
  | succ i ih => unfold rk_s1; exact rk_v3_if (rk_v3_or _ _) ih
theorem rk_s2_v {F : Nat → Int32} {x : Nat} {r : Int32} (hr : rk_v3 r) : ∀ n, rk_v3 (rk_s2 kd L sl F x r n) := by
  intro n
  induction n with
  | zero => exact hr
  | succ n ih => unfold rk_s2; exact rk_v3_if (rk_s1_v ih _) ih
theorem rk_rS_v {F : Nat → Int32} (x : Nat) : rk_v3 (rk_rS N S kd gv L sl F x) := by
  unfold rk_rS rk_g0; exact rk_s2_v (rk_v3_if rk_v3_1 rk_v3_0) _
theorem rk_Ru_v (F : Nat → Int32) (h : ∀ z, rk_v3 (F z)) (z : Nat) : rk_v3 (rk_Ru N S kd ar pa se gv L Q sl F z) := by
  have hw : ∀ n i, rk_v3 (rk_w F n i) := fun n i => h _
  have hc : ∀ n i k, rk_v3 (rk_c F n i k) := fun n i k => h _
  unfold rk_Ru
  refine rk_v3_if (rk_rS_v z) (rk_v3_if ?_ ?_)
  · unfold rk_rW
    refine rk_v3_if rk_v3_1 ?_
    unfold rk_rW1
    refine rk_v3_if (rk_v3_if rk_v3_0 (hc _ _ _)) (rk_v3_if (rk_v3_if (rk_v3_if rk_v3_0 (hw _ _)) (rk_v3_an _ _)) (rk_v3_if (rk_v3_if (rk_v3_if rk_v3_0 (hw _ _)) (rk_v3_if (hw _ _) (hc _ _ _))) (rk_v3_if (rk_v3_if rk_v3_0 (hw _ _)) (rk_v3_if (rk_v3_an _ _) (hw _ _)))))
  · unfold rk_rC
    refine rk_v3_if (rk_v3_if (hw _ _) rk_v3_0) (rk_v3_if (rk_v3_if (hw _ _) rk_v3_0) (rk_v3_if (rk_v3_if (hw _ _) rk_v3_0) (rk_v3_if (rk_v3_or _ _) (rk_v3_if (rk_v3_if (hc _ _ _) (rk_v3_or _ _)) (rk_v3_if (rk_pa_v _) (rk_v3_if (rk_v3_if rk_v3_0 (rk_v3_if (rk_v3_or _ _) (hc _ _ _))) (rk_v3_if (rk_v3_or _ _) (rk_v3_if (rk_v3_if (rk_v3_or _ _) (rk_v3_if rk_v3_0 (rk_v3_if (hc _ _ _) (hc _ _ _)))) (hc _ _ _)))))))))
end
end
section
/-! ===== the chain of signals and the least state ===== -/
def rk_sg (Ru : (Nat → Int32) → Nat → Int32) : Nat → Nat → Int32
  | 0 => fun _ => 2
  | t + 1 => fun x => Ru (rk_K Ru (rk_sg Ru t) 900) x
theorem rk_sg_asc {E : Nat → Prop} {Ru : (Nat → Int32) → Nat → Int32} (hM : rk_Mon E Ru) (hE : ∀ x, x < 128 → E x) : ∀ t x, x < 128 → rk_le (rk_sg Ru t x) (rk_sg Ru (t + 1) x) := by
  intro t
  induction t with
  | zero => intro x _; exact rk_le_2 _
  | succ t ih =>
    intro x hx
    exact hM _ _ (rk_K_mono hM (fun z _ h => ih z h) 900) x (hE x hx)
theorem rk_sg_post {E : Nat → Prop} {Ru : (Nat → Int32) → Nat → Int32} (hM : rk_Mon E Ru) {R : Nat → Int32} (hR : ∀ z, E z → rk_le (Ru R z) (R z)) : ∀ t x, x < 128 → E x → rk_le (rk_sg Ru t x) (R x) := by
  intro t
  induction t with
  | zero => intro x _ _; exact rk_le_2 _
  | succ t ih =>
    intro x hx h
    exact rk_le_t (hM _ _ (rk_K_post hM hR (fun z hz h => ih z h hz) 900) x h) (hR x h)
theorem rk_sg_v3 {Ru : (Nat → Int32) → Nat → Int32} (hV : ∀ F, (∀ z, rk_v3 (F z)) → ∀ z, rk_v3 (Ru F z)) : ∀ t x, rk_v3 (rk_sg Ru t x) := by
  intro t
  induction t with
  | zero => intro x; exact rk_v3_2
  | succ t ih => intro x; exact hV _ (rk_K_v3 hV (fun z _ => ih z) 900) x
/-- the signal places that exist -/
def rk_ES (N S : Nat) (kd : Nat → Int32) (L : Nat → Nat) (x : Nat) : Prop := x < S ∨ ∃ d j, d < N ∧ kd d = 10 ∧ j ≤ L d ∧ x = 8 + (d * 3 + j)
/-- T is the least state that meets the rules -/
def rk_TF (N S : Nat) (kd ar pa se gv : Nat → Int32) (L Q : Nat → Nat) (sl : Nat → Nat → Nat) (T : Nat → Int32) : Prop :=
  (∀ z, rk_v3 (T z)) ∧ (∀ z, rk_E N L (rk_ES N S kd L) z → rk_Ru N S kd ar pa se gv L Q sl T z = T z) ∧
  (∀ R, (∀ z, rk_E N L (rk_ES N S kd L) z → rk_le (rk_Ru N S kd ar pa se gv L Q sl R z) (R z)) → rk_LE (rk_E N L (rk_ES N S kd L)) T R) ∧
  (∀ x, x < 128 → ¬ rk_ES N S kd L x → T x = 0)
section
variable {N S : Nat} {kd ar pa se gv : Nat → Int32} {L Q e : Nat → Nat} {sl : Nat → Nat → Nat}
theorem rk_s1_0 {F : Nat → Int32} {n x : Nat} : ∀ i, (∀ j, j < i → ¬ sl n j = x) → rk_s1 sl F n x 0 i = 0 := by
  intro i
  induction i with
  | zero => intro _; rfl
  | succ i ih => intro h; unfold rk_s1; rw [if_neg (h i (by omega))]; exact ih (fun j hj => h j (by omega))
theorem rk_s2_0 {F : Nat → Int32} {x : Nat} (h : ∀ n i, n < N → kd n = 2 → i ≤ L n → ¬ sl n i = x) : ∀ n, n ≤ N → rk_s2 kd L sl F x 0 n = 0 := by
  intro n
  induction n with
  | zero => intro _; rfl
  | succ n ih =>
    intro hn
    unfold rk_s2
    by_cases g : kd n = 2
    · rw [if_pos g, ih (by omega)]; exact rk_s1_0 _ (fun j hj => h n j (by omega) g (by omega))
    · rw [if_neg g]; exact ih (by omega)
theorem rk_rS_0 (hU : rk_US N kd L sl (rk_ES N S kd L)) {F : Nat → Int32} {x : Nat} (h : ¬ rk_ES N S kd L x) : rk_rS N S kd gv L sl F x = 0 := by
  unfold rk_rS rk_g0
  rw [if_neg (fun q => h (Or.inl q.1))]
  exact rk_s2_0 (fun n i hn hk hi e => h (by rw [← e]; exact (hU n hn (Or.inl hk) i hi).1)) N (Nat.le_refl _)
theorem rk_US_T {ES : Nat → Prop} (hU : rk_US N kd L sl ES) : rk_US N kd L sl (fun _ => True) := fun n hn hk i hi => ⟨trivial, (hU n hn hk i hi).2⟩
/-- where the chain of signals stands still, the state over it is the least one -/
theorem rk_TF_of (hT : rk_CT N kd pa L Q e) (hU : rk_US N kd L sl (rk_ES N S kd L)) (hS : S ≤ 8) {t : Nat} (h : ∀ x, x < 128 → rk_sg (rk_Ru N S kd ar pa se gv L Q sl) (t + 1) x = rk_sg (rk_Ru N S kd ar pa se gv L Q sl) t x) : rk_TF N S kd ar pa se gv L Q sl (rk_K (rk_Ru N S kd ar pa se gv L Q sl) (rk_sg (rk_Ru N S kd ar pa se gv L Q sl) t) 900) := by
  have hM1 : rk_Mon (rk_E N L (fun _ => True)) (rk_Ru N S kd ar pa se gv L Q sl) := rk_Ru_m hT (rk_US_T hU)
  have hM2 : rk_Mon (rk_E N L (rk_ES N S kd L)) (rk_Ru N S kd ar pa se gv L Q sl) := rk_Ru_m hT hU
  have hN := hT.1
  have hL := hT.2.2.2.1
  refine ⟨rk_K_v3 rk_Ru_v (fun z _ => rk_sg_v3 rk_Ru_v t z) 900, fun z hz => ?_, fun R hR => ?_, fun x hx hn => ?_⟩
  · by_cases g : z < 128
    · rw [rk_K_lo _ _ _ _ g, ← h z g]; rfl
    · exact rk_K_fix hM2 (fun z hz => rk_E_lt hN.2 hL hz) _ z hz (by omega)
  · exact rk_K_post hM2 hR (fun z hz g => rk_sg_post hM2 hR t z g hz) 900
  · rw [rk_K_lo _ _ _ _ hx, ← h x hx]
    show rk_Ru N S kd ar pa se gv L Q sl _ x = 0
    rw [rk_Ru_s hx]; exact rk_rS_0 hU hn
/-- a state below the least one that no rule moves is the least one -/
theorem rk_TF_eq (hT : rk_CT N kd pa L Q e) (hU : rk_US N kd L sl (rk_ES N S kd L)) {T R : Nat → Int32} (hF : rk_TF N S kd ar pa se gv L Q sl T) (hle : rk_LE (rk_E N L (rk_ES N S kd L)) R T) (hR : ∀ z, rk_E N L (rk_ES N S kd L) z → R z = 2 → rk_Ru N S kd ar pa se gv L Q sl R z = 2) : ∀ z, rk_E N L (rk_ES N S kd L) z → R z = T z := by
  have hM2 : rk_Mon (rk_E N L (rk_ES N S kd L)) (rk_Ru N S kd ar pa se gv L Q sl) := rk_Ru_m hT hU
  have hp : ∀ z, rk_E N L (rk_ES N S kd L) z → rk_le (rk_Ru N S kd ar pa se gv L Q sl R z) (R z) := by
    intro z hz
    by_cases g : R z = 2
    · left; exact hR z hz g
    · rw [← rk_le_n (hle z hz) g, ← hF.2.1 z hz]; exact hM2 _ _ hle z hz
  exact fun z hz => rk_le_a (hle z hz) (hF.2.2.1 R hp z hz)
end
end
section
/-! ===== two rails: the component's words for facts ===== -/
def rk_ev (v : Int32) : Int32 := if v = 1 then 3 else if v = 0 then 0 else 2
def rk_bb (a b c d e : Bool) : Int32 := (if a then 1 else 0) ||| ((if b then 2 else 0) ||| ((if c then 4 else 0) ||| ((if d then 8 else 0) ||| (if e then 16 else 0))))
def rk_em (f : Nat → Int32) : Int32 := rk_bb (decide (f 0 = 1)) (decide (f 1 = 1)) (decide (f 2 = 1)) (decide (f 3 = 1)) (decide (f 4 = 1))
def rk_ec (f : Nat → Int32) : Int32 := rk_bb (decide (¬ f 0 = 0)) (decide (¬ f 1 = 0)) (decide (¬ f 2 = 0)) (decide (¬ f 3 = 0)) (decide (¬ f 4 = 0))
theorem rk_em_c {f g : Nat → Int32} (h : ∀ k, k < 5 → f k = g k) : rk_em f = rk_em g := by
  unfold rk_em; rw [h 0 (by omega), h 1 (by omega), h 2 (by omega), h 3 (by omega), h 4 (by omega)]
theorem rk_ec_c {f g : Nat → Int32} (h : ∀ k, k < 5 → f k = g k) : rk_ec f = rk_ec g := by
  unfold rk_ec; rw [h 0 (by omega), h 1 (by omega), h 2 (by omega), h 3 (by omega), h 4 (by omega)]
theorem rk_ev_cases (v : Int32) : (v = 1 ∧ rk_ev v = 3) ∨ (v = 0 ∧ rk_ev v = 0) ∨ (¬ v = 1 ∧ ¬ v = 0 ∧ rk_ev v = 2) := by
  unfold rk_ev
  by_cases h : v = 1
  · left; exact ⟨h, if_pos h⟩
  · by_cases g : v = 0
    · right; left; exact ⟨g, by rw [if_neg h, if_pos g]⟩
    · right; right; exact ⟨h, g, by rw [if_neg h, if_neg g]⟩
theorem rk_ev_inj {a b : Int32} (ha : rk_v3 a) (hb : rk_v3 b) (h : rk_ev a = rk_ev b) : a = b := by
  rcases ha with ha | ha | ha <;> rcases hb with hb | hb | hb <;> subst ha <;> subst hb <;> first | rfl | (exact absurd h (by decide))
theorem rk_ev_an (a b : Int32) : rk_ev (rk_an a b) = rk_ev a &&& rk_ev b := by
  rcases rk_ev_cases a with ⟨h, k⟩ | ⟨h, k⟩ | ⟨h, h', k⟩ <;> rcases rk_ev_cases b with ⟨g, l⟩ | ⟨g, l⟩ | ⟨g, g', l⟩ <;> rw [k, l] <;> unfold rk_an <;> simp_all <;> decide
theorem rk_ev_or (a b : Int32) : rk_ev (rk_or a b) = rk_ev a ||| rk_ev b := by
  rcases rk_ev_cases a with ⟨h, k⟩ | ⟨h, k⟩ | ⟨h, h', k⟩ <;> rcases rk_ev_cases b with ⟨g, l⟩ | ⟨g, l⟩ | ⟨g, g', l⟩ <;> rw [k, l] <;> unfold rk_or <;> simp_all <;> decide
theorem rk_ev_0 : rk_ev 0 = 0 := by decide
theorem rk_ev_1 : rk_ev 1 = 3 := by decide
theorem rk_ev_2 : rk_ev 2 = 2 := by decide
/-! leaves -/
theorem rk_lf_bits : ∀ (m c : Bool),
    ((if m then (1 : Int32) else 0) <<< ((0 : Int32) &&& 31) = rk_bb m false false false false) ∧ ((if m then (1 : Int32) else 0) <<< ((1 : Int32) &&& 31) = rk_bb false m false false false) ∧
    ((if m then (1 : Int32) else 0) <<< ((2 : Int32) &&& 31) = rk_bb false false m false false) ∧ ((if m then (1 : Int32) else 0) <<< ((3 : Int32) &&& 31) = rk_bb false false false m false) ∧
    ((if m then (1 : Int32) else 0) <<< ((4 : Int32) &&& 31) = rk_bb false false false false m) := by decide
theorem rk_ev_m (w : Int32) : rk_ev w &&& 1 = if decide (w = 1) then 1 else 0 := by
  rcases rk_ev_cases w with ⟨h, k⟩ | ⟨h, k⟩ | ⟨h, h', k⟩ <;> rw [k] <;> simp_all <;> decide
theorem rk_ev_k (w : Int32) : rk_ev w >>> ((1 : Int32) &&& 31) = if decide (¬ w = 0) then 1 else 0 := by
  rcases rk_ev_cases w with ⟨h, k⟩ | ⟨h, k⟩ | ⟨h, h', k⟩ <;> rw [k] <;> simp_all <;> decide
theorem rk_lf_m (w : Int32) (c : Nat) (hc : c < 5) : (rk_ev w &&& 1) <<< (nI c &&& 31) = rk_em (fun k => if k = c then w else 0) := by
  rw [rk_ev_m]
  have b := rk_lf_bits (decide (w = 1)) false
  rcases (show c = 0 ∨ c = 1 ∨ c = 2 ∨ c = 3 ∨ c = 4 from by omega) with h | h | h | h | h <;> subst h
  · rw [show (nI 0) = 0 from rfl, b.1]; unfold rk_em; simp
  · rw [show (nI 1) = 1 from rfl, b.2.1]; unfold rk_em; simp
  · rw [show (nI 2) = 2 from rfl, b.2.2.1]; unfold rk_em; simp
  · rw [show (nI 3) = 3 from rfl, b.2.2.2.1]; unfold rk_em; simp
  · rw [show (nI 4) = 4 from rfl, b.2.2.2.2]; unfold rk_em; simp
theorem rk_lf_c (w : Int32) (c : Nat) (hc : c < 5) : (rk_ev w >>> ((1 : Int32) &&& 31)) <<< (nI c &&& 31) = rk_ec (fun k => if k = c then w else 0) := by
  rw [rk_ev_k]
  have b := rk_lf_bits (decide (¬ w = 0)) false
  rcases (show c = 0 ∨ c = 1 ∨ c = 2 ∨ c = 3 ∨ c = 4 from by omega) with h | h | h | h | h <;> subst h
  · rw [show (nI 0) = 0 from rfl, b.1]; unfold rk_ec; simp
  · rw [show (nI 1) = 1 from rfl, b.2.1]; unfold rk_ec; simp
  · rw [show (nI 2) = 2 from rfl, b.2.2.1]; unfold rk_ec; simp
  · rw [show (nI 3) = 3 from rfl, b.2.2.2.1]; unfold rk_ec; simp
  · rw [show (nI 4) = 4 from rfl, b.2.2.2.2]; unfold rk_ec; simp
/-! C(n,i,0) as two rails -/
theorem rk_dn_bits : ∀ a b c d e : Bool, rk_bb a b c d e &&& 1 = if a then 1 else 0 := by decide
theorem rk_dn (f : Nat → Int32) : (rk_em f &&& 1) ||| ((rk_ec f &&& 1) <<< ((1 : Int32) &&& 31)) = rk_ev (f 0) := by
  unfold rk_em rk_ec
  rw [rk_dn_bits, rk_dn_bits]
  rcases rk_ev_cases (f 0) with ⟨h, k⟩ | ⟨h, k⟩ | ⟨h, h', k⟩ <;> rw [k] <;> simp_all <;> decide
theorem rk_em_and1 (f : Nat → Int32) : rk_em f &&& 1 = 0 ↔ ¬ f 0 = 1 := by
  unfold rk_em; rw [rk_dn_bits]; by_cases h : f 0 = 1 <;> simp [h]
theorem rk_m2_bits : ∀ a b c d e : Bool, rk_bb a b c d e &&& 2 = if b then 2 else 0 := by decide
theorem rk_em_and2 (f : Nat → Int32) : rk_em f &&& 2 = 0 ↔ ¬ f 1 = 1 := by
  unfold rk_em; rw [rk_m2_bits]; by_cases h : f 1 = 1 <;> simp [h]
theorem rk_sh_bits : ∀ a b c d e : Bool, (rk_bb a b c d e >>> ((0 : Int32) &&& 31)) &&& 1 = (if a then 1 else 0) ∧ (rk_bb a b c d e >>> ((1 : Int32) &&& 31)) &&& 1 = (if b then 1 else 0) ∧ (rk_bb a b c d e >>> ((2 : Int32) &&& 31)) &&& 1 = (if c then 1 else 0) ∧ (rk_bb a b c d e >>> ((3 : Int32) &&& 31)) &&& 1 = (if d then 1 else 0) ∧ (rk_bb a b c d e >>> ((4 : Int32) &&& 31)) &&& 1 = (if e then 1 else 0) := by decide
theorem rk_sh_m (f : Nat → Int32) {k : Nat} (hk : k < 5) : (rk_em f >>> (nI k &&& 31)) &&& 1 = 0 ↔ ¬ f k = 1 := by
  have b := rk_sh_bits (decide (f 0 = 1)) (decide (f 1 = 1)) (decide (f 2 = 1)) (decide (f 3 = 1)) (decide (f 4 = 1))
  unfold rk_em
  rcases (show k = 0 ∨ k = 1 ∨ k = 2 ∨ k = 3 ∨ k = 4 from by omega) with h | h | h | h | h <;> subst h
  · rw [show (nI 0) = 0 from rfl, b.1]; by_cases h : f 0 = 1 <;> simp [h]
  · rw [show (nI 1) = 1 from rfl, b.2.1]; by_cases h : f 1 = 1 <;> simp [h]
  · rw [show (nI 2) = 2 from rfl, b.2.2.1]; by_cases h : f 2 = 1 <;> simp [h]
  · rw [show (nI 3) = 3 from rfl, b.2.2.2.1]; by_cases h : f 3 = 1 <;> simp [h]
  · rw [show (nI 4) = 4 from rfl, b.2.2.2.2]; by_cases h : f 4 = 1 <;> simp [h]
theorem rk_sh_c (f : Nat → Int32) {k : Nat} (hk : k < 5) : (rk_ec f >>> (nI k &&& 31)) &&& 1 = 0 ↔ f k = 0 := by
  have b := rk_sh_bits (decide (¬ f 0 = 0)) (decide (¬ f 1 = 0)) (decide (¬ f 2 = 0)) (decide (¬ f 3 = 0)) (decide (¬ f 4 = 0))
  unfold rk_ec
  rcases (show k = 0 ∨ k = 1 ∨ k = 2 ∨ k = 3 ∨ k = 4 from by omega) with h | h | h | h | h <;> subst h
  · rw [show (nI 0) = 0 from rfl, b.1]; by_cases h : f 0 = 0 <;> simp [h]
  · rw [show (nI 1) = 1 from rfl, b.2.1]; by_cases h : f 1 = 0 <;> simp [h]
  · rw [show (nI 2) = 2 from rfl, b.2.2.1]; by_cases h : f 2 = 0 <;> simp [h]
  · rw [show (nI 3) = 3 from rfl, b.2.2.2.1]; by_cases h : f 3 = 0 <;> simp [h]
  · rw [show (nI 4) = 4 from rfl, b.2.2.2.2]; by_cases h : f 4 = 0 <;> simp [h]
/-! combining -/
def rk_jn (p q : Int32) : Int32 := if p = 0 then 0 else if q = 0 then 0 else (p ||| q) &&& (-(if p &&& (-p) ≤ q &&& (-q) then q &&& (-q) else p &&& (-p)))
def rk_cb (k p q : Int32) : Int32 :=
  if k = 5 then (p &&& (-2)) ||| q else if k = 6 then rk_jn p q else if k = 7 then (p ||| q) &&& (-2) else if k = 9 then ((p &&& 3) ||| ((p >>> ((2 : Int32) &&& 31)) &&& 1)) ||| ((p >>> ((1 : Int32) &&& 31)) &&& 12) else p ||| q
theorem rk_cb_or : ∀ a b c d e a' b' c' d' e' : Bool, rk_bb a b c d e ||| rk_bb a' b' c' d' e' = rk_bb (a || a') (b || b') (c || c') (d || d') (e || e') := by decide +kernel
theorem rk_cb_sq : ∀ a b c d e a' b' c' d' e' : Bool, (rk_bb a b c d e &&& (-2)) ||| rk_bb a' b' c' d' e' = rk_bb a' (b || b') (c || c') (d || d') (e || e') := by decide +kernel
theorem rk_cb_lp : ∀ a b c d e a' b' c' d' e' : Bool, (rk_bb a b c d e ||| rk_bb a' b' c' d' e') &&& (-2) = rk_bb false (b || b') (c || c') (d || d') (e || e') := by decide +kernel
theorem rk_cb_tr : ∀ a b c d e : Bool, ((rk_bb a b c d e &&& 3) ||| ((rk_bb a b c d e >>> ((2 : Int32) &&& 31)) &&& 1)) ||| ((rk_bb a b c d e >>> ((1 : Int32) &&& 31)) &&& 12) = rk_bb (a || c) b d e false := by decide +kernel
def rk_jb (a b c d e a' b' c' d' e' : Bool) : Int32 := rk_bb (a && a') ((a && b') || ((b && a') || (b && b'))) ((a && c') || ((b && c') || ((c && a') || ((c && b') || (c && c')))))
  ((a && d') || ((b && d') || ((c && d') || ((d && a') || ((d && b') || ((d && c') || (d && d')))))))
  ((a && e') || ((b && e') || ((c && e') || ((d && e') || ((e && a') || ((e && b') || ((e && c') || ((e && d') || (e && e')))))))))
theorem rk_cb_jn : ∀ a b c d e a' b' c' d' e' : Bool, rk_jn (rk_bb a b c d e) (rk_bb a' b' c' d' e') = rk_jb a b c d e a' b' c' d' e' := by decide +kernel
theorem rk_bb_0 : rk_bb false false false false false = 0 := by decide
theorem rk_em_or (f g : Nat → Int32) : rk_em f ||| rk_em g = rk_em (fun k => rk_or (f k) (g k)) := by
  unfold rk_em; rw [rk_cb_or]; simp only [rk_or1, Bool.decide_or]
theorem rk_nor0 (x y : Int32) : ¬ rk_or x y = 0 ↔ (¬ x = 0 ∨ ¬ y = 0) := by rw [rk_or0]; exact Classical.not_and_iff_not_or_not
theorem rk_nan0 (x y : Int32) : ¬ rk_an x y = 0 ↔ (¬ x = 0 ∧ ¬ y = 0) := by rw [rk_an0]; exact not_or
theorem rk_ec_or (f g : Nat → Int32) : rk_ec f ||| rk_ec g = rk_ec (fun k => rk_or (f k) (g k)) := by
  unfold rk_ec; rw [rk_cb_or]; simp only [rk_nor0, Bool.decide_or]
theorem rk_em_sq (f g : Nat → Int32) : (rk_em f &&& (-2)) ||| rk_em g = rk_em (fun k => if k = 0 then g k else rk_or (f k) (g k)) := by
  unfold rk_em; rw [rk_cb_sq]; simp [rk_or1]
theorem rk_ec_sq (f g : Nat → Int32) : (rk_ec f &&& (-2)) ||| rk_ec g = rk_ec (fun k => if k = 0 then g k else rk_or (f k) (g k)) := by
  unfold rk_ec; rw [rk_cb_sq]; simp [rk_or0]
theorem rk_em_lp (f g : Nat → Int32) : (rk_em f ||| rk_em g) &&& (-2) = rk_em (fun k => if k = 0 then 0 else rk_or (f k) (g k)) := by
  unfold rk_em; rw [rk_cb_lp]; simp [rk_or1]
theorem rk_ec_lp (f g : Nat → Int32) : (rk_ec f ||| rk_ec g) &&& (-2) = rk_ec (fun k => if k = 0 then 0 else rk_or (f k) (g k)) := by
  unfold rk_ec; rw [rk_cb_lp]; simp [rk_or0]
theorem rk_em_0 : rk_em (fun _ => 0) = 0 := by decide
theorem rk_ec_0 : rk_ec (fun _ => 0) = 0 := by decide
theorem rk_em_lq (f : Nat → Int32) : (rk_em f ||| 0) &&& (-2) = rk_em (fun k => if k = 0 then 0 else f k) := by
  have a := rk_em_lp f (fun _ => 0)
  rw [rk_em_0] at a; rw [a]; unfold rk_em; simp [rk_or1]
theorem rk_ec_lq (f : Nat → Int32) : (rk_ec f ||| 0) &&& (-2) = rk_ec (fun k => if k = 0 then 0 else f k) := by
  have a := rk_ec_lp f (fun _ => 0)
  rw [rk_ec_0] at a; rw [a]; unfold rk_ec; simp [rk_or0]
theorem rk_em_tr (f : Nat → Int32) : ((rk_em f &&& 3) ||| ((rk_em f >>> ((2 : Int32) &&& 31)) &&& 1)) ||| ((rk_em f >>> ((1 : Int32) &&& 31)) &&& 12) = rk_em (fun k => if k = 0 then rk_or (f k) (f 2) else if k = 4 then 0 else if k = 1 then f k else f (k + 1)) := by
  unfold rk_em; rw [rk_cb_tr]; simp [rk_or1]
theorem rk_ec_tr (f : Nat → Int32) : ((rk_ec f &&& 3) ||| ((rk_ec f >>> ((2 : Int32) &&& 31)) &&& 1)) ||| ((rk_ec f >>> ((1 : Int32) &&& 31)) &&& 12) = rk_ec (fun k => if k = 0 then rk_or (f k) (f 2) else if k = 4 then 0 else if k = 1 then f k else f (k + 1)) := by
  unfold rk_ec; rw [rk_cb_tr]; simp [rk_or0]
theorem rk_em_pr (f g : Nat → Int32) : rk_jn (rk_em f) (rk_em g) = rk_em (fun k => rk_pa f g k 5) := by
  unfold rk_em; rw [rk_cb_jn]; unfold rk_jb
  simp [rk_pa, rk_pb, rk_mx, rk_or1, rk_an1, or_assoc]
theorem rk_ec_pr (f g : Nat → Int32) : rk_jn (rk_ec f) (rk_ec g) = rk_ec (fun k => rk_pa f g k 5) := by
  unfold rk_ec; rw [rk_cb_jn]; unfold rk_jb
  simp [rk_pa, rk_pb, rk_mx, rk_or0, rk_an0, or_assoc]
end
section
/-! ===== the component's small methods ===== -/
theorem rk_ar_3 (k : Int32) : rk_ar k = 0 ∨ rk_ar k = 1 ∨ rk_ar k = 2 := by
  unfold rk_ar
  by_cases a : 3 < k
  · rw [if_pos a]
    by_cases b : 6 < k
    · rw [if_pos b]; omega
    · rw [if_neg b]; omega
  · rw [if_neg a]; omega
theorem rk_ar_p {k : Int32} (h : 0 < rk_ar k) : rk_ar k = 1 ∨ rk_ar k = 2 := by
  have := rk_ar_3 k; omega
theorem rk_ix (n i : Nat) : nI n * 3 + nI i = nI (n * 3 + i) := by
  rw [show nI n * 3 = nI n * nI 3 from rfl, pk_mul, nI_add]
theorem rk_ix0 (n : Nat) : nI n * 3 = nI (n * 3 + 0) := by
  rw [show nI n * 3 = nI n * nI 3 from rfl, pk_mul]; rfl
theorem rk_iy (b j : Nat) : 8 + nI b * 3 + nI j = nI (8 + (b * 3 + j)) := by
  rw [show 8 + nI b * 3 = nI 8 + nI b * nI 3 from rfl, pk_mul, nI_add, nI_add, Nat.add_assoc]
theorem rk_iz (n i k : Nat) : (nI n * 3 + nI i) * 5 + nI k = nI ((n * 3 + i) * 5 + k) := by
  rw [rk_ix, show nI (n * 3 + i) * 5 = nI (n * 3 + i) * nI 5 from rfl, pk_mul, nI_add]
def rk_SL (N : Nat) (ar bd : Nat → Int32) (L : Nat → Nat) (sl : Nat → Nat → Nat) (n : Nat) : Prop :=
  (∃ b, b < N ∧ bd n = nI b ∧ ∀ i, sl n i = 8 + (b * 3 + (if L b < i then 0 else i))) ∨ (bd n = -2 ∧ ∃ a, a < 8 ∧ ar n = nI a ∧ ∀ i, sl n i = a)
/-- what the component's tables hold of a complete tree -/
def rk_XT (N : Nat) (kd ar sc le bd : Nat → Int32) (L Q : Nat → Nat) (sl : Nat → Nat → Nat) : Prop :=
  (∀ n, n < N → le n = nI (L n)) ∧ (∀ n, n < N → rk_ar (kd n) = 2 → sc n = nI (Q n)) ∧ (∀ n, n < N → ¬ rk_ar (kd n) = 2 → sc n = -1) ∧
  (∀ n, n < N → (kd n = 2 ∨ kd n = 4 ∨ kd n = 8) → rk_SL N ar bd L sl n) ∧ (∀ n, n < N → kd n = 3 → ∃ a, a ≤ 2 ∧ ar n = nI a)
section
variable {mN sN mL mT ct lk op ph tk vd : Int32} {kd ar pa sc la le tl bd se wa gv ra mu ca si ns ke fz ch : Nat → Int32} {N S : Nat} {L Q e : Nat → Nat} {sl : Nat → Nat → Nat} {F : Nat → Int32}
theorem rk_xcc {post : Int32 → Prop} {k : Int32} (h : post (nI (rk_ar k))) : wpX_childCount post (mN, sN, mL, mT, ct, lk, op, ph, tk, vd, kd, ar, pa, sc, la, le, tl, bd, se, wa, gv, ra, mu, ca, si, ns, ke, fz, ch) k := by
  unfold wpX_childCount
  dsimp only
  unfold rk_ar at h
  refine br_c (fun a => br_c (fun b => ?_) (fun b => ?_)) (fun a => ?_)
  · rw [if_pos a, if_pos b] at h; exact h
  · rw [if_pos a, if_neg b] at h; exact h
  · rw [if_neg a] at h; exact h
theorem rk_xre {post : Int32 → Prop} {n i : Nat} (hn : n < 40) (hi : i < 40) (h1 : (i = 0 ∧ ¬ se n = 0) → post 1) (h0 : ¬ (i = 0 ∧ ¬ se n = 0) → post 0) : wpX_resumed post (mN, sN, mL, mT, ct, lk, op, ph, tk, vd, kd, ar, pa, sc, la, le, tl, bd, se, wa, gv, ra, mu, ca, si, ns, ke, fz, ch) (nI n) (nI i) := by
  unfold wpX_resumed
  dsimp only
  refine pk_eq i 0 (fun z => ⟨vp_in_nI hn (by omega), ?_⟩) (fun z => h0 (fun q => z q.1))
  rw [nI_clamp (by omega)]
  exact br_c (fun s => h0 (fun q => q.2 s)) (fun s => h1 ⟨z, s⟩)
theorem rk_xsl {post : Int32 → Prop} {n i : Nat} (hN : N ≤ 40) (hl : ∀ n, n < N → le n = nI (L n)) (hL : ∀ n, n < N → L n ≤ 2) (hs : rk_SL N ar bd L sl n) (hn : n < N) (hi : i < 40) (h : post (nI (sl n i))) : wpX_slot post (mN, sN, mL, mT, ct, lk, op, ph, tk, vd, kd, ar, pa, sc, la, le, tl, bd, se, wa, gv, ra, mu, ca, si, ns, ke, fz, ch) (nI n) (nI i) := by
  unfold wpX_slot
  dsimp only
  rw [nI_clamp (show n < 2 ^ 31 by omega)]
  refine ⟨vp_in_nI (by omega) (by omega), ?_⟩
  rcases hs with ⟨b, hb, eb, es⟩ | ⟨eb, a, ha, ea, es⟩
  · refine nm_r eb ?_
    refine br_t (nI_pos' (by omega)) ⟨vp_in_nI (by omega) (by omega), ?_⟩
    rw [nI_clamp (show b < 2 ^ 31 by omega), hl b hb]
    have h2 := hL b hb
    rw [es] at h
    refine pk_lt (L b) i (fun z => ?_) (fun z => ?_)
    · rw [if_pos z] at h
      unfold wX_slot_33
      rw [show (0 : Int32) = nI 0 from rfl, rk_iy]; exact h
    · rw [if_neg (by omega)] at h
      unfold wX_slot_33
      rw [rk_iy]; exact h
  · refine nm_r eb ?_
    rw [es] at h
    refine br_f (by decide) ⟨vp_in_nI (by omega) (by omega), ?_⟩
    rw [ea]; exact h
theorem rk_xin {post : Int32 → Prop} {v : Int32} (hv : rk_v3 v) (h : post (rk_ev (rk_no v))) : wpX_inverse post (mN, sN, mL, mT, ct, lk, op, ph, tk, vd, kd, ar, pa, sc, la, le, tl, bd, se, wa, gv, ra, mu, ca, si, ns, ke, fz, ch) (rk_ev v) := by
  unfold wpX_inverse
  dsimp only
  rcases hv with hv | hv | hv <;> subst hv
  · exact br_f (by decide) h
  · exact br_f (by decide) h
  · exact br_t (by decide) h
theorem rk_x54 {post : SX → Prop} {x c : Nat} {w : Int32} (hx : x < 120) (hc : c < 5) (hr : ra x = rk_ev w) (h : post (mN, sN, mL, mT, ct, lk, op, ph, tk, vd, kd, ar, pa, sc, la, le, tl, bd, se, wa, gv, ra, upd mu x (rk_em (fun k => if k = c then w else 0)), upd ca x (rk_ec (fun k => if k = c then w else 0)), si, ns, ke, fz, ch)) : wX_finishLeaf_54 post (nI x) (nI c) mN sN mL mT ct lk op ph tk vd kd ar pa sc la le tl bd se wa gv ra mu ca si ns ke fz ch := by
  unfold wX_finishLeaf_54
  rw [nI_clamp (show x < 2 ^ 31 by omega), hr, rk_lf_m w c hc, rk_lf_c w c hc]
  have hi : vp_in (nI x) 120 := vp_in_nI hx (by omega)
  exact ⟨hi, hi, nm_e ⟨hi, hi, nm_e h⟩⟩
theorem rk_xlf {post : SX → Prop} {n i : Nat} (hn : n < 40) (hi : i ≤ 2) (hk : rk_ar (kd n) = 0) (hK : ∃ k, k ≤ 10 ∧ kd n = nI k) (ha : kd n = 3 → ∃ a, a ≤ 2 ∧ ar n = nI a) (hr : ra (n * 3 + i) = rk_ev (rk_w F n i)) (hf : ∀ k, k < 5 → rk_rC kd ar se L Q sl F n i k = rk_c F n i k)
    (h : post (mN, sN, mL, mT, ct, lk, op, ph, tk, vd, kd, ar, pa, sc, la, le, tl, bd, se, wa, gv, ra, upd mu (n * 3 + i) (rk_em (rk_c F n i)), upd ca (n * 3 + i) (rk_ec (rk_c F n i)), si, ns, ke, fz, ch)) : wpX_finishLeaf post (mN, sN, mL, mT, ct, lk, op, ph, tk, vd, kd, ar, pa, sc, la, le, tl, bd, se, wa, gv, ra, mu, ca, si, ns, ke, fz, ch) (nI n) (nI i) := by
  have hin : vp_in (nI n) 40 := vp_in_nI hn (by omega)
  have hgo : ∀ c, c < 5 → (∀ k, k < 5 → rk_rC kd ar se L Q sl F n i k = (if k = c then rk_w F n i else 0)) → wX_finishLeaf_54 post (nI (n * 3 + i)) (nI c) mN sN mL mT ct lk op ph tk vd kd ar pa sc la le tl bd se wa gv ra mu ca si ns ke fz ch := fun c hc q => by
    have e : ∀ k, k < 5 → rk_c F n i k = (if k = c then rk_w F n i else 0) := fun k hk => by rw [← hf k hk]; exact q k hk
    rw [rk_em_c e, rk_ec_c e] at h
    exact rk_x54 (by omega) hc hr h
  unfold wpX_finishLeaf
  dsimp only
  rw [rk_ix, nI_clamp (show n < 2 ^ 31 by omega)]
  refine nm_e ⟨hin, ?_⟩
  rcases rk_kinds hK with k | k | k | k | k | k | k | k | k | k | k
  · rw [k]
    refine br_f (by decide) ⟨hin, br_f (by decide) (hgo 0 (by omega) (fun j _ => ?_))⟩
    simp only [rk_rC, k, true_or, if_true]
  · rw [k]
    refine br_f (by decide) ⟨hin, br_t rfl (rk_xre hn (by omega) (fun z => ?_) (fun z => ?_))⟩
    · refine br_f (by decide) (hgo 0 (by omega) (fun j _ => ?_))
      simp only [rk_rC, k, if_pos z, show ¬ ((1 : Int32) = 0 ∨ (1 : Int32) = 2) from by decide, if_false, if_true]
    · refine br_t rfl (hgo 1 (by omega) (fun j _ => ?_))
      simp only [rk_rC, k, if_neg z, show ¬ ((1 : Int32) = 0 ∨ (1 : Int32) = 2) from by decide, if_false, if_true]
  · rw [k]
    refine br_f (by decide) ⟨hin, br_f (by decide) (hgo 0 (by omega) (fun j _ => ?_))⟩
    simp only [rk_rC, k, or_true, if_true]
  · obtain ⟨a, ha, ea⟩ := ha k
    rw [k, ea]
    refine br_t rfl ⟨hin, nm_r (e' := nI (a + 2)) (nI_add a 2) (hgo (a + 2) (by omega) (fun j _ => ?_))⟩
    simp only [rk_rC, k, ea, nI_clamp (show a < 2 ^ 31 by omega), show ¬ ((3 : Int32) = 0 ∨ (3 : Int32) = 2) from by decide, show ¬ ((3 : Int32) = 1) from by decide, if_false, if_true]
  all_goals rw [k] at hk; exact absurd hk (by decide)
end
end
section
/-! ===== the component's steps at a node: each writes what the rules say ===== -/
def rk_B (N S : Nat) (kd ar pa sc le bd : Nat → Int32) (L Q e : Nat → Nat) (sl : Nat → Nat → Nat) : Prop :=
  rk_CT N kd pa L Q e ∧ rk_XT N kd ar sc le bd L Q sl ∧ rk_US N kd L sl (rk_ES N S kd L) ∧ S ≤ 8
/-- F is a state of facts over the signals si (two rails) that meets the rules of W and C -/
def rk_H (N : Nat) (kd ar pa se si : Nat → Int32) (L Q : Nat → Nat) (sl : Nat → Nat → Nat) (F : Nat → Int32) : Prop :=
  (∀ z, rk_v3 (F z)) ∧ (∀ x, x < 128 → si x = rk_ev (F x)) ∧ (∀ n i, n < N → i ≤ L n → rk_rW kd pa se L Q sl F n i = rk_w F n i) ∧ (∀ n i k, n < N → i ≤ L n → k < 5 → rk_rC kd ar se L Q sl F n i k = rk_c F n i k)
section
variable {mN sN mL mT ct lk op ph tk vd : Int32} {kd ar pa sc la le tl bd se wa gv ra mu ca si ns ke fz ch : Nat → Int32} {N S : Nat} {L Q e : Nat → Nat} {sl : Nat → Nat → Nat} {F : Nat → Int32}
theorem rk_rW_p {c p i : Nat} (hc : 0 < c) (hp : pa c = nI p) (h : p < 40) : rk_rW kd pa se L Q sl F c i = rk_rW1 kd se L Q sl F c i p := by
  unfold rk_rW; rw [if_neg (by omega), hp, nI_clamp (by omega)]
theorem rk_x175 {post : SX → Prop} {c i : Nat} {v : Int32} (hc : c < 40) (hi : i ≤ 2) (h : post (mN, sN, mL, mT, ct, lk, op, ph, tk, vd, kd, ar, pa, sc, la, le, tl, bd, se, wa, gv, upd ra (c * 3 + i) v, mu, ca, si, ns, ke, fz, ch)) : wX_startFirst_175 post (nI i) (nI c) v mN sN mL mT ct lk op ph tk vd kd ar pa sc la le tl bd se wa gv ra mu ca si ns ke fz ch := by
  unfold wX_startFirst_175
  rw [rk_ix, nI_clamp (by omega)]
  exact ⟨vp_in_nI (by omega) (by omega), nm_e h⟩
theorem rk_xsf {post : SX → Prop} {n i : Nat} (hB : rk_B N S kd ar pa sc le bd L Q e sl) (hH : rk_H N kd ar pa se si L Q sl F) (hn : n < N) (hi : i ≤ L n) (hk : 0 < rk_ar (kd n)) (hr : ra (n * 3 + i) = rk_ev (rk_w F n i))
    (h : post (mN, sN, mL, mT, ct, lk, op, ph, tk, vd, kd, ar, pa, sc, la, le, tl, bd, se, wa, gv, upd ra ((n + 1) * 3 + i) (rk_ev (rk_w F (n + 1) i)), mu, ca, si, ns, ke, fz, ch)) : wpX_startFirst post (mN, sN, mL, mT, ct, lk, op, ph, tk, vd, kd, ar, pa, sc, la, le, tl, bd, se, wa, gv, ra, mu, ca, si, ns, ke, fz, ch) (nI n) (nI i) := by
  obtain ⟨hT, hX, hU, hS⟩ := hB
  obtain ⟨hN, h0, hK, hL, he, hT0, hT1, hT2, hTp⟩ := hT
  have hn1 : n + 1 < N ∧ pa (n + 1) = nI n ∧ i ≤ L (n + 1) := by
    rcases rk_ar_p hk with g | g
    · have a := hT1 n hn g; exact ⟨a.1, a.2.1, by rw [a.2.2.1]; omega⟩
    · have a := hT2 n hn g; exact ⟨a.1, a.2.1, by rw [a.2.2.1]; omega⟩
  have hL2 := hL n hn
  have hin : vp_in (nI n) 40 := vp_in_nI (by omega) (by omega)
  have hv := hH.2.2.1 (n + 1) i hn1.1 hn1.2.2
  rw [rk_rW_p (by omega) hn1.2.1 (by omega)] at hv
  rw [← hv] at h
  have hgo : ∀ v, rk_ev (rk_rW1 kd se L Q sl F (n + 1) i n) = v → wX_startFirst_175 post (nI i) (nI (n + 1)) v mN sN mL mT ct lk op ph tk vd kd ar pa sc la le tl bd se wa gv ra mu ca si ns ke fz ch := fun v q => rk_x175 (by omega) (by omega) (by rw [← q]; exact h)
  unfold wpX_startFirst
  dsimp only
  rw [rk_ix, nI_1, nI_clamp (show n < 2 ^ 31 by omega), nI_clamp (show n * 3 + i < 2 ^ 31 by omega), hr]
  refine nm_e ⟨hin, nm_e ⟨vp_in_nI (by omega) (by omega), nm_e ⟨hin, nm_e ?_⟩⟩⟩
  have hLi : ¬ L n < i := by omega
  rcases rk_kinds (hK n hn) with k | k | k | k | k | k | k | k | k | k | k
  · rw [k] at hk; exact absurd hk (by decide)
  · rw [k] at hk; exact absurd hk (by decide)
  · rw [k] at hk; exact absurd hk (by decide)
  · rw [k] at hk; exact absurd hk (by decide)
  · -- PRESENT
    have hu := (hU n hn (Or.inr (Or.inl k)) i hi).2
    rw [k]
    refine rk_xre (by omega) (by omega) (fun z => ?_) (fun z => ?_)
    · refine br_t rfl (br_f (by decide) ?_)
      unfold wX_startFirst_74
      refine br_t rfl ?_
      unfold wX_startFirst_87
      refine br_f (by decide) ⟨vp_in_nI (by omega) (by omega), ?_⟩
      rw [nI_clamp (show n + 1 < 2 ^ 31 by omega)]
      refine br_c (fun s => hgo _ ?_) (fun s => hgo _ ?_)
      · simp only [rk_rW1, if_neg hLi, k, if_true, if_pos z, if_pos s]; exact rk_ev_0
      · simp only [rk_rW1, if_neg hLi, k, if_true, if_pos z, if_neg s]
    · refine br_t rfl (br_t rfl (rk_xsl hN.2 hX.1 hL (hX.2.2.2.1 n hn (Or.inr (Or.inl k))) hn (by omega) ?_))
      rw [nI_clamp (by omega), hH.2.1 _ hu]
      refine ⟨vp_in_nI hu (by omega), nm_e (hgo _ ?_)⟩
      simp only [rk_rW1, if_neg hLi, k, if_true, if_neg z]; exact rk_ev_an _ _
  · -- SEQ
    have g2 : rk_ar (kd n) = 2 := by rw [k]; decide
    have a := hT2 n hn g2
    rw [k, hX.2.1 n hn g2]
    refine rk_xre (by omega) (by omega) (fun z => br_f (by decide) ?_) (fun z => br_f (by decide) ?_)
    · unfold wX_startFirst_74
      refine br_f (by decide) (br_f (by decide) (br_t rfl (br_f (by decide) (br_f (nI_pos (by omega)) ⟨vp_in_nI (by omega) (by omega), ?_⟩))))
      rw [nI_clamp (show Q n < 2 ^ 31 by omega)]
      refine br_c (fun s => hgo _ ?_) (fun s => hgo _ ?_)
      · simp only [rk_rW1, if_neg hLi, k, if_true, show ¬ ((5 : Int32) = 4) from by decide, if_false, s, not_true, and_false]
      · simp only [rk_rW1, if_neg hLi, k, if_true, show ¬ ((5 : Int32) = 4) from by decide, if_false, if_pos (And.intro z s)]; exact rk_ev_0
    · unfold wX_startFirst_74
      refine br_f (by decide) (br_f (by decide) (br_t rfl (br_t rfl (hgo _ ?_))))
      simp only [rk_rW1, if_neg hLi, k, if_true, show ¬ ((5 : Int32) = 4) from by decide, if_false, if_neg (fun q : (i = 0 ∧ ¬ se n = 0) ∧ ¬ se (Q n) = 0 => z q.1)]
  · -- PAR
    rw [k]
    refine rk_xre (by omega) (by omega) (fun z => br_f (by decide) ?_) (fun z => br_f (by decide) ?_)
    · unfold wX_startFirst_74
      refine br_f (by decide) (br_t rfl ?_)
      unfold wX_startFirst_87
      refine br_f (by decide) ⟨vp_in_nI (by omega) (by omega), ?_⟩
      rw [nI_clamp (show n + 1 < 2 ^ 31 by omega)]
      refine br_c (fun s => hgo _ ?_) (fun s => hgo _ ?_)
      · simp only [rk_rW1, if_neg hLi, k, show ¬ ((6 : Int32) = 4) from by decide, show ¬ ((6 : Int32) = 5) from by decide, if_false, if_true, if_pos (And.intro z s)]; exact rk_ev_0
      · simp only [rk_rW1, if_neg hLi, k, show ¬ ((6 : Int32) = 4) from by decide, show ¬ ((6 : Int32) = 5) from by decide, if_false, if_true, if_neg (fun q : (i = 0 ∧ ¬ se n = 0) ∧ se (n + 1) = 0 => s q.2)]
    · unfold wX_startFirst_74
      refine br_f (by decide) (br_t rfl ?_)
      unfold wX_startFirst_87
      refine br_t rfl (hgo _ ?_)
      simp only [rk_rW1, if_neg hLi, k, show ¬ ((6 : Int32) = 4) from by decide, show ¬ ((6 : Int32) = 5) from by decide, if_false, if_true, if_neg (fun q : (i = 0 ∧ ¬ se n = 0) ∧ se (n + 1) = 0 => z q.1)]
  · -- LOOP
    rw [k]
    refine rk_xre (by omega) (by omega) (fun z => br_f (by decide) ?_) (fun z => br_f (by decide) ?_)
    all_goals
      unfold wX_startFirst_74
      refine br_f (by decide) (br_f (by decide) (br_f (by decide) (br_f (by decide) (hgo _ ?_))))
      simp only [rk_rW1, if_neg hLi, k, show ¬ ((7 : Int32) = 4) from by decide, show ¬ ((7 : Int32) = 5) from by decide, show ¬ ((7 : Int32) = 6) from by decide, show ¬ ((7 : Int32) = 8) from by decide, if_false, false_and]
  · -- SUSPEND
    have hu := (hU n hn (Or.inr (Or.inr k)) i hi).2
    rw [k]
    refine rk_xre (by omega) (by omega) (fun z => br_f (by decide) ?_) (fun z => br_f (by decide) ?_)
    · unfold wX_startFirst_74
      refine br_f (by decide) (br_f (by decide) (br_f (by decide) (br_t rfl (br_f (by decide) (rk_xsl hN.2 hX.1 hL (hX.2.2.2.1 n hn (Or.inr (Or.inr k))) hn (by omega) ?_)))))
      rw [nI_clamp (by omega), hH.2.1 _ hu]
      refine ⟨vp_in_nI hu (by omega), rk_xin (hH.1 _) (nm_e (hgo _ ?_))⟩
      simp only [rk_rW1, if_neg hLi, k, show ¬ ((8 : Int32) = 4) from by decide, show ¬ ((8 : Int32) = 5) from by decide, show ¬ ((8 : Int32) = 6) from by decide, if_false, true_and, if_pos z]; exact rk_ev_an _ _
    · unfold wX_startFirst_74
      refine br_f (by decide) (br_f (by decide) (br_f (by decide) (br_t rfl (br_t rfl (hgo _ ?_)))))
      simp only [rk_rW1, if_neg hLi, k, show ¬ ((8 : Int32) = 4) from by decide, show ¬ ((8 : Int32) = 5) from by decide, show ¬ ((8 : Int32) = 6) from by decide, if_false, true_and, if_neg z]
  · -- TRAP
    rw [k]
    refine rk_xre (by omega) (by omega) (fun z => br_f (by decide) ?_) (fun z => br_f (by decide) ?_)
    all_goals
      unfold wX_startFirst_74
      refine br_f (by decide) (br_f (by decide) (br_f (by decide) (br_f (by decide) (hgo _ ?_))))
      simp only [rk_rW1, if_neg hLi, k, show ¬ ((9 : Int32) = 4) from by decide, show ¬ ((9 : Int32) = 5) from by decide, show ¬ ((9 : Int32) = 6) from by decide, show ¬ ((9 : Int32) = 8) from by decide, if_false, false_and]
  · -- LOCAL
    rw [k]
    refine rk_xre (by omega) (by omega) (fun z => br_f (by decide) ?_) (fun z => br_f (by decide) ?_)
    all_goals
      unfold wX_startFirst_74
      refine br_f (by decide) (br_f (by decide) (br_f (by decide) (br_f (by decide) (hgo _ ?_))))
      simp only [rk_rW1, if_neg hLi, k, show ¬ ((10 : Int32) = 4) from by decide, show ¬ ((10 : Int32) = 5) from by decide, show ¬ ((10 : Int32) = 6) from by decide, show ¬ ((10 : Int32) = 8) from by decide, if_false, false_and]
theorem rk_xdn {post : Int32 → Prop} {n i : Nat} (hn : n * 3 + i < 120) (hm : mu (n * 3 + i) = rk_em (rk_c F n i)) (hc : ca (n * 3 + i) = rk_ec (rk_c F n i)) (h : post (rk_ev (rk_c F n i 0))) : wpX_doneValue post (mN, sN, mL, mT, ct, lk, op, ph, tk, vd, kd, ar, pa, sc, la, le, tl, bd, se, wa, gv, ra, mu, ca, si, ns, ke, fz, ch) (nI (n * 3 + i)) := by
  unfold wpX_doneValue
  dsimp only
  rw [nI_clamp (by omega), hm, hc, rk_dn]
  exact ⟨vp_in_nI hn (by omega), vp_in_nI hn (by omega), h⟩
theorem rk_x121 {post : SX → Prop} {c i : Nat} {v : Int32} (hc : c < 40) (hi : i ≤ 2) (h : post (mN, sN, mL, mT, ct, lk, op, ph, tk, vd, kd, ar, pa, sc, la, le, tl, bd, se, wa, gv, upd ra (c * 3 + i) v, mu, ca, si, ns, ke, fz, ch)) : wX_startSecond_121 post (nI i) (nI c) v mN sN mL mT ct lk op ph tk vd kd ar pa sc la le tl bd se wa gv ra mu ca si ns ke fz ch := by
  unfold wX_startSecond_121
  rw [rk_ix, nI_clamp (by omega)]
  exact ⟨vp_in_nI (by omega) (by omega), nm_e h⟩
theorem rk_xss {post : SX → Prop} {n i : Nat} (hB : rk_B N S kd ar pa sc le bd L Q e sl) (hH : rk_H N kd ar pa se si L Q sl F) (hn : n < N) (hi : i ≤ L n) (g2 : rk_ar (kd n) = 2) (hr : ra (n * 3 + i) = rk_ev (rk_w F n i))
    (hm : mu ((n + 1) * 3 + i) = rk_em (rk_c F (n + 1) i)) (hc : ca ((n + 1) * 3 + i) = rk_ec (rk_c F (n + 1) i))
    (h : post (mN, sN, mL, mT, ct, lk, op, ph, tk, vd, kd, ar, pa, sc, la, le, tl, bd, se, wa, gv, upd ra (Q n * 3 + i) (rk_ev (rk_w F (Q n) i)), mu, ca, si, ns, ke, fz, ch)) : wpX_startSecond post (mN, sN, mL, mT, ct, lk, op, ph, tk, vd, kd, ar, pa, sc, la, le, tl, bd, se, wa, gv, ra, mu, ca, si, ns, ke, fz, ch) (nI n) (nI i) := by
  obtain ⟨hT, hX, hU, hS⟩ := hB
  obtain ⟨hN, h0, hK, hL, he, hT0, hT1, hT2, hTp⟩ := hT
  have a := hT2 n hn g2
  obtain ⟨a1, a2, a3, a4, a5, a6, a7, a8, a9⟩ := a
  have hL2 := hL n hn
  have hin : vp_in (nI n) 40 := vp_in_nI (by omega) (by omega)
  have hv := hH.2.2.1 (Q n) i a5 (by omega)
  rw [rk_rW_p (by omega) a6 (by omega)] at hv
  rw [← hv] at h
  have hgo : ∀ v, rk_ev (rk_rW1 kd se L Q sl F (Q n) i n) = v → wX_startSecond_121 post (nI i) (nI (Q n)) v mN sN mL mT ct lk op ph tk vd kd ar pa sc la le tl bd se wa gv ra mu ca si ns ke fz ch := fun v q => rk_x121 (by omega) (by omega) (by rw [← q]; exact h)
  have hLi : ¬ L n < i := by omega
  have hne : ¬ Q n = n + 1 := by omega
  unfold wpX_startSecond
  dsimp only
  rw [rk_ix, nI_clamp (show n < 2 ^ 31 by omega), nI_clamp (show n * 3 + i < 2 ^ 31 by omega), hr, hX.2.1 n hn g2]
  refine ⟨hin, nm_e ⟨vp_in_nI (by omega) (by omega), nm_e ⟨hin, nm_e ?_⟩⟩⟩
  have hq : vp_in (nI (Q n)) 40 := vp_in_nI (by omega) (by omega)
  rcases rk_kinds (hK n hn) with k | k | k | k | k | k | k | k | k | k | k
  · rw [k] at g2; exact absurd g2 (by decide)
  · rw [k] at g2; exact absurd g2 (by decide)
  · rw [k] at g2; exact absurd g2 (by decide)
  · rw [k] at g2; exact absurd g2 (by decide)
  · -- PRESENT
    have hu := (hU n hn (Or.inr (Or.inl k)) i hi).2
    rw [k]
    refine rk_xre (by omega) (by omega) (fun z => br_f (by decide) (br_f (by decide) ⟨hq, ?_⟩)) (fun z => br_f (by decide) (br_t rfl (br_t rfl (rk_xsl hN.2 hX.1 hL (hX.2.2.2.1 n hn (Or.inr (Or.inl k))) hn (by omega) ?_))))
    · rw [nI_clamp (show Q n < 2 ^ 31 by omega)]
      refine br_c (fun s => hgo _ ?_) (fun s => hgo _ ?_)
      · simp only [rk_rW1, if_neg hLi, k, if_true, if_pos z, if_pos s]; exact rk_ev_0
      · simp only [rk_rW1, if_neg hLi, k, if_true, if_pos z, if_neg s]
    · rw [nI_clamp (by omega), hH.2.1 _ hu]
      refine ⟨vp_in_nI hu (by omega), rk_xin (hH.1 _) (nm_e (hgo _ ?_))⟩
      simp only [rk_rW1, if_neg hLi, k, if_true, if_neg z, if_neg hne]; exact rk_ev_an _ _
  · -- SEQ
    have h55 : ¬ ((i = 0 ∧ ¬ se n = 0) ∧ ¬ se (Q n) = 0) → wX_startSecond_55 post (nI n) (nI i) (nI (Q n)) mN sN mL mT ct lk op ph tk vd kd ar pa sc la le tl bd se wa gv ra mu ca si ns ke fz ch := by
      intro z
      unfold wX_startSecond_55
      rw [nI_1, rk_ix]
      refine rk_xdn (by omega) hm hc (hgo _ ?_)
      simp only [rk_rW1, if_neg hLi, k, show ¬ ((5 : Int32) = 4) from by decide, if_false, if_true, if_neg z, if_neg hne]
    rw [k]
    refine rk_xre (by omega) (by omega) (fun z => br_t rfl (br_f (by decide) ⟨hq, ?_⟩)) (fun z => br_t rfl (br_t rfl (h55 (fun q => z q.1))))
    rw [nI_clamp (show Q n < 2 ^ 31 by omega)]
    refine br_c (fun s => h55 (fun q => q.2 s)) (fun s => hgo _ ?_)
    simp only [rk_rW1, if_neg hLi, k, show ¬ ((5 : Int32) = 4) from by decide, if_false, if_true, if_pos (And.intro z s), if_neg hne]
  · -- PAR
    rw [k]
    refine rk_xre (by omega) (by omega) (fun z => br_f (by decide) (br_f (by decide) ⟨hq, ?_⟩)) (fun z => br_f (by decide) (br_t rfl (br_f (by decide) (hgo _ ?_))))
    · rw [nI_clamp (show Q n < 2 ^ 31 by omega)]
      refine br_c (fun s => hgo _ ?_) (fun s => hgo _ ?_)
      · simp only [rk_rW1, if_neg hLi, k, show ¬ ((6 : Int32) = 4) from by decide, show ¬ ((6 : Int32) = 5) from by decide, if_false, if_true, if_pos (And.intro z s)]; exact rk_ev_0
      · simp only [rk_rW1, if_neg hLi, k, show ¬ ((6 : Int32) = 4) from by decide, show ¬ ((6 : Int32) = 5) from by decide, if_false, if_true, if_neg (fun q : (i = 0 ∧ ¬ se n = 0) ∧ se (Q n) = 0 => s q.2)]
    · simp only [rk_rW1, if_neg hLi, k, show ¬ ((6 : Int32) = 4) from by decide, show ¬ ((6 : Int32) = 5) from by decide, if_false, if_true, if_neg (fun q : (i = 0 ∧ ¬ se n = 0) ∧ se (Q n) = 0 => z q.1)]
  all_goals rw [k] at g2; exact absurd g2 (by decide)
theorem rk_xsa {post : SX → Prop} {n : Nat} (hB : rk_B N S kd ar pa sc le bd L Q e sl) (hH : rk_H N kd ar pa se si L Q sl F) (hn : n < N) (k7 : kd n = 7)
    (hm : mu ((n + 1) * 3 + 0) = rk_em (rk_c F (n + 1) 0)) (hc : ca ((n + 1) * 3 + 0) = rk_ec (rk_c F (n + 1) 0))
    (h : post (mN, sN, mL, mT, ct, lk, op, ph, tk, vd, kd, ar, pa, sc, la, le, tl, bd, se, wa, gv, upd ra ((n + 1) * 3 + (L n + 1)) (rk_ev (rk_w F (n + 1) (L n + 1))), mu, ca, si, ns, ke, fz, ch)) : wpX_startAgain post (mN, sN, mL, mT, ct, lk, op, ph, tk, vd, kd, ar, pa, sc, la, le, tl, bd, se, wa, gv, ra, mu, ca, si, ns, ke, fz, ch) (nI n) := by
  obtain ⟨hT, hX, hU, hS⟩ := hB
  obtain ⟨hN, h0, hK, hL, he, hT0, hT1, hT2, hTp⟩ := hT
  have a := hT1 n hn (by rw [k7]; decide)
  rw [if_pos k7] at a
  obtain ⟨a1, a2, a3, a4⟩ := a
  have hL2 := hL (n + 1) a1
  have hv := hH.2.2.1 (n + 1) (L n + 1) a1 (by omega)
  rw [rk_rW_p (by omega) a2 (by omega)] at hv
  rw [← hv] at h
  have hgo : ∀ v, rk_ev (rk_rW1 kd se L Q sl F (n + 1) (L n + 1) n) = v → wX_startAgain_23 post (nI (n + 1)) v mN sN mL mT ct lk op ph tk vd kd ar pa sc la le tl bd se wa gv ra mu ca si ns ke fz ch := fun v q => by
    unfold wX_startAgain_23
    rw [nI_clamp (show n + 1 < 2 ^ 31 by omega), hX.1 _ a1, a3, rk_ix, nI_clamp (by omega)]
    exact ⟨vp_in_nI (by omega) (by omega), vp_in_nI (by omega) (by omega), nm_e (by rw [← q]; exact h)⟩
  have hLi : L n < L n + 1 := by omega
  unfold wpX_startAgain
  dsimp only
  rw [nI_1, nI_clamp (show n < 2 ^ 31 by omega)]
  refine nm_e ⟨vp_in_nI (by omega) (by omega), br_c (fun s => hgo _ ?_) (fun s => ?_)⟩
  · simp only [rk_rW1, if_pos hLi, if_pos s]; exact rk_ev_0
  · rw [rk_ix0]
    refine rk_xdn (by omega) hm hc (hgo _ ?_)
    simp only [rk_rW1, if_pos hLi, if_neg s]
end
end
section
/-! ===== the component's finish: C of a node out of its children's ===== -/
section
variable {mN sN mL mT ct lk op ph tk vd : Int32} {kd ar pa sc la le tl bd se wa gv ra mu ca si ns ke fz ch : Nat → Int32} {N S : Nat} {L Q e : Nat → Nat} {sl : Nat → Nat → Nat} {F : Nat → Int32}
theorem rk_xjn {post : Int32 → Prop} {p q : Int32} (h : post (rk_jn p q)) : wpX_join post (mN, sN, mL, mT, ct, lk, op, ph, tk, vd, kd, ar, pa, sc, la, le, tl, bd, se, wa, gv, ra, mu, ca, si, ns, ke, fz, ch) p q := by
  unfold rk_jn at h
  unfold wpX_join
  dsimp only
  refine br_c (fun a => ?_) (fun a => br_c (fun b => ?_) (fun b => nm_e (nm_e (br_c (fun c => ?_) (fun c => ?_)))))
  · rw [if_pos a] at h; exact h
  · rw [if_neg a, if_pos b] at h; exact h
  · rw [if_neg a, if_neg b, if_pos c] at h; exact h
  · rw [if_neg a, if_neg b, if_neg c] at h; exact h
theorem rk_xcb {post : Int32 → Prop} {k p q : Int32} (h : post (rk_cb k p q)) : wpX_combine post (mN, sN, mL, mT, ct, lk, op, ph, tk, vd, kd, ar, pa, sc, la, le, tl, bd, se, wa, gv, ra, mu, ca, si, ns, ke, fz, ch) k p q := by
  unfold rk_cb at h
  unfold wpX_combine
  dsimp only
  refine br_c (fun a => ?_) (fun a => br_c (fun b => rk_xjn ?_) (fun b => br_c (fun c => ?_) (fun c => br_c (fun d => ?_) (fun d => ?_))))
  · rw [if_pos a] at h; exact h
  · rw [if_neg a, if_pos b] at h; exact h
  · rw [if_neg a, if_neg b, if_pos c] at h; exact h
  · rw [if_neg a, if_neg b, if_neg c, if_pos d] at h; exact h
  · rw [if_neg a, if_neg b, if_neg c, if_neg d] at h; exact h
theorem rk_x271 {post : SX → Prop} {x : Nat} {k p p' q q' : Int32} (hx : x < 120) (h : post (mN, sN, mL, mT, ct, lk, op, ph, tk, vd, kd, ar, pa, sc, la, le, tl, bd, se, wa, gv, ra, upd mu x (rk_cb k p q), upd ca x (rk_cb k p' q'), si, ns, ke, fz, ch)) : wX_finish_271 post (nI x) k p p' q q' mN sN mL mT ct lk op ph tk vd kd ar pa sc la le tl bd se wa gv ra mu ca si ns ke fz ch := by
  unfold wX_finish_271
  have hin : vp_in (nI x) 120 := vp_in_nI hx (by omega)
  refine rk_xcb ⟨hin, nm_e (rk_xcb ⟨hin, nm_e ?_⟩)⟩
  rw [nI_clamp (by omega)]; exact h
theorem rk_x98a {post : SX → Prop} {n i : Nat} {x3 x4 x5 k w p p' q q' : Int32} (hn : n < 40) (hi : i < 40) (h6 : ¬ k = 6) (h7 : ¬ k = 7) (h8 : ¬ k = 8) (h : wX_finish_271 post x3 k p p' q q' mN sN mL mT ct lk op ph tk vd kd ar pa sc la le tl bd se wa gv ra mu ca si ns ke fz ch) : wX_finish_98 post (nI n) (nI i) x3 x4 x5 k w p p' q q' mN sN mL mT ct lk op ph tk vd kd ar pa sc la le tl bd se wa gv ra mu ca si ns ke fz ch := by
  unfold wX_finish_98
  refine rk_xre hn hi (fun z => br_f (by decide) (br_f h7 ?_)) (fun z => br_t rfl ?_)
  · unfold wX_finish_159
    refine br_f (by decide) (br_f h8 ?_)
    unfold wX_finish_210
    exact br_f (by decide) (br_f h6 h)
  · unfold wX_finish_159
    refine br_t rfl ?_
    unfold wX_finish_210
    exact br_t rfl h
theorem rk_cb_em (k : Int32) (h5 : ¬ k = 5) (h6 : ¬ k = 6) (h7 : ¬ k = 7) (h9 : ¬ k = 9) (p q : Int32) : rk_cb k p q = p ||| q := by
  unfold rk_cb; rw [if_neg h5, if_neg h6, if_neg h7, if_neg h9]
theorem rk_or_00 (f : Nat → Int32) : rk_em f ||| 0 = rk_em f ∧ rk_ec f ||| 0 = rk_ec f := by
  constructor
  · have a := rk_em_or f (fun _ => 0)
    rw [rk_em_0] at a; rw [a]; unfold rk_em; simp [rk_or1]
  · have a := rk_ec_or f (fun _ => 0)
    rw [rk_ec_0] at a; rw [a]; unfold rk_ec; simp [rk_or0]
theorem rk_em_ice (v : Int32) : (rk_ev v &&& 1) <<< ((1 : Int32) &&& 31) = rk_em (fun k => if k = 1 then v else 0) := rk_lf_m v 1 (by omega)
theorem rk_ec_ice (v : Int32) : (rk_ev v >>> ((1 : Int32) &&& 31)) <<< ((1 : Int32) &&& 31) = rk_ec (fun k => if k = 1 then v else 0) := rk_lf_c v 1 (by omega)
theorem rk_em_w0 (v : Int32) : rk_ev v &&& 1 = rk_em (fun k => if k = 0 then v else 0) := by rw [← rk_lf_m v 0 (by omega)]; exact (sb_shl0 _).symm
theorem rk_ec_w0 (v : Int32) : rk_ev v >>> ((1 : Int32) &&& 31) = rk_ec (fun k => if k = 0 then v else 0) := by rw [← rk_lf_c v 0 (by omega)]; exact (sb_shl0 _).symm
theorem rk_pr_t {n c i : Nat} (z : i = 0 ∧ ¬ se n = 0) (s : se c = 0) (j : Nat) : rk_pr se F n c i j = if j = 0 then rk_w F n i else 0 := by
  unfold rk_pr; exact if_pos ⟨z, s⟩
theorem rk_pr_f {n c i : Nat} (z : ¬ ((i = 0 ∧ ¬ se n = 0) ∧ se c = 0)) (j : Nat) : rk_pr se F n c i j = rk_c F c i j := by
  unfold rk_pr; exact if_neg z
theorem rk_xfi {post : SX → Prop} {n i : Nat} (hB : rk_B N S kd ar pa sc le bd L Q e sl) (hH : rk_H N kd ar pa se si L Q sl F) (hn : n < N) (hi : i ≤ L n) (hk : 0 < rk_ar (kd n)) (hr : ra (n * 3 + i) = rk_ev (rk_w F n i))
    (hm : mu ((n + 1) * 3 + i) = rk_em (rk_c F (n + 1) i)) (hc : ca ((n + 1) * 3 + i) = rk_ec (rk_c F (n + 1) i))
    (hq : rk_ar (kd n) = 2 → mu (Q n * 3 + i) = rk_em (rk_c F (Q n) i) ∧ ca (Q n * 3 + i) = rk_ec (rk_c F (Q n) i))
    (h7 : kd n = 7 → i = 0 → mu ((n + 1) * 3 + (L n + 1)) = rk_em (rk_c F (n + 1) (L n + 1)) ∧ ca ((n + 1) * 3 + (L n + 1)) = rk_ec (rk_c F (n + 1) (L n + 1)))
    (h : post (mN, sN, mL, mT, ct, lk, op, ph, tk, vd, kd, ar, pa, sc, la, le, tl, bd, se, wa, gv, ra, upd mu (n * 3 + i) (rk_em (rk_c F n i)), upd ca (n * 3 + i) (rk_ec (rk_c F n i)), si, ns, ke, fz, ch)) : wpX_finish post (mN, sN, mL, mT, ct, lk, op, ph, tk, vd, kd, ar, pa, sc, la, le, tl, bd, se, wa, gv, ra, mu, ca, si, ns, ke, fz, ch) (nI n) (nI i) := by
  obtain ⟨hT, hX, hU, hS⟩ := hB
  obtain ⟨hN, h0, hK, hL, he, hT0, hT1, hT2, hTp⟩ := hT
  have hn1 : n + 1 < N := by
    rcases rk_ar_p hk with g | g
    · exact (hT1 n hn g).1
    · exact (hT2 n hn g).1
  have hL2 := hL n hn
  have hf : ∀ k, k < 5 → rk_rC kd ar se L Q sl F n i k = rk_c F n i k := fun k q => hH.2.2.2 n i k hn hi q
  rw [← rk_em_c hf, ← rk_ec_c hf] at h
  have hgo : ∀ p p' q q' : Int32, rk_cb (kd n) p q = rk_em (rk_rC kd ar se L Q sl F n i) → rk_cb (kd n) p' q' = rk_ec (rk_rC kd ar se L Q sl F n i) → wX_finish_271 post (nI (n * 3 + i)) (kd n) p p' q q' mN sN mL mT ct lk op ph tk vd kd ar pa sc la le tl bd se wa gv ra mu ca si ns ke fz ch := fun p p' q q' a b => rk_x271 (by omega) (by rw [a, b]; exact h)
  have hin : vp_in (nI n) 40 := vp_in_nI (by omega) (by omega)
  have hix : vp_in (nI (n * 3 + i)) 120 := vp_in_nI (by omega) (by omega)
  have hiy : vp_in (nI ((n + 1) * 3 + i)) 120 := vp_in_nI (by omega) (by omega)
  have hi4 : i < 40 := by omega
  have hn4 : n < 40 := by omega
  unfold wpX_finish
  dsimp only
  rw [nI_1, rk_ix, nI_clamp (show n < 2 ^ 31 by omega)]
  refine nm_e (nm_e ⟨hin, nm_e ⟨hin, nm_e ⟨hix, ?_⟩⟩⟩)
  rw [rk_ix, nI_clamp (show n * 3 + i < 2 ^ 31 by omega), nI_clamp (show (n + 1) * 3 + i < 2 ^ 31 by omega), hr, hm, hc]
  refine nm_e ⟨hiy, nm_e ⟨hiy, nm_e ?_⟩⟩
  have one : rk_ar (kd n) = 1 → (wX_finish_98 post (nI n) (nI i) (nI (n * 3 + i)) (nI (n + 1)) (-1) (kd n) (rk_ev (rk_w F n i)) (rk_em (rk_c F (n + 1) i)) (rk_ec (rk_c F (n + 1) i)) 0 0 mN sN mL mT ct lk op ph tk vd kd ar pa sc la le tl bd se wa gv ra mu ca si ns ke fz ch) →
      ((sc n < 0 → wX_finish_98 post (nI n) (nI i) (nI (n * 3 + i)) (nI (n + 1)) (sc n) (kd n) (rk_ev (rk_w F n i)) (rk_em (rk_c F (n + 1) i)) (rk_ec (rk_c F (n + 1) i)) 0 0 mN sN mL mT ct lk op ph tk vd kd ar pa sc la le tl bd se wa gv ra mu ca si ns ke fz ch) ∧ (¬ sc n < 0 → (vp_in (sc n * 3 + nI i) 120 ∧ ∀ y, y = mu (sc n * 3 + nI i).toNatClampNeg → (vp_in (sc n * 3 + nI i) 120 ∧ ∀ y', y' = ca (sc n * 3 + nI i).toNatClampNeg → wX_finish_98 post (nI n) (nI i) (nI (n * 3 + i)) (nI (n + 1)) (sc n) (kd n) (rk_ev (rk_w F n i)) (rk_em (rk_c F (n + 1) i)) (rk_ec (rk_c F (n + 1) i)) y y' mN sN mL mT ct lk op ph tk vd kd ar pa sc la le tl bd se wa gv ra mu ca si ns ke fz ch)))) := by
    intro g w
    rw [hX.2.2.1 n hn (by omega)]
    exact br_t (by decide) w
  have two : rk_ar (kd n) = 2 → (wX_finish_98 post (nI n) (nI i) (nI (n * 3 + i)) (nI (n + 1)) (nI (Q n)) (kd n) (rk_ev (rk_w F n i)) (rk_em (rk_c F (n + 1) i)) (rk_ec (rk_c F (n + 1) i)) (rk_em (rk_c F (Q n) i)) (rk_ec (rk_c F (Q n) i)) mN sN mL mT ct lk op ph tk vd kd ar pa sc la le tl bd se wa gv ra mu ca si ns ke fz ch) →
      ((sc n < 0 → wX_finish_98 post (nI n) (nI i) (nI (n * 3 + i)) (nI (n + 1)) (sc n) (kd n) (rk_ev (rk_w F n i)) (rk_em (rk_c F (n + 1) i)) (rk_ec (rk_c F (n + 1) i)) 0 0 mN sN mL mT ct lk op ph tk vd kd ar pa sc la le tl bd se wa gv ra mu ca si ns ke fz ch) ∧ (¬ sc n < 0 → (vp_in (sc n * 3 + nI i) 120 ∧ ∀ y, y = mu (sc n * 3 + nI i).toNatClampNeg → (vp_in (sc n * 3 + nI i) 120 ∧ ∀ y', y' = ca (sc n * 3 + nI i).toNatClampNeg → wX_finish_98 post (nI n) (nI i) (nI (n * 3 + i)) (nI (n + 1)) (sc n) (kd n) (rk_ev (rk_w F n i)) (rk_em (rk_c F (n + 1) i)) (rk_ec (rk_c F (n + 1) i)) y y' mN sN mL mT ct lk op ph tk vd kd ar pa sc la le tl bd se wa gv ra mu ca si ns ke fz ch)))) := by
    intro g w
    have a := hT2 n hn g
    have b := hq g
    rw [hX.2.1 n hn g, rk_ix, nI_clamp (show Q n * 3 + i < 2 ^ 31 by omega), b.1, b.2]
    have hiq : vp_in (nI (Q n * 3 + i)) 120 := vp_in_nI (by omega) (by omega)
    exact br_f (nI_pos (by omega)) ⟨hiq, nm_e ⟨hiq, nm_e w⟩⟩
  rcases rk_kinds (hK n hn) with k | k | k | k | k | k | k | k | k | k | k
  · rw [k] at hk; exact absurd hk (by decide)
  · rw [k] at hk; exact absurd hk (by decide)
  · rw [k] at hk; exact absurd hk (by decide)
  · rw [k] at hk; exact absurd hk (by decide)
  · -- PRESENT
    refine two (by rw [k]; decide) (rk_x98a hn4 hi4 (by rw [k]; decide) (by rw [k]; decide) (by rw [k]; decide) (hgo _ _ _ _ ?_ ?_))
    · rw [rk_cb_em _ (by rw [k]; decide) (by rw [k]; decide) (by rw [k]; decide) (by rw [k]; decide), rk_em_or]
      exact rk_em_c (fun j _ => by simp only [rk_rC, k, show ¬ ((4 : Int32) = 0 ∨ (4 : Int32) = 2) from by decide, show ¬ ((4 : Int32) = 1) from by decide, show ¬ ((4 : Int32) = 3) from by decide, if_false, if_true])
    · rw [rk_cb_em _ (by rw [k]; decide) (by rw [k]; decide) (by rw [k]; decide) (by rw [k]; decide), rk_ec_or]
      exact rk_ec_c (fun j _ => by simp only [rk_rC, k, show ¬ ((4 : Int32) = 0 ∨ (4 : Int32) = 2) from by decide, show ¬ ((4 : Int32) = 1) from by decide, show ¬ ((4 : Int32) = 3) from by decide, if_false, if_true])
  · -- SEQ
    refine two (by rw [k]; decide) (rk_x98a hn4 hi4 (by rw [k]; decide) (by rw [k]; decide) (by rw [k]; decide) (hgo _ _ _ _ ?_ ?_))
    · unfold rk_cb; rw [if_pos k, rk_em_sq]
      exact rk_em_c (fun j _ => by simp only [rk_rC, k, show ¬ ((5 : Int32) = 0 ∨ (5 : Int32) = 2) from by decide, show ¬ ((5 : Int32) = 1) from by decide, show ¬ ((5 : Int32) = 3) from by decide, show ¬ ((5 : Int32) = 4) from by decide, if_false, if_true])
    · unfold rk_cb; rw [if_pos k, rk_ec_sq]
      exact rk_ec_c (fun j _ => by simp only [rk_rC, k, show ¬ ((5 : Int32) = 0 ∨ (5 : Int32) = 2) from by decide, show ¬ ((5 : Int32) = 1) from by decide, show ¬ ((5 : Int32) = 3) from by decide, show ¬ ((5 : Int32) = 4) from by decide, if_false, if_true])
  · -- PAR
    have a := hT2 n hn (by rw [k]; decide)
    refine two (by rw [k]; decide) ?_
    have h6 : ∀ A C : Nat → Int32, (∀ j, j < 5 → A j = rk_pr se F n (n + 1) i j) → (∀ j, j < 5 → C j = rk_pr se F n (Q n) i j) → wX_finish_271 post (nI (n * 3 + i)) (kd n) (rk_em A) (rk_ec A) (rk_em C) (rk_ec C) mN sN mL mT ct lk op ph tk vd kd ar pa sc la le tl bd se wa gv ra mu ca si ns ke fz ch := by
      intro A C hA hC
      rw [rk_em_c hA, rk_ec_c hA, rk_em_c hC, rk_ec_c hC]
      refine hgo _ _ _ _ ?_ ?_
      · unfold rk_cb; rw [if_neg (by rw [k]; decide), if_pos k, rk_em_pr]
        exact rk_em_c (fun j _ => by simp only [rk_rC, k, show ¬ ((6 : Int32) = 0 ∨ (6 : Int32) = 2) from by decide, show ¬ ((6 : Int32) = 1) from by decide, show ¬ ((6 : Int32) = 3) from by decide, show ¬ ((6 : Int32) = 4) from by decide, show ¬ ((6 : Int32) = 5) from by decide, if_false, if_true])
      · unfold rk_cb; rw [if_neg (by rw [k]; decide), if_pos k, rk_ec_pr]
        exact rk_ec_c (fun j _ => by simp only [rk_rC, k, show ¬ ((6 : Int32) = 0 ∨ (6 : Int32) = 2) from by decide, show ¬ ((6 : Int32) = 1) from by decide, show ¬ ((6 : Int32) = 3) from by decide, show ¬ ((6 : Int32) = 4) from by decide, show ¬ ((6 : Int32) = 5) from by decide, if_false, if_true])
    unfold wX_finish_98
    refine rk_xre hn4 hi4 (fun z => br_f (by decide) (br_f (by rw [k]; decide) ?_)) (fun z => br_t rfl ?_)
    · unfold wX_finish_159
      refine br_f (by decide) (br_f (by rw [k]; decide) ?_)
      unfold wX_finish_210
      refine br_f (by decide) (br_t k ⟨vp_in_nI (by omega) (by omega), ?_⟩)
      rw [nI_clamp (show n + 1 < 2 ^ 31 by omega), rk_em_w0, rk_ec_w0]
      have h44 : ∀ A : Nat → Int32, (∀ j, j < 5 → A j = rk_pr se F n (n + 1) i j) → wX_finish_244 post (nI (n * 3 + i)) (nI (Q n)) (kd n) (rk_ev (rk_w F n i)) (rk_em A) (rk_ec A) (rk_em (rk_c F (Q n) i)) (rk_ec (rk_c F (Q n) i)) mN sN mL mT ct lk op ph tk vd kd ar pa sc la le tl bd se wa gv ra mu ca si ns ke fz ch := by
        intro A hA
        unfold wX_finish_244
        refine br_f (nI_pos (by omega)) ⟨vp_in_nI (by omega) (by omega), ?_⟩
        rw [nI_clamp (show Q n < 2 ^ 31 by omega), rk_em_w0, rk_ec_w0]
        refine br_c (fun s => nm_e (nm_e (h6 _ _ hA (fun j _ => ?_)))) (fun s => h6 _ _ hA (fun j _ => ?_))
        · exact (rk_pr_t z s j).symm
        · exact (rk_pr_f (fun q => s q.2) j).symm
      refine br_c (fun s => nm_e (nm_e (h44 _ (fun j _ => ?_)))) (fun s => h44 _ (fun j _ => ?_))
      · exact (rk_pr_t z s j).symm
      · exact (rk_pr_f (fun q => s q.2) j).symm
    · unfold wX_finish_159
      refine br_t rfl ?_
      unfold wX_finish_210
      refine br_t rfl (h6 _ _ (fun j _ => ?_) (fun j _ => ?_))
      · exact (rk_pr_f (fun q => z q.1) j).symm
      · exact (rk_pr_f (fun q => z q.1) j).symm
  · -- LOOP
    have g1 : rk_ar (kd n) = 1 := by rw [k]; decide
    have a := hT1 n hn g1
    rw [if_pos k] at a
    refine one g1 ?_
    unfold wX_finish_98
    refine rk_xre hn4 hi4 (fun z => br_f (by decide) (br_t k ⟨vp_in_nI (by omega) (by omega), ?_⟩)) (fun z => br_t rfl ?_)
    · have b := h7 k z.1
      have hl := hL (n + 1) hn1
      rw [nI_clamp (show n + 1 < 2 ^ 31 by omega), hX.1 _ hn1, a.2.2.1, rk_ix, nI_clamp (show (n + 1) * 3 + (L n + 1) < 2 ^ 31 by omega), b.1, b.2]
      have hj : vp_in (nI ((n + 1) * 3 + (L n + 1))) 120 := vp_in_nI (by omega) (by omega)
      refine ⟨hj, nm_e ⟨vp_in_nI (by omega) (by omega), hj, nm_e (hgo _ _ _ _ ?_ ?_)⟩⟩
      · unfold rk_cb; rw [if_neg (by rw [k]; decide), if_neg (by rw [k]; decide), if_pos k, rk_em_lp]
        exact rk_em_c (fun j _ => by simp only [rk_rC, k, show ¬ ((7 : Int32) = 0 ∨ (7 : Int32) = 2) from by decide, show ¬ ((7 : Int32) = 1) from by decide, show ¬ ((7 : Int32) = 3) from by decide, show ¬ ((7 : Int32) = 4) from by decide, show ¬ ((7 : Int32) = 5) from by decide, show ¬ ((7 : Int32) = 6) from by decide, if_false, if_true, if_pos z])
      · unfold rk_cb; rw [if_neg (by rw [k]; decide), if_neg (by rw [k]; decide), if_pos k, rk_ec_lp]
        exact rk_ec_c (fun j _ => by simp only [rk_rC, k, show ¬ ((7 : Int32) = 0 ∨ (7 : Int32) = 2) from by decide, show ¬ ((7 : Int32) = 1) from by decide, show ¬ ((7 : Int32) = 3) from by decide, show ¬ ((7 : Int32) = 4) from by decide, show ¬ ((7 : Int32) = 5) from by decide, show ¬ ((7 : Int32) = 6) from by decide, if_false, if_true, if_pos z])
    · unfold wX_finish_159
      refine br_t rfl ?_
      unfold wX_finish_210
      refine br_t rfl (hgo _ _ _ _ ?_ ?_)
      · unfold rk_cb; rw [if_neg (by rw [k]; decide), if_neg (by rw [k]; decide), if_pos k, rk_em_lq]
        exact rk_em_c (fun j _ => by simp only [rk_rC, k, show ¬ ((7 : Int32) = 0 ∨ (7 : Int32) = 2) from by decide, show ¬ ((7 : Int32) = 1) from by decide, show ¬ ((7 : Int32) = 3) from by decide, show ¬ ((7 : Int32) = 4) from by decide, show ¬ ((7 : Int32) = 5) from by decide, show ¬ ((7 : Int32) = 6) from by decide, if_false, if_true, if_neg z])
      · unfold rk_cb; rw [if_neg (by rw [k]; decide), if_neg (by rw [k]; decide), if_pos k, rk_ec_lq]
        exact rk_ec_c (fun j _ => by simp only [rk_rC, k, show ¬ ((7 : Int32) = 0 ∨ (7 : Int32) = 2) from by decide, show ¬ ((7 : Int32) = 1) from by decide, show ¬ ((7 : Int32) = 3) from by decide, show ¬ ((7 : Int32) = 4) from by decide, show ¬ ((7 : Int32) = 5) from by decide, show ¬ ((7 : Int32) = 6) from by decide, if_false, if_true, if_neg z])
  · -- SUSPEND
    have hu := (hU n hn (Or.inr (Or.inr k)) i hi).2
    refine one (by rw [k]; decide) ?_
    unfold wX_finish_98
    refine rk_xre hn4 hi4 (fun z => br_f (by decide) (br_f (by rw [k]; decide) ?_)) (fun z => br_t rfl ?_)
    · unfold wX_finish_159
      refine br_f (by decide) (br_t k (rk_xsl hN.2 hX.1 hL (hX.2.2.2.1 n hn (Or.inr (Or.inr k))) hn (by omega) ?_))
      rw [nI_clamp (by omega), hH.2.1 _ hu]
      refine ⟨vp_in_nI hu (by omega), nm_r (rk_ev_an _ _).symm ?_⟩
      rw [rk_em_ice, rk_ec_ice]
      refine nm_e (nm_e (hgo _ _ _ _ ?_ ?_))
      · rw [rk_cb_em _ (by rw [k]; decide) (by rw [k]; decide) (by rw [k]; decide) (by rw [k]; decide), rk_em_or]
        unfold rk_em
        simp [rk_rC, k, z, rk_or1, or_comm]
      · rw [rk_cb_em _ (by rw [k]; decide) (by rw [k]; decide) (by rw [k]; decide) (by rw [k]; decide), rk_ec_or]
        unfold rk_ec
        simp [rk_rC, k, z, rk_or0, and_comm]
    · unfold wX_finish_159
      refine br_t rfl ?_
      unfold wX_finish_210
      refine br_t rfl (hgo _ _ _ _ ?_ ?_)
      · rw [rk_cb_em _ (by rw [k]; decide) (by rw [k]; decide) (by rw [k]; decide) (by rw [k]; decide), (rk_or_00 _).1]
        exact rk_em_c (fun j _ => by simp [rk_rC, k, z])
      · rw [rk_cb_em _ (by rw [k]; decide) (by rw [k]; decide) (by rw [k]; decide) (by rw [k]; decide), (rk_or_00 _).2]
        exact rk_ec_c (fun j _ => by simp [rk_rC, k, z])
  · -- TRAP
    refine one (by rw [k]; decide) (rk_x98a hn4 hi4 (by rw [k]; decide) (by rw [k]; decide) (by rw [k]; decide) (hgo _ _ _ _ ?_ ?_))
    · unfold rk_cb; rw [if_neg (by rw [k]; decide), if_neg (by rw [k]; decide), if_neg (by rw [k]; decide), if_pos k, rk_em_tr]
      exact rk_em_c (fun j _ => by simp [rk_rC, k])
    · unfold rk_cb; rw [if_neg (by rw [k]; decide), if_neg (by rw [k]; decide), if_neg (by rw [k]; decide), if_pos k, rk_ec_tr]
      exact rk_ec_c (fun j _ => by simp [rk_rC, k])
  · -- LOCAL
    refine one (by rw [k]; decide) (rk_x98a hn4 hi4 (by rw [k]; decide) (by rw [k]; decide) (by rw [k]; decide) (hgo _ _ _ _ ?_ ?_))
    · rw [rk_cb_em _ (by rw [k]; decide) (by rw [k]; decide) (by rw [k]; decide) (by rw [k]; decide), (rk_or_00 _).1]
      exact rk_em_c (fun j _ => by simp [rk_rC, k])
    · rw [rk_cb_em _ (by rw [k]; decide) (by rw [k]; decide) (by rw [k]; decide) (by rw [k]; decide), (rk_or_00 _).2]
      exact rk_ec_c (fun j _ => by simp [rk_rC, k])
end
end
section
/-! ===== the component's walk along the tree ===== -/
def rk_Wx (F ra : Nat → Int32) (x : Nat) : Prop := ra x = rk_ev (F (128 + x))
def rk_Cx (F mu ca : Nat → Int32) (x : Nat) : Prop := mu x = rk_em (fun k => F (248 + (x * 5 + k))) ∧ ca x = rk_ec (fun k => F (248 + (x * 5 + k)))
def rk_Ex (F ra mu ca ra' mu' ca' : Nat → Int32) : Prop := (∀ x, rk_Wx F ra x → rk_Wx F ra' x) ∧ (∀ x, rk_Cx F mu ca x → rk_Cx F mu' ca' x)
theorem rk_Ex_t {F ra mu ca ra' mu' ca' ra'' mu'' ca'' : Nat → Int32} (a : rk_Ex F ra mu ca ra' mu' ca') (b : rk_Ex F ra' mu' ca' ra'' mu'' ca'') : rk_Ex F ra mu ca ra'' mu'' ca'' := ⟨fun x h => b.1 x (a.1 x h), fun x h => b.2 x (a.2 x h)⟩
theorem rk_Wx_u {F ra : Nat → Int32} {x : Nat} : rk_Wx F (upd ra x (rk_ev (F (128 + x)))) x := pk_us
theorem rk_Cx_u {F mu ca : Nat → Int32} {x : Nat} : rk_Cx F (upd mu x (rk_em (fun k => F (248 + (x * 5 + k))))) (upd ca x (rk_ec (fun k => F (248 + (x * 5 + k))))) x := ⟨pk_us, pk_us⟩
theorem rk_Ex_w {F ra mu ca : Nat → Int32} {x : Nat} : rk_Ex F ra mu ca (upd ra x (rk_ev (F (128 + x)))) mu ca := by
  refine ⟨fun y h => ?_, fun y h => h⟩
  by_cases e : y = x
  · subst e; exact rk_Wx_u
  · unfold rk_Wx; rw [pk_un e]; exact h
theorem rk_Ex_c {F ra mu ca : Nat → Int32} {x : Nat} : rk_Ex F ra mu ca ra (upd mu x (rk_em (fun k => F (248 + (x * 5 + k))))) (upd ca x (rk_ec (fun k => F (248 + (x * 5 + k))))) := by
  refine ⟨fun y h => h, fun y h => ?_⟩
  by_cases e : y = x
  · subst e; exact rk_Cx_u
  · unfold rk_Cx; rw [pk_un e, pk_un e]; exact h
def rk_VV (L e : Nat → Nat) (n i a j : Nat) : Prop := n ≤ a ∧ a < e n ∧ j ≤ L a ∧ (j = i ∨ (i = 0 ∧ L n < j))
def rk_Dn (F : Nat → Int32) (L e : Nat → Nat) (ra mu ca : Nat → Int32) (n i : Nat) : Prop := ∀ a j, rk_VV L e n i a j → rk_Wx F ra (a * 3 + j) ∧ rk_Cx F mu ca (a * 3 + j)
theorem rk_Dn_x {F : Nat → Int32} {L e : Nat → Nat} {ra mu ca ra' mu' ca' : Nat → Int32} {n i : Nat} (h : rk_Dn F L e ra mu ca n i) (x : rk_Ex F ra mu ca ra' mu' ca') : rk_Dn F L e ra' mu' ca' n i := fun a j v => ⟨x.1 _ (h a j v).1, x.2 _ (h a j v).2⟩
def rk_cs (s l i : Nat) : Nat := if i = 0 then 2 * s * (3 - l) else 2 * s
theorem rk_cs_1 {s l i : Nat} (h : l ≤ 2) : rk_cs s l i + 2 ≤ rk_cs (s + 1) l i := by
  unfold rk_cs
  rcases (show l = 0 ∨ l = 1 ∨ l = 2 from by omega) with e | e | e <;> subst e <;> split <;> omega
theorem rk_cs_7 {s l : Nat} (h : l ≤ 1) : rk_cs s (l + 1) 0 + rk_cs s (l + 1) (l + 1) + 2 ≤ rk_cs (s + 1) l 0 := by
  unfold rk_cs
  rcases (show l = 0 ∨ l = 1 from by omega) with e | e <;> subst e <;> simp <;> omega
theorem rk_cs_2 {s s' l i : Nat} (h : l ≤ 2) : rk_cs s l i + rk_cs s' l i + 2 ≤ rk_cs (s + s' + 1) l i := by
  unfold rk_cs
  rcases (show l = 0 ∨ l = 1 ∨ l = 2 from by omega) with e | e | e <;> subst e <;> split <;> omega
theorem rk_cs_i {s l l' i : Nat} (h : 0 < i) : rk_cs s l i = rk_cs s l' i := by
  unfold rk_cs; rw [if_neg (by omega), if_neg (by omega)]
section
variable {mN sN mL mT ct lk op ph tk vd : Int32} {kd ar pa sc la le tl bd se wa gv ra mu ca si ns ke fz ch : Nat → Int32} {N S : Nat} {L Q e : Nat → Nat} {sl : Nat → Nat → Nat} {F : Nat → Int32} {post : SX → Prop} {m st : Nat}
theorem rk_w_leaf {n i : Nat} (hB : rk_B N S kd ar pa sc le bd L Q e sl) (hH : rk_H N kd ar pa se si L Q sl F) (hn : n < N) (hi : i ≤ L n) (hk : rk_ar (kd n) = 0) (hs : st < 240) (hr : rk_Wx F ra (n * 3 + i))
    (h : wX_walkTree_16 post m (nI n) (nI i) 0 (nI (st + 1)) mN sN mL mT ct lk op ph tk vd kd ar pa sc la le tl bd se wa gv ra (upd mu (n * 3 + i) (rk_em (rk_c F n i))) (upd ca (n * 3 + i) (rk_ec (rk_c F n i))) si ns ke fz ch) : wX_walkTree_16 post (m + 1) (nI n) (nI i) 1 (nI st) mN sN mL mT ct lk op ph tk vd kd ar pa sc la le tl bd se wa gv ra mu ca si ns ke fz ch := by
  have hN := hB.1.1.2
  have hL := hB.1.2.2.2.1 n hn
  have hin : vp_in (nI n) 40 := vp_in_nI (by omega) (by omega)
  rw [wX_walkTree_16]
  dsimp only
  rw [nI_clamp (show n < 2 ^ 31 by omega)]
  refine br_f (nI_ge (b := 240) hs (by decide)) (br_f (nI_pos (by omega)) ⟨hin, nm_e (br_f (by decide) ⟨hin, rk_xcc ?_⟩)⟩)
  rw [hk]
  refine br_t rfl (rk_xlf (F := F) (L := L) (Q := Q) (sl := sl) (by omega) (by omega) hk (hB.1.2.2.1 n hn) (hB.2.1.2.2.2.2 n hn) hr (fun k q => hH.2.2.2 n i k hn hi q) ?_)
  exact nm_r (nI_1 st) h
theorem rk_w_first {n i : Nat} (hB : rk_B N S kd ar pa sc le bd L Q e sl) (hH : rk_H N kd ar pa se si L Q sl F) (hn : n < N) (hi : i ≤ L n) (hk : 0 < rk_ar (kd n)) (hs : st < 240) (hr : rk_Wx F ra (n * 3 + i))
    (h : wX_walkTree_16 post m (nI (n + 1)) (nI i) 1 (nI (st + 1)) mN sN mL mT ct lk op ph tk vd kd ar pa sc la le tl bd se wa gv (upd ra ((n + 1) * 3 + i) (rk_ev (rk_w F (n + 1) i))) mu ca si ns ke fz ch) : wX_walkTree_16 post (m + 1) (nI n) (nI i) 1 (nI st) mN sN mL mT ct lk op ph tk vd kd ar pa sc la le tl bd se wa gv ra mu ca si ns ke fz ch := by
  have hN := hB.1.1.2
  have hL := hB.1.2.2.2.1 n hn
  have hin : vp_in (nI n) 40 := vp_in_nI (by omega) (by omega)
  rw [wX_walkTree_16]
  dsimp only
  rw [nI_clamp (show n < 2 ^ 31 by omega)]
  refine br_f (nI_ge (b := 240) hs (by decide)) (br_f (nI_pos (by omega)) ⟨hin, nm_e (br_f (by decide) ⟨hin, rk_xcc ?_⟩)⟩)
  refine br_f (nI_ne0 hk (by have := rk_ar_3 (kd n); omega)) (rk_xsf hB hH hn hi hk hr ?_)
  exact nm_r (nI_1 n) (nm_r (nI_1 st) h)
theorem rk_w_up {c p i : Nat} (hc : c < 40) (hp : p < 40) (hpa : pa c = nI p) (hi : i < 40) (h7 : ¬ (kd p = 7 ∧ i = 0)) (hs : st < 240)
    (h : wX_walkTree_125 post (wX_walkTree_16 post m) (nI c) (nI i) 0 (nI st) (nI p) mN sN mL mT ct lk op ph tk vd kd ar pa sc la le tl bd se wa gv ra mu ca si ns ke fz ch) : wX_walkTree_16 post (m + 1) (nI c) (nI i) 0 (nI st) mN sN mL mT ct lk op ph tk vd kd ar pa sc la le tl bd se wa gv ra mu ca si ns ke fz ch := by
  have hin : vp_in (nI c) 40 := vp_in_nI (by omega) (by omega)
  rw [wX_walkTree_16]
  dsimp only
  rw [nI_clamp (show c < 2 ^ 31 by omega)]
  refine br_f (nI_ge (b := 240) hs (by decide)) (br_f (nI_pos (by omega)) ⟨hin, nm_r hpa (br_t rfl (br_t (nI_pos' (by omega)) ⟨vp_in_nI hp (by omega), ?_⟩))⟩)
  rw [nI_clamp (show p < 2 ^ 31 by omega)]
  exact br_c (fun k => br_f (nI_ne0 (Nat.pos_of_ne_zero (fun q => h7 ⟨k, q⟩)) (by omega)) h) (fun _ => h)
theorem rk_w_190 {p i : Nat} (hB : rk_B N S kd ar pa sc le bd L Q e sl) (hH : rk_H N kd ar pa se si L Q sl F) (hn : p < N) (hi : i ≤ L p) (hk : 0 < rk_ar (kd p)) (hr : rk_Wx F ra (p * 3 + i))
    (hm : rk_Cx F mu ca ((p + 1) * 3 + i)) (hq : rk_ar (kd p) = 2 → rk_Cx F mu ca (Q p * 3 + i)) (h7 : kd p = 7 → i = 0 → rk_Cx F mu ca ((p + 1) * 3 + (L p + 1)))
    (h : wX_walkTree_16 post m (nI p) (nI i) 0 (nI (st + 1)) mN sN mL mT ct lk op ph tk vd kd ar pa sc la le tl bd se wa gv ra (upd mu (p * 3 + i) (rk_em (rk_c F p i))) (upd ca (p * 3 + i) (rk_ec (rk_c F p i))) si ns ke fz ch) :
    wX_walkTree_190 post (wX_walkTree_16 post m) (nI i) 0 (nI st) (nI p) mN sN mL mT ct lk op ph tk vd kd ar pa sc la le tl bd se wa gv ra mu ca si ns ke fz ch := by
  unfold wX_walkTree_190
  refine rk_xfi hB hH hn hi hk hr hm.1 hm.2 hq h7 ?_
  exact nm_r (nI_1 st) h
theorem rk_w_166 {c p i : Nat} {x4 : Int32} {J : Int32 → Int32 → Int32 → Int32 → Int32 → Int32 → Int32 → Int32 → Int32 → Int32 → Int32 → Int32 → Int32 → Int32 → (Nat → Int32) → (Nat → Int32) → (Nat → Int32) → (Nat → Int32) → (Nat → Int32) → (Nat → Int32) → (Nat → Int32) → (Nat → Int32) → (Nat → Int32) → (Nat → Int32) → (Nat → Int32) → (Nat → Int32) → (Nat → Int32) → (Nat → Int32) → (Nat → Int32) → (Nat → Int32) → (Nat → Int32) → (Nat → Int32) → (Nat → Int32) → Prop}
    (hp : p < 40) (hc : c < 40) (h7 : ¬ (kd p = 7 ∧ nI i = le c)) (h : wX_walkTree_190 post J (nI i) 0 x4 (nI p) mN sN mL mT ct lk op ph tk vd kd ar pa sc la le tl bd se wa gv ra mu ca si ns ke fz ch) : wX_walkTree_166 post J (nI c) (nI i) 0 x4 (nI p) mN sN mL mT ct lk op ph tk vd kd ar pa sc la le tl bd se wa gv ra mu ca si ns ke fz ch := by
  unfold wX_walkTree_166
  rw [nI_clamp (show p < 2 ^ 31 by omega), nI_clamp (show c < 2 ^ 31 by omega)]
  exact ⟨vp_in_nI hp (by omega), br_c (fun k => ⟨vp_in_nI hc (by omega), br_f (fun q => h7 ⟨k, q⟩) h⟩) (fun _ => h)⟩
/-- from the only child up: no loop, or a loop in an incarnation of its own ancestors -/
theorem rk_w_one {n i : Nat} (hB : rk_B N S kd ar pa sc le bd L Q e sl) (hH : rk_H N kd ar pa se si L Q sl F) (hn : n < N) (hi : i ≤ L n) (hk : rk_ar (kd n) = 1) (h7 : ¬ (kd n = 7 ∧ i = 0)) (hs : st < 240) (hr : rk_Wx F ra (n * 3 + i))
    (hm : rk_Cx F mu ca ((n + 1) * 3 + i))
    (h : wX_walkTree_16 post m (nI n) (nI i) 0 (nI (st + 1)) mN sN mL mT ct lk op ph tk vd kd ar pa sc la le tl bd se wa gv ra (upd mu (n * 3 + i) (rk_em (rk_c F n i))) (upd ca (n * 3 + i) (rk_ec (rk_c F n i))) si ns ke fz ch) : wX_walkTree_16 post (m + 1) (nI (n + 1)) (nI i) 0 (nI st) mN sN mL mT ct lk op ph tk vd kd ar pa sc la le tl bd se wa gv ra mu ca si ns ke fz ch := by
  have hN := hB.1.1.2
  have hL := hB.1.2.2.2.1 n hn
  obtain ⟨a1, a2, a3, a4⟩ := hB.1.2.2.2.2.2.2.1 n hn hk
  have hL' := hB.1.2.2.2.1 (n + 1) a1
  refine rk_w_up (p := n) (by omega) (by omega) a2 (by omega) h7 hs ?_
  unfold wX_walkTree_125
  rw [nI_clamp (show n < 2 ^ 31 by omega), hB.2.1.2.2.1 n hn (by omega)]
  refine ⟨vp_in_nI (by omega) (by omega), br_t (by decide) (rk_w_166 (by omega) (by omega) (fun q => ?_) ?_)⟩
  · have := q.2
    rw [hB.2.1.1 _ a1, a3, if_pos q.1, nI_eq (by omega) (by omega)] at this
    omega
  · exact rk_w_190 hB hH hn hi (by omega) hr hm (fun q => by omega) (fun q z => absurd ⟨q, z⟩ h7) h
/-- from the body of a loop up: the second turn -/
theorem rk_w_again {n : Nat} (hB : rk_B N S kd ar pa sc le bd L Q e sl) (hH : rk_H N kd ar pa se si L Q sl F) (hn : n < N) (k7 : kd n = 7) (hs : st < 240) (hm : rk_Cx F mu ca ((n + 1) * 3 + 0))
    (h : wX_walkTree_16 post m (nI (n + 1)) (nI (L n + 1)) 1 (nI (st + 1)) mN sN mL mT ct lk op ph tk vd kd ar pa sc la le tl bd se wa gv (upd ra ((n + 1) * 3 + (L n + 1)) (rk_ev (rk_w F (n + 1) (L n + 1)))) mu ca si ns ke fz ch) : wX_walkTree_16 post (m + 1) (nI (n + 1)) (nI 0) 0 (nI st) mN sN mL mT ct lk op ph tk vd kd ar pa sc la le tl bd se wa gv ra mu ca si ns ke fz ch := by
  have hN := hB.1.1.2
  obtain ⟨a1, a2, a3, a4⟩ := hB.1.2.2.2.2.2.2.1 n hn (by rw [k7]; decide)
  rw [if_pos k7] at a3
  have hin : vp_in (nI (n + 1)) 40 := vp_in_nI (by omega) (by omega)
  rw [wX_walkTree_16]
  dsimp only
  rw [nI_clamp (show n + 1 < 2 ^ 31 by omega)]
  refine br_f (nI_ge (b := 240) hs (by decide)) (br_f (nI_pos (by omega)) ⟨hin, nm_r a2 (br_t rfl (br_t (nI_pos' (by omega)) ⟨vp_in_nI (by omega) (by omega), ?_⟩))⟩)
  rw [nI_clamp (show n < 2 ^ 31 by omega)]
  refine br_t k7 (br_t rfl (rk_xsa hB hH hn k7 hm.1 hm.2 ?_))
  have e0 : le (n + 1) = nI (L n + 1) := by rw [hB.2.1.1 _ a1, a3]
  exact ⟨hin, nm_r e0 (nm_r (nI_1 st) h)⟩
/-- from the body of a loop up, in the body's own incarnation -/
theorem rk_w_loop {n : Nat} (hB : rk_B N S kd ar pa sc le bd L Q e sl) (hH : rk_H N kd ar pa se si L Q sl F) (hn : n < N) (k7 : kd n = 7) (hs : st < 240) (hr : rk_Wx F ra (n * 3 + 0)) (hm : rk_Cx F mu ca ((n + 1) * 3 + 0)) (hm2 : rk_Cx F mu ca ((n + 1) * 3 + (L n + 1)))
    (h : wX_walkTree_16 post m (nI n) (nI 0) 0 (nI (st + 1)) mN sN mL mT ct lk op ph tk vd kd ar pa sc la le tl bd se wa gv ra (upd mu (n * 3 + 0) (rk_em (rk_c F n 0))) (upd ca (n * 3 + 0) (rk_ec (rk_c F n 0))) si ns ke fz ch) : wX_walkTree_16 post (m + 1) (nI (n + 1)) (nI (L n + 1)) 0 (nI st) mN sN mL mT ct lk op ph tk vd kd ar pa sc la le tl bd se wa gv ra mu ca si ns ke fz ch := by
  have hN := hB.1.1.2
  have g1 : rk_ar (kd n) = 1 := by rw [k7]; decide
  obtain ⟨a1, a2, a3, a4⟩ := hB.1.2.2.2.2.2.2.1 n hn g1
  rw [if_pos k7] at a3
  have hL' := hB.1.2.2.2.1 (n + 1) a1
  refine rk_w_up (p := n) (by omega) (by omega) a2 (by omega) (fun q => by omega) hs ?_
  unfold wX_walkTree_125
  rw [nI_clamp (show n < 2 ^ 31 by omega), hB.2.1.2.2.1 n hn (by omega)]
  refine ⟨vp_in_nI (by omega) (by omega), br_t (by decide) ?_⟩
  unfold wX_walkTree_166
  rw [nI_clamp (show n < 2 ^ 31 by omega), nI_clamp (show n + 1 < 2 ^ 31 by omega)]
  refine ⟨vp_in_nI (by omega) (by omega), br_t k7 ⟨vp_in_nI (by omega) (by omega), br_t (by rw [hB.2.1.1 _ a1, a3]) ?_⟩⟩
  exact rk_w_190 (i := 0) hB hH hn (by omega) (by omega) hr hm (fun q => by omega) (fun _ _ => hm2) h
/-- from the first of two children to the second -/
theorem rk_w_second {n i : Nat} (hB : rk_B N S kd ar pa sc le bd L Q e sl) (hH : rk_H N kd ar pa se si L Q sl F) (hn : n < N) (hi : i ≤ L n) (hk : rk_ar (kd n) = 2) (hs : st < 240) (hr : rk_Wx F ra (n * 3 + i)) (hm : rk_Cx F mu ca ((n + 1) * 3 + i))
    (h : wX_walkTree_16 post m (nI (Q n)) (nI i) 1 (nI (st + 1)) mN sN mL mT ct lk op ph tk vd kd ar pa sc la le tl bd se wa gv (upd ra (Q n * 3 + i) (rk_ev (rk_w F (Q n) i))) mu ca si ns ke fz ch) : wX_walkTree_16 post (m + 1) (nI (n + 1)) (nI i) 0 (nI st) mN sN mL mT ct lk op ph tk vd kd ar pa sc la le tl bd se wa gv ra mu ca si ns ke fz ch := by
  have hN := hB.1.1.2
  have hL := hB.1.2.2.2.1 n hn
  obtain ⟨a1, a2, a3, a4, a5, a6, a7, a8, a9⟩ := hB.1.2.2.2.2.2.2.2.1 n hn hk
  have k7 : ¬ kd n = 7 := fun q => by rw [q] at hk; exact absurd hk (by decide)
  refine rk_w_up (p := n) (by omega) (by omega) a2 (by omega) (fun q => k7 q.1) hs ?_
  unfold wX_walkTree_125
  rw [nI_clamp (show n < 2 ^ 31 by omega), hB.2.1.2.1 n hn hk]
  have hin : vp_in (nI n) 40 := vp_in_nI (by omega) (by omega)
  refine ⟨hin, br_f (nI_pos (by omega)) ⟨hin, br_f (fun q => ?_) (rk_xss hB hH hn hi hk hr hm.1 hm.2 ?_)⟩⟩
  · rw [nI_eq (by omega) (by omega)] at q; omega
  · exact ⟨hin, nm_r (hB.2.1.2.1 n hn hk) (nm_r (nI_1 st) h)⟩
/-- from the second of two children up -/
theorem rk_w_two {n i : Nat} (hB : rk_B N S kd ar pa sc le bd L Q e sl) (hH : rk_H N kd ar pa se si L Q sl F) (hn : n < N) (hi : i ≤ L n) (hk : rk_ar (kd n) = 2) (hs : st < 240) (hr : rk_Wx F ra (n * 3 + i)) (hm : rk_Cx F mu ca ((n + 1) * 3 + i)) (hm2 : rk_Cx F mu ca (Q n * 3 + i))
    (h : wX_walkTree_16 post m (nI n) (nI i) 0 (nI (st + 1)) mN sN mL mT ct lk op ph tk vd kd ar pa sc la le tl bd se wa gv ra (upd mu (n * 3 + i) (rk_em (rk_c F n i))) (upd ca (n * 3 + i) (rk_ec (rk_c F n i))) si ns ke fz ch) : wX_walkTree_16 post (m + 1) (nI (Q n)) (nI i) 0 (nI st) mN sN mL mT ct lk op ph tk vd kd ar pa sc la le tl bd se wa gv ra mu ca si ns ke fz ch := by
  have hN := hB.1.1.2
  have hL := hB.1.2.2.2.1 n hn
  obtain ⟨a1, a2, a3, a4, a5, a6, a7, a8, a9⟩ := hB.1.2.2.2.2.2.2.2.1 n hn hk
  have k7 : ¬ kd n = 7 := fun q => by rw [q] at hk; exact absurd hk (by decide)
  refine rk_w_up (p := n) (by omega) (by omega) a6 (by omega) (fun q => k7 q.1) hs ?_
  unfold wX_walkTree_125
  rw [nI_clamp (show n < 2 ^ 31 by omega), hB.2.1.2.1 n hn hk]
  have hin : vp_in (nI n) 40 := vp_in_nI (by omega) (by omega)
  refine ⟨hin, br_f (nI_pos (by omega)) ⟨hin, br_t rfl (rk_w_166 (by omega) (by omega) (fun q => k7 q.1) ?_)⟩⟩
  exact rk_w_190 hB hH hn hi (by omega) hr hm (fun _ => hm2) (fun q => absurd q k7) h
theorem rk_visit (hB : rk_B N S kd ar pa sc le bd L Q e sl) (hH : rk_H N kd ar pa se si L Q sl F) : ∀ d n, n < N → N - n ≤ d → ∀ i, i ≤ L n → ∀ (m st : Nat) (ra mu ca : Nat → Int32), 241 ≤ m + st → st + rk_cs (e n - n) (L n) i ≤ 240 → rk_Wx F ra (n * 3 + i) →
    (∀ (m' st' : Nat) (ra' mu' ca' : Nat → Int32), 241 ≤ m' + st' → st' < st + rk_cs (e n - n) (L n) i → rk_Ex F ra mu ca ra' mu' ca' → rk_Dn F L e ra' mu' ca' n i → wX_walkTree_16 post m' (nI n) (nI i) 0 (nI st') mN sN mL mT ct lk op ph tk vd kd ar pa sc la le tl bd se wa gv ra' mu' ca' si ns ke fz ch) →
    wX_walkTree_16 post m (nI n) (nI i) 1 (nI st) mN sN mL mT ct lk op ph tk vd kd ar pa sc la le tl bd se wa gv ra mu ca si ns ke fz ch := by
  have hT := hB.1
  obtain ⟨hN, h0, hK, hL, he, hT0, hT1, hT2, hTp⟩ := hT
  intro d
  induction d with
  | zero => intro n hn hd; omega
  | succ d ih =>
    intro n hn hd i hi m st ra mu ca hm hst hr K
    obtain ⟨he1, he2⟩ := he n hn
    have hL2 := hL n hn
    have hc2 : 2 ≤ rk_cs (e n - n) (L n) i := by
      have := rk_cs_1 (s := e n - n - 1) (l := L n) (i := i) hL2
      rw [show e n - n - 1 + 1 = e n - n from by omega] at this; omega
    obtain ⟨m, rfl⟩ : ∃ q, m = q + 1 := ⟨m - 1, by omega⟩
    rcases rk_ar_3 (kd n) with g | g | g
    · -- a leaf
      refine rk_w_leaf hB hH hn hi g (by omega) hr (K m (st + 1) _ _ _ (by omega) (by omega) rk_Ex_c ?_)
      intro a j v
      unfold rk_VV at v
      rw [hT0 n hn g] at v
      have ha : a = n := by omega
      subst ha
      have hj : j = i := by omega
      subst hj
      exact ⟨hr, rk_Cx_u⟩
    · -- one child
      obtain ⟨a1, a2, a3, a4⟩ := hT1 n hn g
      obtain ⟨e1, e2⟩ := he (n + 1) a1
      have hL3 := hL (n + 1) a1
      by_cases h7 : kd n = 7 ∧ i = 0
      · obtain ⟨k7, hi0⟩ := h7
        subst hi0
        rw [if_pos k7] at a3
        have hcs := rk_cs_7 (s := e (n + 1) - (n + 1)) (l := L n) (by omega)
        rw [show e (n + 1) - (n + 1) + 1 = e n - n from by omega] at hcs
        refine rk_w_first hB hH hn hi (by omega) (by omega) hr ?_
        refine ih (n + 1) a1 (by omega) 0 (by omega) m (st + 1) _ _ _ (by omega) (by rw [a3]; omega) rk_Wx_u (fun m1 st1 ra1 mu1 ca1 h1 h2 h3 h4 => ?_)
        rw [a3] at h2
        obtain ⟨m1, rfl⟩ : ∃ q, m1 = q + 1 := ⟨m1 - 1, by omega⟩
        have c1 : rk_Cx F mu1 ca1 ((n + 1) * 3 + 0) := (h4 (n + 1) 0 ⟨by omega, by omega, by omega, Or.inl rfl⟩).2
        refine rk_w_again hB hH hn k7 (by omega) c1 ?_
        refine ih (n + 1) a1 (by omega) (L n + 1) (by omega) m1 (st1 + 1) _ _ _ (by omega) (by rw [a3]; omega) rk_Wx_u (fun m2 st2 ra2 mu2 ca2 k1 k2 k3 k4 => ?_)
        rw [a3] at k2
        obtain ⟨m2, rfl⟩ : ∃ q, m2 = q + 1 := ⟨m2 - 1, by omega⟩
        have x12 := rk_Ex_t (rk_Ex_t rk_Ex_w h3) (rk_Ex_t rk_Ex_w k3)
        have x2 := rk_Ex_t rk_Ex_w k3
        refine rk_w_loop hB hH hn k7 (by omega) (x12.1 _ hr) (x2.2 _ c1) ((k4 (n + 1) (L n + 1) ⟨by omega, by omega, by omega, Or.inl rfl⟩).2) ?_
        refine K m2 (st2 + 1) _ _ _ (by omega) (by omega) (rk_Ex_t x12 rk_Ex_c) ?_
        intro a j v
        obtain ⟨v1, v2, v3, v4⟩ := v
        by_cases ha : a = n
        · subst ha
          have hj : j = 0 := by omega
          subst hj
          exact ⟨x12.1 _ hr, rk_Cx_u⟩
        · by_cases hj : j = L n + 1
          · exact rk_Dn_x k4 rk_Ex_c a j ⟨by omega, by omega, v3, Or.inl hj⟩
          · exact rk_Dn_x h4 (rk_Ex_t x2 rk_Ex_c) a j ⟨by omega, by omega, v3, by omega⟩
      · have hcs : rk_cs (e (n + 1) - (n + 1)) (L (n + 1)) i + 2 ≤ rk_cs (e n - n) (L n) i := by
          have := rk_cs_1 (s := e (n + 1) - (n + 1)) (l := L n) (i := i) (by omega)
          rw [show e (n + 1) - (n + 1) + 1 = e n - n from by omega] at this
          by_cases k7 : kd n = 7
          · rw [rk_cs_i (l' := L n) (show 0 < i from Nat.pos_of_ne_zero (fun q => h7 ⟨k7, q⟩))]; exact this
          · rw [a3, if_neg k7]; exact this
        refine rk_w_first hB hH hn hi (by omega) (by omega) hr ?_
        refine ih (n + 1) a1 (by omega) i (by omega) m (st + 1) _ _ _ (by omega) (by omega) rk_Wx_u (fun m1 st1 ra1 mu1 ca1 h1 h2 h3 h4 => ?_)
        obtain ⟨m1, rfl⟩ : ∃ q, m1 = q + 1 := ⟨m1 - 1, by omega⟩
        have x1 := rk_Ex_t rk_Ex_w h3
        refine rk_w_one hB hH hn hi g h7 (by omega) (x1.1 _ hr) ((h4 (n + 1) i ⟨by omega, by omega, by omega, Or.inl rfl⟩).2) ?_
        refine K m1 (st1 + 1) _ _ _ (by omega) (by omega) (rk_Ex_t x1 rk_Ex_c) ?_
        intro a j v
        obtain ⟨v1, v2, v3, v4⟩ := v
        by_cases ha : a = n
        · subst ha
          have hj : j = i := by omega
          subst hj
          exact ⟨x1.1 _ hr, rk_Cx_u⟩
        · refine rk_Dn_x h4 rk_Ex_c a j ⟨by omega, by omega, v3, ?_⟩
          by_cases k7 : kd n = 7
          · exact Or.inl (by
              rcases v4 with v4 | v4
              · exact v4
              · exact absurd ⟨k7, v4.1⟩ h7)
          · rw [if_neg k7] at a3; omega
    · -- two children
      obtain ⟨a1, a2, a3, a4, a5, a6, a7, a8, a9⟩ := hT2 n hn g
      obtain ⟨e1, e2⟩ := he (n + 1) a1
      obtain ⟨e3, e4⟩ := he (Q n) a5
      have hcs := rk_cs_2 (s := e (n + 1) - (n + 1)) (s' := e (Q n) - Q n) (l := L n) (i := i) hL2
      rw [show e (n + 1) - (n + 1) + (e (Q n) - Q n) + 1 = e n - n from by omega] at hcs
      refine rk_w_first hB hH hn hi (by omega) (by omega) hr ?_
      refine ih (n + 1) a1 (by omega) i (by omega) m (st + 1) _ _ _ (by omega) (by rw [a3]; omega) rk_Wx_u (fun m1 st1 ra1 mu1 ca1 h1 h2 h3 h4 => ?_)
      rw [a3] at h2
      obtain ⟨m1, rfl⟩ : ∃ q, m1 = q + 1 := ⟨m1 - 1, by omega⟩
      have x1 := rk_Ex_t rk_Ex_w h3
      have c1 : rk_Cx F mu1 ca1 ((n + 1) * 3 + i) := (h4 (n + 1) i ⟨by omega, by omega, by omega, Or.inl rfl⟩).2
      refine rk_w_second hB hH hn hi g (by omega) (x1.1 _ hr) c1 ?_
      refine ih (Q n) a5 (by omega) i (by omega) m1 (st1 + 1) _ _ _ (by omega) (by rw [a7]; omega) rk_Wx_u (fun m2 st2 ra2 mu2 ca2 k1 k2 k3 k4 => ?_)
      rw [a7] at k2
      obtain ⟨m2, rfl⟩ : ∃ q, m2 = q + 1 := ⟨m2 - 1, by omega⟩
      have x2 := rk_Ex_t rk_Ex_w k3
      have x12 := rk_Ex_t x1 x2
      refine rk_w_two hB hH hn hi g (by omega) (x12.1 _ hr) (x2.2 _ c1) ((k4 (Q n) i ⟨by omega, by omega, by omega, Or.inl rfl⟩).2) ?_
      refine K m2 (st2 + 1) _ _ _ (by omega) (by omega) (rk_Ex_t x12 rk_Ex_c) ?_
      intro a j v
      obtain ⟨v1, v2, v3, v4⟩ := v
      by_cases ha : a = n
      · subst ha
        have hj : j = i := by omega
        subst hj
        exact ⟨x12.1 _ hr, rk_Cx_u⟩
      · by_cases hq : a < Q n
        · exact rk_Dn_x h4 (rk_Ex_t x2 rk_Ex_c) a j ⟨by omega, by omega, v3, by omega⟩
        · exact rk_Dn_x k4 rk_Ex_c a j ⟨by omega, by omega, v3, by omega⟩
theorem rk_xwt (hB : rk_B N S kd ar pa sc le bd L Q e sl) (hH : rk_H N kd ar pa se si L Q sl F) (h : ∀ ra' mu' ca' : Nat → Int32, (∀ n i, n < N → i ≤ L n → rk_Wx F ra' (n * 3 + i) ∧ rk_Cx F mu' ca' (n * 3 + i)) → post (mN, sN, mL, mT, ct, lk, op, ph, tk, vd, kd, ar, pa, sc, la, le, tl, bd, se, wa, gv, ra', mu', ca', si, ns, ke, fz, ch)) : wpX_walkTree post (mN, sN, mL, mT, ct, lk, op, ph, tk, vd, kd, ar, pa, sc, la, le, tl, bd, se, wa, gv, ra, mu, ca, si, ns, ke, fz, ch) := by
  have hT := hB.1
  obtain ⟨hN, h0, hK, hL, he, hT0, hT1, hT2, hTp⟩ := hT
  unfold wpX_walkTree
  dsimp only
  have hw : rk_w F 0 0 = 1 := by rw [← hH.2.2.1 0 0 hN.1 (by omega)]; unfold rk_rW; rw [if_pos rfl]
  have hw0 : rk_Wx F (upd ra 0 3) (0 * 3 + 0) := by
    unfold rk_Wx
    show upd ra 0 3 0 = rk_ev (rk_w F 0 0)
    rw [hw, pk_us]; exact rk_ev_1.symm
  refine nm_e ⟨241, ?_⟩
  have hc : rk_cs (e 0 - 0) (L 0) 0 = 6 * N := by rw [h0.2.1, h0.2.2]; unfold rk_cs; rw [if_pos rfl]; omega
  refine rk_visit hB hH N 0 hN.1 (by omega) 0 (by omega) 241 0 _ _ _ (by omega) (by rw [hc]; omega) hw0 (fun m' st' ra' mu' ca' h1 h2 h3 h4 => ?_)
  rw [hc] at h2
  obtain ⟨m', rfl⟩ : ∃ q, m' = q + 2 := ⟨m' - 2, by omega⟩
  have hp := h ra' mu' ca' (fun n i hn hi => h4 n i ⟨by omega, by rw [h0.2.2]; exact hn, hi, by omega⟩)
  rw [wX_walkTree_16]
  dsimp only
  rw [nI_clamp (show 0 < 2 ^ 31 by omega), h0.1]
  refine br_f (nI_ge (b := 240) (by omega) (by decide)) (br_f (by decide) ⟨vp_in_nI (by omega) (by omega), nm_e (br_t rfl (br_f (by decide) (nm_e ?_)))⟩)
  rw [wX_walkTree_16]
  exact br_c (fun _ => hp) (fun _ => br_t (by decide) hp)
end
end
section
/-! ===== the component's signals: settleSignals, deriveFacts ===== -/
section
variable {mN sN mL mT ct lk op ph tk vd : Int32} {kd ar pa sc la le tl bd se wa gv ra mu ca si ns ke fz ch : Nat → Int32} {N S : Nat} {L Q e : Nat → Nat} {sl : Nat → Nat → Nat} {F : Nat → Int32}
theorem rk_st2 {post : Int32 → SX → Prop} : ∀ (d i n : Nat) (ns : Nat → Int32), i + d = 128 → d < n → (∀ j, j < i → ns j = 0) →
    (∀ ns' : Nat → Int32, (∀ j, j < 128 → ns' j = 0) → ∃ q : Nat, wX_settleSignals_24 post mN sN mL mT ct lk op ph tk vd q 0 kd ar pa sc la le tl bd se wa gv ra mu ca si ns' ke fz ch) → wX_settleSignals_2 post mN sN mL mT ct lk op ph tk vd n (nI i) kd ar pa sc la le tl bd se wa gv ra mu ca si ns ke fz ch := by
  intro d
  induction d with
  | zero =>
    intro i n ns hi hn h K
    obtain ⟨n, rfl⟩ : ∃ q, n = q + 1 := ⟨n - 1, by omega⟩
    rw [wX_settleSignals_2]
    dsimp only
    exact br_t (nI_le (a := 128) (by omega) (by omega)) (K ns (fun j hj => h j (by omega)))
  | succ d ih =>
    intro i n ns hi hn h K
    obtain ⟨n, rfl⟩ : ∃ q, n = q + 1 := ⟨n - 1, by omega⟩
    rw [wX_settleSignals_2]
    dsimp only
    refine br_f (nI_ge (b := 128) (by omega) (by decide)) ⟨vp_in_nI (by omega) (by omega), nm_e (nm_r (nI_1 i) ?_)⟩
    refine ih (i + 1) n _ (by omega) (by omega) (fun j hj => ?_) K
    rw [nI_clamp (by omega)]
    by_cases e : j = i
    · subst e; exact pk_us
    · rw [pk_un e]; exact h j (by omega)
theorem rk_st24 {post : Int32 → SX → Prop} (hS : S ≤ 8) (hs : sN = nI S) : ∀ (d i n : Nat) (ns : Nat → Int32), i + d = S → d < n → (∀ j, j < 128 → ns j = rk_ev (rk_g0 i gv j)) →
    (∀ ns' : Nat → Int32, (∀ j, j < 128 → ns' j = rk_ev (rk_g0 S gv j)) → ∃ q : Nat, wX_settleSignals_56 post mN sN mL mT ct lk op ph tk vd q 0 kd ar pa sc la le tl bd se wa gv ra mu ca si ns' ke fz ch) → wX_settleSignals_24 post mN sN mL mT ct lk op ph tk vd n (nI i) kd ar pa sc la le tl bd se wa gv ra mu ca si ns ke fz ch := by
  subst hs
  intro d
  induction d with
  | zero =>
    intro i n ns hi hn h K
    obtain ⟨n, rfl⟩ : ∃ q, n = q + 1 := ⟨n - 1, by omega⟩
    rw [wX_settleSignals_24]
    dsimp only
    exact br_t (nI_le (by omega) (by omega)) (K ns (fun j hj => by rw [h j hj, show i = S from by omega]))
  | succ d ih =>
    intro i n ns hi hn h K
    obtain ⟨n, rfl⟩ : ∃ q, n = q + 1 := ⟨n - 1, by omega⟩
    rw [wX_settleSignals_24]
    dsimp only
    refine br_f (nI_ge (by omega) (by omega)) ⟨vp_in_nI (by omega) (by omega), ?_⟩
    rw [nI_clamp (by omega)]
    refine br_c (fun z => nm_r (nI_1 i) (ih (i + 1) n _ (by omega) (by omega) (fun j hj => ?_) K)) (fun z => ⟨vp_in_nI (by omega) (by omega), nm_e (nm_r (nI_1 i) (ih (i + 1) n _ (by omega) (by omega) (fun j hj => ?_) K))⟩)
    · rw [h j hj]; unfold rk_g0
      by_cases e : j = i
      · subst e; rw [if_neg (by omega), if_neg (fun q => q.2 z)]
      · by_cases g : gv j = 0
        · rw [if_neg (fun q => q.2 g), if_neg (fun q => q.2 g)]
        · by_cases l : j < i
          · rw [if_pos ⟨l, g⟩, if_pos ⟨by omega, g⟩]
          · rw [if_neg (fun q => l q.1), if_neg (by omega)]
    · by_cases e : j = i
      · subst e; rw [pk_us]; unfold rk_g0; rw [if_pos ⟨by omega, z⟩]; exact rk_ev_1.symm
      · rw [pk_un e, h j hj]; unfold rk_g0
        by_cases g : gv j = 0
        · rw [if_neg (fun q => q.2 g), if_neg (fun q => q.2 g)]
        · by_cases l : j < i
          · rw [if_pos ⟨l, g⟩, if_pos ⟨by omega, g⟩]
          · rw [if_neg (fun q => l q.1), if_neg (by omega)]
theorem rk_st76 {post : Int32 → SX → Prop} {J : Int32 → (Nat → Int32) → (Nat → Int32) → (Nat → Int32) → (Nat → Int32) → (Nat → Int32) → (Nat → Int32) → (Nat → Int32) → (Nat → Int32) → (Nat → Int32) → (Nat → Int32) → (Nat → Int32) → (Nat → Int32) → (Nat → Int32) → (Nat → Int32) → (Nat → Int32) → (Nat → Int32) → (Nat → Int32) → (Nat → Int32) → (Nat → Int32) → Prop}
    {a : Nat} {R : Nat → Int32} (hB : rk_B N S kd ar pa sc le bd L Q e sl) (ha : a < N) (hk : kd a = 2) (hW : ∀ i, i ≤ L a → rk_Wx F ra (a * 3 + i)) : ∀ (d i n : Nat) (ns : Nat → Int32), i + d = L a + 1 → d < n → (∀ j, j < 128 → ns j = rk_ev (rk_s1 sl F a j (R j) i)) →
    (∀ ns' : Nat → Int32, (∀ j, j < 128 → ns' j = rk_ev (rk_s1 sl F a j (R j) (L a + 1))) → J (nI (a + 1)) kd ar pa sc la le tl bd se wa gv ra mu ca si ns' ke fz ch) → wX_settleSignals_76 post J (nI a) mN sN mL mT ct lk op ph tk vd n (nI i) kd ar pa sc la le tl bd se wa gv ra mu ca si ns ke fz ch := by
  have hN := hB.1.1.2
  have hL := hB.1.2.2.2.1 a ha
  intro d
  induction d with
  | zero =>
    intro i n ns hi hn h K
    obtain ⟨n, rfl⟩ : ∃ q, n = q + 1 := ⟨n - 1, by omega⟩
    rw [wX_settleSignals_76]
    dsimp only
    rw [nI_clamp (by omega), hB.2.1.1 a ha]
    exact ⟨vp_in_nI (by omega) (by omega), br_t (nI_lt (by omega) (by omega)) (nm_r (nI_1 a) (K ns (fun j hj => by rw [h j hj, show i = L a + 1 from by omega])))⟩
  | succ d ih =>
    intro i n ns hi hn h K
    obtain ⟨n, rfl⟩ : ∃ q, n = q + 1 := ⟨n - 1, by omega⟩
    have hu := (hB.2.2.1 a ha (Or.inl hk) i (by omega)).2
    rw [wX_settleSignals_76]
    dsimp only
    rw [nI_clamp (show a < 2 ^ 31 by omega), hB.2.1.1 a ha]
    refine ⟨vp_in_nI (by omega) (by omega), br_f (nI_nlt (by omega) (by omega)) (rk_xsl hN hB.2.1.1 hB.1.2.2.2.1 (hB.2.1.2.2.2.1 a ha (Or.inl hk)) ha (by omega) ?_)⟩
    rw [rk_ix, nI_clamp (show sl a i < 2 ^ 31 by omega), nI_clamp (show a * 3 + i < 2 ^ 31 by omega)]
    refine ⟨vp_in_nI hu (by omega), vp_in_nI (by omega) (by omega), vp_in_nI hu (by omega), nm_e (nm_r (nI_1 i) (ih (i + 1) n _ (by omega) (by omega) (fun j hj => ?_) K))⟩
    have hw := hW i (by omega)
    unfold rk_Wx at hw
    unfold rk_s1
    by_cases g : sl a i = j
    · subst g
      rw [pk_us, if_pos rfl, rk_ev_or, h _ hu, hw]; rfl
    · rw [pk_un (fun q => g q.symm), if_neg g]; exact h j hj
theorem rk_st56 {post : Int32 → SX → Prop} (hB : rk_B N S kd ar pa sc le bd L Q e sl) (hc : ct = nI N) (hW : ∀ n i, n < N → i ≤ L n → rk_Wx F ra (n * 3 + i)) : ∀ (d i n : Nat) (ns : Nat → Int32), i + d = N → d < n → (∀ j, j < 128 → ns j = rk_ev (rk_s2 kd L sl F j (rk_g0 S gv j) i)) →
    (∀ ns' : Nat → Int32, (∀ j, j < 128 → ns' j = rk_ev (rk_rS N S kd gv L sl F j)) → ∃ q : Nat, wX_settleSignals_128 post mN sN mL mT ct lk op ph tk vd q 0 0 kd ar pa sc la le tl bd se wa gv ra mu ca si ns' ke fz ch) → wX_settleSignals_56 post mN sN mL mT ct lk op ph tk vd n (nI i) kd ar pa sc la le tl bd se wa gv ra mu ca si ns ke fz ch := by
  have hN := hB.1.1.2
  subst hc
  intro d
  induction d with
  | zero =>
    intro i n ns hi hn h K
    obtain ⟨n, rfl⟩ : ∃ q, n = q + 1 := ⟨n - 1, by omega⟩
    rw [wX_settleSignals_56]
    dsimp only
    exact br_t (nI_le (by omega) (by omega)) (K ns (fun j hj => by rw [h j hj, show i = N from by omega]; rfl))
  | succ d ih =>
    intro i n ns hi hn h K
    obtain ⟨n, rfl⟩ : ∃ q, n = q + 1 := ⟨n - 1, by omega⟩
    have hL := hB.1.2.2.2.1 i (by omega)
    rw [wX_settleSignals_56]
    dsimp only
    refine br_f (nI_ge (by omega) (by omega)) ⟨vp_in_nI (by omega) (by omega), ?_⟩
    rw [nI_clamp (show i < 2 ^ 31 by omega)]
    refine br_c (fun k => ⟨L i + 2, ?_⟩) (fun k => nm_r (nI_1 i) (ih (i + 1) n _ (by omega) (by omega) (fun j hj => ?_) K))
    · refine rk_st76 hB (show i < N by omega) k (fun j hj => hW i j (by omega) hj) (L i + 1) 0 (L i + 2) ns (by omega) (by omega) h (fun ns' h' => ?_)
      refine ih (i + 1) n _ (by omega) (by omega) (fun j hj => ?_) K
      rw [h' j hj]; simp only [rk_s2]; rw [if_pos k]
    · rw [h j hj]; simp only [rk_s2]; rw [if_neg k]
theorem rk_st128 {post : Int32 → SX → Prop} {s0 : Nat → Int32} (K : ∀ (r : Int32) (si' : Nat → Int32), (∀ j, j < 128 → si' j = ns j) → ((r = 0 ∧ ∀ j, j < 128 → s0 j = ns j) ∨ (r = 1 ∧ ∃ j, j < 128 ∧ ¬ s0 j = ns j)) → post r (mN, sN, mL, mT, ct, lk, op, ph, tk, vd, kd, ar, pa, sc, la, le, tl, bd, se, wa, gv, ra, mu, ca, si', ns, ke, fz, ch)) :
    ∀ (d i n : Nat) (r : Int32) (si : Nat → Int32), i + d = 128 → d < n → (∀ j, j < i → si j = ns j) → (∀ j, i ≤ j → si j = s0 j) → ((r = 0 ∧ ∀ j, j < i → s0 j = ns j) ∨ (r = 1 ∧ ∃ j, j < i ∧ ¬ s0 j = ns j)) → wX_settleSignals_128 post mN sN mL mT ct lk op ph tk vd n r (nI i) kd ar pa sc la le tl bd se wa gv ra mu ca si ns ke fz ch := by
  intro d
  induction d with
  | zero =>
    intro i n r si hi hn h1 h2 h3
    obtain ⟨n, rfl⟩ : ∃ q, n = q + 1 := ⟨n - 1, by omega⟩
    have e : i = 128 := by omega
    subst e
    rw [wX_settleSignals_128]
    dsimp only
    refine br_t (nI_le (a := 128) (by omega) (by omega)) ⟨?_, K r si h1 h3⟩
    rcases h3 with h3 | h3 <;> rw [h3.1] <;> rfl
  | succ d ih =>
    intro i n r si hi hn h1 h2 h3
    obtain ⟨n, rfl⟩ : ∃ q, n = q + 1 := ⟨n - 1, by omega⟩
    have hin : vp_in (nI i) 128 := vp_in_nI (by omega) (by omega)
    rw [wX_settleSignals_128]
    dsimp only
    refine br_f (nI_ge (b := 128) (by omega) (by decide)) ⟨hin, hin, ?_⟩
    rw [nI_clamp (show i < 2 ^ 31 by omega)]
    refine br_c (fun z => nm_r (nI_1 i) (ih (i + 1) n r si (by omega) (by omega) (fun j hj => ?_) (fun j hj => h2 j (by omega)) ?_)) (fun z => ⟨hin, hin, nm_e (nm_r (nI_1 i) (ih (i + 1) n 1 _ (by omega) (by omega) (fun j hj => ?_) (fun j hj => ?_) ?_))⟩)
    · by_cases e : j = i
      · rw [e]; exact z
      · exact h1 j (by omega)
    · rcases h3 with ⟨a, b⟩ | ⟨a, j, b, c⟩
      · left; refine ⟨a, fun j hj => ?_⟩
        by_cases e : j = i
        · rw [e, ← h2 i (by omega)]; exact z
        · exact b j (by omega)
      · right; exact ⟨a, j, by omega, c⟩
    · by_cases e : j = i
      · rw [e]; exact pk_us
      · rw [pk_un e]; exact h1 j (by omega)
    · rw [pk_un (by omega)]; exact h2 j (by omega)
    · right; exact ⟨rfl, i, by omega, by rw [← h2 i (by omega)]; exact z⟩
theorem rk_xst {post : Int32 → SX → Prop} (hB : rk_B N S kd ar pa sc le bd L Q e sl) (hs : sN = nI S) (hc : ct = nI N) (hW : ∀ n i, n < N → i ≤ L n → rk_Wx F ra (n * 3 + i))
    (K : ∀ (r : Int32) (si' ns' : Nat → Int32), (∀ j, j < 128 → si' j = rk_ev (rk_rS N S kd gv L sl F j)) → ((r = 0 ∧ ∀ j, j < 128 → si j = rk_ev (rk_rS N S kd gv L sl F j)) ∨ (r = 1 ∧ ∃ j, j < 128 ∧ ¬ si j = rk_ev (rk_rS N S kd gv L sl F j))) → post r (mN, sN, mL, mT, ct, lk, op, ph, tk, vd, kd, ar, pa, sc, la, le, tl, bd, se, wa, gv, ra, mu, ca, si', ns', ke, fz, ch)) : wpX_settleSignals post (mN, sN, mL, mT, ct, lk, op, ph, tk, vd, kd, ar, pa, sc, la, le, tl, bd, se, wa, gv, ra, mu, ca, si, ns, ke, fz, ch) := by
  have hN := hB.1.1.2
  unfold wpX_settleSignals
  dsimp only
  refine ⟨129, rk_st2 128 0 129 ns (by omega) (by omega) (fun j hj => by omega) (fun ns1 h1 => ⟨S + 1, ?_⟩)⟩
  refine rk_st24 hB.2.2.2 hs S 0 (S + 1) ns1 (by omega) (by omega) (fun j hj => by rw [h1 j hj]; unfold rk_g0; rw [if_neg (by omega)]; exact rk_ev_0.symm) (fun ns2 h2 => ⟨N + 1, ?_⟩)
  refine rk_st56 hB hc hW N 0 (N + 1) ns2 (by omega) (by omega) h2 (fun ns3 h3 => ⟨129, ?_⟩)
  refine rk_st128 (s0 := si) (fun r si' k1 k2 => K r si' ns3 (fun j hj => by rw [k1 j hj, h3 j hj]) ?_) 128 0 129 0 si (by omega) (by omega) (fun j hj => by omega) (fun j hj => rfl) (Or.inl ⟨rfl, fun j hj => by omega⟩)
  rcases k2 with ⟨a, b⟩ | ⟨a, j, b, c⟩
  · left; exact ⟨a, fun j hj => by rw [b j hj, h3 j hj]⟩
  · right; exact ⟨a, j, b, by rw [← h3 j b]; exact c⟩
theorem rk_H_of (hB : rk_B N S kd ar pa sc le bd L Q e sl) {s : Nat → Int32} (hv : ∀ x, rk_v3 (s x)) (hs : ∀ x, x < 128 → si x = rk_ev (s x)) : rk_H N kd ar pa se si L Q sl (rk_K (rk_Ru N S kd ar pa se gv L Q sl) s 900) := by
  have hM : rk_Mon (rk_E N L (rk_ES N S kd L)) (rk_Ru N S kd ar pa se gv L Q sl) := rk_Ru_m hB.1 hB.2.2.1
  have hfix := rk_K_fix hM (fun z hz => rk_E_lt hB.1.1.2 hB.1.2.2.2.1 hz) s
  refine ⟨rk_K_v3 rk_Ru_v (fun z _ => hv z) 900, fun x hx => by rw [rk_K_lo _ _ _ _ hx]; exact hs x hx, fun n i hn hi => ?_, fun n i k hn hi hk => ?_⟩
  · have a := hfix (128 + (n * 3 + i)) (rk_E_w hn hi) (by omega)
    have := hB.1.2.2.2.1 n hn
    have := hB.1.1.2
    rw [rk_Ru_w (by omega) (by omega)] at a
    exact a
  · have a := hfix (248 + ((n * 3 + i) * 5 + k)) (rk_E_c hn hi hk) (by omega)
    have := hB.1.2.2.2.1 n hn
    rw [rk_Ru_c (by omega) hk] at a
    exact a
/-- the arrays of the component hold the state T -/
def rk_XE (N : Nat) (L : Nat → Nat) (T ra mu ca si : Nat → Int32) : Prop :=
  (∀ x, x < 128 → si x = rk_ev (T x)) ∧ (∀ n i, n < N → i ≤ L n → rk_Wx T ra (n * 3 + i) ∧ rk_Cx T mu ca (n * 3 + i))
theorem rk_df26 {post : SX → Prop} (hB : rk_B N S kd ar pa sc le bd L Q e sl) (hs : sN = nI S) (hc : ct = nI N)
    (K : ∀ T si' ra' mu' ca' ns' : Nat → Int32, rk_TF N S kd ar pa se gv L Q sl T → rk_XE N L T ra' mu' ca' si' → post (mN, sN, mL, mT, ct, lk, op, ph, tk, vd, kd, ar, pa, sc, la, le, tl, bd, se, wa, gv, ra', mu', ca', si', ns', ke, fz, ch)) :
    ∀ (d t n : Nat) (ra mu ca si ns : Nat → Int32), t + d = 129 → d < n → t ≤ rk_num (fun _ => True) 128 (rk_sg (rk_Ru N S kd ar pa se gv L Q sl) t) → (∀ x, x < 128 → si x = rk_ev (rk_sg (rk_Ru N S kd ar pa se gv L Q sl) t x)) → wX_deriveFacts_26 post n 1 (nI t) mN sN mL mT ct lk op ph tk vd kd ar pa sc la le tl bd se wa gv ra mu ca si ns ke fz ch := by
  have hM1 : rk_Mon (rk_E N L (fun _ => True)) (rk_Ru N S kd ar pa se gv L Q sl) := rk_Ru_m hB.1 (rk_US_T hB.2.2.1)
  have hv := rk_sg_v3 (Ru := rk_Ru N S kd ar pa se gv L Q sl) rk_Ru_v
  intro d
  induction d with
  | zero =>
    intro t n ra mu ca si ns ht hn hnum
    have := rk_num_le (fun _ => True) 128 (rk_sg (rk_Ru N S kd ar pa se gv L Q sl) t)
    omega
  | succ d ih =>
    intro t n ra mu ca si ns ht hn hnum hsi
    have hnum2 := rk_num_le (fun _ => True) 128 (rk_sg (rk_Ru N S kd ar pa se gv L Q sl) t)
    obtain ⟨n, rfl⟩ : ∃ q, n = q + 2 := ⟨n - 2, by omega⟩
    rw [wX_deriveFacts_26]
    dsimp only
    refine br_f (nI_ge (b := 130) (by omega) (by decide)) (br_f (by decide) (rk_xwt hB (rk_H_of (gv := gv) hB (hv t) hsi) (fun ra1 mu1 ca1 h1 => ?_)))
    dsimp only
    refine rk_xst hB hs hc (fun n i hn hi => (h1 n i hn hi).1) (fun r si1 ns1 h2 h3 => nm_r (nI_1 t) ?_)
    have e1 : ∀ x, x < 128 → rk_rS N S kd gv L sl (rk_K (rk_Ru N S kd ar pa se gv L Q sl) (rk_sg (rk_Ru N S kd ar pa se gv L Q sl) t) 900) x = rk_sg (rk_Ru N S kd ar pa se gv L Q sl) (t + 1) x := fun x hx => by
      rw [← rk_Ru_s (ar := ar) (pa := pa) (se := se) (Q := Q) hx]; rfl
    rcases h3 with ⟨r0, h3⟩ | ⟨r1, x, hx, h3⟩
    · rw [r0]
      have hst : ∀ x, x < 128 → rk_sg (rk_Ru N S kd ar pa se gv L Q sl) (t + 1) x = rk_sg (rk_Ru N S kd ar pa se gv L Q sl) t x := fun x hx => by
        have a := h3 x hx
        rw [hsi x hx, e1 x hx] at a
        exact (rk_ev_inj (hv t x) (hv (t + 1) x) a).symm
      have hp := K _ si1 ra1 mu1 ca1 ns1 (rk_TF_of hB.1 hB.2.2.1 hB.2.2.2 hst) ⟨fun x hx => by rw [h2 x hx, e1 x hx, rk_K_lo _ _ _ _ hx, hst x hx], h1⟩
      rw [wX_deriveFacts_26]
      dsimp only
      exact br_c (fun _ => hp) (fun _ => br_t rfl hp)
    · rw [r1]
      have hasc := rk_sg_asc hM1 (fun x hx => rk_E_s hx trivial) t
      have hlt : rk_num (fun _ => True) 128 (rk_sg (rk_Ru N S kd ar pa se gv L Q sl) t) < rk_num (fun _ => True) 128 (rk_sg (rk_Ru N S kd ar pa se gv L Q sl) (t + 1)) := by
        rw [hsi x hx, e1 x hx] at h3
        have l := hasc x hx
        rcases l with l | l
        · refine rk_cn_lt (a := x) (fun q => q.2 l) ⟨trivial, fun q => h3 (by rw [l, q])⟩ (fun k hk q => ⟨trivial, ?_⟩) hx
          rw [rk_le_n (hasc k hk) q.2]; exact q.2
        · exact absurd (by rw [l]) h3
      exact ih (t + 1) (n + 1) ra1 mu1 ca1 si1 ns1 (by omega) (by omega) (by omega) (fun x hx => by rw [h2 x hx, e1 x hx])
theorem rk_df2 {post : SX → Prop} : ∀ (d i n : Nat) (si : Nat → Int32), i + d = 128 → d < n → (∀ j, j < i → si j = 2) →
    (∀ si' : Nat → Int32, (∀ j, j < 128 → si' j = 2) → ∃ q : Nat, wX_deriveFacts_26 post q 1 0 mN sN mL mT ct lk op ph tk vd kd ar pa sc la le tl bd se wa gv ra mu ca si' ns ke fz ch) → wX_deriveFacts_2 post mN sN mL mT ct lk op ph tk vd n (nI i) kd ar pa sc la le tl bd se wa gv ra mu ca si ns ke fz ch := by
  intro d
  induction d with
  | zero =>
    intro i n si hi hn h K
    obtain ⟨n, rfl⟩ : ∃ q, n = q + 1 := ⟨n - 1, by omega⟩
    rw [wX_deriveFacts_2]
    dsimp only
    exact br_t (nI_le (a := 128) (by omega) (by omega)) (K si (fun j hj => h j (by omega)))
  | succ d ih =>
    intro i n si hi hn h K
    obtain ⟨n, rfl⟩ : ∃ q, n = q + 1 := ⟨n - 1, by omega⟩
    rw [wX_deriveFacts_2]
    dsimp only
    refine br_f (nI_ge (b := 128) (by omega) (by decide)) ⟨vp_in_nI (by omega) (by omega), nm_e (nm_r (nI_1 i) ?_)⟩
    refine ih (i + 1) n _ (by omega) (by omega) (fun j hj => ?_) K
    rw [nI_clamp (by omega)]
    by_cases e : j = i
    · subst e; exact pk_us
    · rw [pk_un e]; exact h j (by omega)
theorem rk_xdf {post : SX → Prop} (hB : rk_B N S kd ar pa sc le bd L Q e sl) (hs : sN = nI S) (hc : ct = nI N)
    (K : ∀ T si' ra' mu' ca' ns' : Nat → Int32, rk_TF N S kd ar pa se gv L Q sl T → rk_XE N L T ra' mu' ca' si' → post (mN, sN, mL, mT, ct, lk, op, ph, tk, vd, kd, ar, pa, sc, la, le, tl, bd, se, wa, gv, ra', mu', ca', si', ns', ke, fz, ch)) : wpX_deriveFacts post (mN, sN, mL, mT, ct, lk, op, ph, tk, vd, kd, ar, pa, sc, la, le, tl, bd, se, wa, gv, ra, mu, ca, si, ns, ke, fz, ch) := by
  unfold wpX_deriveFacts
  dsimp only
  refine ⟨129, rk_df2 128 0 129 si (by omega) (by omega) (fun j hj => by omega) (fun si' h => ⟨130, ?_⟩)⟩
  exact rk_df26 hB hs hc K 129 0 130 ra mu ca si' ns (by omega) (by omega) (Nat.zero_le _) (fun x hx => by rw [h x hx]; exact rk_ev_2.symm)
end
end
section
/-! ===== the reference's small methods ===== -/
def rk_pd (b : Nat) : Int32 := if b = 0 then -1 else nI (b - 1)
theorem rk_pd_0 : rk_pd 0 = -1 := rfl
theorem rk_pd_s (b : Nat) : rk_pd (b + 1) = nI b := by unfold rk_pd; rw [if_neg (by omega)]; rfl
theorem rk_pd_m (b : Nat) : nI b + (-1) = rk_pd b := by
  cases b with
  | zero => decide
  | succ b => rw [rk_pd_s, pk_m1]
theorem rk_pd_m' (b : Nat) : nI b - 1 = rk_pd b := by
  cases b with
  | zero => decide
  | succ b => rw [rk_pd_s, nI_pred]
theorem rk_m1_nI {b : Nat} (h : b < 2 ^ 31) : ¬ nI b = -1 := fun q => by
  have := nI_pos h
  rw [q] at this; exact this (by decide)
theorem rk_pd_ne {c b : Nat} (h : c ≤ b) (hb : b < 2 ^ 31) : ¬ nI b = rk_pd c := by
  cases c with
  | zero => exact rk_m1_nI hb
  | succ c => rw [rk_pd_s, nI_eq hb (by omega)]; omega
/-- the index behind a parent: 0 for none -/
def rk_pi (v : Int32) : Nat := if v < 0 then 0 else v.toNatClampNeg + 1
theorem rk_pi_m : rk_pi (-1) = 0 := rfl
theorem rk_pi_n {p : Nat} (h : p < 2 ^ 31) : rk_pi (nI p) = p + 1 := by unfold rk_pi; rw [if_neg (nI_pos h), nI_clamp h]
/-- parents: -1 at the root, else an earlier node -/
def rk_PA (N : Nat) (pa : Nat → Int32) : Prop := ∀ n, n < N → (n = 0 ∧ pa n = -1) ∨ (∃ p, p < n ∧ pa n = nI p)
theorem rk_PA_pd {N : Nat} {pa : Nat → Int32} (h : rk_PA N pa) (hN : N ≤ 40) {n : Nat} (hn : n < N) : pa n = rk_pd (rk_pi (pa n)) ∧ rk_pi (pa n) ≤ n := by
  rcases h n hn with ⟨a, b⟩ | ⟨p, a, b⟩
  · rw [b]; exact ⟨rfl, Nat.zero_le _⟩
  · rw [b, rk_pi_n (by omega), rk_pd_s]; exact ⟨rfl, by omega⟩
/-- c counts the nodes of kind K above a node -/
def rk_cv (kd : Nat → Int32) (K : Int32) (c : Nat → Nat) : Nat → Nat
  | 0 => 0
  | m + 1 => c m + (if kd m = K then 1 else 0)
def rk_cu (N : Nat) (kd pa : Nat → Int32) (K : Int32) (c : Nat → Nat) : Prop := ∀ n, n < N → c n = rk_cv kd K c (rk_pi (pa n))
def rk_fb (kd ar pa : Nat → Int32) (x : Int32) : Nat → Nat → Int32
  | 0, _ => -2
  | _ + 1, 0 => -2
  | f + 1, m + 1 => if kd m = 10 ∧ ar m = x then nI m else rk_fb kd ar pa x f (rk_pi (pa m))
theorem rk_fb_0 {kd ar pa : Nat → Int32} {x : Int32} (f : Nat) : rk_fb kd ar pa x f 0 = -2 := by cases f <;> rfl
theorem rk_fb_f {N : Nat} {kd ar pa : Nat → Int32} {x : Int32} (hp : rk_PA N pa) (hN : N ≤ 40) : ∀ f g c, c ≤ f → c ≤ g → c ≤ N → rk_fb kd ar pa x f c = rk_fb kd ar pa x g c := by
  intro f
  induction f with
  | zero => intro g c h _ _; rw [show c = 0 from by omega, rk_fb_0, rk_fb_0]
  | succ f ih =>
    intro g c h hg hc
    cases c with
    | zero => rw [rk_fb_0, rk_fb_0]
    | succ m =>
      obtain ⟨g, rfl⟩ : ∃ q, g = q + 1 := ⟨g - 1, by omega⟩
      have := (rk_PA_pd hp hN (show m < N by omega)).2
      simp only [rk_fb]
      rw [ih g (rk_pi (pa m)) (by omega) (by omega) (by omega)]
theorem rk_fb_c {N : Nat} {kd ar pa kd' ar' pa' : Nat → Int32} {x : Int32} (hp : rk_PA N pa) (hN : N ≤ 40) (h : ∀ m, m < N → kd' m = kd m ∧ ar' m = ar m ∧ pa' m = pa m) : ∀ f c, c ≤ N → rk_fb kd' ar' pa' x f c = rk_fb kd ar pa x f c := by
  intro f
  induction f with
  | zero => intro c _; rfl
  | succ f ih =>
    intro c hc
    cases c with
    | zero => rfl
    | succ m =>
      have := (rk_PA_pd hp hN (show m < N by omega)).2
      obtain ⟨h1, h2, h3⟩ := h m (by omega)
      simp only [rk_fb]
      rw [h1, h2, h3, ih (rk_pi (pa m)) (by omega)]
/-- what a search for a binder gives: none, or a LOCAL of that signal among the nodes above -/
theorem rk_fb_r {N : Nat} {kd ar pa : Nat → Int32} {x : Int32} (hp : rk_PA N pa) (hN : N ≤ 40) : ∀ f c, c ≤ N → rk_fb kd ar pa x f c = -2 ∨ ∃ b, b < c ∧ rk_fb kd ar pa x f c = nI b ∧ kd b = 10 ∧ ar b = x := by
  intro f
  induction f with
  | zero => intro c _; left; rfl
  | succ f ih =>
    intro c hc
    cases c with
    | zero => left; rfl
    | succ m =>
      have := (rk_PA_pd hp hN (show m < N by omega)).2
      simp only [rk_fb]
      by_cases g : kd m = 10 ∧ ar m = x
      · rw [if_pos g]; right; exact ⟨m, by omega, rfl, g⟩
      · rw [if_neg g]
        rcases ih (rk_pi (pa m)) (by omega) with q | ⟨b, hb, q⟩
        · left; exact q
        · right; exact ⟨b, by omega, q⟩
def rk_gl (ys yw yc : Nat → Int32) (z : Nat) : Int32 := if z < 128 then ys z else if z < 248 then yw (z - 128) else yc (z - 248)
section
variable {mN sN mL mT ct ph tk vd : Int32} {kd ar pa se nx yk wa gv ys yw yc : Nat → Int32} {N S : Nat} {L Q e : Nat → Nat} {sl : Nat → Nat → Nat} {bd : Nat → Int32}
theorem rk_gl_s {x : Nat} (h : x < 128) : rk_gl ys yw yc x = ys x := by unfold rk_gl; rw [if_pos h]
theorem rk_gl_w {n i : Nat} (h : n * 3 + i < 120) : rk_w (rk_gl ys yw yc) n i = yw (n * 3 + i) := by
  unfold rk_w rk_gl; rw [if_neg (by omega), if_pos (by omega), Nat.add_sub_cancel_left]
theorem rk_gl_c {n i k : Nat} : rk_c (rk_gl ys yw yc) n i k = yc ((n * 3 + i) * 5 + k) := by
  unfold rk_c rk_gl; rw [if_neg (by omega), if_neg (by omega), Nat.add_sub_cancel_left]
theorem rk_yar {post : Int32 → Prop} {k : Int32} (h : post (nI (rk_ar k))) : wpY_arity post (mN, sN, mL, mT, ct, ph, tk, vd, kd, ar, pa, se, nx, yk, wa, gv, ys, yw, yc) k := by
  unfold wpY_arity
  dsimp only
  unfold rk_ar at h
  refine br_c (fun a => br_c (fun b => ?_) (fun b => ?_)) (fun a => ?_)
  · rw [if_pos a, if_pos b] at h; exact h
  · rw [if_pos a, if_neg b] at h; exact h
  · rw [if_neg a] at h; exact h
theorem rk_yan {post : Int32 → Prop} {a b : Int32} (h : post (rk_an a b)) : wpY_and post (mN, sN, mL, mT, ct, ph, tk, vd, kd, ar, pa, se, nx, yk, wa, gv, ys, yw, yc) a b := by
  unfold wpY_and
  dsimp only
  unfold rk_an at h
  refine br_c (fun p => ?_) (fun p => br_c (fun q => ?_) (fun q => br_c (fun r => br_c (fun s => ?_) (fun s => ?_)) (fun r => ?_)))
  · rw [if_pos p] at h; exact h
  · rw [if_neg p, if_pos q] at h; exact h
  · rw [if_neg p, if_neg q, if_pos r, if_pos s] at h; exact h
  · rw [if_neg p, if_neg q, if_pos r, if_neg s] at h; exact h
  · rw [if_neg p, if_neg q, if_neg r] at h; exact h
theorem rk_yor {post : Int32 → Prop} {a b : Int32} (h : post (rk_or a b)) : wpY_or post (mN, sN, mL, mT, ct, ph, tk, vd, kd, ar, pa, se, nx, yk, wa, gv, ys, yw, yc) a b := by
  unfold wpY_or
  dsimp only
  unfold rk_or at h
  refine br_c (fun p => ?_) (fun p => br_c (fun q => ?_) (fun q => br_c (fun r => br_c (fun s => ?_) (fun s => ?_)) (fun r => ?_)))
  · rw [if_pos p] at h; exact h
  · rw [if_neg p, if_pos q] at h; exact h
  · rw [if_neg p, if_neg q, if_pos r, if_pos s] at h; exact h
  · rw [if_neg p, if_neg q, if_pos r, if_neg s] at h; exact h
  · rw [if_neg p, if_neg q, if_neg r] at h; exact h
theorem rk_yno {post : Int32 → Prop} {a : Int32} (h : post (rk_no a)) : wpY_not post (mN, sN, mL, mT, ct, ph, tk, vd, kd, ar, pa, se, nx, yk, wa, gv, ys, yw, yc) a := by
  unfold wpY_not
  dsimp only
  unfold rk_no at h
  refine br_c (fun p => ?_) (fun p => ?_)
  · rw [if_pos p] at h; exact h
  · rw [if_neg p] at h; exact h
theorem rk_ycu8 {post : Int32 → Prop} {K : Int32} {c : Nat → Nat} (hN : N ≤ 40) (hp : rk_PA N pa) (hc : rk_cu N kd pa K c) : ∀ (b n c' r : Nat), b < n → c' ≤ b → b ≤ N → post (nI (r + rk_cv kd K c c')) → wY_countUp_8 post K mN sN mL mT ct ph tk vd kd ar pa se nx yk wa gv ys yw yc n (rk_pd c') (nI r) (rk_pd b) := by
  intro b
  induction b with
  | zero =>
    intro n c' r hn hc' _ h
    obtain ⟨n, rfl⟩ : ∃ q, n = q + 1 := ⟨n - 1, by omega⟩
    rw [wY_countUp_8]
    dsimp only
    rw [show c' = 0 from by omega] at h
    exact br_t (by decide) h
  | succ b ih =>
    intro n c' r hn hc' hb h
    obtain ⟨n, rfl⟩ : ∃ q, n = q + 1 := ⟨n - 1, by omega⟩
    rw [wY_countUp_8, rk_pd_s]
    dsimp only
    refine br_f (nI_pos (by omega)) ?_
    by_cases g : c' = b + 1
    · subst g
      have hb' : vp_in (nI b) 40 := vp_in_nI (by omega) (by omega)
      obtain ⟨e1, e2⟩ := rk_PA_pd hp hN (show b < N by omega)
      simp only [rk_cv] at h
      rw [hc b (by omega)] at h
      rw [rk_pd_s, nI_clamp (show b < 2 ^ 31 by omega)]
      refine br_t rfl ⟨hb', br_c (fun k => nm_r (nI_1 r) ⟨hb', nm_r e1 (nm_r (rk_pd_m b) (ih n _ (r + 1) (by omega) e2 (by omega) ?_))⟩) (fun k => ⟨hb', nm_r e1 (nm_r (rk_pd_m b) (ih n _ r (by omega) e2 (by omega) ?_))⟩)⟩
      · rw [if_pos k] at h; rw [show r + 1 + rk_cv kd K c (rk_pi (pa b)) = r + (rk_cv kd K c (rk_pi (pa b)) + 1) from by omega]; exact h
      · rw [if_neg k] at h; exact h
    · exact br_f (rk_pd_ne (by omega) (by omega)) (nm_r (rk_pd_m b) (ih n c' r (by omega) (by omega) (by omega) h))
theorem rk_ycu {post : Int32 → Prop} {K : Int32} {c : Nat → Nat} {c' : Nat} (hN : N ≤ 40) (hp : rk_PA N pa) (hc : rk_cu N kd pa K c) (h' : c' ≤ N) (h : post (nI (rk_cv kd K c c'))) : wpY_countUp post (mN, sN, mL, mT, ct, ph, tk, vd, kd, ar, pa, se, nx, yk, wa, gv, ys, yw, yc) K (rk_pd c') := by
  unfold wpY_countUp
  dsimp only
  exact ⟨c' + 1, rk_ycu8 hN hp hc c' (c' + 1) c' 0 (by omega) (by omega) h' (by rw [Nat.zero_add]; exact h)⟩
theorem rk_ylv {post : Int32 → Prop} {n : Nat} (hN : N ≤ 40) (hp : rk_PA N pa) (hc : rk_cu N kd pa 7 L) (hn : n < N) (h : post (nI (L n))) : wpY_level post (mN, sN, mL, mT, ct, ph, tk, vd, kd, ar, pa, se, nx, yk, wa, gv, ys, yw, yc) (nI n) := by
  unfold wpY_level
  dsimp only
  rw [nI_clamp (by omega), (rk_PA_pd hp hN hn).1]
  rw [hc n hn] at h
  have := (rk_PA_pd hp hN hn).2
  exact ⟨vp_in_nI (by omega) (by omega), rk_ycu hN hp hc (by omega) h⟩
theorem rk_ybi11 {post : Int32 → Prop} {nn : Nat} (hN : N ≤ 40) (hp : rk_PA N pa) (hnn : nn < 40) : ∀ (b n c' f : Nat), b < n → c' ≤ b → b ≤ N → c' ≤ f → post (rk_fb kd ar pa (ar nn) f c') → wY_binder_11 post (nI nn) mN sN mL mT ct ph tk vd kd ar pa se nx yk wa gv ys yw yc n (rk_pd c') (rk_pd b) := by
  intro b
  induction b with
  | zero =>
    intro n c' f hn hc' _ hf h
    obtain ⟨n, rfl⟩ : ∃ q, n = q + 1 := ⟨n - 1, by omega⟩
    rw [wY_binder_11]
    dsimp only
    rw [show c' = 0 from by omega, rk_fb_0] at h
    exact br_t (by decide) h
  | succ b ih =>
    intro n c' f hn hc' hb hf h
    obtain ⟨n, rfl⟩ : ∃ q, n = q + 1 := ⟨n - 1, by omega⟩
    rw [wY_binder_11, rk_pd_s]
    dsimp only
    refine br_f (nI_pos (by omega)) ?_
    by_cases g : c' = b + 1
    · subst g
      obtain ⟨f, rfl⟩ : ∃ q, f = q + 1 := ⟨f - 1, by omega⟩
      have hb' : vp_in (nI b) 40 := vp_in_nI (by omega) (by omega)
      have hq' : vp_in (nI nn) 40 := vp_in_nI (by omega) (by omega)
      obtain ⟨e1, e2⟩ := rk_PA_pd hp hN (show b < N by omega)
      simp only [rk_fb] at h
      rw [rk_pd_s, nI_clamp (show b < 2 ^ 31 by omega), nI_clamp (show nn < 2 ^ 31 by omega)]
      refine br_t rfl ⟨hb', br_c (fun k => ⟨hb', hq', br_c (fun a => ?_) (fun a => ⟨hb', nm_r e1 (nm_r (rk_pd_m b) (ih n _ f (by omega) e2 (by omega) (by omega) ?_))⟩)⟩) (fun k => ⟨hb', nm_r e1 (nm_r (rk_pd_m b) (ih n _ f (by omega) e2 (by omega) (by omega) ?_))⟩)⟩
      · rw [if_pos ⟨k, a⟩] at h; exact h
      · rw [if_neg (fun q => a q.2)] at h; exact h
      · rw [if_neg (fun q => k q.1)] at h; exact h
    · exact br_f (rk_pd_ne (by omega) (by omega)) (nm_r (rk_pd_m b) (ih n c' f (by omega) (by omega) (by omega) hf h))
theorem rk_ybi {post : Int32 → Prop} {n : Nat} (hN : N ≤ 40) (hp : rk_PA N pa) (hn : n < N) (h : post (rk_fb kd ar pa (ar n) 40 (rk_pi (pa n)))) : wpY_binder post (mN, sN, mL, mT, ct, ph, tk, vd, kd, ar, pa, se, nx, yk, wa, gv, ys, yw, yc) (nI n) := by
  unfold wpY_binder
  dsimp only
  rw [nI_clamp (by omega)]
  have e := rk_PA_pd hp hN hn
  exact ⟨vp_in_nI (by omega) (by omega), nm_r e.1 (nm_r (rk_pd_m' n) ⟨n + 1, rk_ybi11 hN hp (by omega) n (n + 1) _ 40 (by omega) e.2 (by omega) (by omega) h⟩)⟩
theorem rk_yse4 {post : Int32 → Prop} {n q : Nat} (hN : N ≤ 40) (hc : ct = nI N) (hq : q < N) (hq2 : pa q = nI n) : ∀ (d i k : Nat), i + d = q → d < k → (∀ j, i ≤ j → j < q → ¬ pa j = nI n) → post (nI q) → wY_second_4 post (nI n) mN sN mL mT ct ph tk vd kd ar pa se nx yk wa gv ys yw yc k (nI i) := by
  subst hc
  intro d
  induction d with
  | zero =>
    intro i k hi hk h K
    obtain ⟨k, rfl⟩ : ∃ z, k = z + 1 := ⟨k - 1, by omega⟩
    have e : i = q := by omega
    subst e
    rw [wY_second_4]
    dsimp only
    refine br_f (nI_ge (by omega) (by omega)) ⟨vp_in_nI (by omega) (by omega), ?_⟩
    rw [nI_clamp (by omega)]
    exact br_t hq2 K
  | succ d ih =>
    intro i k hi hk h K
    obtain ⟨k, rfl⟩ : ∃ z, k = z + 1 := ⟨k - 1, by omega⟩
    rw [wY_second_4]
    dsimp only
    refine br_f (nI_ge (by omega) (by omega)) ⟨vp_in_nI (by omega) (by omega), ?_⟩
    rw [nI_clamp (by omega)]
    exact br_f (h i (by omega) (by omega)) (nm_r (nI_1 i) (ih (i + 1) k (by omega) (by omega) (fun j a b => h j (by omega) b) K))
theorem rk_yse4' {post : Int32 → Prop} {n : Nat} (hN : N ≤ 40) (hc : ct = nI N) : ∀ (d i k : Nat), N ≤ i + d → i ≤ 42 → d < k → (∀ j, i ≤ j → j < N → ¬ pa j = nI n) → post (nI 0) → wY_second_4 post (nI n) mN sN mL mT ct ph tk vd kd ar pa se nx yk wa gv ys yw yc k (nI i) := by
  subst hc
  intro d
  induction d with
  | zero =>
    intro i k hi hi2 hk h K
    obtain ⟨k, rfl⟩ : ∃ z, k = z + 1 := ⟨k - 1, by omega⟩
    rw [wY_second_4]
    dsimp only
    exact br_t (nI_le (by omega) (by omega)) K
  | succ d ih =>
    intro i k hi hi2 hk h K
    obtain ⟨k, rfl⟩ : ∃ z, k = z + 1 := ⟨k - 1, by omega⟩
    rw [wY_second_4]
    dsimp only
    refine pk_le N i (fun _ => K) (fun z => ⟨vp_in_nI (by omega) (by omega), ?_⟩)
    rw [nI_clamp (by omega)]
    exact br_f (h i (by omega) (by omega)) (nm_r (nI_1 i) (ih (i + 1) k (by omega) (by omega) (by omega) (fun j a b => h j (by omega) b) K))
theorem rk_CT_ch (hT : rk_CT N kd pa L Q e) {n x : Nat} (hx : x < N) (hn : n < 40) (h : pa x = nI n) : x = n + 1 ∨ (rk_ar (kd n) = 2 ∧ x = Q n) := by
  obtain ⟨hN, h0, hK, hL, he, hT0, hT1, hT2, hTp⟩ := hT
  by_cases g : x = 0
  · subst g; rw [h0.1] at h; exact absurd h.symm (rk_m1_nI (by omega))
  · obtain ⟨p, a, b, _, c⟩ := hTp x (by omega) hx
    rw [b, nI_eq (by omega) (by omega)] at h
    subst h; exact c
theorem rk_CT_PA (hT : rk_CT N kd pa L Q e) : rk_PA N pa := by
  obtain ⟨hN, h0, hK, hL, he, hT0, hT1, hT2, hTp⟩ := hT
  intro n hn
  by_cases g : n = 0
  · left; subst g; exact ⟨rfl, h0.1⟩
  · right; obtain ⟨p, a, b, _, c⟩ := hTp n (by omega) hn; exact ⟨p, a, b⟩
theorem rk_CT_cu (hT : rk_CT N kd pa L Q e) : rk_cu N kd pa 7 L := by
  obtain ⟨hN, h0, hK, hL, he, hT0, hT1, hT2, hTp⟩ := hT
  intro n hn
  by_cases g : n = 0
  · subst g; rw [h0.1, rk_pi_m, h0.2.1]; rfl
  · obtain ⟨p, a, b, c, d⟩ := hTp n (by omega) hn
    rw [b, rk_pi_n (by omega)]
    show L n = L p + (if kd p = 7 then 1 else 0)
    rcases d with d | ⟨d1, d2⟩
    · rcases rk_ar_p c with k | k
      · rw [d]; exact (hT1 p (by omega) k).2.2.1
      · rw [d, (hT2 p (by omega) k).2.2.1, if_neg (fun q => by rw [q] at k; exact absurd k (by decide))]; rfl
    · rw [d2, (hT2 p (by omega) d1).2.2.2.2.2.2.1, if_neg (fun q => by rw [q] at d1; exact absurd d1 (by decide))]; rfl
theorem rk_yse {post : Int32 → Prop} {n : Nat} (hT : rk_CT N kd pa L Q e) (hc : ct = nI N) (hn : n < N) (h2 : rk_ar (kd n) = 2 → post (nI (Q n))) (h1 : ¬ rk_ar (kd n) = 2 → post (nI 0)) : wpY_second post (mN, sN, mL, mT, ct, ph, tk, vd, kd, ar, pa, se, nx, yk, wa, gv, ys, yw, yc) (nI n) := by
  unfold wpY_second
  dsimp only
  have hN := hT.1
  refine nm_r (nI_add n 2) ?_
  by_cases g : rk_ar (kd n) = 2
  · obtain ⟨a1, a2, a3, a4, a5, a6, a7, a8, a9⟩ := hT.2.2.2.2.2.2.2.1 n hn g
    exact ⟨Q n + 1, rk_yse4 hN.2 hc a5 a6 (Q n - (n + 2)) (n + 2) (Q n + 1) (by omega) (by omega) (fun j hj hj2 q => by
      rcases rk_CT_ch hT (by omega) (by omega) q with z | z <;> omega) (h2 g)⟩
  · exact ⟨41, rk_yse4' hN.2 hc 40 (n + 2) 41 (by omega) (by omega) (by omega) (fun j hj hj2 q => by
      rcases rk_CT_ch hT (by omega) (by omega) q with z | z
      · omega
      · exact g z.1) (h1 g)⟩
/-- what the reference's search gives is what the component's tables say -/
def rk_YT (N : Nat) (kd ar pa bd : Nat → Int32) (L : Nat → Nat) (sl : Nat → Nat → Nat) : Prop :=
  ∀ n, n < N → (kd n = 2 ∨ kd n = 4 ∨ kd n = 8) → bd n = rk_fb kd ar pa (ar n) 40 (rk_pi (pa n)) ∧ rk_SL N ar bd L sl n
theorem rk_yua {post : Int32 → Prop} {n i : Nat} (hN : N ≤ 40) (hp : rk_PA N pa) (hc : rk_cu N kd pa 7 L) (hL : ∀ n, n < N → L n ≤ 2) (hY : rk_YT N kd ar pa bd L sl) (hn : n < N) (hk : kd n = 2 ∨ kd n = 4 ∨ kd n = 8) (hi : i < 40) (h : post (nI (sl n i))) : wpY_useAt post (mN, sN, mL, mT, ct, ph, tk, vd, kd, ar, pa, se, nx, yk, wa, gv, ys, yw, yc) (nI n) (nI i) := by
  unfold wpY_useAt
  dsimp only
  obtain ⟨e1, e2⟩ := hY n hn hk
  refine rk_ybi hN hp hn ?_
  rw [← e1]
  rcases e2 with ⟨b, hb, eb, es⟩ | ⟨eb, a, ha, ea, es⟩
  · rw [eb]
    have h2 := hL b hb
    rw [es] at h
    refine br_t (nI_pos' (by omega)) (rk_ylv hN hp hc hb (pk_lt (L b) i (fun z => ?_) (fun z => ?_)))
    · rw [if_pos z] at h
      rw [show (0 : Int32) = nI 0 from rfl, rk_iy]; exact h
    · rw [if_neg (by omega)] at h
      rw [rk_iy]; exact h
  · rw [eb]
    rw [es] at h
    rw [nI_clamp (by omega), ea]
    exact br_f (by decide) ⟨vp_in_nI (by omega) (by omega), h⟩
theorem rk_yus {post : Int32 → Prop} {n i : Nat} (hN : N ≤ 40) (hp : rk_PA N pa) (hc : rk_cu N kd pa 7 L) (hL : ∀ n, n < N → L n ≤ 2) (hY : rk_YT N kd ar pa bd L sl) (hn : n < N) (hk : kd n = 2 ∨ kd n = 4 ∨ kd n = 8) (hi : i < 40) (hs : sl n i < 128) (h : post (ys (sl n i))) : wpY_use post (mN, sN, mL, mT, ct, ph, tk, vd, kd, ar, pa, se, nx, yk, wa, gv, ys, yw, yc) (nI n) (nI i) := by
  unfold wpY_use
  dsimp only
  refine rk_yua hN hp hc hL hY hn hk hi ?_
  rw [nI_clamp (by omega)]
  exact ⟨vp_in_nI hs (by omega), h⟩
end
end
section
/-! ===== the reference's rules are the pure rules ===== -/
def rk_YB (N S : Nat) (kd ar pa bd : Nat → Int32) (L Q e : Nat → Nat) (sl : Nat → Nat → Nat) : Prop :=
  rk_CT N kd pa L Q e ∧ rk_YT N kd ar pa bd L sl ∧ rk_US N kd L sl (rk_ES N S kd L) ∧ S ≤ 8
section
variable {mN sN mL mT ct ph tk vd : Int32} {kd ar pa se nx yk wa gv ys yw yc : Nat → Int32} {N S : Nat} {L Q e : Nat → Nat} {sl : Nat → Nat → Nat} {bd : Nat → Int32}
theorem rk_y196 {post : Int32 → Prop} {p i : Nat} {x4 x6 : Int32} (hp : p + 1 < 40) (hi : i ≤ 2) (h0 : x6 = 0 → post (rk_c (rk_gl ys yw yc) (p + 1) i 0)) (h1 : ¬ x6 = 0 → post x4) : wY_ruleW_196 post (nI i) (nI p) x4 x6 mN sN mL mT ct ph tk vd kd ar pa se nx yk wa gv ys yw yc := by
  unfold wY_ruleW_196
  refine br_c (fun z => ?_) h1
  rw [nI_1, rk_ix, show nI ((p + 1) * 3 + i) * 5 = nI (((p + 1) * 3 + i) * 5 + 0) from by rw [show nI ((p + 1) * 3 + i) * 5 = nI ((p + 1) * 3 + i) * nI 5 from rfl, pk_mul]; rfl, nI_clamp (by omega)]
  have := h0 z
  rw [rk_gl_c] at this
  exact ⟨vp_in_nI (by omega) (by omega), this⟩
theorem rk_y89 {post : Int32 → Prop} {c p i : Nat} {x5 z0 : Int32} (hB : rk_YB N S kd ar pa bd L Q e sl) (hct : ct = nI N) (hp : p < N) (hc : c < N) (hi : i ≤ L p) (hr : x5 = 0 ↔ ¬ (i = 0 ∧ ¬ se p = 0)) (hz : z0 = 0 ↔ ¬ c = p + 1)
    (h : post (rk_rW1 kd se L Q sl (rk_gl ys yw yc) c i p)) : wY_ruleW_89 post (nI c) (nI i) (nI p) (yw (p * 3 + i)) x5 z0 mN sN mL mT ct ph tk vd kd ar pa se nx yk wa gv ys yw yc := by
  obtain ⟨hT, hY, hU, hS⟩ := hB
  have hT' := hT
  obtain ⟨hN, h0, hK, hL, he, hT0, hT1, hT2, hTp⟩ := hT'
  have hL2 := hL p hp
  have hLi : ¬ L p < i := by omega
  have hPA := rk_CT_PA hT
  have hCU := rk_CT_cu hT
  have hw : rk_w (rk_gl ys yw yc) p i = yw (p * 3 + i) := rk_gl_w (by omega)
  have hinp : vp_in (nI p) 40 := vp_in_nI (by omega) (by omega)
  have hinc : vp_in (nI c) 40 := vp_in_nI (by omega) (by omega)
  unfold wY_ruleW_89
  rw [nI_clamp (show p < 2 ^ 31 by omega), nI_clamp (show c < 2 ^ 31 by omega)]
  refine ⟨hinp, ?_⟩
  unfold rk_rW1 at h
  rw [if_neg hLi, hw] at h
  refine br_c (fun k4 => ?_) (fun k4 => ⟨hinp, br_c (fun k5 => ?_) (fun k5 => ⟨hinp, br_c (fun k6 => ?_) (fun k6 => ⟨hinp, br_c (fun k8 => ?_) (fun k8 => ?_)⟩)⟩)⟩)
  · rw [if_pos k4] at h
    have hu := (hU p hp (Or.inr (Or.inl k4)) i hi).2
    refine br_c (fun r => ?_) (fun r => ⟨hinc, ?_⟩)
    · rw [if_neg (hr.mp r)] at h
      refine rk_yus hN.2 hPA hCU hL hY hp (Or.inr (Or.inl k4)) (by omega) hu ?_
      refine br_c (fun z => rk_yno ?_) (fun z => ?_)
      · rw [if_neg (hz.mp z), rk_gl_s hu] at h
        unfold wY_ruleW_143; exact rk_yan h
      · rw [if_pos (Decidable.byContradiction (fun q => z (hz.mpr q))), rk_gl_s hu] at h
        unfold wY_ruleW_143; exact rk_yan h
    · rw [if_pos (Decidable.byContradiction (fun q => r (hr.mpr q)))] at h
      refine br_c (fun s => ?_) (fun s => ?_)
      · rw [if_pos s] at h; exact h
      · rw [if_neg s] at h; exact h
  · rw [if_neg k4, if_pos k5] at h
    have g2 : rk_ar (kd p) = 2 := by rw [k5]; decide
    obtain ⟨a1, a2, a3, a4, a5, a6, a7, a8, a9⟩ := hT2 p hp g2
    have h196 : ¬ ((i = 0 ∧ ¬ se p = 0) ∧ ¬ se (Q p) = 0) → wY_ruleW_196 post (nI i) (nI p) (yw (p * 3 + i)) z0 mN sN mL mT ct ph tk vd kd ar pa se nx yk wa gv ys yw yc := by
      intro q
      rw [if_neg q] at h
      refine rk_y196 (by omega) (by omega) (fun z => ?_) (fun z => ?_)
      · rw [if_neg (hz.mp z)] at h; exact h
      · rw [if_pos (Decidable.byContradiction (fun q => z (hz.mpr q)))] at h; exact h
    refine rk_yse hT hct hp (fun _ => ?_) (fun g => absurd g2 g)
    refine br_c (fun r => h196 (fun q => hr.mp r q.1)) (fun r => ⟨vp_in_nI (by omega) (by omega), ?_⟩)
    rw [nI_clamp (show Q p < 2 ^ 31 by omega)]
    refine br_c (fun s => h196 (fun q => q.2 s)) (fun s => ?_)
    rw [if_pos ⟨Decidable.byContradiction (fun q => r (hr.mpr q)), s⟩] at h
    refine br_c (fun z => ?_) (fun z => ?_)
    · rw [if_neg (hz.mp z)] at h; exact h
    · rw [if_pos (Decidable.byContradiction (fun q => z (hz.mpr q)))] at h; exact h
  · rw [if_neg k4, if_neg k5, if_pos k6] at h
    refine br_c (fun r => ?_) (fun r => ⟨hinc, br_c (fun s => ?_) (fun s => ?_)⟩)
    · rw [if_neg (fun q => hr.mp r q.1)] at h; exact h
    · rw [if_pos ⟨Decidable.byContradiction (fun q => r (hr.mpr q)), s⟩] at h; exact h
    · rw [if_neg (fun q => s q.2)] at h; exact h
  · rw [if_neg k4, if_neg k5, if_neg k6] at h
    have hu := (hU p hp (Or.inr (Or.inr k8)) i hi).2
    refine br_c (fun r => ?_) (fun r => ?_)
    · rw [if_neg (fun q => hr.mp r q.2)] at h; exact h
    · rw [if_pos ⟨k8, Decidable.byContradiction (fun q => r (hr.mpr q))⟩, rk_gl_s hu] at h
      exact rk_yus hN.2 hPA hCU hL hY hp (Or.inr (Or.inr k8)) (by omega) hu (rk_yno (rk_yan h))
  · rw [if_neg k4, if_neg k5, if_neg k6, if_neg (fun q => k8 q.1)] at h; exact h
theorem rk_y75 {post : Int32 → Prop} {c p i : Nat} {x5 : Int32} (hB : rk_YB N S kd ar pa bd L Q e sl) (hct : ct = nI N) (hp : p < N) (hc : c < N) (hi : i ≤ L p) (hr : x5 = 0 ↔ ¬ (i = 0 ∧ ¬ se p = 0))
    (h : post (rk_rW1 kd se L Q sl (rk_gl ys yw yc) c i p)) : wY_ruleW_75 post (nI c) (nI i) (nI p) (yw (p * 3 + i)) x5 mN sN mL mT ct ph tk vd kd ar pa se nx yk wa gv ys yw yc := by
  have hN := hB.1.1
  unfold wY_ruleW_75
  rw [nI_1]
  refine pk_eq c (p + 1) (fun q => rk_y89 hB hct hp hc hi hr ?_ h) (fun q => rk_y89 hB hct hp hc hi hr ?_ h)
  · exact ⟨fun z => absurd z (by decide), fun z => absurd q z⟩
  · exact ⟨fun _ => q, fun _ => rfl⟩
theorem rk_yrw {post : Int32 → Prop} {n i : Nat} (hB : rk_YB N S kd ar pa bd L Q e sl) (hct : ct = nI N) (hn : n < N) (hi : i ≤ L n) (h : post (rk_rW kd pa se L Q sl (rk_gl ys yw yc) n i)) : wpY_ruleW post (mN, sN, mL, mT, ct, ph, tk, vd, kd, ar, pa, se, nx, yk, wa, gv, ys, yw, yc) (nI n) (nI i) := by
  have hT := hB.1
  obtain ⟨hN, h0, hK, hL, he, hT0, hT1, hT2, hTp⟩ := hB.1
  have hPA := rk_CT_PA hT
  have hCU := rk_CT_cu hT
  have hin : vp_in (nI n) 40 := vp_in_nI (by omega) (by omega)
  have hL2 := hL n hn
  unfold wpY_ruleW
  dsimp only
  rw [nI_clamp (show n < 2 ^ 31 by omega)]
  refine ⟨hin, ?_⟩
  unfold rk_rW at h
  by_cases g : n = 0
  · rw [if_pos g] at h
    subst g
    exact nm_r h0.1 (br_f (by decide) h)
  · rw [if_neg g] at h
    obtain ⟨p, a, b, c, d⟩ := hTp n (by omega) hn
    have hLp := hL p (by omega)
    have hinp : vp_in (nI p) 40 := vp_in_nI (by omega) (by omega)
    rw [b, nI_clamp (by omega)] at h
    refine nm_r b (br_t (nI_pos' (by omega)) (rk_ylv hN.2 hPA hCU (by omega) ?_))
    rw [rk_ix, nI_clamp (show p < 2 ^ 31 by omega)]
    refine pk_le i (L p) (fun l => ?_) (fun l => ⟨hinp, ?_⟩)
    · rw [nI_clamp (show p * 3 + i < 2 ^ 31 by omega)]
      refine ⟨vp_in_nI (by omega) (by omega), nm_e ?_⟩
      have h74 : ¬ (i = 0 ∧ ¬ se p = 0) → wY_ruleW_74 post (nI n) (nI i) (nI p) (yw (p * 3 + i)) mN sN mL mT ct ph tk vd kd ar pa se nx yk wa gv ys yw yc := fun q => by
        unfold wY_ruleW_74
        exact rk_y75 hB hct (by omega) hn l ⟨fun _ => q, fun _ => rfl⟩ h
      refine pk_eq i 0 (fun z => ⟨hinp, br_c (fun s => h74 (fun q => q.2 s)) (fun s => ?_)⟩) (fun z => h74 (fun q => z q.1))
      exact rk_y75 hB hct (by omega) hn l ⟨fun q => absurd q (by decide), fun q => absurd ⟨z, s⟩ q⟩ h
    · unfold rk_rW1 at h
      rw [if_pos l, rk_gl_c] at h
      refine br_c (fun s => ?_) (fun s => ?_)
      · rw [if_pos s] at h; exact h
      · rw [if_neg s] at h
        rw [show nI n * 15 = nI ((n * 3 + 0) * 5 + 0) from by rw [show nI n * 15 = nI n * nI 15 from rfl, pk_mul]; exact congrArg nI (by omega), nI_clamp (by omega)]
        exact ⟨vp_in_nI (by omega) (by omega), h⟩
theorem rk_ypc {post : Int32 → Prop} {n c i a : Nat} (hn : n < 40) (hc : c < 40) (hi : i ≤ 2) (ha : a < 5) (h : post (rk_pr se (rk_gl ys yw yc) n c i a)) : wpY_parCode post (mN, sN, mL, mT, ct, ph, tk, vd, kd, ar, pa, se, nx, yk, wa, gv, ys, yw, yc) (nI n) (nI c) (nI i) (nI a) := by
  have hin : vp_in (nI n) 40 := vp_in_nI hn (by omega)
  have hic : vp_in (nI c) 40 := vp_in_nI hc (by omega)
  unfold rk_pr at h
  have h42 : ¬ ((i = 0 ∧ ¬ se n = 0) ∧ se c = 0) → wY_parCode_42 post (nI c) (nI i) (nI a) mN sN mL mT ct ph tk vd kd ar pa se nx yk wa gv ys yw yc := fun q => by
    rw [if_neg q, rk_gl_c] at h
    unfold wY_parCode_42
    rw [rk_iz, nI_clamp (by omega)]
    exact ⟨vp_in_nI (by omega) (by omega), h⟩
  unfold wpY_parCode
  dsimp only
  rw [nI_clamp (show n < 2 ^ 31 by omega), nI_clamp (show c < 2 ^ 31 by omega)]
  refine pk_eq i 0 (fun z => ⟨hin, br_c (fun s => h42 (fun q => q.1.2 s)) (fun s => ⟨hic, br_c (fun t => ?_) (fun t => h42 (fun q => t q.2))⟩)⟩) (fun z => h42 (fun q => z q.1.1))
  rw [if_pos ⟨⟨z, s⟩, t⟩] at h
  refine pk_eq a 0 (fun y => ?_) (fun y => ?_)
  · rw [if_pos y, rk_gl_w (by omega)] at h
    rw [rk_ix, nI_clamp (by omega)]
    exact ⟨vp_in_nI (by omega) (by omega), h⟩
  · rw [if_neg y] at h; exact h
theorem rk_y236 {post : Int32 → Prop} {J : Int32 → Int32 → Prop} {n p q i k a : Nat} (hn : n < 40) (hp : p < 40) (hq : q < 40) (hi : i ≤ 2) (hk : k < 5) (ha : a < 5) {r0 : Int32}
    (K : J (rk_pb (rk_pr se (rk_gl ys yw yc) n p i) (rk_pr se (rk_gl ys yw yc) n q i) k a r0 5) (nI (a + 1))) : ∀ (d b m : Nat), b + d = 5 → d < m → wY_ruleC_236 post J (nI n) (nI i) (nI k) (nI p) (nI q) (nI a) mN sN mL mT ct ph tk vd kd ar pa se nx yk wa gv ys yw yc m (rk_pb (rk_pr se (rk_gl ys yw yc) n p i) (rk_pr se (rk_gl ys yw yc) n q i) k a r0 b) (nI b) := by
  intro d
  induction d with
  | zero =>
    intro b m hb hm
    obtain ⟨m, rfl⟩ : ∃ z, m = z + 1 := ⟨m - 1, by omega⟩
    have e : b = 5 := by omega
    subst e
    rw [wY_ruleC_236]
    dsimp only
    exact br_t (nI_le (a := 5) (by omega) (by omega)) (nm_r (nI_1 a) K)
  | succ d ih =>
    intro b m hb hm
    obtain ⟨m, rfl⟩ : ∃ z, m = z + 1 := ⟨m - 1, by omega⟩
    rw [wY_ruleC_236]
    dsimp only
    have go : ∀ x : Nat, x < 5 → rk_mx a b = x → wY_ruleC_256 post J (wY_ruleC_236 post J (nI n) (nI i) (nI k) (nI p) (nI q) (nI a) mN sN mL mT ct ph tk vd kd ar pa se nx yk wa gv ys yw yc m) (nI n) (nI i) (nI k) (nI p) (nI q) (rk_pb (rk_pr se (rk_gl ys yw yc) n p i) (rk_pr se (rk_gl ys yw yc) n q i) k a r0 b) (nI a) (nI b) (nI x) mN sN mL mT ct ph tk vd kd ar pa se nx yk wa gv ys yw yc := by
      intro x hx he
      have hnext := ih (b + 1) m (by omega) (by omega)
      simp only [rk_pb, he] at hnext
      unfold wY_ruleC_256
      refine pk_eq x k (fun z => ?_) (fun z => ?_)
      · rw [if_pos z] at hnext
        refine rk_ypc hn hp hi ha (rk_ypc hn hq hi (by omega) (rk_yan (rk_yor (nm_r (nI_1 b) hnext))))
      · rw [if_neg z] at hnext
        exact nm_r (nI_1 b) hnext
    refine br_f (nI_ge (b := 5) (by omega) (by decide)) (pk_le a b (fun z => go b (by omega) ?_) (fun z => go a ha ?_))
    · unfold rk_mx; rw [if_pos z]
    · unfold rk_mx; rw [if_neg (by omega)]
theorem rk_y227 {post : Int32 → Prop} {n p q i k : Nat} (hn : n < 40) (hp : p < 40) (hq : q < 40) (hi : i ≤ 2) (hk : k < 5)
    (K : post (rk_pa (rk_pr se (rk_gl ys yw yc) n p i) (rk_pr se (rk_gl ys yw yc) n q i) k 5)) : ∀ (d a m : Nat), a + d = 5 → d < m → wY_ruleC_227 post (nI n) (nI i) (nI k) (nI p) (nI q) mN sN mL mT ct ph tk vd kd ar pa se nx yk wa gv ys yw yc m (rk_pa (rk_pr se (rk_gl ys yw yc) n p i) (rk_pr se (rk_gl ys yw yc) n q i) k a) (nI a) := by
  intro d
  induction d with
  | zero =>
    intro a m ha hm
    obtain ⟨m, rfl⟩ : ∃ z, m = z + 1 := ⟨m - 1, by omega⟩
    have e : a = 5 := by omega
    subst e
    rw [wY_ruleC_227]
    dsimp only
    exact br_t (nI_le (a := 5) (by omega) (by omega)) K
  | succ d ih =>
    intro a m ha hm
    obtain ⟨m, rfl⟩ : ∃ z, m = z + 1 := ⟨m - 1, by omega⟩
    rw [wY_ruleC_227]
    dsimp only
    have hnext := ih (a + 1) m (by omega) (by omega)
    simp only [rk_pa] at hnext
    exact br_f (nI_ge (b := 5) (by omega) (by decide)) ⟨6, rk_y236 hn hp hq hi hk (by omega) hnext 5 0 6 (by omega) (by omega)⟩
theorem rk_y417 {post : Int32 → Prop} {n i k : Nat} {x4 : Int32} (hn : n < 39) (hi : i ≤ 2) (hk : k < 5)
    (h : post (if x4 = 9 then (if k = 0 then rk_or (rk_c (rk_gl ys yw yc) (n + 1) i k) (rk_c (rk_gl ys yw yc) (n + 1) i 2) else if k = 4 then 0 else if k = 1 then rk_c (rk_gl ys yw yc) (n + 1) i k else rk_c (rk_gl ys yw yc) (n + 1) i (k + 1)) else rk_c (rk_gl ys yw yc) (n + 1) i k)) :
    wY_ruleC_417 post (nI k) x4 (nI (((n + 1) * 3 + i) * 5)) (yc (((n + 1) * 3 + i) * 5 + k)) mN sN mL mT ct ph tk vd kd ar pa se nx yk wa gv ys yw yc := by
  rw [rk_gl_c, rk_gl_c, rk_gl_c] at h
  unfold wY_ruleC_417
  refine br_c (fun k9 => ?_) (fun k9 => ?_)
  · rw [if_pos k9] at h
    refine pk_eq k 0 (fun z => ?_) (fun z => pk_eq k 4 (fun y => ?_) (fun y => pk_eq k 1 (fun x => ?_) (fun x => ?_)))
    · rw [if_pos z] at h
      rw [show nI (((n + 1) * 3 + i) * 5) + 2 = nI (((n + 1) * 3 + i) * 5 + 2) from nI_add _ 2, nI_clamp (by omega)]
      exact ⟨vp_in_nI (by omega) (by omega), rk_yor h⟩
    · rw [if_neg z, if_pos y] at h; exact h
    · rw [if_neg z, if_neg y, if_pos x] at h; exact h
    · rw [if_neg z, if_neg y, if_neg x] at h
      rw [nI_add, nI_1, nI_clamp (by omega)]
      exact ⟨vp_in_nI (by omega) (by omega), h⟩
  · rw [if_neg k9] at h; exact h
theorem rk_y38 {post : Int32 → Prop} {n i k : Nat} {z0 : Int32} (hB : rk_YB N S kd ar pa bd L Q e sl) (hct : ct = nI N) (hn : n < N) (hi : i ≤ L n) (hk : k < 5) (hr : z0 = 0 ↔ ¬ (i = 0 ∧ ¬ se n = 0)) (ha : kd n = 3 → ∃ a, a ≤ 2 ∧ ar n = nI a)
    (h : post (rk_rC kd ar se L Q sl (rk_gl ys yw yc) n i k)) : wY_ruleC_38 post (nI n) (nI i) (nI k) (kd n) (yw (n * 3 + i)) z0 mN sN mL mT ct ph tk vd kd ar pa se nx yk wa gv ys yw yc := by
  have hT := hB.1
  obtain ⟨hT', hY, hU, hS⟩ := hB
  obtain ⟨hN, h0, hK, hL, he, hT0, hT1, hT2, hTp⟩ := hT'
  have hPA := rk_CT_PA hT
  have hCU := rk_CT_cu hT
  have hL2 := hL n hn
  have hin : vp_in (nI n) 40 := vp_in_nI (by omega) (by omega)
  have hw : rk_w (rk_gl ys yw yc) n i = yw (n * 3 + i) := rk_gl_w (by omega)
  unfold rk_rC at h
  rw [hw] at h
  unfold wY_ruleC_38
  refine br_c (fun k0 => ?_) (fun k0 => br_c (fun k2 => ?_) (fun k2 => br_c (fun k1 => ?_) (fun k1 => br_c (fun k3 => ?_) (fun k3 => ?_))))
  · rw [if_pos (Or.inl k0)] at h
    unfold wY_ruleC_51
    refine pk_eq k 0 (fun z => ?_) (fun z => ?_)
    · rw [if_pos z] at h; exact h
    · rw [if_neg z] at h; exact h
  · rw [if_pos (Or.inr k2)] at h
    unfold wY_ruleC_51
    refine pk_eq k 0 (fun z => ?_) (fun z => ?_)
    · rw [if_pos z] at h; exact h
    · rw [if_neg z] at h; exact h
  · rw [if_neg (fun q => q.elim k0 k2), if_pos k1] at h
    refine br_c (fun r => ?_) (fun r => ?_)
    · rw [if_neg (hr.mp r)] at h
      unfold wY_ruleC_79
      refine pk_eq k 1 (fun z => ?_) (fun z => ?_)
      · rw [if_pos z] at h; exact h
      · rw [if_neg z] at h; exact h
    · rw [if_pos (Decidable.byContradiction (fun q => r (hr.mpr q)))] at h
      unfold wY_ruleC_79
      refine pk_eq k 0 (fun z => ?_) (fun z => ?_)
      · rw [if_pos z] at h; exact h
      · rw [if_neg z] at h; exact h
  · rw [if_neg (fun q => q.elim k0 k2), if_neg k1, if_pos k3] at h
    obtain ⟨a, ha, ea⟩ := ha k3
    rw [ea, nI_clamp (by omega)] at h
    rw [nI_clamp (show n < 2 ^ 31 by omega), ea, show nI a + 2 = nI (a + 2) from nI_add a 2]
    refine ⟨hin, pk_eq k (a + 2) (fun z => ?_) (fun z => ?_)⟩
    · rw [if_pos z] at h; exact h
    · rw [if_neg z] at h; exact h
  · rw [if_neg (fun q => q.elim k0 k2), if_neg k1, if_neg k3] at h
    have har : rk_ar (kd n) = 1 ∨ rk_ar (kd n) = 2 := by
      rcases rk_kinds (hK n hn) with x | x | x | x | x | x | x | x | x | x | x
      · exact absurd x k0
      · exact absurd x k1
      · exact absurd x k2
      · exact absurd x k3
      all_goals rw [x]; decide
    have hn1 : n + 1 < N := by
      rcases har with g | g
      · exact (hT1 n hn g).1
      · exact (hT2 n hn g).1
    rw [hct]
    refine nm_r (nI_1 n) (br_t (nI_lt hn1 (by omega)) (nm_r (e' := nI (((n + 1) * 3 + i) * 5)) (by rw [rk_ix, show nI ((n + 1) * 3 + i) * 5 = nI ((n + 1) * 3 + i) * nI 5 from rfl, pk_mul]) ?_))
    rw [nI_add, nI_clamp (by omega)]
    refine ⟨vp_in_nI (by omega) (by omega), nm_e (rk_yse hT rfl hn (fun g2 => ?_) (fun g2 => ?_))⟩
    · obtain ⟨a1, a2, a3, a4, a5, a6, a7, a8, a9⟩ := hT2 n hn g2
      rw [rk_iz, nI_clamp (by omega)]
      refine ⟨vp_in_nI (by omega) (by omega), nm_e ?_⟩
      rcases rk_kinds (hK n hn) with x | x | x | x | x | x | x | x | x | x | x
      · exact absurd x k0
      · exact absurd x k1
      · exact absurd x k2
      · exact absurd x k3
      · rw [if_pos x, rk_gl_c, rk_gl_c] at h
        exact br_t x (rk_yor h)
      · rw [if_neg (by rw [x]; decide), if_pos x, rk_gl_c, rk_gl_c] at h
        refine br_f (by rw [x]; decide) (br_t x (pk_eq k 0 (fun z => ?_) (fun z => ?_)))
        · rw [if_pos z] at h; exact h
        · rw [if_neg z] at h; exact rk_yor h
      · rw [if_neg (by rw [x]; decide), if_neg (by rw [x]; decide), if_pos x] at h
        exact br_f (by rw [x]; decide) (br_f (by rw [x]; decide) (br_t x ⟨6, rk_y227 (by omega) (by omega) (by omega) (by omega) hk h 5 0 6 (by omega) (by omega)⟩))
      all_goals rw [x] at g2; exact absurd g2 (by decide)
    · have g1 : rk_ar (kd n) = 1 := by rcases har with g | g; exact g; exact absurd g g2
      have a := hT1 n hn g1
      have h4 : ¬ kd n = 4 := fun q => g2 (by rw [q]; decide)
      have h5 : ¬ kd n = 5 := fun q => g2 (by rw [q]; decide)
      have h6 : ¬ kd n = 6 := fun q => g2 (by rw [q]; decide)
      rw [if_neg h4, if_neg h5, if_neg h6] at h
      rw [rk_iz, nI_clamp (by omega)]
      refine ⟨vp_in_nI (by omega) (by omega), nm_e (br_f h4 (br_f h5 (br_f h6 ?_)))⟩
      refine br_c (fun k7 => ?_) (fun k7 => ?_)
      · rw [if_pos k7] at h
        refine pk_eq k 0 (fun z => ?_) (fun z => ?_)
        · rw [if_pos z] at h; exact h
        · rw [if_neg z] at h
          have hl1 := hL (n + 1) hn1
          rw [if_pos k7] at a
          refine rk_ylv hN.2 hPA hCU hn1 (br_c (fun r => ?_) (fun r => ?_))
          · rw [if_neg (hr.mp r), rk_gl_c] at h; exact h
          · rw [if_pos (Decidable.byContradiction (fun q => r (hr.mpr q))), rk_gl_c, rk_gl_c, ← a.2.2.1] at h
            rw [rk_iz, nI_clamp (by omega)]
            exact ⟨vp_in_nI (by omega) (by omega), rk_yor h⟩
      · rw [if_neg k7] at h
        refine br_c (fun k8 => br_c (fun r => ?_) (fun r => pk_eq k 1 (fun z => ?_) (fun z => ?_))) (fun k8 => ?_)
        · rw [if_neg (fun q => hr.mp r q.2.1)] at h
          exact rk_y417 (by omega) (by omega) hk h
        · have hu := (hU n hn (Or.inr (Or.inr k8)) i hi).2
          rw [if_pos ⟨k8, Decidable.byContradiction (fun q => r (hr.mpr q)), z⟩, rk_gl_s hu, rk_gl_c] at h
          exact rk_yus hN.2 hPA hCU hL hY hn (Or.inr (Or.inr k8)) (by omega) hu (rk_yan (rk_yor h))
        · rw [if_neg (fun q => z q.2.2)] at h
          exact rk_y417 (by omega) (by omega) hk h
        · rw [if_neg (fun q => k8 q.1)] at h
          exact rk_y417 (by omega) (by omega) hk h
theorem rk_yrc {post : Int32 → Prop} {n i k : Nat} (hB : rk_YB N S kd ar pa bd L Q e sl) (hct : ct = nI N) (hn : n < N) (hi : i ≤ L n) (hk : k < 5) (ha : kd n = 3 → ∃ a, a ≤ 2 ∧ ar n = nI a)
    (h : post (rk_rC kd ar se L Q sl (rk_gl ys yw yc) n i k)) : wpY_ruleC post (mN, sN, mL, mT, ct, ph, tk, vd, kd, ar, pa, se, nx, yk, wa, gv, ys, yw, yc) (nI n) (nI i) (nI k) := by
  have hN := hB.1.1
  have hL2 := hB.1.2.2.2.1 n hn
  have hin : vp_in (nI n) 40 := vp_in_nI (by omega) (by omega)
  unfold wpY_ruleC
  dsimp only
  rw [rk_ix, nI_clamp (show n < 2 ^ 31 by omega), nI_clamp (show n * 3 + i < 2 ^ 31 by omega)]
  have h37 : ¬ (i = 0 ∧ ¬ se n = 0) → wY_ruleC_37 post (nI n) (nI i) (nI k) (kd n) (yw (n * 3 + i)) mN sN mL mT ct ph tk vd kd ar pa se nx yk wa gv ys yw yc := fun q => by
    unfold wY_ruleC_37
    exact rk_y38 hB hct hn hi hk ⟨fun _ => q, fun _ => rfl⟩ ha h
  refine ⟨hin, nm_e ⟨vp_in_nI (by omega) (by omega), nm_e (pk_eq i 0 (fun z => ⟨hin, br_c (fun s => h37 (fun q => q.2 s)) (fun s => ?_)⟩) (fun z => h37 (fun q => z q.1)))⟩⟩
  exact rk_y38 hB hct hn hi hk ⟨fun q => absurd q (by decide), fun q => absurd ⟨z, s⟩ q⟩ ha h
theorem rk_yrs51 {post : Int32 → Prop} {J : Int32 → Int32 → Prop} {n x : Nat} (hB : rk_YB N S kd ar pa bd L Q e sl) (hn : n < N) (hk : kd n = 2) (hx : x < 128) {r0 : Int32}
    (K : J (rk_s1 sl (rk_gl ys yw yc) n x r0 (L n + 1)) (nI (n + 1))) : ∀ (d i m : Nat), i + d = L n + 1 → d < m → wY_ruleSignal_51 post J (nI x) (nI n) (nI (L n)) mN sN mL mT ct ph tk vd kd ar pa se nx yk wa gv ys yw yc m (rk_s1 sl (rk_gl ys yw yc) n x r0 i) (nI i) := by
  have hT := hB.1
  obtain ⟨hT', hY, hU, hS⟩ := hB
  obtain ⟨hN, h0, hK, hL, he, hT0, hT1, hT2, hTp⟩ := hT'
  have hL2 := hL n hn
  intro d
  induction d with
  | zero =>
    intro i m hi hm
    obtain ⟨m, rfl⟩ : ∃ z, m = z + 1 := ⟨m - 1, by omega⟩
    rw [wY_ruleSignal_51]
    dsimp only
    have e : i = L n + 1 := by omega
    subst e
    exact br_t (nI_lt (by omega) (by omega)) (nm_r (nI_1 n) K)
  | succ d ih =>
    intro i m hi hm
    obtain ⟨m, rfl⟩ : ∃ z, m = z + 1 := ⟨m - 1, by omega⟩
    rw [wY_ruleSignal_51]
    dsimp only
    have hu := (hU n hn (Or.inl hk) i (by omega)).2
    have hnext := ih (i + 1) m (by omega) (by omega)
    refine br_f (nI_nlt (by omega) (by omega)) (rk_yua hN.2 (rk_CT_PA hT) (rk_CT_cu hT) hL hY hn (Or.inl hk) (by omega) ?_)
    refine pk_eq (sl n i) x (fun z => ?_) (fun z => ?_)
    · rw [rk_ix, nI_clamp (by omega)]
      simp only [rk_s1] at hnext
      rw [if_pos z, rk_gl_w (by omega)] at hnext
      exact ⟨vp_in_nI (by omega) (by omega), rk_yor (nm_r (nI_1 i) hnext)⟩
    · simp only [rk_s1] at hnext
      rw [if_neg z] at hnext
      exact nm_r (nI_1 i) hnext
theorem rk_yrs23 {post : Int32 → Prop} {x : Nat} (hB : rk_YB N S kd ar pa bd L Q e sl) (hct : ct = nI N) (hx : x < 128) {r0 : Int32} (K : post (rk_s2 kd L sl (rk_gl ys yw yc) x r0 N)) : ∀ (d n m : Nat), n + d = N → d < m → wY_ruleSignal_23 post (nI x) mN sN mL mT ct ph tk vd kd ar pa se nx yk wa gv ys yw yc m (rk_s2 kd L sl (rk_gl ys yw yc) x r0 n) (nI n) := by
  have hT := hB.1
  have hN := hT.1
  subst hct
  intro d
  induction d with
  | zero =>
    intro n m hn hm
    obtain ⟨m, rfl⟩ : ∃ z, m = z + 1 := ⟨m - 1, by omega⟩
    rw [wY_ruleSignal_23]
    dsimp only
    have e : n = N := by omega
    subst e
    exact br_t (nI_le (by omega) (by omega)) K
  | succ d ih =>
    intro n m hn hm
    obtain ⟨m, rfl⟩ : ∃ z, m = z + 1 := ⟨m - 1, by omega⟩
    rw [wY_ruleSignal_23]
    dsimp only
    have hnext := ih (n + 1) m (by omega) (by omega)
    have hL2 := hT.2.2.2.1 n (by omega)
    rw [nI_clamp (show n < 2 ^ 31 by omega)]
    refine br_f (nI_ge (by omega) (by omega)) ⟨vp_in_nI (by omega) (by omega), br_c (fun k => rk_ylv hN.2 (rk_CT_PA hT) (rk_CT_cu hT) (by omega) ⟨L n + 2, ?_⟩) (fun k => ?_)⟩
    · simp only [rk_s2] at hnext
      rw [if_pos k] at hnext
      exact rk_yrs51 hB (by omega) k hx hnext (L n + 1) 0 (L n + 2) (by omega) (by omega)
    · simp only [rk_s2] at hnext
      rw [if_neg k] at hnext
      exact nm_r (nI_1 n) hnext
theorem rk_yrs {post : Int32 → Prop} {x : Nat} (hB : rk_YB N S kd ar pa bd L Q e sl) (hct : ct = nI N) (hx : x < 128) (hE : x < 8 → x < S) (h : post (rk_rS N S kd gv L sl (rk_gl ys yw yc) x)) : wpY_ruleSignal post (mN, sN, mL, mT, ct, ph, tk, vd, kd, ar, pa, se, nx, yk, wa, gv, ys, yw, yc) (nI x) := by
  have hN := hB.1.1
  have hS := hB.2.2.2
  unfold rk_rS at h
  unfold wpY_ruleSignal
  dsimp only
  refine pk_le 8 x (fun z => ⟨N + 1, ?_⟩) (fun z => ⟨vp_in_nI (by omega) (by omega), ?_⟩)
  · have e : rk_g0 S gv x = 0 := by unfold rk_g0; rw [if_neg (by omega)]
    rw [e] at h
    exact rk_yrs23 hB hct hx h N 0 (N + 1) (by omega) (by omega)
  · rw [nI_clamp (by omega)]
    refine br_c (fun s => ⟨N + 1, ?_⟩) (fun s => ⟨N + 1, ?_⟩)
    · have e : rk_g0 S gv x = 0 := by unfold rk_g0; rw [if_neg (fun q => q.2 s)]
      rw [e] at h
      exact rk_yrs23 hB hct hx h N 0 (N + 1) (by omega) (by omega)
    · have e : rk_g0 S gv x = 1 := by unfold rk_g0; rw [if_pos ⟨hE z, s⟩]
      rw [e] at h
      exact rk_yrs23 hB hct hx h N 0 (N + 1) (by omega) (by omega)
end
end
section
/-! ===== the reference's sweeps ===== -/
/-- within a sweep that began at F0: the state is F, the flag r -/
def rk_SW (E : Nat → Prop) (T F0 F : Nat → Int32) (r : Int32) : Prop :=
  rk_LE E F T ∧ rk_LE E F0 F ∧ ((r = 0 ∧ F = F0) ∨ (r = 1 ∧ ∃ z, E z ∧ F0 z = 2 ∧ F z ≠ 2))
def rk_OK (Ru : (Nat → Int32) → Nat → Int32) (F0 : Nat → Int32) (z : Nat) : Prop := F0 z = 2 → Ru F0 z = 2
def rk_rr (r v : Int32) : Int32 := if r = 0 then (if v = 2 then 0 else 1) else 1
theorem rk_SW_r {E : Nat → Prop} {T F0 F : Nat → Int32} {r : Int32} (h : rk_SW E T F0 F r) : r = 0 ∨ r = 1 := by
  rcases h.2.2 with q | q
  · exact Or.inl q.1
  · exact Or.inr q.1
theorem rk_upd_id {f : Nat → Int32} {k : Nat} {v : Int32} (h : f k = v) : upd f k v = f := by
  funext j
  by_cases e : j = k
  · subst e; rw [pk_us, h]
  · rw [pk_un e]
theorem rk_SW_n {E : Nat → Prop} {Ru : (Nat → Int32) → Nat → Int32} {T F0 F : Nat → Int32} {r : Int32} {z : Nat} (h : rk_SW E T F0 F r) (hz : ¬ F z = 2) : r = 0 → rk_OK Ru F0 z := by
  intro hr
  rcases h.2.2 with ⟨_, q⟩ | ⟨q, _⟩
  · intro a; rw [← q] at a; exact absurd a hz
  · rw [hr] at q; exact absurd q (by decide)
theorem rk_SW_s {E : Nat → Prop} {Ru : (Nat → Int32) → Nat → Int32} {T F0 F : Nat → Int32} {r : Int32} {z : Nat} (hM : rk_Mon E Ru) (hT : ∀ z, E z → Ru T z = T z) (h : rk_SW E T F0 F r) (hE : E z) (hz : F z = 2) :
    rk_SW E T F0 (upd F z (Ru F z)) (rk_rr r (Ru F z)) ∧ (rk_rr r (Ru F z) = 0 → r = 0 ∧ rk_OK Ru F0 z) := by
  obtain ⟨h1, h2, h3⟩ := h
  have g1 : rk_LE E (upd F z (Ru F z)) T := by
    intro y hy
    by_cases e : y = z
    · subst e; rw [pk_us, ← hT y hy]; exact hM _ _ h1 y hy
    · rw [pk_un e]; exact h1 y hy
  have g2 : rk_LE E F0 (upd F z (Ru F z)) := by
    intro y hy
    by_cases e : y = z
    · subst e
      have := h2 y hy
      rw [hz] at this
      rcases this with q | q <;> exact Or.inl q
    · rw [pk_un e]; exact h2 y hy
  by_cases v : Ru F z = 2
  · have e : upd F z (Ru F z) = F := rk_upd_id (by rw [v, hz])
    rw [e]
    rcases h3 with ⟨a, b⟩ | ⟨a, b⟩
    · have er : rk_rr r (Ru F z) = 0 := by unfold rk_rr; rw [if_pos a, if_pos v]
      rw [er]
      exact ⟨⟨h1, h2, Or.inl ⟨rfl, b⟩⟩, fun _ => ⟨a, fun _ => by rw [← b]; exact v⟩⟩
    · have er : rk_rr r (Ru F z) = 1 := by unfold rk_rr; rw [if_neg (by rw [a]; decide)]
      rw [er]
      exact ⟨⟨h1, h2, Or.inr ⟨rfl, b⟩⟩, fun q => absurd q (by decide)⟩
  · have er : rk_rr r (Ru F z) = 1 := by
      unfold rk_rr
      rcases h3 with ⟨a, b⟩ | ⟨a, b⟩
      · rw [if_pos a, if_neg v]
      · rw [if_neg (by rw [a]; decide)]
    rw [er]
    refine ⟨⟨g1, g2, Or.inr ⟨rfl, z, hE, ?_, by rw [pk_us]; exact v⟩⟩, fun q => absurd q (by decide)⟩
    have := h2 z hE
    rw [hz] at this
    rcases this with q | q <;> exact q
section
variable {mN sN mL mT ct ph tk vd : Int32} {kd ar pa se nx yk wa gv ys yw yc : Nat → Int32} {N S : Nat} {L Q e : Nat → Nat} {sl : Nat → Nat → Nat} {bd : Nat → Int32} {T F0 : Nat → Int32}
theorem rk_gl_us {x : Nat} {v : Int32} (h : x < 128) : rk_gl (upd ys x v) yw yc = upd (rk_gl ys yw yc) x v := by
  funext z
  unfold rk_gl
  by_cases e : z = x
  · subst e; rw [pk_us, if_pos h, pk_us]
  · rw [pk_un e, pk_un e]
theorem rk_gl_uw {x : Nat} {v : Int32} (h : x < 120) : rk_gl ys (upd yw x v) yc = upd (rk_gl ys yw yc) (128 + x) v := by
  funext z
  by_cases e : z = 128 + x
  · subst e; rw [pk_us]; unfold rk_gl; rw [if_neg (by omega), if_pos (by omega), Nat.add_sub_cancel_left, pk_us]
  · rw [pk_un e]; unfold rk_gl
    by_cases g : z < 128
    · rw [if_pos g, if_pos g]
    · by_cases k : z < 248
      · rw [if_neg g, if_neg g, if_pos k, if_pos k, pk_un (by omega)]
      · rw [if_neg g, if_neg g, if_neg k, if_neg k]
theorem rk_gl_uc {x : Nat} {v : Int32} : rk_gl ys yw (upd yc x v) = upd (rk_gl ys yw yc) (248 + x) v := by
  funext z
  by_cases e : z = 248 + x
  · subst e; rw [pk_us]; unfold rk_gl; rw [if_neg (by omega), if_neg (by omega), Nat.add_sub_cancel_left, pk_us]
  · rw [pk_un e]; unfold rk_gl
    by_cases g : z < 128
    · rw [if_pos g, if_pos g]
    · by_cases k : z < 248
      · rw [if_neg g, if_neg g, if_pos k, if_pos k]
      · rw [if_neg g, if_neg g, if_neg k, if_neg k, pk_un (by omega)]
theorem rk_yis {post : Int32 → Prop} {x : Nat} (hB : rk_YB N S kd ar pa bd L Q e sl) (hct : ct = nI N) (hs : sN = nI S) (hx : x < 128) (h1 : rk_ES N S kd L x → post 1) (h0 : ¬ rk_ES N S kd L x → post 0) : wpY_isSignal post (mN, sN, mL, mT, ct, ph, tk, vd, kd, ar, pa, se, nx, yk, wa, gv, ys, yw, yc) (nI x) := by
  have hT := hB.1
  have hN := hT.1
  have hL := hT.2.2.2.1
  have hS := hB.2.2.2
  unfold wpY_isSignal
  dsimp only
  rw [hct, hs]
  refine pk_le 8 x (fun z => ⟨by decide, ?_⟩) (fun z => pk_le S x (fun y => h0 ?_) (fun y => h1 (Or.inl y)))
  · rw [show nI x - 8 = nI (x - 8) from pk_sub z, show nI (x - 8) / 3 = nI ((x - 8) / 3) from pk_div (d := 3) (by omega) (by decide) (by decide), show nI (x - 8) - nI ((x - 8) / 3) * 3 = nI ((x - 8) % 3) from by
      rw [show (3 : Int32) = nI 3 from rfl, pk_mul, pk_sub (by omega)]; exact congrArg nI (by omega)]
    have hno : ∀ q : rk_ES N S kd L x, (x - 8) / 3 < N ∧ kd ((x - 8) / 3) = 10 ∧ (x - 8) % 3 ≤ L ((x - 8) / 3) := by
      intro q
      rcases q with q | ⟨d, j, a, b, c, f⟩
      · omega
      · have := hL d a
        have e1 : (x - 8) / 3 = d := by omega
        have e2 : (x - 8) % 3 = j := by omega
        rw [e1, e2]; exact ⟨a, b, c⟩
    refine nm_e (pk_le N ((x - 8) / 3) (fun y => h0 (fun q => by have := (hno q).1; omega)) (fun y => ⟨vp_in_nI (by omega) (by omega), ?_⟩))
    rw [nI_clamp (by omega)]
    refine br_c (fun k => ⟨by decide, rk_ylv hN.2 (rk_CT_PA hT) (rk_CT_cu hT) y ?_⟩) (fun k => h0 (fun q => k (hno q).2.1))
    have := hL _ y
    refine pk_lt (L ((x - 8) / 3)) ((x - 8) % 3) (fun w => h0 (fun q => by have := (hno q).2.2; omega)) (fun w => h1 (Or.inr ⟨(x - 8) / 3, (x - 8) % 3, y, k, w, by omega⟩))
  · intro q
    rcases q with q | ⟨d, j, a, b, c, f⟩ <;> omega
theorem rk_sw84 {post : Int32 → SY → Prop} {J4 J21 : Int32 → Int32 → (Nat → Int32) → (Nat → Int32) → (Nat → Int32) → (Nat → Int32) → (Nat → Int32) → (Nat → Int32) → (Nat → Int32) → (Nat → Int32) → (Nat → Int32) → (Nat → Int32) → (Nat → Int32) → Prop} {x3 : Int32} {n i : Nat} {C0 : Prop}
    (hB : rk_YB N S kd ar pa bd L Q e sl) (hct : ct = nI N) (hA : ∀ n, n < N → kd n = 3 → ∃ a, a ≤ 2 ∧ ar n = nI a) (hF : rk_TF N S kd ar pa se gv L Q sl T) (hn : n < N) (hi : i ≤ L n)
    (K : ∀ (r : Int32) (yc : Nat → Int32), rk_SW (rk_E N L (rk_ES N S kd L)) T F0 (rk_gl ys yw yc) r → (r = 0 → C0 ∧ ∀ k, k < 5 → rk_OK (rk_Ru N S kd ar pa se gv L Q sl) F0 (248 + ((n * 3 + i) * 5 + k))) → J21 r (nI (i + 1)) kd ar pa se nx yk wa gv ys yw yc) :
    ∀ (d k m : Nat) (r : Int32) (yc : Nat → Int32), k + d = 5 → d < m → rk_SW (rk_E N L (rk_ES N S kd L)) T F0 (rk_gl ys yw yc) r → (r = 0 → C0 ∧ ∀ k', k' < k → rk_OK (rk_Ru N S kd ar pa se gv L Q sl) F0 (248 + ((n * 3 + i) * 5 + k'))) → wY_sweep_84 post J4 J21 (nI n) x3 (nI i) (nI (n * 3 + i)) mN sN mL mT ct ph tk vd m r (nI k) kd ar pa se nx yk wa gv ys yw yc := by
  have hT := hB.1
  have hN := hT.1
  have hL2 := hT.2.2.2.1 n hn
  have hM : rk_Mon (rk_E N L (rk_ES N S kd L)) (rk_Ru N S kd ar pa se gv L Q sl) := rk_Ru_m hT hB.2.2.1
  intro d
  induction d with
  | zero =>
    intro k m r yc hk hm hs hc
    obtain ⟨m, rfl⟩ : ∃ z, m = z + 1 := ⟨m - 1, by omega⟩
    have ek : k = 5 := by omega
    subst ek
    rw [wY_sweep_84]
    exact br_t (nI_le (a := 5) (by omega) (by omega)) (nm_r (nI_1 i) (K r yc hs hc))
  | succ d ih =>
    intro k m r yc hk hm hs hc
    obtain ⟨m, rfl⟩ : ∃ z, m = z + 1 := ⟨m - 1, by omega⟩
    have hin : vp_in (nI ((n * 3 + i) * 5 + k)) 600 := vp_in_nI (by omega) (by omega)
    rw [wY_sweep_84]
    dsimp only
    rw [show nI (n * 3 + i) * 5 + nI k = nI ((n * 3 + i) * 5 + k) from by rw [show nI (n * 3 + i) * 5 = nI (n * 3 + i) * nI 5 from rfl, pk_mul, nI_add], nI_clamp (show (n * 3 + i) * 5 + k < 2 ^ 31 by omega)]
    have hE : rk_E N L (rk_ES N S kd L) (248 + ((n * 3 + i) * 5 + k)) := rk_E_c hn hi (by omega)
    have hG : rk_gl ys yw yc (248 + ((n * 3 + i) * 5 + k)) = yc ((n * 3 + i) * 5 + k) := rk_gl_c
    refine br_f (nI_ge (b := 5) (by omega) (by decide)) ⟨hin, br_c (fun z => ?_) (fun z => ?_)⟩
    · refine rk_yrc hB hct hn hi (by omega) (hA n hn) ?_
      obtain ⟨s1, s2⟩ := rk_SW_s hM hF.2.1 hs hE (by rw [hG]; exact z)
      rw [rk_Ru_c (by omega) (by omega), ← rk_gl_uc] at s1
      rw [rk_Ru_c (by omega) (by omega)] at s2
      have hgo : ∀ r' : Int32, r' = rk_rr r (rk_rC kd ar se L Q sl (rk_gl ys yw yc) n i k) → wY_sweep_84 post J4 J21 (nI n) x3 (nI i) (nI (n * 3 + i)) mN sN mL mT ct ph tk vd m r' (nI (k + 1)) kd ar pa se nx yk wa gv ys yw (upd yc ((n * 3 + i) * 5 + k) (rk_rC kd ar se L Q sl (rk_gl ys yw yc) n i k)) := by
        intro r' er
        rw [← er] at s1 s2
        refine ih (k + 1) m r' _ (by omega) (by omega) s1 (fun q => ?_)
        have a := s2 q
        refine ⟨(hc a.1).1, fun k' hk' => ?_⟩
        by_cases e1 : k' = k
        · subst e1; exact a.2
        · exact (hc a.1).2 k' (by omega)
      refine ⟨hin, nm_e ?_⟩
      rw [pk_us]
      refine br_c (fun r0 => ⟨hin, br_c (fun v => nm_r (nI_1 k) (hgo _ ?_)) (fun v => nm_r (nI_1 k) (hgo _ ?_))⟩) (fun r0 => nm_r (nI_1 k) (hgo _ ?_))
      · unfold rk_rr; rw [if_pos r0, if_pos v]
      · unfold rk_rr; rw [if_pos r0, if_neg v]
      · unfold rk_rr; rw [if_neg r0]
    · refine nm_r (nI_1 k) (ih (k + 1) m r yc (by omega) (by omega) hs (fun q => ⟨(hc q).1, fun k' hk' => ?_⟩))
      by_cases e1 : k' = k
      · subst e1; exact rk_SW_n hs (by rw [hG]; exact z) q
      · exact (hc q).2 k' (by omega)
theorem rk_sw21 {post : Int32 → SY → Prop} {J4 : Int32 → Int32 → (Nat → Int32) → (Nat → Int32) → (Nat → Int32) → (Nat → Int32) → (Nat → Int32) → (Nat → Int32) → (Nat → Int32) → (Nat → Int32) → (Nat → Int32) → (Nat → Int32) → (Nat → Int32) → Prop} {n : Nat} {C0 : Prop}
    (hB : rk_YB N S kd ar pa bd L Q e sl) (hct : ct = nI N) (hA : ∀ n, n < N → kd n = 3 → ∃ a, a ≤ 2 ∧ ar n = nI a) (hF : rk_TF N S kd ar pa se gv L Q sl T) (hn : n < N)
    (K : ∀ (r : Int32) (yw yc : Nat → Int32), rk_SW (rk_E N L (rk_ES N S kd L)) T F0 (rk_gl ys yw yc) r → (r = 0 → C0 ∧ ∀ i, i ≤ L n → rk_OK (rk_Ru N S kd ar pa se gv L Q sl) F0 (128 + (n * 3 + i)) ∧ ∀ k, k < 5 → rk_OK (rk_Ru N S kd ar pa se gv L Q sl) F0 (248 + ((n * 3 + i) * 5 + k))) → J4 r (nI (n + 1)) kd ar pa se nx yk wa gv ys yw yc) :
    ∀ (d i m : Nat) (r : Int32) (yw yc : Nat → Int32), i + d = L n + 1 → d < m → rk_SW (rk_E N L (rk_ES N S kd L)) T F0 (rk_gl ys yw yc) r → (r = 0 → C0 ∧ ∀ i', i' < i → rk_OK (rk_Ru N S kd ar pa se gv L Q sl) F0 (128 + (n * 3 + i')) ∧ ∀ k, k < 5 → rk_OK (rk_Ru N S kd ar pa se gv L Q sl) F0 (248 + ((n * 3 + i') * 5 + k))) → wY_sweep_21 post J4 (nI n) (nI (L n)) mN sN mL mT ct ph tk vd m r (nI i) kd ar pa se nx yk wa gv ys yw yc := by
  have hT := hB.1
  have hN := hT.1
  have hL2 := hT.2.2.2.1 n hn
  have hM : rk_Mon (rk_E N L (rk_ES N S kd L)) (rk_Ru N S kd ar pa se gv L Q sl) := rk_Ru_m hT hB.2.2.1
  intro d
  induction d with
  | zero =>
    intro i m r yw yc hi hm hs hc
    obtain ⟨m, rfl⟩ : ∃ z, m = z + 1 := ⟨m - 1, by omega⟩
    rw [wY_sweep_21]
    exact br_t (nI_lt (by omega) (by omega)) (nm_r (nI_1 n) (K r yw yc hs (fun q => ⟨(hc q).1, fun i' hi' => (hc q).2 i' (by omega)⟩)))
  | succ d ih =>
    intro i m r yw yc hi hm hs hc
    obtain ⟨m, rfl⟩ : ∃ z, m = z + 1 := ⟨m - 1, by omega⟩
    have hin : vp_in (nI (n * 3 + i)) 120 := vp_in_nI (by omega) (by omega)
    have hE : rk_E N L (rk_ES N S kd L) (128 + (n * 3 + i)) := rk_E_w hn (by omega)
    have hG : rk_gl ys yw yc (128 + (n * 3 + i)) = yw (n * 3 + i) := rk_gl_w (by omega)
    rw [wY_sweep_21]
    dsimp only
    rw [rk_ix]
    have h84 : ∀ (r' : Int32) (yw' : Nat → Int32), rk_SW (rk_E N L (rk_ES N S kd L)) T F0 (rk_gl ys yw' yc) r' → (r' = 0 → r = 0 ∧ rk_OK (rk_Ru N S kd ar pa se gv L Q sl) F0 (128 + (n * 3 + i))) → ∃ n84 : Nat, wY_sweep_84 post J4 (wY_sweep_21 post J4 (nI n) (nI (L n)) mN sN mL mT ct ph tk vd m) (nI n) (nI (L n)) (nI i) (nI (n * 3 + i)) mN sN mL mT ct ph tk vd n84 r' 0 kd ar pa se nx yk wa gv ys yw' yc := by
      intro r' yw' s1 s2
      refine ⟨6, rk_sw84 (C0 := C0 ∧ (∀ i', i' < i → rk_OK (rk_Ru N S kd ar pa se gv L Q sl) F0 (128 + (n * 3 + i')) ∧ ∀ k, k < 5 → rk_OK (rk_Ru N S kd ar pa se gv L Q sl) F0 (248 + ((n * 3 + i') * 5 + k))) ∧ rk_OK (rk_Ru N S kd ar pa se gv L Q sl) F0 (128 + (n * 3 + i))) hB hct hA hF hn (by omega) (fun r2 yc2 s3 s4 => ?_) 5 0 6 r' yc (by omega) (by omega) s1 (fun q => ⟨⟨(hc (s2 q).1).1, (hc (s2 q).1).2, (s2 q).2⟩, fun k' hk' => by omega⟩)⟩
      refine ih (i + 1) m r2 yw' yc2 (by omega) (by omega) s3 (fun q => ?_)
      obtain ⟨⟨b1, b2, b3⟩, b4⟩ := s4 q
      refine ⟨b1, fun i' hi' => ?_⟩
      by_cases e1 : i' = i
      · subst e1; exact ⟨b3, b4⟩
      · exact b2 i' (by omega)
    refine br_f (nI_nlt (by omega) (by omega)) (nm_e ⟨hin, ?_⟩)
    rw [nI_clamp (show n * 3 + i < 2 ^ 31 by omega)]
    refine br_c (fun z => ?_) (fun z => h84 r yw hs (fun q => ⟨q, rk_SW_n hs (by rw [hG]; exact z) q⟩))
    refine rk_yrw hB hct hn (by omega) ?_
    obtain ⟨s1, s2⟩ := rk_SW_s hM hF.2.1 hs hE (by rw [hG]; exact z)
    rw [rk_Ru_w (by omega) (by omega), ← rk_gl_uw (by omega)] at s1
    rw [rk_Ru_w (by omega) (by omega)] at s2
    refine ⟨hin, nm_e ?_⟩
    rw [pk_us]
    refine br_c (fun r0 => ⟨hin, br_c (fun v => ?_) (fun v => ?_)⟩) (fun r0 => ?_)
    · have er : rk_rr r (rk_rW kd pa se L Q sl (rk_gl ys yw yc) n i) = 0 := by unfold rk_rr; rw [if_pos r0, if_pos v]
      rw [er] at s1 s2; exact h84 0 _ s1 s2
    · have er : rk_rr r (rk_rW kd pa se L Q sl (rk_gl ys yw yc) n i) = 1 := by unfold rk_rr; rw [if_pos r0, if_neg v]
      rw [er] at s1 s2; exact h84 1 _ s1 s2
    · have er : rk_rr r (rk_rW kd pa se L Q sl (rk_gl ys yw yc) n i) = 1 := by unfold rk_rr; rw [if_neg r0]
      rw [er] at s1 s2; exact h84 1 _ s1 s2
theorem rk_sw173 {post : Int32 → SY → Prop} {C0 : Prop} (hB : rk_YB N S kd ar pa bd L Q e sl) (hct : ct = nI N) (hsN : sN = nI S) (hF : rk_TF N S kd ar pa se gv L Q sl T)
    (K : ∀ (r : Int32) (ys : Nat → Int32), rk_SW (rk_E N L (rk_ES N S kd L)) T F0 (rk_gl ys yw yc) r → (r = 0 → C0 ∧ ∀ x, x < 128 → rk_ES N S kd L x → rk_OK (rk_Ru N S kd ar pa se gv L Q sl) F0 x) → post r (mN, sN, mL, mT, ct, ph, tk, vd, kd, ar, pa, se, nx, yk, wa, gv, ys, yw, yc)) :
    ∀ (d x m : Nat) (r : Int32) (ys : Nat → Int32), x + d = 128 → d < m → rk_SW (rk_E N L (rk_ES N S kd L)) T F0 (rk_gl ys yw yc) r → (r = 0 → C0 ∧ ∀ x', x' < x → rk_ES N S kd L x' → rk_OK (rk_Ru N S kd ar pa se gv L Q sl) F0 x') → wY_sweep_173 post mN sN mL mT ct ph tk vd m r (nI x) kd ar pa se nx yk wa gv ys yw yc := by
  have hT := hB.1
  have hN := hT.1
  have hM : rk_Mon (rk_E N L (rk_ES N S kd L)) (rk_Ru N S kd ar pa se gv L Q sl) := rk_Ru_m hT hB.2.2.1
  intro d
  induction d with
  | zero =>
    intro x m r ys hx hm hs hc
    obtain ⟨m, rfl⟩ : ∃ z, m = z + 1 := ⟨m - 1, by omega⟩
    have ex : x = 128 := by omega
    subst ex
    rw [wY_sweep_173]
    refine br_t (nI_le (a := 128) (by omega) (by omega)) ⟨?_, K r ys hs hc⟩
    rcases rk_SW_r hs with q | q <;> rw [q] <;> rfl
  | succ d ih =>
    intro x m r ys hx hm hs hc
    obtain ⟨m, rfl⟩ : ∃ z, m = z + 1 := ⟨m - 1, by omega⟩
    have hin : vp_in (nI x) 128 := vp_in_nI (by omega) (by omega)
    have hG : rk_gl ys yw yc x = ys x := rk_gl_s (by omega)
    rw [wY_sweep_173]
    dsimp only
    rw [nI_clamp (show x < 2 ^ 31 by omega)]
    refine br_f (nI_ge (b := 128) (by omega) (by decide)) (rk_yis hB hct hsN (by omega) (fun es => ?_) (fun es => ?_))
    · have hE : rk_E N L (rk_ES N S kd L) x := rk_E_s (by omega) es
      refine br_f (by decide) ⟨hin, br_c (fun z => ?_) (fun z => ?_)⟩
      · refine rk_yrs hB hct (by omega) (fun q => ?_) ?_
        · rcases es with es | ⟨d, j, a, b, c, f⟩
          · exact es
          · omega
        obtain ⟨s1, s2⟩ := rk_SW_s hM hF.2.1 hs hE (by rw [hG]; exact z)
        rw [rk_Ru_s (by omega), ← rk_gl_us (by omega)] at s1
        rw [rk_Ru_s (by omega)] at s2
        have hgo : ∀ r' : Int32, r' = rk_rr r (rk_rS N S kd gv L sl (rk_gl ys yw yc) x) → wY_sweep_173 post mN sN mL mT ct ph tk vd m r' (nI (x + 1)) kd ar pa se nx yk wa gv (upd ys x (rk_rS N S kd gv L sl (rk_gl ys yw yc) x)) yw yc := by
          intro r' er
          rw [← er] at s1 s2
          refine ih (x + 1) m r' _ (by omega) (by omega) s1 (fun q => ?_)
          have a := s2 q
          refine ⟨(hc a.1).1, fun x' hx' he' => ?_⟩
          by_cases e1 : x' = x
          · subst e1; exact a.2
          · exact (hc a.1).2 x' (by omega) he'
        refine ⟨hin, nm_e ?_⟩
        rw [pk_us]
        refine br_c (fun r0 => ⟨hin, br_c (fun v => nm_r (nI_1 x) (hgo _ ?_)) (fun v => nm_r (nI_1 x) (hgo _ ?_))⟩) (fun r0 => nm_r (nI_1 x) (hgo _ ?_))
        · unfold rk_rr; rw [if_pos r0, if_pos v]
        · unfold rk_rr; rw [if_pos r0, if_neg v]
        · unfold rk_rr; rw [if_neg r0]
      · refine nm_r (nI_1 x) (ih (x + 1) m r ys (by omega) (by omega) hs (fun q => ⟨(hc q).1, fun x' hx' he' => ?_⟩))
        by_cases e1 : x' = x
        · subst e1; exact rk_SW_n hs (by rw [hG]; exact z) q
        · exact (hc q).2 x' (by omega) he'
    · refine br_t rfl (nm_r (nI_1 x) (ih (x + 1) m r ys (by omega) (by omega) hs (fun q => ⟨(hc q).1, fun x' hx' he' => ?_⟩)))
      by_cases e1 : x' = x
      · subst e1; exact absurd he' es
      · exact (hc q).2 x' (by omega) he'
theorem rk_sw4 {post : Int32 → SY → Prop} (hB : rk_YB N S kd ar pa bd L Q e sl) (hct : ct = nI N) (hA : ∀ n, n < N → kd n = 3 → ∃ a, a ≤ 2 ∧ ar n = nI a) (hF : rk_TF N S kd ar pa se gv L Q sl T)
    (K : ∀ (r : Int32) (yw yc : Nat → Int32), rk_SW (rk_E N L (rk_ES N S kd L)) T F0 (rk_gl ys yw yc) r → (r = 0 → ∀ n, n < N → ∀ i, i ≤ L n → rk_OK (rk_Ru N S kd ar pa se gv L Q sl) F0 (128 + (n * 3 + i)) ∧ ∀ k, k < 5 → rk_OK (rk_Ru N S kd ar pa se gv L Q sl) F0 (248 + ((n * 3 + i) * 5 + k))) → ∃ q : Nat, wY_sweep_173 post mN sN mL mT ct ph tk vd q r 0 kd ar pa se nx yk wa gv ys yw yc) :
    ∀ (d n m : Nat) (r : Int32) (yw yc : Nat → Int32), n + d = N → d < m → rk_SW (rk_E N L (rk_ES N S kd L)) T F0 (rk_gl ys yw yc) r → (r = 0 → ∀ n', n' < n → ∀ i, i ≤ L n' → rk_OK (rk_Ru N S kd ar pa se gv L Q sl) F0 (128 + (n' * 3 + i)) ∧ ∀ k, k < 5 → rk_OK (rk_Ru N S kd ar pa se gv L Q sl) F0 (248 + ((n' * 3 + i) * 5 + k))) → wY_sweep_4 post mN sN mL mT ct ph tk vd m r (nI n) kd ar pa se nx yk wa gv ys yw yc := by
  have hT := hB.1
  have hN := hT.1
  intro d
  induction d with
  | zero =>
    intro n m r yw yc hn hm hs hc
    obtain ⟨m, rfl⟩ : ∃ z, m = z + 1 := ⟨m - 1, by omega⟩
    rw [wY_sweep_4]
    dsimp only
    rw [hct]
    have en : n = N := by omega
    subst en
    have := K r yw yc hs hc
    rw [hct] at this
    exact br_t (nI_le (by omega) (by omega)) this
  | succ d ih =>
    intro n m r yw yc hn hm hs hc
    obtain ⟨m, rfl⟩ : ∃ z, m = z + 1 := ⟨m - 1, by omega⟩
    have hL2 := hT.2.2.2.1 n (by omega)
    rw [wY_sweep_4]
    dsimp only
    refine br_f (by rw [hct]; exact nI_ge (by omega) (by omega)) (rk_ylv hN.2 (rk_CT_PA hT) (rk_CT_cu hT) (by omega) ⟨L n + 2, ?_⟩)
    refine rk_sw21 hB hct hA hF (by omega) (fun r' yw' yc' s1 s2 => ?_) (L n + 1) 0 (L n + 2) r yw yc (by omega) (by omega) hs (fun q => ⟨hc q, fun i' hi' => by omega⟩)
    refine ih (n + 1) m r' yw' yc' (by omega) (by omega) s1 (fun q n' hn' i hi => ?_)
    by_cases e1 : n' = n
    · subst e1; exact (s2 q).2 i hi
    · exact (s2 q).1 n' (by omega) i hi
theorem rk_ysw {post : Int32 → SY → Prop} (hB : rk_YB N S kd ar pa bd L Q e sl) (hct : ct = nI N) (hsN : sN = nI S) (hA : ∀ n, n < N → kd n = 3 → ∃ a, a ≤ 2 ∧ ar n = nI a) (hF : rk_TF N S kd ar pa se gv L Q sl T) (hle : rk_LE (rk_E N L (rk_ES N S kd L)) (rk_gl ys yw yc) T)
    (K : ∀ (r : Int32) (ys' yw' yc' : Nat → Int32), rk_SW (rk_E N L (rk_ES N S kd L)) T (rk_gl ys yw yc) (rk_gl ys' yw' yc') r → (r = 0 → ∀ z, rk_E N L (rk_ES N S kd L) z → rk_OK (rk_Ru N S kd ar pa se gv L Q sl) (rk_gl ys yw yc) z) → post r (mN, sN, mL, mT, ct, ph, tk, vd, kd, ar, pa, se, nx, yk, wa, gv, ys', yw', yc')) : wpY_sweep post (mN, sN, mL, mT, ct, ph, tk, vd, kd, ar, pa, se, nx, yk, wa, gv, ys, yw, yc) := by
  have hN := hB.1.1
  unfold wpY_sweep
  dsimp only
  refine ⟨N + 1, rk_sw4 (F0 := rk_gl ys yw yc) hB hct hA hF (fun r yw' yc' s1 s2 => ⟨129, ?_⟩) N 0 (N + 1) 0 yw yc (by omega) (by omega) ⟨hle, fun z _ => rk_le_r _, Or.inl ⟨rfl, rfl⟩⟩ (fun q n' hn' => by omega)⟩
  refine rk_sw173 (F0 := rk_gl ys yw yc) (C0 := ∀ n, n < N → ∀ i, i ≤ L n → rk_OK (rk_Ru N S kd ar pa se gv L Q sl) (rk_gl ys yw yc) (128 + (n * 3 + i)) ∧ ∀ k, k < 5 → rk_OK (rk_Ru N S kd ar pa se gv L Q sl) (rk_gl ys yw yc) (248 + ((n * 3 + i) * 5 + k))) hB hct hsN hF (fun r' ys' s3 s4 => ?_) 128 0 129 r ys (by omega) (by omega) s1 (fun q => ⟨s2 q, fun x hx => by omega⟩)
  refine K r' ys' yw' yc' s3 (fun q z hz => ?_)
  obtain ⟨b1, b2⟩ := s4 q
  rcases hz with hz | ⟨n, i, h1, h2, h3⟩ | ⟨n, i, k, h1, h2, h3, h4⟩
  · exact b2 z hz.1 hz.2
  · rw [h3]; exact (b1 n h1 i h2).1
  · rw [h4]; exact (b1 n h1 i h2).2 k h3
end
end
section
/-! ===== the verdict, and derive on both sides ===== -/
def rk_HS (T : Nat → Int32) : Prop := ∃ x, x < 128 ∧ T x = 2
def rk_HB (se : Nat → Int32) (L : Nat → Nat) (T : Nat → Int32) (b : Nat) : Prop := ∃ j, j ≤ L b ∧ ¬ (j = 0 ∧ ¬ se b = 0) ∧ rk_c T b j 0 = 1
def rk_HL (N : Nat) (kd se : Nat → Int32) (L : Nat → Nat) (T : Nat → Int32) : Prop := ∃ n, n < N ∧ kd n = 7 ∧ rk_HB se L T (n + 1)
def rk_PV (N : Nat) (kd se : Nat → Int32) (L : Nat → Nat) (T : Nat → Int32) (r : Int32) : Prop :=
  (rk_HS T ∧ r = 3) ∨ (¬ rk_HS T ∧ rk_HL N kd se L T ∧ r = 4) ∨ (¬ rk_HS T ∧ ¬ rk_HL N kd se L T ∧ rk_c T 0 0 0 = 1 ∧ r = 2) ∨ (¬ rk_HS T ∧ ¬ rk_HL N kd se L T ∧ ¬ rk_c T 0 0 0 = 1 ∧ r = 1)
theorem rk_ev_22 {v : Int32} (h : rk_v3 v) : rk_ev v = 2 ↔ v = 2 := by
  rcases h with h | h | h <;> subst h <;> decide
def rk_cp (gv wa : Nat → Int32) (k : Nat) : Nat → Int32 := fun j => if j < k then vp_nar .boolean (wa j) else gv j
theorem rk_cp_0 (gv wa : Nat → Int32) : rk_cp gv wa 0 = gv := by funext j; unfold rk_cp; rw [if_neg (by omega)]
theorem rk_cp_s (gv wa : Nat → Int32) (k : Nat) : upd (rk_cp gv wa k) k (vp_nar .boolean (wa k)) = rk_cp gv wa (k + 1) := by
  funext j
  by_cases e : j = k
  · subst e; rw [pk_us]; unfold rk_cp; rw [if_pos (by omega)]
  · rw [pk_un e]; unfold rk_cp
    by_cases g : j < k
    · rw [if_pos g, if_pos (by omega)]
    · rw [if_neg g, if_neg (by omega)]
section
variable {mN sN mL mT ct lk op ph tk vd : Int32} {kd ar pa sc la le tl bd se wa gv ra mu ca si ns ke fz ch : Nat → Int32} {N S : Nat} {L Q e : Nat → Nat} {sl : Nat → Nat → Nat} {T : Nat → Int32}
theorem rk_xrt2 {post : Int32 → Prop} {b : Nat} (hN : N ≤ 40) (hb : b < N) (hl : le b = nI (L b)) (hL : L b ≤ 2) (hm : ∀ j, j ≤ L b → rk_Cx T mu ca (b * 3 + j)) (h1 : rk_HB se L T b → post 1) (h0 : ¬ rk_HB se L T b → post 0) :
    ∀ (d j m : Nat), j + d = L b + 1 → d < m → (∀ j', j' < j → ¬ (¬ (j' = 0 ∧ ¬ se b = 0) ∧ rk_c T b j' 0 = 1)) → wX_runsThrough_2 post (nI b) mN sN mL mT ct lk op ph tk vd kd ar pa sc la le tl bd se wa gv ra mu ca si ns ke fz ch m (nI j) := by
  intro d
  induction d with
  | zero =>
    intro j m hj hm' hc
    obtain ⟨m, rfl⟩ : ∃ z, m = z + 1 := ⟨m - 1, by omega⟩
    rw [wX_runsThrough_2]
    dsimp only
    rw [nI_clamp (by omega), hl]
    exact ⟨vp_in_nI (by omega) (by omega), br_t (nI_lt (by omega) (by omega)) (h0 (fun ⟨j', a, b⟩ => hc j' (by omega) b))⟩
  | succ d ih =>
    intro j m hj hm' hc
    obtain ⟨m, rfl⟩ : ∃ z, m = z + 1 := ⟨m - 1, by omega⟩
    rw [wX_runsThrough_2]
    dsimp only
    rw [nI_clamp (show b < 2 ^ 31 by omega), hl]
    have hnext : ¬ (¬ (j = 0 ∧ ¬ se b = 0) ∧ rk_c T b j 0 = 1) → ∀ x, x = nI j + 1 → wX_runsThrough_2 post (nI b) mN sN mL mT ct lk op ph tk vd kd ar pa sc la le tl bd se wa gv ra mu ca si ns ke fz ch m x := fun q => nm_r (nI_1 j) (ih (j + 1) m (by omega) (by omega) (fun j' hj' => by
      by_cases e1 : j' = j
      · subst e1; exact q
      · exact hc j' (by omega)))
    refine ⟨vp_in_nI (by omega) (by omega), br_f (nI_nlt (by omega) (by omega)) (rk_xre (by omega) (by omega) (fun z => br_f (by decide) (hnext (fun q => q.1 z))) (fun z => br_t rfl ?_))⟩
    rw [rk_ix, nI_clamp (by omega)]
    refine ⟨vp_in_nI (by omega) (by omega), ?_⟩
    have hmj := (hm j (by omega)).1
    have he : (mu (b * 3 + j) &&& 1 = 0) ↔ ¬ rk_c T b j 0 = 1 := by rw [hmj]; exact rk_em_and1 _
    exact br_c (fun q => hnext (fun w => he.mp q w.2)) (fun q => h1 ⟨j, by omega, z, Decidable.byContradiction (fun w => q (he.mpr w))⟩)
theorem rk_xju29 {post : Int32 → Prop} (hB : rk_B N S kd ar pa sc le bd L Q e sl) (hc : ct = nI N) (hE : rk_XE N L T ra mu ca si) (hs : ¬ rk_HS T) (K : ∀ r, rk_PV N kd se L T r → post r) :
    ∀ (d n m : Nat), n + d = N → d < m → (∀ n', n' < n → kd n' = 7 → ¬ rk_HB se L T (n' + 1)) → wX_judge_29 post mN sN mL mT ct lk op ph tk vd kd ar pa sc la le tl bd se wa gv ra mu ca si ns ke fz ch m (nI n) := by
  subst hc
  have hN := hB.1.1
  intro d
  induction d with
  | zero =>
    intro n m hn hm hc
    obtain ⟨m, rfl⟩ : ∃ z, m = z + 1 := ⟨m - 1, by omega⟩
    rw [wX_judge_29]
    have hl : ¬ rk_HL N kd se L T := fun ⟨n', a, b, c⟩ => hc n' (by omega) b c
    have hm0 := ((hE.2 0 0 hN.1 (by omega)).2).1
    have he : (mu 0 &&& 1 = 0) ↔ ¬ rk_c T 0 0 0 = 1 := by rw [show mu 0 = _ from hm0]; exact rk_em_and1 _
    exact br_t (nI_le (by omega) (by omega)) (br_c (fun q => K 1 (Or.inr (Or.inr (Or.inr ⟨hs, hl, he.mp q, rfl⟩)))) (fun q => K 2 (Or.inr (Or.inr (Or.inl ⟨hs, hl, Decidable.byContradiction (fun w => q (he.mpr w)), rfl⟩)))))
  | succ d ih =>
    intro n m hn hm hc
    obtain ⟨m, rfl⟩ : ∃ z, m = z + 1 := ⟨m - 1, by omega⟩
    rw [wX_judge_29]
    dsimp only
    rw [nI_clamp (by omega), nI_1]
    have hnext : (kd n = 7 → ¬ rk_HB se L T (n + 1)) → wX_judge_29 post mN sN mL mT (nI N) lk op ph tk vd kd ar pa sc la le tl bd se wa gv ra mu ca si ns ke fz ch m (nI (n + 1)) := fun q => ih (n + 1) m (by omega) (by omega) (fun n' hn' k => by
      by_cases e1 : n' = n
      · subst e1; exact q k
      · exact hc n' (by omega) k)
    refine br_f (nI_ge (by omega) (by omega)) ⟨vp_in_nI (by omega) (by omega), br_c (fun k => ?_) (fun k => nm_e (hnext (fun q => absurd q k)))⟩
    have a := hB.1.2.2.2.2.2.2.1 n (by omega) (by rw [k]; decide)
    have hL2 := hB.1.2.2.2.1 (n + 1) a.1
    unfold wpX_runsThrough
    dsimp only
    refine ⟨L (n + 1) + 2, rk_xrt2 hN.2 a.1 (hB.2.1.1 _ a.1) hL2 (fun j hj => (hE.2 (n + 1) j a.1 hj).2) (fun q => br_f (by decide) (K 4 (Or.inr (Or.inl ⟨hs, ⟨n, by omega, k, q⟩, rfl⟩)))) (fun q => br_t rfl (nm_e (hnext (fun _ => q)))) (L (n + 1) + 1) 0 (L (n + 1) + 2) (by omega) (by omega) (fun j' hj' => by omega)⟩
theorem rk_xju2 {post : Int32 → Prop} (hB : rk_B N S kd ar pa sc le bd L Q e sl) (hc : ct = nI N) (hv : ∀ z, rk_v3 (T z)) (hE : rk_XE N L T ra mu ca si) (K : ∀ r, rk_PV N kd se L T r → post r) :
    ∀ (d x m : Nat), x + d = 128 → d < m → (∀ x', x' < x → ¬ T x' = 2) → wX_judge_2 post mN sN mL mT ct lk op ph tk vd kd ar pa sc la le tl bd se wa gv ra mu ca si ns ke fz ch m (nI x) := by
  intro d
  induction d with
  | zero =>
    intro x m hx hm h
    obtain ⟨m, rfl⟩ : ∃ z, m = z + 1 := ⟨m - 1, by omega⟩
    rw [wX_judge_2]
    exact br_t (nI_le (a := 128) (by omega) (by omega)) ⟨N + 1, rk_xju29 hB hc hE (fun ⟨x', a, b⟩ => h x' (by omega) b) K N 0 (N + 1) (by omega) (by omega) (fun n' hn' => by omega)⟩
  | succ d ih =>
    intro x m hx hm h
    obtain ⟨m, rfl⟩ : ∃ z, m = z + 1 := ⟨m - 1, by omega⟩
    rw [wX_judge_2]
    dsimp only
    rw [nI_clamp (by omega), hE.1 x (by omega)]
    refine br_f (nI_ge (b := 128) (by omega) (by decide)) ⟨vp_in_nI (by omega) (by omega), br_c (fun q => K 3 (Or.inl ⟨⟨x, by omega, (rk_ev_22 (hv x)).mp q⟩, rfl⟩)) (fun q => nm_r (nI_1 x) (ih (x + 1) m (by omega) (by omega) (fun x' hx' => ?_)))⟩
    by_cases e1 : x' = x
    · subst e1; exact fun w => q ((rk_ev_22 (hv x')).mpr w)
    · exact h x' (by omega)
theorem rk_xju {post : Int32 → Prop} (hB : rk_B N S kd ar pa sc le bd L Q e sl) (hc : ct = nI N) (hv : ∀ z, rk_v3 (T z)) (hE : rk_XE N L T ra mu ca si) (K : ∀ r, rk_PV N kd se L T r → post r) : wpX_judge post (mN, sN, mL, mT, ct, lk, op, ph, tk, vd, kd, ar, pa, sc, la, le, tl, bd, se, wa, gv, ra, mu, ca, si, ns, ke, fz, ch) := by
  unfold wpX_judge
  dsimp only
  exact ⟨129, rk_xju2 hB hc hv hE K 128 0 129 (by omega) (by omega) (fun x' hx' => by omega)⟩
theorem rk_xde20 {post : Int32 → SX → Prop} (g0 : Nat → Int32) (K : wpX_deriveFacts (fun u => match u with | (mN, sN, mL, mT, ct, lk, op, ph, tk, vd, kd, ar, pa, sc, la, le, tl, bd, se, wa, gv, ra, mu, ca, si, ns, ke, fz, ch) => (wpX_judge (fun r => post r (mN, sN, mL, mT, ct, lk, op, ph, tk, r, kd, ar, pa, sc, la, le, tl, bd, se, wa, gv, ra, mu, ca, si, ns, ke, fz, ch)) (mN, sN, mL, mT, ct, lk, op, ph, tk, vd, kd, ar, pa, sc, la, le, tl, bd, se, wa, gv, ra, mu, ca, si, ns, ke, fz, ch))) (mN, sN, mL, mT, ct, lk, op, ph, tk, vd, kd, ar, pa, sc, la, le, tl, bd, se, wa, rk_cp g0 wa 8, ra, mu, ca, si, ns, ke, fz, ch)) :
    ∀ (d i m : Nat), i + d = 8 → d < m → wX_derive_20 post mN sN mL mT ct lk op ph tk vd m (nI i) kd ar pa sc la le tl bd se wa (rk_cp g0 wa i) ra mu ca si ns ke fz ch := by
  intro d
  induction d with
  | zero =>
    intro i m hi hm
    obtain ⟨m, rfl⟩ : ∃ z, m = z + 1 := ⟨m - 1, by omega⟩
    have ei : i = 8 := by omega
    subst ei
    rw [wX_derive_20]
    exact br_t (nI_le (a := 8) (by omega) (by omega)) K
  | succ d ih =>
    intro i m hi hm
    obtain ⟨m, rfl⟩ : ∃ z, m = z + 1 := ⟨m - 1, by omega⟩
    rw [wX_derive_20]
    dsimp only
    rw [nI_clamp (by omega)]
    exact br_f (nI_ge (b := 8) (by omega) (by decide)) ⟨vp_in_nI (by omega) (by omega), vp_in_nI (by omega) (by omega), nm_r (rk_cp_s g0 wa i) (nm_r (nI_1 i) (ih (i + 1) m (by omega) (by omega)))⟩
theorem rk_xde {post : Int32 → SX → Prop} (hB : rk_B N S kd ar pa sc le bd L Q e sl) (hs : sN = nI S) (hc : ct = nI N) (hp : ph = 1 ∨ ph = 2)
    (K : ∀ (T si' ra' mu' ca' ns' : Nat → Int32) (r : Int32), rk_TF N S kd ar pa se (rk_cp gv wa 8) L Q sl T → rk_XE N L T ra' mu' ca' si' → rk_PV N kd se L T r → post r (mN, sN, mL, mT, ct, lk, op, ph, tk, r, kd, ar, pa, sc, la, le, tl, bd, se, wa, rk_cp gv wa 8, ra', mu', ca', si', ns', ke, fz, ch)) : wpX_derive post (mN, sN, mL, mT, ct, lk, op, ph, tk, vd, kd, ar, pa, sc, la, le, tl, bd, se, wa, gv, ra, mu, ca, si, ns, ke, fz, ch) := by
  have h20 : wX_derive_20 post mN sN mL mT ct lk op ph tk vd 9 0 kd ar pa sc la le tl bd se wa gv ra mu ca si ns ke fz ch := by
    have := rk_xde20 (post := post) (mN := mN) (sN := sN) (mL := mL) (mT := mT) (ct := ct) (lk := lk) (op := op) (ph := ph) (tk := tk) (vd := vd) (kd := kd) (ar := ar) (pa := pa) (sc := sc) (la := la) (le := le) (tl := tl) (bd := bd) (se := se) (wa := wa) (ra := ra) (mu := mu) (ca := ca) (si := si) (ns := ns) (ke := ke) (fz := fz) (ch := ch) gv ?_ 8 0 9 (by omega) (by omega)
    · rw [rk_cp_0] at this; exact this
    · refine rk_xdf hB hs hc (fun T si' ra' mu' ca' ns' h1 h2 => ?_)
      exact rk_xju hB hc h1.1 h2 (fun r hr => K T si' ra' mu' ca' ns' r h1 h2 hr)
  unfold wpX_derive
  dsimp only
  refine br_c (fun _ => ⟨9, h20⟩) (fun q => br_t ?_ ⟨9, h20⟩)
  rcases hp with hp | hp
  · exact absurd hp q
  · exact hp
end
section
variable {mN sN mL mT ct ph tk vd : Int32} {kd ar pa se nx yk wa gv ys yw yc : Nat → Int32} {N S : Nat} {L Q e : Nat → Nat} {sl : Nat → Nat → Nat} {bd : Nat → Int32} {T : Nat → Int32} {r : Int32}
theorem rk_yju69 {post : Int32 → Prop} {J : Int32 → Prop} {b : Nat} (hN : N ≤ 40) (hb : b < N) (hL : L b ≤ 2) (hE : ∀ z, rk_E N L (rk_ES N S kd L) z → rk_gl ys yw yc z = T z) (h4 : rk_HB se L T b → post 4) (h0 : ¬ rk_HB se L T b → J (nI (b + 1))) :
    ∀ (d j m : Nat), j + d = L b + 1 → d < m → (∀ j', j' < j → ¬ (¬ (j' = 0 ∧ ¬ se b = 0) ∧ rk_c T b j' 0 = 1)) → wY_judge_69 post J (nI b) (nI (L b)) mN sN mL mT ct ph tk vd kd ar pa se nx yk wa gv ys yw yc m (nI j) := by
  intro d
  induction d with
  | zero =>
    intro j m hj hm' hc
    obtain ⟨m, rfl⟩ : ∃ z, m = z + 1 := ⟨m - 1, by omega⟩
    rw [wY_judge_69]
    exact br_t (nI_lt (by omega) (by omega)) (nm_r (nI_1 b) (h0 (fun ⟨j', a, b⟩ => hc j' (by omega) b)))
  | succ d ih =>
    intro j m hj hm' hc
    obtain ⟨m, rfl⟩ : ∃ z, m = z + 1 := ⟨m - 1, by omega⟩
    rw [wY_judge_69]
    dsimp only
    rw [nI_clamp (show b < 2 ^ 31 by omega)]
    have hnext : ¬ (¬ (j = 0 ∧ ¬ se b = 0) ∧ rk_c T b j 0 = 1) → ∀ x, x = nI j + 1 → wY_judge_69 post J (nI b) (nI (L b)) mN sN mL mT ct ph tk vd kd ar pa se nx yk wa gv ys yw yc m x := fun q => nm_r (nI_1 j) (ih (j + 1) m (by omega) (by omega) (fun j' hj' => by
      by_cases e1 : j' = j
      · subst e1; exact q
      · exact hc j' (by omega)))
    have hcode : yc ((b * 3 + j) * 5 + 0) = rk_c T b j 0 := by
      have := hE _ (rk_E_c (k := 0) hb (show j ≤ L b by omega) (by omega))
      rw [show rk_gl ys yw yc (248 + ((b * 3 + j) * 5 + 0)) = yc ((b * 3 + j) * 5 + 0) from rk_gl_c] at this
      exact this
    have h87 : ¬ (j = 0 ∧ ¬ se b = 0) → wY_judge_87 post J (wY_judge_69 post J (nI b) (nI (L b)) mN sN mL mT ct ph tk vd kd ar pa se nx yk wa gv ys yw yc m) (nI b) (nI (L b)) (nI j) mN sN mL mT ct ph tk vd kd ar pa se nx yk wa gv ys yw yc := by
      intro z
      unfold wY_judge_87
      rw [rk_ix, show nI (b * 3 + j) * 5 = nI ((b * 3 + j) * 5 + 0) from by rw [show nI (b * 3 + j) * 5 = nI (b * 3 + j) * nI 5 from rfl, pk_mul]; rfl, nI_clamp (by omega), hcode]
      exact ⟨vp_in_nI (by omega) (by omega), br_c (fun q => h4 ⟨j, by omega, z, q⟩) (fun q => hnext (fun w => q w.2))⟩
    exact br_f (nI_nlt (by omega) (by omega)) (pk_eq j 0 (fun z => ⟨vp_in_nI (by omega) (by omega), br_c (fun s => h87 (fun q => q.2 s)) (fun s => hnext (fun q => q.1 ⟨z, s⟩))⟩) (fun z => h87 (fun q => z q.1)))
theorem rk_yju37 {post : Int32 → Prop} (hB : rk_YB N S kd ar pa bd L Q e sl) (hct : ct = nI N) (hE : ∀ z, rk_E N L (rk_ES N S kd L) z → rk_gl ys yw yc z = T z) (hs : ¬ rk_HS T) (hV : rk_PV N kd se L T r) (K : post r) :
    ∀ (d b m : Nat), b + d = N → 0 < b → d < m → (∀ b', 0 < b' → b' < b → ∀ p, pa b' = nI p → p < 40 → kd p = 7 → ¬ rk_HB se L T b') → wY_judge_37 post mN sN mL mT ct ph tk vd kd ar pa se nx yk wa gv ys yw yc m (nI b) := by
  subst hct
  have hT := hB.1
  obtain ⟨hN, h0, hK, hL, he, hT0, hT1, hT2, hTp⟩ := hB.1
  intro d
  induction d with
  | zero =>
    intro b m hb hb0 hm hc
    obtain ⟨m, rfl⟩ : ∃ z, m = z + 1 := ⟨m - 1, by omega⟩
    rw [wY_judge_37]
    have hl : ¬ rk_HL N kd se L T := fun ⟨n', a1, a2, a3⟩ => by
      have q := hT1 n' a1 (by rw [a2]; decide)
      exact hc (n' + 1) (by omega) (by omega) n' q.2.1 (by omega) a2 a3
    have hcode : yc 0 = rk_c T 0 0 0 := by
      have := hE _ (rk_E_c (n := 0) (i := 0) (k := 0) hN.1 (by omega) (by omega))
      rw [show rk_gl ys yw yc (248 + ((0 * 3 + 0) * 5 + 0)) = yc ((0 * 3 + 0) * 5 + 0) from rk_gl_c] at this
      exact this
    dsimp only
    rw [hcode]
    refine br_t (nI_le (by omega) (by omega)) (br_c (fun q => ?_) (fun q => ?_))
    · rcases hV with v | v | v | v
      · exact absurd v.1 hs
      · exact absurd v.2.1 hl
      · rw [v.2.2.2] at K; exact K
      · exact absurd q v.2.2.1
    · rcases hV with v | v | v | v
      · exact absurd v.1 hs
      · exact absurd v.2.1 hl
      · exact absurd v.2.2.1 q
      · rw [v.2.2.2] at K; exact K
  | succ d ih =>
    intro b m hb hb0 hm hc
    obtain ⟨m, rfl⟩ : ∃ z, m = z + 1 := ⟨m - 1, by omega⟩
    rw [wY_judge_37]
    dsimp only
    obtain ⟨p, a1, a2, a3, a4⟩ := hTp b hb0 (by omega)
    rw [nI_clamp (by omega), a2, nI_clamp (by omega)]
    have hnext : (kd p = 7 → ¬ rk_HB se L T b) → wY_judge_37 post mN sN mL mT (nI N) ph tk vd kd ar pa se nx yk wa gv ys yw yc m (nI (b + 1)) := fun q => ih (b + 1) m (by omega) (by omega) (by omega) (fun b' h1 h2 p' h3 h4 h5 => by
      by_cases e1 : b' = b
      · subst e1
        rw [a2, nI_eq (by omega) (by omega)] at h3
        subst h3
        exact q h5
      · exact hc b' h1 (by omega) p' h3 h4 h5)
    refine br_f (nI_ge (by omega) (by omega)) ⟨vp_in_nI (by omega) (by omega), vp_in_nI (by omega) (by omega), br_c (fun k => ?_) (fun k => nm_r (nI_1 b) (hnext (fun q => absurd q k)))⟩
    have hL2 := hL b (by omega)
    refine rk_ylv hN.2 (rk_CT_PA hT) (rk_CT_cu hT) (by omega) ⟨L b + 2, rk_yju69 hN.2 (by omega) hL2 hE (fun q => ?_) (fun q => hnext (fun _ => q)) (L b + 1) 0 (L b + 2) (by omega) (by omega) (fun j' hj' => by omega)⟩
    have hl : rk_HL N kd se L T := by
      refine ⟨p, by omega, k, ?_⟩
      rcases a4 with a4 | a4
      · rw [← a4]; exact q
      · rw [k] at a4; exact absurd a4.1 (by decide)
    rcases hV with v | v | v | v
    · exact absurd v.1 hs
    · rw [v.2.2] at K; exact K
    · exact absurd hl v.2.1
    · exact absurd hl v.2.1
theorem rk_yju2 {post : Int32 → Prop} (hB : rk_YB N S kd ar pa bd L Q e sl) (hct : ct = nI N) (hsN : sN = nI S) (hE : ∀ z, rk_E N L (rk_ES N S kd L) z → rk_gl ys yw yc z = T z) (h0 : ∀ x, x < 128 → ¬ rk_ES N S kd L x → T x = 0) (hV : rk_PV N kd se L T r) (K : post r) :
    ∀ (d x m : Nat), x + d = 128 → d < m → (∀ x', x' < x → ¬ T x' = 2) → wY_judge_2 post mN sN mL mT ct ph tk vd kd ar pa se nx yk wa gv ys yw yc m (nI x) := by
  have hN := hB.1.1
  intro d
  induction d with
  | zero =>
    intro x m hx hm h
    obtain ⟨m, rfl⟩ : ∃ z, m = z + 1 := ⟨m - 1, by omega⟩
    rw [wY_judge_2]
    exact br_t (nI_le (a := 128) (by omega) (by omega)) ⟨N + 1, rk_yju37 hB hct hE (fun ⟨x', a, b⟩ => h x' (by omega) b) hV K (N - 1) 1 (N + 1) (by omega) (by omega) (by omega) (fun b' h1 h2 => by omega)⟩
  | succ d ih =>
    intro x m hx hm h
    obtain ⟨m, rfl⟩ : ∃ z, m = z + 1 := ⟨m - 1, by omega⟩
    rw [wY_judge_2]
    dsimp only
    have hnext : ¬ T x = 2 → ∀ y, y = nI x + 1 → wY_judge_2 post mN sN mL mT ct ph tk vd kd ar pa se nx yk wa gv ys yw yc m y := fun q => nm_r (nI_1 x) (ih (x + 1) m (by omega) (by omega) (fun x' hx' => by
      by_cases e1 : x' = x
      · subst e1; exact q
      · exact h x' (by omega)))
    refine br_f (nI_ge (b := 128) (by omega) (by decide)) (rk_yis hB hct hsN (by omega) (fun es => br_f (by decide) ⟨vp_in_nI (by omega) (by omega), ?_⟩) (fun es => br_t rfl (hnext (by rw [h0 x (by omega) es]; decide))))
    have hx2 : ys x = T x := by
      have := hE x (rk_E_s (by omega) es)
      rw [rk_gl_s (by omega)] at this
      exact this
    rw [nI_clamp (by omega), hx2]
    refine br_c (fun q => ?_) (fun q => hnext q)
    have hs : rk_HS T := ⟨x, by omega, q⟩
    rcases hV with v | v | v | v
    · rw [v.2] at K; exact K
    · exact absurd hs v.1
    · exact absurd hs v.1
    · exact absurd hs v.1
theorem rk_yju {post : Int32 → Prop} (hB : rk_YB N S kd ar pa bd L Q e sl) (hct : ct = nI N) (hsN : sN = nI S) (hE : ∀ z, rk_E N L (rk_ES N S kd L) z → rk_gl ys yw yc z = T z) (h0 : ∀ x, x < 128 → ¬ rk_ES N S kd L x → T x = 0) (hV : rk_PV N kd se L T r) (K : post r) : wpY_judge post (mN, sN, mL, mT, ct, ph, tk, vd, kd, ar, pa, se, nx, yk, wa, gv, ys, yw, yc) := by
  unfold wpY_judge
  dsimp only
  exact ⟨129, rk_yju2 hB hct hsN hE h0 hV K 128 0 129 (by omega) (by omega) (fun x' hx' => by omega)⟩
theorem rk_yde112 {post : Int32 → SY → Prop} (hB : rk_YB N S kd ar pa bd L Q e sl) (hct : ct = nI N) (hsN : sN = nI S) (hA : ∀ n, n < N → kd n = 3 → ∃ a, a ≤ 2 ∧ ar n = nI a) (hF : rk_TF N S kd ar pa se gv L Q sl T)
    (K : ∀ ys yw yc : Nat → Int32, (∀ z, rk_E N L (rk_ES N S kd L) z → rk_gl ys yw yc z = T z) → wY_derive_134 post mN sN mL mT ct ph tk vd kd ar pa se nx yk wa gv ys yw yc) :
    ∀ (d t m : Nat) (ys yw yc : Nat → Int32), t + d = 849 → d < m → t ≤ rk_num (rk_E N L (rk_ES N S kd L)) 848 (rk_gl ys yw yc) → rk_LE (rk_E N L (rk_ES N S kd L)) (rk_gl ys yw yc) T → wY_derive_112 post m 1 (nI t) mN sN mL mT ct ph tk vd kd ar pa se nx yk wa gv ys yw yc := by
  have hT := hB.1
  have hEl : ∀ z, rk_E N L (rk_ES N S kd L) z → z < 848 := fun z hz => rk_E_lt hT.1.2 hT.2.2.2.1 hz
  intro d
  induction d with
  | zero =>
    intro t m ys yw yc ht hm hn hle
    have := rk_num_le (rk_E N L (rk_ES N S kd L)) 848 (rk_gl ys yw yc)
    omega
  | succ d ih =>
    intro t m ys yw yc ht hm hn hle
    have hn2 := rk_num_le (rk_E N L (rk_ES N S kd L)) 848 (rk_gl ys yw yc)
    obtain ⟨m, rfl⟩ : ∃ z, m = z + 2 := ⟨m - 2, by omega⟩
    rw [wY_derive_112]
    dsimp only
    refine br_f (nI_ge (b := 900) (by omega) (by decide)) (br_f (by decide) (rk_ysw hB hct hsN hA hF hle (fun r ys' yw' yc' s1 s2 => ?_)))
    dsimp only
    refine nm_r (nI_1 t) ?_
    rcases s1.2.2 with ⟨r0, ef⟩ | ⟨r1, z, hz, h1, h2⟩
    · rw [r0]
      have hp := K ys' yw' yc' (rk_TF_eq hT hB.2.2.1 hF s1.1 (fun z hz q => by
        have := s2 r0 z hz
        rw [ef] at q ⊢
        exact this q))
      rw [wY_derive_112]
      exact br_c (fun _ => hp) (fun _ => br_t rfl hp)
    · rw [r1]
      have := rk_num_lt s1.2.1 hz (hEl z hz) h1 h2
      exact ih (t + 1) (m + 1) ys' yw' yc' (by omega) (by omega) (by omega) s1.1
theorem rk_yde88 {post : Int32 → SY → Prop} (K : ∀ yc : Nat → Int32, (∀ j, j < 600 → yc j = 2) → ∃ q : Nat, wY_derive_112 post q 1 0 mN sN mL mT ct ph tk vd kd ar pa se nx yk wa gv ys yw yc) : ∀ (d i m : Nat) (yc : Nat → Int32), i + d = 600 → d < m → (∀ j, j < i → yc j = 2) → wY_derive_88 post mN sN mL mT ct ph tk vd m (nI i) kd ar pa se nx yk wa gv ys yw yc := by
  intro d
  induction d with
  | zero =>
    intro i m yc hi hm h
    obtain ⟨m, rfl⟩ : ∃ z, m = z + 1 := ⟨m - 1, by omega⟩
    rw [wY_derive_88]
    exact br_t (nI_le (a := 600) (by omega) (by omega)) (K yc (fun j hj => h j (by omega)))
  | succ d ih =>
    intro i m yc hi hm h
    obtain ⟨m, rfl⟩ : ∃ z, m = z + 1 := ⟨m - 1, by omega⟩
    rw [wY_derive_88]
    dsimp only
    rw [nI_clamp (by omega)]
    refine br_f (nI_ge (b := 600) (by omega) (by decide)) ⟨vp_in_nI (by omega) (by omega), nm_e (nm_r (nI_1 i) (ih (i + 1) m _ (by omega) (by omega) (fun j hj => ?_)))⟩
    by_cases e1 : j = i
    · subst e1; exact pk_us
    · rw [pk_un e1]; exact h j (by omega)
theorem rk_yde67 {post : Int32 → SY → Prop} (K : ∀ yw : Nat → Int32, (∀ j, j < 120 → yw j = 2) → ∃ q : Nat, wY_derive_88 post mN sN mL mT ct ph tk vd q 0 kd ar pa se nx yk wa gv ys yw yc) : ∀ (d i m : Nat) (yw : Nat → Int32), i + d = 120 → d < m → (∀ j, j < i → yw j = 2) → wY_derive_67 post mN sN mL mT ct ph tk vd m (nI i) kd ar pa se nx yk wa gv ys yw yc := by
  intro d
  induction d with
  | zero =>
    intro i m yw hi hm h
    obtain ⟨m, rfl⟩ : ∃ z, m = z + 1 := ⟨m - 1, by omega⟩
    rw [wY_derive_67]
    exact br_t (nI_le (a := 120) (by omega) (by omega)) (K yw (fun j hj => h j (by omega)))
  | succ d ih =>
    intro i m yw hi hm h
    obtain ⟨m, rfl⟩ : ∃ z, m = z + 1 := ⟨m - 1, by omega⟩
    rw [wY_derive_67]
    dsimp only
    rw [nI_clamp (by omega)]
    refine br_f (nI_ge (b := 120) (by omega) (by decide)) ⟨vp_in_nI (by omega) (by omega), nm_e (nm_r (nI_1 i) (ih (i + 1) m _ (by omega) (by omega) (fun j hj => ?_)))⟩
    by_cases e1 : j = i
    · subst e1; exact pk_us
    · rw [pk_un e1]; exact h j (by omega)
theorem rk_yde45 {post : Int32 → SY → Prop} (K : ∀ ys : Nat → Int32, (∀ j, j < 128 → ys j = 2) → ∃ q : Nat, wY_derive_67 post mN sN mL mT ct ph tk vd q 0 kd ar pa se nx yk wa gv ys yw yc) : ∀ (d i m : Nat) (ys : Nat → Int32), i + d = 128 → d < m → (∀ j, j < i → ys j = 2) → wY_derive_45 post mN sN mL mT ct ph tk vd m (nI i) kd ar pa se nx yk wa gv ys yw yc := by
  intro d
  induction d with
  | zero =>
    intro i m ys hi hm h
    obtain ⟨m, rfl⟩ : ∃ z, m = z + 1 := ⟨m - 1, by omega⟩
    rw [wY_derive_45]
    exact br_t (nI_le (a := 128) (by omega) (by omega)) (K ys (fun j hj => h j (by omega)))
  | succ d ih =>
    intro i m ys hi hm h
    obtain ⟨m, rfl⟩ : ∃ z, m = z + 1 := ⟨m - 1, by omega⟩
    rw [wY_derive_45]
    dsimp only
    rw [nI_clamp (by omega)]
    refine br_f (nI_ge (b := 128) (by omega) (by decide)) ⟨vp_in_nI (by omega) (by omega), nm_e (nm_r (nI_1 i) (ih (i + 1) m _ (by omega) (by omega) (fun j hj => ?_)))⟩
    by_cases e1 : j = i
    · subst e1; exact pk_us
    · rw [pk_un e1]; exact h j (by omega)
theorem rk_yde19 {post : Int32 → SY → Prop} (g0 : Nat → Int32) (K : ∃ q : Nat, wY_derive_45 post mN sN mL mT ct ph tk vd q 0 kd ar pa se nx yk wa (rk_cp g0 wa 8) ys yw yc) : ∀ (d i m : Nat), i + d = 8 → d < m → wY_derive_19 post mN sN mL mT ct ph tk vd m (nI i) kd ar pa se nx yk wa (rk_cp g0 wa i) ys yw yc := by
  intro d
  induction d with
  | zero =>
    intro i m hi hm
    obtain ⟨m, rfl⟩ : ∃ z, m = z + 1 := ⟨m - 1, by omega⟩
    have ei : i = 8 := by omega
    subst ei
    rw [wY_derive_19]
    exact br_t (nI_le (a := 8) (by omega) (by omega)) K
  | succ d ih =>
    intro i m hi hm
    obtain ⟨m, rfl⟩ : ∃ z, m = z + 1 := ⟨m - 1, by omega⟩
    rw [wY_derive_19]
    dsimp only
    rw [nI_clamp (by omega)]
    exact br_f (nI_ge (b := 8) (by omega) (by decide)) ⟨vp_in_nI (by omega) (by omega), vp_in_nI (by omega) (by omega), nm_r (rk_cp_s g0 wa i) (nm_r (nI_1 i) (ih (i + 1) m (by omega) (by omega)))⟩
theorem rk_yde {post : Int32 → SY → Prop} (hB : rk_YB N S kd ar pa bd L Q e sl) (hct : ct = nI N) (hsN : sN = nI S) (hA : ∀ n, n < N → kd n = 3 → ∃ a, a ≤ 2 ∧ ar n = nI a) (hF : rk_TF N S kd ar pa se (rk_cp gv wa 8) L Q sl T) (hV : rk_PV N kd se L T r) (hp : ¬ ph = 0 ∧ ¬ ph = 3)
    (K : ∀ ys' yw' yc' : Nat → Int32, (∀ z, rk_E N L (rk_ES N S kd L) z → rk_gl ys' yw' yc' z = T z) → post r (mN, sN, mL, mT, ct, ph, tk, r, kd, ar, pa, se, nx, yk, wa, rk_cp gv wa 8, ys', yw', yc')) : wpY_derive post (mN, sN, mL, mT, ct, ph, tk, vd, kd, ar, pa, se, nx, yk, wa, gv, ys, yw, yc) := by
  unfold wpY_derive
  dsimp only
  refine br_f hp.1 (br_f hp.2 ⟨9, ?_⟩)
  have h := rk_yde19 (post := post) (mN := mN) (sN := sN) (mL := mL) (mT := mT) (ct := ct) (ph := ph) (tk := tk) (vd := vd) (kd := kd) (ar := ar) (pa := pa) (se := se) (nx := nx) (yk := yk) (wa := wa) (ys := ys) (yw := yw) (yc := yc) gv ?_ 8 0 9 (by omega) (by omega)
  · rw [rk_cp_0] at h; exact h
  · refine ⟨129, rk_yde45 (fun ys1 h1 => ⟨121, rk_yde67 (fun yw1 h2 => ⟨601, rk_yde88 (fun yc1 h3 => ⟨850, ?_⟩) 600 0 601 yc (by omega) (by omega) (fun j hj => by omega)⟩) 120 0 121 yw (by omega) (by omega) (fun j hj => by omega)⟩) 128 0 129 ys (by omega) (by omega) (fun j hj => by omega)⟩
    refine rk_yde112 hB hct hsN hA hF (fun ys' yw' yc' h4 => ?_) 849 0 850 ys1 yw1 yc1 (by omega) (by omega) (Nat.zero_le _) (fun z hz => Or.inl ?_)
    · unfold wY_derive_134
      exact rk_yju hB hct hsN h4 hF.2.2.2 hV (K ys' yw' yc' h4)
    · have hz8 := rk_E_lt hB.1.1.2 hB.1.2.2.2.1 hz
      unfold rk_gl
      by_cases g : z < 128
      · rw [if_pos g]; exact h1 z g
      · by_cases k : z < 248
        · rw [if_neg g, if_pos k]; exact h2 _ (by omega)
        · rw [if_neg g, if_neg k]; exact h3 _ (by omega)
end
end
section
/-! ===== the kept pairs ===== -/
theorem rk_b0 : vp_nar .boolean 0 = 0 := rfl
theorem rk_b1 : vp_nar .boolean 1 = 1 := rfl
def rk_kp (kd pa se : Nat → Int32) (L : Nat → Nat) (T : Nat → Int32) (R : Prop) : Nat → Nat → Nat → Prop
  | 0, _, _ => False
  | f + 1, n, i => (n = 0 ∧ i = 0 ∧ R) ∨ (0 < n ∧ rk_c T n i 1 = 1 ∧ ((i ≤ L (pa n).toNatClampNeg ∧ rk_kp kd pa se L T R f (pa n).toNatClampNeg i) ∨ (kd (pa n).toNatClampNeg = 7 ∧ i = L (pa n).toNatClampNeg + 1 ∧ rk_kp kd pa se L T R f (pa n).toNatClampNeg 0 ∧ ¬ se (pa n).toNatClampNeg = 0)))
def rk_KI (N : Nat) (kp D : Nat → Nat → Prop) (ke : Nat → Int32) : Prop := ∀ c j, c < N → j ≤ 2 → (ke (c * 3 + j) = 0 ∨ ke (c * 3 + j) = 1) ∧ (¬ ke (c * 3 + j) = 0 ↔ kp c j ∧ D c j)
theorem rk_KI_d {N : Nat} {kp D D' : Nat → Nat → Prop} {ke : Nat → Int32} (h : rk_KI N kp D ke) (hd : ∀ c j, c < N → j ≤ 2 → kp c j → (D c j ↔ D' c j)) : rk_KI N kp D' ke := fun c j hc hj =>
  ⟨(h c j hc hj).1, (h c j hc hj).2.trans ⟨fun q => ⟨q.1, (hd c j hc hj q.1).mp q.2⟩, fun q => ⟨q.1, (hd c j hc hj q.1).mpr q.2⟩⟩⟩
theorem rk_KI_u {N : Nat} {kp D : Nat → Nat → Prop} {ke : Nat → Int32} {c0 j0 : Nat} (h : rk_KI N kp D ke) (hj0 : j0 ≤ 2) (hk : kp c0 j0) : rk_KI N kp (fun c j => D c j ∨ (c = c0 ∧ j = j0)) (upd ke (c0 * 3 + j0) 1) := by
  intro c j hc hj
  by_cases e : c = c0 ∧ j = j0
  · obtain ⟨e1, e2⟩ := e
    subst e1 e2
    rw [pk_us]
    exact ⟨Or.inr rfl, fun _ => ⟨hk, Or.inr ⟨rfl, rfl⟩⟩, fun _ => by decide⟩
  · rw [pk_un (by omega)]
    exact ⟨(h c j hc hj).1, (h c j hc hj).2.trans ⟨fun q => ⟨q.1, Or.inl q.2⟩, fun q => ⟨q.1, q.2.resolve_right e⟩⟩⟩
theorem rk_KI_n {N : Nat} {kp D : Nat → Nat → Prop} {ke : Nat → Int32} {c0 j0 : Nat} (h : rk_KI N kp D ke) (hk : ¬ kp c0 j0) : rk_KI N kp (fun c j => D c j ∨ (c = c0 ∧ j = j0)) ke :=
  rk_KI_d h (fun c j _ _ q => ⟨Or.inl, fun w => w.resolve_right (fun ⟨a, b⟩ => hk (by rw [← a, ← b]; exact q))⟩)
section
variable {N : Nat} {kd pa se : Nat → Int32} {L Q e : Nat → Nat} {T : Nat → Int32} {R : Prop}
theorem rk_kp_f (hp : rk_PA N pa) (hN : N ≤ 40) : ∀ f g n i, n < f → n < g → n < N → (rk_kp kd pa se L T R f n i ↔ rk_kp kd pa se L T R g n i) := by
  intro f
  induction f with
  | zero => intro g n i h; omega
  | succ f ih =>
    intro g n i hf hg hn
    obtain ⟨g, rfl⟩ : ∃ q, g = q + 1 := ⟨g - 1, by omega⟩
    simp only [rk_kp]
    rcases hp n hn with ⟨a, b⟩ | ⟨p, a, b⟩
    · constructor
      · intro q
        rcases q with q | q
        · exact Or.inl q
        · omega
      · intro q
        rcases q with q | q
        · exact Or.inl q
        · omega
    · rw [b, nI_clamp (by omega), ih g p i (by omega) (by omega) (by omega), ih g p 0 (by omega) (by omega) (by omega)]
theorem rk_kp_0 (i : Nat) : rk_kp kd pa se L T R 41 0 i ↔ i = 0 ∧ R := by
  simp only [rk_kp]
  constructor
  · intro q
    rcases q with q | q
    · exact q.2
    · omega
  · intro q; exact Or.inl ⟨trivial, q⟩
theorem rk_kp_s (hp : rk_PA N pa) (hN : N ≤ 40) {n p i : Nat} (hn : n < N) (hpn : p < n) (he : pa n = nI p) : rk_kp kd pa se L T R 41 n i ↔ rk_c T n i 1 = 1 ∧ ((i ≤ L p ∧ rk_kp kd pa se L T R 41 p i) ∨ (kd p = 7 ∧ i = L p + 1 ∧ rk_kp kd pa se L T R 41 p 0 ∧ ¬ se p = 0)) := by
  rw [show rk_kp kd pa se L T R 41 n i = rk_kp kd pa se L T R (40 + 1) n i from rfl]
  conv => lhs; unfold rk_kp
  rw [he, nI_clamp (by omega), rk_kp_f hp hN 40 41 p i (by omega) (by omega) (by omega), rk_kp_f hp hN 40 41 p 0 (by omega) (by omega) (by omega)]
  constructor
  · intro q
    rcases q with q | q
    · omega
    · exact q.2
  · intro q; exact Or.inr ⟨by omega, q⟩
theorem rk_CT_Lp (hT : rk_CT N kd pa L Q e) {n p : Nat} (hn : n < N) (hpn : p < n) (he : pa n = nI p) : L n = L p + (if kd p = 7 then 1 else 0) := by
  have a := rk_CT_cu hT n hn
  rw [he, rk_pi_n (by have := hT.1; omega)] at a
  exact a
theorem rk_kp_le (hT : rk_CT N kd pa L Q e) {n i : Nat} (hn : n < N) (h : rk_kp kd pa se L T R 41 n i) : i ≤ L n := by
  have hN := hT.1
  rcases rk_CT_PA hT n hn with ⟨a, b⟩ | ⟨p, a, b⟩
  · subst a; rw [rk_kp_0] at h; omega
  · rw [rk_kp_s (rk_CT_PA hT) hN.2 hn a b] at h
    have c := rk_CT_Lp hT hn a b
    rcases h.2 with q | q
    · omega
    · rw [if_pos q.1] at c; omega
def rk_sr (L : Nat → Nat) (p j : Nat) : Nat := if j ≤ L p then j else 0
def rk_DX (pa : Nat → Int32) (L : Nat → Nat) (a i c j : Nat) : Prop := c = 0 ∨ ∃ p, p < c ∧ pa c = nI p ∧ (p < a ∨ (p = a ∧ rk_sr L p j < i))
def rk_DY (pa : Nat → Int32) (L : Nat → Nat) (a i c j : Nat) : Prop := c < a ∨ (c = a ∧ ∃ p, p < c ∧ pa c = nI p ∧ rk_sr L p j < i)
end
section
variable {mN sN mL mT ct lk op ph tk vd : Int32} {kd ar pa sc la le tl bd se wa gv ra mu ca si ns ke fz ch : Nat → Int32} {N S : Nat} {L Q e : Nat → Nat} {sl : Nat → Nat → Nat} {T : Nat → Int32} {R : Prop}
theorem rk_xkp {post : SX → Prop} {D : Nat → Nat → Prop} {c j p : Nat} (hB : rk_B N S kd ar pa sc le bd L Q e sl) (hE : rk_XE N L T ra mu ca si) (hc : c < N) (hp : p < c) (hpe : pa c = nI p) (hj : j ≤ L c) (hI : rk_KI N (rk_kp kd pa se L T R 41) D ke) (hk : rk_c T c j 1 = 1 → rk_kp kd pa se L T R 41 c j)
    (K : ∀ ke' : Nat → Int32, rk_KI N (rk_kp kd pa se L T R 41) (fun a b => D a b ∨ (a = c ∧ b = j)) ke' → post (mN, sN, mL, mT, ct, lk, op, ph, tk, vd, kd, ar, pa, sc, la, le, tl, bd, se, wa, gv, ra, mu, ca, si, ns, ke', fz, ch)) : wpX_keepIfPausing post (mN, sN, mL, mT, ct, lk, op, ph, tk, vd, kd, ar, pa, sc, la, le, tl, bd, se, wa, gv, ra, mu, ca, si, ns, ke, fz, ch) (nI (c * 3 + j)) := by
  have hN := hB.1.1
  have hL := hB.1.2.2.2.1 c hc
  have hin : vp_in (nI (c * 3 + j)) 120 := vp_in_nI (by omega) (by omega)
  unfold wpX_keepIfPausing
  dsimp only
  rw [nI_clamp (by omega), ((hE.2 c j hc hj).2).1]
  have he : (rk_em (fun k => T (248 + ((c * 3 + j) * 5 + k))) &&& 2 = 0) ↔ ¬ rk_c T c j 1 = 1 := rk_em_and2 _
  refine ⟨hin, br_c (fun q => ?_) (fun q => ⟨hin, nm_e ?_⟩)⟩
  · exact K ke (rk_KI_n hI (fun w => he.mp q ((rk_kp_s (rk_CT_PA hB.1) hN.2 hc hp hpe).mp w).1))
  · rw [rk_b1]
    exact K _ (rk_KI_u hI (by omega) (hk (Decidable.byContradiction (fun w => q (he.mpr w)))))
theorem rk_x36 {post : SX → Prop} {D : Nat → Nat → Prop} {a i : Nat} (hB : rk_B N S kd ar pa sc le bd L Q e sl) (hE : rk_XE N L T ra mu ca si) (ha : a < N) (hi : i ≤ L a) (hI : rk_KI N (rk_kp kd pa se L T R 41) D ke) (hk : rk_kp kd pa se L T R 41 a i)
    (K7 : ∀ ke' : Nat → Int32, kd a = 7 → i = 0 → ¬ se a = 0 → rk_KI N (rk_kp kd pa se L T R 41) (fun c j => D c j ∨ (c = a + 1 ∧ j = L a + 1)) ke' → post (mN, sN, mL, mT, ct, lk, op, ph, tk, vd, kd, ar, pa, sc, la, le, tl, bd, se, wa, gv, ra, mu, ca, si, ns, ke', fz, ch))
    (K0 : ¬ (kd a = 7 ∧ i = 0 ∧ ¬ se a = 0) → post (mN, sN, mL, mT, ct, lk, op, ph, tk, vd, kd, ar, pa, sc, la, le, tl, bd, se, wa, gv, ra, mu, ca, si, ns, ke, fz, ch)) : wX_keepChildren_36 post (nI a) (nI i) (nI (a + 1)) mN sN mL mT ct lk op ph tk vd kd ar pa sc la le tl bd se wa gv ra mu ca si ns ke fz ch := by
  have hN := hB.1.1
  have hL := hB.1.2.2.2.1 a ha
  unfold wX_keepChildren_36
  refine rk_xre (by omega) (by omega) (fun z => br_f (by decide) ⟨vp_in_nI (by omega) (by omega), ?_⟩) (fun z => br_t rfl (K0 (fun q => z q.2)))
  rw [nI_clamp (show a < 2 ^ 31 by omega)]
  refine br_c (fun k => ?_) (fun k => K0 (fun q => k q.1))
  obtain ⟨a1, a2, a3, a4⟩ := hB.1.2.2.2.2.2.2.1 a ha (by rw [k]; decide)
  rw [if_pos k] at a3
  have hL2 := hB.1.2.2.2.1 (a + 1) a1
  rw [nI_clamp (show a + 1 < 2 ^ 31 by omega), hB.2.1.1 _ a1, a3, rk_ix]
  refine ⟨vp_in_nI (by omega) (by omega), rk_xkp (p := a) hB hE a1 (by omega) a2 (by omega) hI (fun q => ?_) (fun ke' h => K7 ke' k z.1 z.2 h)⟩
  exact (rk_kp_s (rk_CT_PA hB.1) hN.2 a1 (by omega) a2).mpr ⟨q, Or.inr ⟨k, rfl, by rw [← z.1]; exact hk, z.2⟩⟩
theorem rk_xkc {post : SX → Prop} {a i : Nat} (hB : rk_B N S kd ar pa sc le bd L Q e sl) (hE : rk_XE N L T ra mu ca si) (ha : a < N) (hi : i ≤ L a) (har : 0 < rk_ar (kd a)) (hI : rk_KI N (rk_kp kd pa se L T R 41) (rk_DX pa L a i) ke) (hk : rk_kp kd pa se L T R 41 a i)
    (K : ∀ ke' : Nat → Int32, rk_KI N (rk_kp kd pa se L T R 41) (rk_DX pa L a (i + 1)) ke' → post (mN, sN, mL, mT, ct, lk, op, ph, tk, vd, kd, ar, pa, sc, la, le, tl, bd, se, wa, gv, ra, mu, ca, si, ns, ke', fz, ch)) : wpX_keepChildren post (mN, sN, mL, mT, ct, lk, op, ph, tk, vd, kd, ar, pa, sc, la, le, tl, bd, se, wa, gv, ra, mu, ca, si, ns, ke, fz, ch) (nI a) (nI i) := by
  have hT := hB.1
  obtain ⟨hN, h0, hK, hL, he, hT0, hT1, hT2, hTp⟩ := hB.1
  have hL2 := hL a ha
  have hPA := rk_CT_PA hT
  have hn1 : a + 1 < N ∧ pa (a + 1) = nI a ∧ i ≤ L (a + 1) := by
    rcases rk_ar_p har with g | g
    · have b := hT1 a ha g; exact ⟨b.1, b.2.1, by rw [b.2.2.1]; omega⟩
    · have b := hT2 a ha g; exact ⟨b.1, b.2.1, by rw [b.2.2.1]; omega⟩
  have hin : vp_in (nI a) 40 := vp_in_nI (by omega) (by omega)
  unfold wpX_keepChildren
  dsimp only
  refine nm_r (nI_1 a) ?_
  rw [rk_ix]
  refine rk_xkp (p := a) hB hE hn1.1 (by omega) hn1.2.1 hn1.2.2 hI (fun q => (rk_kp_s hPA hN.2 hn1.1 (by omega) hn1.2.1).mpr ⟨q, Or.inl ⟨hi, hk⟩⟩) (fun ke1 h1 => ?_)
  dsimp only
  rw [nI_clamp (show a < 2 ^ 31 by omega)]
  refine ⟨hin, ?_⟩
  rcases rk_ar_p har with g | g
  · obtain ⟨a1, a2, a3, a4⟩ := hT1 a ha g
    rw [hB.2.1.2.2.1 a ha (by omega)]
    refine br_t (by decide) (rk_x36 hB hE ha hi h1 hk (fun ke2 k7 z s h2 => K ke2 (rk_KI_d h2 (fun c j hc hj q => ?_))) (fun n7 => K ke1 (rk_KI_d h1 (fun c j hc hj q => ?_))))
    · subst z
      unfold rk_DX rk_sr
      constructor
      · intro w
        rcases w with (w | ⟨w1, w2⟩) | ⟨w1, w2⟩
        · rcases w with w | ⟨p, p1, p2, p3⟩
          · exact Or.inl w
          · exact Or.inr ⟨p, p1, p2, by omega⟩
        · right; subst w1 w2; exact ⟨a, by omega, a2, Or.inr ⟨rfl, by rw [if_pos (by omega)]; omega⟩⟩
        · right; subst w1 w2; exact ⟨a, by omega, a2, Or.inr ⟨rfl, by rw [if_neg (by omega)]; omega⟩⟩
      · intro w
        rcases w with w | ⟨p, p1, p2, p3⟩
        · exact Or.inl (Or.inl (Or.inl w))
        · rcases p3 with p3 | ⟨p3, p4⟩
          · exact Or.inl (Or.inl (Or.inr ⟨p, p1, p2, Or.inl p3⟩))
          · subst p3
            have hca : c = p + 1 := by
              rcases rk_CT_ch hT hc (by omega) p2 with w | w
              · exact w
              · omega
            have hjl := rk_kp_le hT hc q
            rw [hca, a3, if_pos k7] at hjl
            by_cases hj0 : j ≤ L p
            · rw [if_pos hj0] at p4; exact Or.inl (Or.inr ⟨hca, by omega⟩)
            · exact Or.inr ⟨hca, by omega⟩
    · unfold rk_DX rk_sr
      constructor
      · intro w
        rcases w with w | ⟨w1, w2⟩
        · rcases w with w | ⟨p, p1, p2, p3⟩
          · exact Or.inl w
          · exact Or.inr ⟨p, p1, p2, by omega⟩
        · right; subst w1 w2; exact ⟨a, by omega, a2, Or.inr ⟨rfl, by rw [if_pos hi]; omega⟩⟩
      · intro w
        rcases w with w | ⟨p, p1, p2, p3⟩
        · exact Or.inl (Or.inl w)
        · rcases p3 with p3 | ⟨p3, p4⟩
          · exact Or.inl (Or.inr ⟨p, p1, p2, Or.inl p3⟩)
          · subst p3
            have hca : c = p + 1 := by
              rcases rk_CT_ch hT hc (by omega) p2 with w | w
              · exact w
              · omega
            by_cases hj0 : j ≤ L p
            · rw [if_pos hj0] at p4
              by_cases hji : j = i
              · exact Or.inr ⟨hca, hji⟩
              · exact Or.inl (Or.inr ⟨p, p1, p2, Or.inr ⟨rfl, by rw [if_pos hj0]; omega⟩⟩)
            · rw [if_neg hj0] at p4
              have w := (rk_kp_s hPA hN.2 hc p1 p2).mp q
              rcases w.2 with w | w
              · omega
              · by_cases hi0 : i = 0
                · exact absurd ⟨w.1, hi0, w.2.2.2⟩ n7
                · exact Or.inl (Or.inr ⟨p, p1, p2, Or.inr ⟨rfl, by rw [if_neg hj0]; omega⟩⟩)
  · obtain ⟨a1, a2, a3, a4, a5, a6, a7, a8, a9⟩ := hT2 a ha g
    have k7 : ¬ kd a = 7 := fun q => by rw [q] at g; exact absurd g (by decide)
    rw [hB.2.1.2.1 a ha g, rk_ix]
    refine br_f (nI_pos (by omega)) ⟨hin, rk_xkp (p := a) hB hE a5 (by omega) a6 (by omega) h1 (fun q => (rk_kp_s hPA hN.2 a5 (by omega) a6).mpr ⟨q, Or.inl ⟨hi, hk⟩⟩) (fun ke2 h2 => ?_)⟩
    dsimp only
    refine rk_x36 hB hE ha hi h2 hk (fun ke3 q => absurd q k7) (fun _ => K ke2 (rk_KI_d h2 (fun c j hc hj q => ?_)))
    unfold rk_DX rk_sr
    constructor
    · intro w
      rcases w with (w | ⟨w1, w2⟩) | ⟨w1, w2⟩
      · rcases w with w | ⟨p, p1, p2, p3⟩
        · exact Or.inl w
        · exact Or.inr ⟨p, p1, p2, by omega⟩
      · right; subst w1 w2; exact ⟨a, by omega, a2, Or.inr ⟨rfl, by rw [if_pos hi]; omega⟩⟩
      · right; subst w1 w2; exact ⟨a, by omega, a6, Or.inr ⟨rfl, by rw [if_pos hi]; omega⟩⟩
    · intro w
      rcases w with w | ⟨p, p1, p2, p3⟩
      · exact Or.inl (Or.inl (Or.inl w))
      · rcases p3 with p3 | ⟨p3, p4⟩
        · exact Or.inl (Or.inl (Or.inr ⟨p, p1, p2, Or.inl p3⟩))
        · subst p3
          have w := (rk_kp_s hPA hN.2 hc p1 p2).mp q
          have hj0 : j ≤ L p := by
            rcases w.2 with w | w
            · exact w.1
            · exact absurd w.1 k7
          rw [if_pos hj0] at p4
          by_cases hji : j = i
          · rcases rk_CT_ch hT hc (by omega) p2 with w | w
            · exact Or.inl (Or.inr ⟨w, hji⟩)
            · exact Or.inr ⟨w.2, hji⟩
          · exact Or.inl (Or.inl (Or.inr ⟨p, p1, p2, Or.inr ⟨rfl, by rw [if_pos hj0]; omega⟩⟩))
theorem rk_DX_e (hT : rk_CT N kd pa L Q e) {a : Nat} {ke : Nat → Int32} (ha : a < N) (hI : rk_KI N (rk_kp kd pa se L T R 41) (rk_DX pa L a (L a + 1)) ke) : rk_KI N (rk_kp kd pa se L T R 41) (rk_DX pa L (a + 1) 0) ke := by
  refine rk_KI_d hI (fun c j hc hj q => ?_)
  unfold rk_DX
  constructor
  · intro w
    rcases w with w | ⟨p, p1, p2, p3⟩
    · exact Or.inl w
    · exact Or.inr ⟨p, p1, p2, by omega⟩
  · intro w
    rcases w with w | ⟨p, p1, p2, p3⟩
    · exact Or.inl w
    · refine Or.inr ⟨p, p1, p2, ?_⟩
      by_cases g : p < a
      · exact Or.inl g
      · have e1 : p = a := by omega
        subst e1
        refine Or.inr ⟨rfl, ?_⟩
        unfold rk_sr
        by_cases hj0 : j ≤ L p
        · rw [if_pos hj0]; omega
        · rw [if_neg hj0]; omega
theorem rk_xmk51 {post : SX → Prop} {a : Nat} {J : Int32 → Int32 → Int32 → Int32 → Int32 → Int32 → Int32 → Int32 → Int32 → Int32 → Int32 → (Nat → Int32) → (Nat → Int32) → (Nat → Int32) → (Nat → Int32) → (Nat → Int32) → (Nat → Int32) → (Nat → Int32) → (Nat → Int32) → (Nat → Int32) → (Nat → Int32) → (Nat → Int32) → (Nat → Int32) → (Nat → Int32) → (Nat → Int32) → (Nat → Int32) → (Nat → Int32) → (Nat → Int32) → (Nat → Int32) → (Nat → Int32) → Prop}
    (hB : rk_B N S kd ar pa sc le bd L Q e sl) (hE : rk_XE N L T ra mu ca si) (ha : a < N) (K : ∀ ke' : Nat → Int32, rk_KI N (rk_kp kd pa se L T R 41) (rk_DX pa L (a + 1) 0) ke' → J (nI (a + 1)) mN sN mL mT ct lk op ph tk vd kd ar pa sc la le tl bd se wa gv ra mu ca si ns ke' fz ch) :
    ∀ (d i m : Nat) (ke : Nat → Int32), i + d = L a + 1 → d < m → rk_KI N (rk_kp kd pa se L T R 41) (rk_DX pa L a i) ke → wX_markKept_51 post J (nI a) (nI (rk_ar (kd a))) m (nI i) mN sN mL mT ct lk op ph tk vd kd ar pa sc la le tl bd se wa gv ra mu ca si ns ke fz ch := by
  have hN := hB.1.1
  have hL := hB.1.2.2.2.1 a ha
  have hPA := rk_CT_PA hB.1
  have har3 := rk_ar_3 (kd a)
  intro d
  induction d with
  | zero =>
    intro i m ke hi hm hI
    obtain ⟨m, rfl⟩ : ∃ z, m = z + 1 := ⟨m - 1, by omega⟩
    have ei : i = L a + 1 := by omega
    subst ei
    rw [wX_markKept_51]
    dsimp only
    rw [nI_clamp (by omega), hB.2.1.1 a ha]
    exact ⟨vp_in_nI (by omega) (by omega), br_t (nI_lt (by omega) (by omega)) (nm_r (nI_1 a) (K ke (rk_DX_e hB.1 ha hI)))⟩
  | succ d ih =>
    intro i m ke hi hm hI
    obtain ⟨m, rfl⟩ : ∃ z, m = z + 1 := ⟨m - 1, by omega⟩
    rw [wX_markKept_51]
    dsimp only
    rw [nI_clamp (show a < 2 ^ 31 by omega), hB.2.1.1 a ha, rk_ix, nI_clamp (show a * 3 + i < 2 ^ 31 by omega)]
    have hDa : rk_DX pa L a i a i := by
      unfold rk_DX
      rcases hPA a ha with w | ⟨p, p1, p2⟩
      · exact Or.inl w.1
      · exact Or.inr ⟨p, p1, p2, Or.inl p1⟩
    have hskip : ¬ (rk_kp kd pa se L T R 41 a i ∧ 0 < rk_ar (kd a)) → rk_KI N (rk_kp kd pa se L T R 41) (rk_DX pa L a (i + 1)) ke := by
      intro nk
      refine rk_KI_d hI (fun c j hc hj q => ?_)
      unfold rk_DX
      constructor
      · intro w
        rcases w with w | ⟨p, p1, p2, p3⟩
        · exact Or.inl w
        · exact Or.inr ⟨p, p1, p2, by omega⟩
      · intro w
        rcases w with w | ⟨p, p1, p2, p3⟩
        · exact Or.inl w
        · refine Or.inr ⟨p, p1, p2, ?_⟩
          rcases p3 with p3 | ⟨p3, p4⟩
          · exact Or.inl p3
          · subst p3
            refine Or.inr ⟨rfl, ?_⟩
            by_cases e1 : rk_sr L p j = i
            · exfalso
              have w := (rk_kp_s hPA hN.2 hc p1 p2).mp q
              have hpos : 0 < rk_ar (kd p) := by
                obtain ⟨p', b1, b2, b3, b4⟩ := hB.1.2.2.2.2.2.2.2.2 c (by omega) hc
                rw [p2, nI_eq (by omega) (by omega)] at b2
                subst b2; exact b3
              unfold rk_sr at e1
              rcases w.2 with w | w
              · rw [if_pos w.1] at e1; subst e1; exact nk ⟨w.2, hpos⟩
              · rw [if_neg (by omega)] at e1; subst e1; exact nk ⟨w.2.2.1, hpos⟩
            · omega
    have hgo : ∀ ke' : Nat → Int32, rk_KI N (rk_kp kd pa se L T R 41) (rk_DX pa L a (i + 1)) ke' → ∀ x, x = nI i + 1 → wX_markKept_51 post J (nI a) (nI (rk_ar (kd a))) m x mN sN mL mT ct lk op ph tk vd kd ar pa sc la le tl bd se wa gv ra mu ca si ns ke' fz ch := fun ke' h => nm_r (nI_1 i) (ih (i + 1) m ke' (by omega) (by omega) h)
    refine ⟨vp_in_nI (by omega) (by omega), br_f (nI_nlt (by omega) (by omega)) (pk_le (rk_ar (kd a)) 0 (fun z => hgo ke (hskip (by omega))) (fun z => ⟨vp_in_nI (by omega) (by omega), br_c (fun q => hgo ke (hskip (fun w => ((hI a i ha (by omega)).2.mpr ⟨w.1, hDa⟩) q))) (fun q => ?_)⟩))⟩
    exact rk_xkc hB hE ha (by omega) z hI (((hI a i ha (by omega)).2.mp q).1) hgo
theorem rk_xmk30 {post : SX → Prop} (hB : rk_B N S kd ar pa sc le bd L Q e sl) (hc : ct = nI N) (hE : rk_XE N L T ra mu ca si) (K : ∀ ke' : Nat → Int32, rk_KI N (rk_kp kd pa se L T R 41) (fun _ _ => True) ke' → post (mN, sN, mL, mT, ct, lk, op, ph, tk, vd, kd, ar, pa, sc, la, le, tl, bd, se, wa, gv, ra, mu, ca, si, ns, ke', fz, ch)) :
    ∀ (d a m : Nat) (ke : Nat → Int32), a + d = N → d < m → rk_KI N (rk_kp kd pa se L T R 41) (rk_DX pa L a 0) ke → wX_markKept_30 post m (nI a) mN sN mL mT ct lk op ph tk vd kd ar pa sc la le tl bd se wa gv ra mu ca si ns ke fz ch := by
  have hN := hB.1.1
  subst hc
  intro d
  induction d with
  | zero =>
    intro a m ke ha hm hI
    obtain ⟨m, rfl⟩ : ∃ z, m = z + 1 := ⟨m - 1, by omega⟩
    rw [wX_markKept_30]
    refine br_t (nI_le (by omega) (by omega)) (K ke (rk_KI_d hI (fun c j hc hj q => ⟨fun _ => trivial, fun _ => ?_⟩)))
    unfold rk_DX
    rcases rk_CT_PA hB.1 c hc with w | ⟨p, p1, p2⟩
    · exact Or.inl w.1
    · exact Or.inr ⟨p, p1, p2, Or.inl (by omega)⟩
  | succ d ih =>
    intro a m ke ha hm hI
    obtain ⟨m, rfl⟩ : ∃ z, m = z + 1 := ⟨m - 1, by omega⟩
    have hL := hB.1.2.2.2.1 a (by omega)
    rw [wX_markKept_30]
    dsimp only
    rw [nI_clamp (show a < 2 ^ 31 by omega)]
    refine br_f (nI_ge (by omega) (by omega)) ⟨vp_in_nI (by omega) (by omega), rk_xcc ⟨L a + 2, ?_⟩⟩
    exact rk_xmk51 hB hE (by omega) (fun ke' h => ih (a + 1) m ke' (by omega) (by omega) h) (L a + 1) 0 (L a + 2) ke (by omega) (by omega) hI
theorem rk_xmk2 {post : SX → Prop} (K : ∀ ke' : Nat → Int32, (∀ j, j < 120 → ke' j = 0) → ∀ ke2, ke2 = upd ke' 0 (vp_nar .boolean 1) → ∃ n30 : Nat, wX_markKept_30 post n30 0 mN sN mL mT ct lk op ph tk vd kd ar pa sc la le tl bd se wa gv ra mu ca si ns ke2 fz ch) :
    ∀ (d i m : Nat) (ke : Nat → Int32), i + d = 120 → d < m → (∀ j, j < i → ke j = 0) → wX_markKept_2 post mN sN mL mT ct lk op ph tk vd m (nI i) kd ar pa sc la le tl bd se wa gv ra mu ca si ns ke fz ch := by
  intro d
  induction d with
  | zero =>
    intro i m ke hi hm h
    obtain ⟨m, rfl⟩ : ∃ z, m = z + 1 := ⟨m - 1, by omega⟩
    rw [wX_markKept_2]
    exact br_t (nI_le (a := 120) (by omega) (by omega)) (K ke (fun j hj => h j (by omega)))
  | succ d ih =>
    intro i m ke hi hm h
    obtain ⟨m, rfl⟩ : ∃ z, m = z + 1 := ⟨m - 1, by omega⟩
    rw [wX_markKept_2]
    dsimp only
    rw [nI_clamp (by omega)]
    refine br_f (nI_ge (b := 120) (by omega) (by decide)) ⟨vp_in_nI (by omega) (by omega), nm_e (nm_r (nI_1 i) (ih (i + 1) m _ (by omega) (by omega) (fun j hj => ?_)))⟩
    by_cases e1 : j = i
    · subst e1; rw [pk_us]; exact rk_b0
    · rw [pk_un e1]; exact h j (by omega)
theorem rk_xmk {post : SX → Prop} (hB : rk_B N S kd ar pa sc le bd L Q e sl) (hc : ct = nI N) (hE : rk_XE N L T ra mu ca si) (hR : R) (K : ∀ ke' : Nat → Int32, rk_KI N (rk_kp kd pa se L T R 41) (fun _ _ => True) ke' → post (mN, sN, mL, mT, ct, lk, op, ph, tk, vd, kd, ar, pa, sc, la, le, tl, bd, se, wa, gv, ra, mu, ca, si, ns, ke', fz, ch)) : wpX_markKept post (mN, sN, mL, mT, ct, lk, op, ph, tk, vd, kd, ar, pa, sc, la, le, tl, bd, se, wa, gv, ra, mu, ca, si, ns, ke, fz, ch) := by
  have hN := hB.1.1
  unfold wpX_markKept
  dsimp only
  refine ⟨121, rk_xmk2 (fun ke1 h1 ke2 h2 => ⟨N + 1, ?_⟩) 120 0 121 ke (by omega) (by omega) (fun j hj => by omega)⟩
  refine rk_xmk30 hB hc hE K N 0 (N + 1) ke2 (by omega) (by omega) (fun c j hcN hj => ?_)
  rw [h2, rk_b1]
  by_cases e1 : c = 0
  · subst e1
    by_cases e2 : j = 0
    · subst e2
      rw [show 0 * 3 + 0 = 0 from rfl, pk_us]
      exact ⟨Or.inr rfl, fun _ => ⟨(rk_kp_0 0).mpr ⟨rfl, hR⟩, Or.inl rfl⟩, fun _ => by decide⟩
    · rw [pk_un (by omega), h1 _ (by omega)]
      exact ⟨Or.inl rfl, fun q => absurd rfl q, fun q => absurd ((rk_kp_0 j).mp q.1).1 e2⟩
  · rw [pk_un (by omega), h1 _ (by omega)]
    refine ⟨Or.inl rfl, fun q => absurd rfl q, fun q => ?_⟩
    rcases q.2 with w | ⟨p, p1, p2, p3⟩
    · exact absurd w e1
    · omega
end
end
section
/-! ===== the kept pairs in the reference ===== -/
section
variable {mN sN mL mT ct ph tk vd : Int32} {kd ar pa se nx yk wa gv ys yw yc : Nat → Int32} {N S : Nat} {L Q e : Nat → Nat} {sl : Nat → Nat → Nat} {bd : Nat → Int32} {T : Nat → Int32} {R : Prop}
theorem rk_ycode {c j k : Nat} (hE : ∀ z, rk_E N L (rk_ES N S kd L) z → rk_gl ys yw yc z = T z) (hc : c < N) (hj : j ≤ L c) (hk : k < 5) : yc ((c * 3 + j) * 5 + k) = rk_c T c j k := by
  have := hE _ (rk_E_c (k := k) hc hj hk)
  rw [show rk_gl ys yw yc (248 + ((c * 3 + j) * 5 + k)) = yc ((c * 3 + j) * 5 + k) from rk_gl_c] at this
  exact this
theorem rk_DY_s {a i c j p : Nat} (hp : p < a) (hpe : pa a = nI p) (ha : a < 40) : rk_DY pa L a (i + 1) c j ↔ (rk_DY pa L a i c j ∨ (c = a ∧ rk_sr L p j = i)) := by
  unfold rk_DY
  constructor
  · intro w
    rcases w with w | ⟨w1, p', p1, p2, p3⟩
    · exact Or.inl (Or.inl w)
    · subst w1
      rw [hpe, nI_eq (by omega) (by omega)] at p2
      subst p2
      by_cases g : rk_sr L p j = i
      · exact Or.inr ⟨rfl, g⟩
      · exact Or.inl (Or.inr ⟨rfl, p, p1, hpe, by omega⟩)
  · intro w
    rcases w with (w | ⟨w1, p', p1, p2, p3⟩) | ⟨w1, w2⟩
    · exact Or.inl w
    · exact Or.inr ⟨w1, p', p1, p2, by omega⟩
    · subst w1; exact Or.inr ⟨rfl, p, hp, hpe, by omega⟩
theorem rk_yk117 {post : SY → Prop} {J42 J66 : Int32 → (Nat → Int32) → (Nat → Int32) → (Nat → Int32) → (Nat → Int32) → (Nat → Int32) → (Nat → Int32) → (Nat → Int32) → (Nat → Int32) → (Nat → Int32) → (Nat → Int32) → (Nat → Int32) → Prop} {a p i : Nat}
    (hB : rk_YB N S kd ar pa bd L Q e sl) (hE : ∀ z, rk_E N L (rk_ES N S kd L) z → rk_gl ys yw yc z = T z) (ha : a < N) (hp : p < a) (hpe : pa a = nI p) (hi : i ≤ L p) (hk : rk_kp kd pa se L T R 41 p i)
    (hI : rk_KI N (rk_kp kd pa se L T R 41) (fun c j => rk_DY pa L a i c j ∨ (c = a ∧ j = i)) yk)
    (K : ∀ yk' : Nat → Int32, rk_KI N (rk_kp kd pa se L T R 41) (rk_DY pa L a (i + 1)) yk' → J66 (nI (i + 1)) kd ar pa se nx yk' wa gv ys yw yc) : wY_selectNext_117 post J42 J66 (nI a) (nI p) (nI (L p)) (nI i) mN sN mL mT ct ph tk vd kd ar pa se nx yk wa gv ys yw yc := by
  have hT := hB.1
  have hN := hT.1
  have hPA := rk_CT_PA hT
  have hL := hT.2.2.2.1 p (by omega)
  have hLa := rk_CT_Lp hT ha hp hpe
  have hinp : vp_in (nI p) 40 := vp_in_nI (by omega) (by omega)
  have hend : ¬ (kd p = 7 ∧ i = 0 ∧ ¬ se p = 0 ∧ rk_c T a (L p + 1) 1 = 1) → rk_KI N (rk_kp kd pa se L T R 41) (rk_DY pa L a (i + 1)) yk := fun n7 => by
    refine rk_KI_d hI (fun c j hc hj q => ?_)
    rw [rk_DY_s hp hpe (by omega)]
    refine or_congr Iff.rfl (and_congr_right (fun w => ?_))
    subst w
    unfold rk_sr
    have v := (rk_kp_s hPA hN.2 hc hp hpe).mp q
    by_cases hj0 : j ≤ L p
    · rw [if_pos hj0]
    · rw [if_neg hj0]
      rcases v.2 with v2 | v2
      · omega
      · constructor
        · intro w; omega
        · intro w; exact absurd ⟨v2.1, w.symm, v2.2.2.2, by rw [← v2.2.1]; exact v.1⟩ n7
  unfold wY_selectNext_117
  rw [nI_clamp (show p < 2 ^ 31 by omega)]
  refine ⟨hinp, br_c (fun k7 => pk_eq i 0 (fun z => ⟨hinp, br_c (fun s => nm_r (nI_1 i) (K yk (hend (fun q => q.2.2.1 s)))) (fun s => ?_)⟩) (fun z => nm_r (nI_1 i) (K yk (hend (fun q => z q.2.1))))) (fun k7 => nm_r (nI_1 i) (K yk (hend (fun q => k7 q.1))))⟩
  rw [if_pos k7] at hLa
  have hLa2 := hT.2.2.2.1 a ha
  rw [rk_ix, nI_1, show nI (a * 3 + L p + 1) * 5 + 1 = nI ((a * 3 + (L p + 1)) * 5 + 1) from by
    rw [show nI (a * 3 + L p + 1) * 5 = nI (a * 3 + L p + 1) * nI 5 from rfl, pk_mul, nI_1]; rfl, nI_clamp (show (a * 3 + (L p + 1)) * 5 + 1 < 2 ^ 31 by omega), rk_ycode hE ha (by omega) (by omega)]
  refine ⟨vp_in_nI (by omega) (by omega), br_c (fun q => ⟨vp_in_nI (by omega) (by omega), nm_e (nm_r (nI_1 i) ?_)⟩) (fun q => nm_r (nI_1 i) (K yk (hend (fun w => q w.2.2.2))))⟩
  rw [nI_clamp (by omega), rk_b1]
  have hkp : rk_kp kd pa se L T R 41 a (L p + 1) := (rk_kp_s hPA hN.2 ha hp hpe).mpr ⟨q, Or.inr ⟨k7, rfl, by rw [← z]; exact hk, s⟩⟩
  refine K _ (rk_KI_d (rk_KI_u hI (by omega) hkp) (fun c j hc hj kq => ?_))
  rw [rk_DY_s hp hpe (by omega), or_assoc]
  refine or_congr Iff.rfl ?_
  constructor
  · intro w
    rcases w with ⟨w1, w2⟩ | ⟨w1, w2⟩
    · refine ⟨w1, ?_⟩; unfold rk_sr; rw [if_pos (by omega)]; exact w2
    · refine ⟨w1, ?_⟩; unfold rk_sr; rw [if_neg (by omega)]; exact z.symm
  · intro w
    obtain ⟨w1, w2⟩ := w
    subst w1
    unfold rk_sr at w2
    have hjl := rk_kp_le hT hc kq
    by_cases hj0 : j ≤ L p
    · rw [if_pos hj0] at w2; exact Or.inl ⟨rfl, w2⟩
    · exact Or.inr ⟨rfl, by omega⟩
theorem rk_yk66 {post : SY → Prop} {J42 : Int32 → (Nat → Int32) → (Nat → Int32) → (Nat → Int32) → (Nat → Int32) → (Nat → Int32) → (Nat → Int32) → (Nat → Int32) → (Nat → Int32) → (Nat → Int32) → (Nat → Int32) → (Nat → Int32) → Prop} {a p : Nat}
    (hB : rk_YB N S kd ar pa bd L Q e sl) (hE : ∀ z, rk_E N L (rk_ES N S kd L) z → rk_gl ys yw yc z = T z) (ha : a < N) (hp : p < a) (hpe : pa a = nI p)
    (K : ∀ yk' : Nat → Int32, rk_KI N (rk_kp kd pa se L T R 41) (rk_DY pa L (a + 1) 0) yk' → J42 (nI (a + 1)) kd ar pa se nx yk' wa gv ys yw yc) :
    ∀ (d i m : Nat) (yk : Nat → Int32), i + d = L p + 1 → d < m → rk_KI N (rk_kp kd pa se L T R 41) (rk_DY pa L a i) yk → wY_selectNext_66 post J42 (nI a) (nI p) (nI (L p)) mN sN mL mT ct ph tk vd m (nI i) kd ar pa se nx yk wa gv ys yw yc := by
  have hT := hB.1
  have hN := hT.1
  have hPA := rk_CT_PA hT
  have hL := hT.2.2.2.1 p (by omega)
  have hLa := rk_CT_Lp hT ha hp hpe
  intro d
  induction d with
  | zero =>
    intro i m yk hi hm hI
    obtain ⟨m, rfl⟩ : ∃ z, m = z + 1 := ⟨m - 1, by omega⟩
    rw [wY_selectNext_66]
    refine br_t (nI_lt (by omega) (by omega)) (nm_r (nI_1 a) (K yk (rk_KI_d hI (fun c j hc hj q => ?_))))
    unfold rk_DY
    constructor
    · intro w
      rcases w with w | ⟨w1, _⟩
      · exact Or.inl (by omega)
      · exact Or.inl (by omega)
    · intro w
      by_cases g : c = a
      · subst g
        refine Or.inr ⟨rfl, p, hp, hpe, ?_⟩
        unfold rk_sr
        by_cases hj0 : j ≤ L p
        · rw [if_pos hj0]; omega
        · rw [if_neg hj0]; omega
      · exact Or.inl (by omega)
  | succ d ih =>
    intro i m yk hi hm hI
    obtain ⟨m, rfl⟩ : ∃ z, m = z + 1 := ⟨m - 1, by omega⟩
    rw [wY_selectNext_66]
    dsimp only
    have hDp : rk_DY pa L a i p i := Or.inl hp
    rw [rk_ix, nI_clamp (show p * 3 + i < 2 ^ 31 by omega), rk_ix, nI_clamp (show a * 3 + i < 2 ^ 31 by omega)]
    refine br_f (nI_nlt (by omega) (by omega)) ⟨vp_in_nI (by omega) (by omega), br_c (fun q => nm_r (nI_1 i) (ih (i + 1) m yk (by omega) (by omega) (rk_KI_d hI (fun c j hc hj w => ?_)))) (fun q => ?_)⟩
    · rw [rk_DY_s hp hpe (by omega)]
      refine ⟨Or.inl, fun v => v.resolve_right (fun ⟨v1, v2⟩ => ?_)⟩
      subst v1
      have nk : ¬ rk_kp kd pa se L T R 41 p i := fun x => ((hI p i (by omega) (by omega)).2.mpr ⟨x, hDp⟩) q
      have x := (rk_kp_s hPA hN.2 hc hp hpe).mp w
      unfold rk_sr at v2
      rcases x.2 with x | x
      · rw [if_pos x.1] at v2; subst v2; exact nk x.2
      · rw [if_neg (by omega)] at v2; subst v2; exact nk x.2.2.1
    · have hkp := ((hI p i (by omega) (by omega)).2.mp q).1
      rw [show nI (a * 3 + i) * 5 + 1 = nI ((a * 3 + i) * 5 + 1) from by
        rw [show nI (a * 3 + i) * 5 = nI (a * 3 + i) * nI 5 from rfl, pk_mul, nI_1], nI_clamp (show (a * 3 + i) * 5 + 1 < 2 ^ 31 by omega), rk_ycode hE ha (by omega) (by omega)]
      refine ⟨vp_in_nI (by omega) (by omega), br_c (fun v => ⟨vp_in_nI (by omega) (by omega), nm_e ?_⟩) (fun v => ?_)⟩
      · rw [rk_b1]
        have hka : rk_kp kd pa se L T R 41 a i := (rk_kp_s hPA hN.2 ha hp hpe).mpr ⟨v, Or.inl ⟨by omega, hkp⟩⟩
        exact rk_yk117 hB hE ha hp hpe (by omega) hkp (rk_KI_u hI (by omega) hka) (fun yk' h => ih (i + 1) m yk' (by omega) (by omega) h)
      · exact rk_yk117 hB hE ha hp hpe (by omega) hkp (rk_KI_n hI (fun x => v ((rk_kp_s hPA hN.2 ha hp hpe).mp x).1)) (fun yk' h => ih (i + 1) m yk' (by omega) (by omega) h)
theorem rk_yk42 {post : SY → Prop} (hB : rk_YB N S kd ar pa bd L Q e sl) (hct : ct = nI N) (hE : ∀ z, rk_E N L (rk_ES N S kd L) z → rk_gl ys yw yc z = T z)
    (K : ∀ yk : Nat → Int32, rk_KI N (rk_kp kd pa se L T R 41) (fun _ _ => True) yk → ∃ q : Nat, wY_selectNext_189 post mN sN mL mT ct ph tk vd q 0 kd ar pa se nx yk wa gv ys yw yc) :
    ∀ (d a m : Nat) (yk : Nat → Int32), a + d = N → 0 < a → d < m → rk_KI N (rk_kp kd pa se L T R 41) (rk_DY pa L a 0) yk → wY_selectNext_42 post mN sN mL mT ct ph tk vd m (nI a) kd ar pa se nx yk wa gv ys yw yc := by
  have hT := hB.1
  have hN := hT.1
  have hPA := rk_CT_PA hT
  subst hct
  intro d
  induction d with
  | zero =>
    intro a m yk ha ha0 hm hI
    obtain ⟨m, rfl⟩ : ∃ z, m = z + 1 := ⟨m - 1, by omega⟩
    rw [wY_selectNext_42]
    exact br_t (nI_le (by omega) (by omega)) (K yk (rk_KI_d hI (fun c j hc hj q => ⟨fun _ => trivial, fun _ => Or.inl (by omega)⟩)))
  | succ d ih =>
    intro a m yk ha ha0 hm hI
    obtain ⟨m, rfl⟩ : ∃ z, m = z + 1 := ⟨m - 1, by omega⟩
    rw [wY_selectNext_42]
    dsimp only
    rw [nI_clamp (show a < 2 ^ 31 by omega)]
    rcases hPA a (by omega) with w | ⟨p, p1, p2⟩
    · omega
    · have hL := hT.2.2.2.1 p (by omega)
      refine br_f (nI_ge (by omega) (by omega)) ⟨vp_in_nI (by omega) (by omega), nm_r p2 (rk_ylv hN.2 hPA (rk_CT_cu hT) (by omega) ⟨L p + 2, ?_⟩)⟩
      exact rk_yk66 hB hE (by omega) p1 p2 (fun yk' h => ih (a + 1) m yk' (by omega) (by omega) (by omega) h) (L p + 1) 0 (L p + 2) yk (by omega) (by omega) hI
theorem rk_yk2 {post : SY → Prop} {r : Int32} (hr : r = 0 ∨ r = 1) (hv : vd = 1 ↔ r = 1) (K : ∀ yk' : Nat → Int32, (∀ j, j < 120 → yk' j = 0) → ∃ q : Nat, wY_selectNext_42 post mN sN mL mT ct ph tk vd q 1 kd ar pa se nx (upd yk' 0 r) wa gv ys yw yc) :
    ∀ (d i m : Nat) (yk : Nat → Int32), i + d = 120 → d < m → (∀ j, j < i → yk j = 0) → wY_selectNext_2 post mN sN mL mT ct ph tk vd m (nI i) kd ar pa se nx yk wa gv ys yw yc := by
  intro d
  induction d with
  | zero =>
    intro i m yk hi hm h
    obtain ⟨m, rfl⟩ : ∃ z, m = z + 1 := ⟨m - 1, by omega⟩
    rw [wY_selectNext_2]
    have h' := K yk (fun j hj => h j (by omega))
    refine br_t (nI_le (a := 120) (by omega) (by omega)) (br_c (fun q => nm_e ?_) (fun q => nm_e ?_))
    · rw [hv.mp q] at h'; exact h'
    · rcases hr with hr | hr
      · rw [hr] at h'; exact h'
      · exact absurd (hv.mpr hr) q
  | succ d ih =>
    intro i m yk hi hm h
    obtain ⟨m, rfl⟩ : ∃ z, m = z + 1 := ⟨m - 1, by omega⟩
    rw [wY_selectNext_2]
    dsimp only
    rw [nI_clamp (by omega)]
    refine br_f (nI_ge (b := 120) (by omega) (by decide)) ⟨vp_in_nI (by omega) (by omega), nm_e (nm_r (nI_1 i) (ih (i + 1) m _ (by omega) (by omega) (fun j hj => ?_)))⟩
    by_cases e1 : j = i
    · subst e1; rw [pk_us]; exact rk_b0
    · rw [pk_un e1]; exact h j (by omega)
end
end
section
/-! ===== the next selection ===== -/
def rk_FR (kd se : Nat → Int32) (sl : Nat → Nat → Nat) (T : Nat → Int32) (kp : Nat → Nat → Prop) (m : Nat) : Prop := kd m = 8 ∧ kp m 0 ∧ ¬ se m = 0 ∧ T (sl m 0) = 1
def rk_fz (pa : Nat → Int32) (FR : Nat → Prop) : Nat → Nat → Prop
  | 0, _ => False
  | f + 1, n => 0 < n ∧ (rk_fz pa FR f (pa n).toNatClampNeg ∨ FR (pa n).toNatClampNeg)
def rk_CH (kd se : Nat → Int32) (L : Nat → Nat) (kp : Nat → Nat → Prop) (FZ : Nat → Prop) (n : Nat) : Prop := kd n = 1 ∧ ((FZ n ∧ ¬ se n = 0) ∨ ∃ i, i ≤ L n ∧ kp n i)
theorem rk_fz_f {N : Nat} {pa : Nat → Int32} {FR : Nat → Prop} (hp : rk_PA N pa) (hN : N ≤ 40) : ∀ f g n, n < f → n < g → n < N → (rk_fz pa FR f n ↔ rk_fz pa FR g n) := by
  intro f
  induction f with
  | zero => intro g n h; omega
  | succ f ih =>
    intro g n hf hg hn
    obtain ⟨g, rfl⟩ : ∃ q, g = q + 1 := ⟨g - 1, by omega⟩
    simp only [rk_fz]
    rcases hp n hn with ⟨a, b⟩ | ⟨p, a, b⟩
    · subst a
      exact ⟨fun q => absurd q.1 (by omega), fun q => absurd q.1 (by omega)⟩
    · rw [b, nI_clamp (by omega), ih g p (by omega) (by omega) (by omega)]
theorem rk_fz_0 {pa : Nat → Int32} {FR : Nat → Prop} : ¬ rk_fz pa FR 41 0 := by
  simp only [rk_fz]; exact fun q => absurd q.1 (by omega)
theorem rk_fz_s {N : Nat} {pa : Nat → Int32} {FR : Nat → Prop} (hp : rk_PA N pa) (hN : N ≤ 40) {n p : Nat} (hn : n < N) (hpn : p < n) (he : pa n = nI p) : rk_fz pa FR 41 n ↔ (rk_fz pa FR 41 p ∨ FR p) := by
  conv => lhs; unfold rk_fz
  rw [he, nI_clamp (by omega), rk_fz_f hp hN 40 41 p (by omega) (by omega) (by omega)]
  exact ⟨fun q => q.2, fun q => ⟨by omega, q⟩⟩
theorem rk_kp_R {kd pa se : Nat → Int32} {L : Nat → Nat} {T : Nat → Int32} {R : Prop} : ∀ f n i, rk_kp kd pa se L T R f n i → R := by
  intro f
  induction f with
  | zero => intro n i h; exact h.elim
  | succ f ih =>
    intro n i h
    simp only [rk_kp] at h
    rcases h with h | h
    · exact h.2.2
    · rcases h.2.2 with h | h
      · exact ih _ _ h.2
      · exact ih _ _ h.2.2.1
theorem rk_fz_R {kd pa se : Nat → Int32} {L : Nat → Nat} {sl : Nat → Nat → Nat} {T : Nat → Int32} {R : Prop} : ∀ f n, rk_fz pa (rk_FR kd se sl T (rk_kp kd pa se L T R 41)) f n → R := by
  intro f
  induction f with
  | zero => intro n h; exact h.elim
  | succ f ih =>
    intro n h
    simp only [rk_fz] at h
    rcases h.2 with h | h
    · exact ih _ h
    · exact rk_kp_R _ _ _ h.2.1
theorem rk_CH_R {kd pa se : Nat → Int32} {L : Nat → Nat} {sl : Nat → Nat → Nat} {T : Nat → Int32} {R : Prop} {n : Nat} (h : rk_CH kd se L (rk_kp kd pa se L T R 41) (rk_fz pa (rk_FR kd se sl T (rk_kp kd pa se L T R 41)) 41) n) : R := by
  rcases h.2 with h | ⟨i, _, h⟩
  · exact rk_fz_R _ _ h.1
  · exact rk_kp_R _ _ _ h
def rk_pg (pa : Nat → Int32) : Nat → (Nat → Int32) → (Nat → Int32)
  | 0, s => s
  | n + 1, s => if s (n + 1) = 0 then rk_pg pa n s else rk_pg pa n (upd s (pa (n + 1)).toNatClampNeg 1)
theorem rk_pg_z {pa : Nat → Int32} {s : Nat → Int32} : ∀ n, (∀ m, m ≤ n → s m = 0) → rk_pg pa n s = s := by
  intro n
  induction n with
  | zero => intro _; rfl
  | succ n ih => intro h; unfold rk_pg; rw [if_pos (h (n + 1) (by omega))]; exact ih (fun m hm => h m (by omega))
theorem rk_pg_hi {N : Nat} {pa : Nat → Int32} (hp : rk_PA N pa) (hN : N ≤ 40) {j : Nat} (hj : N ≤ j) : ∀ n (s : Nat → Int32), n < N → rk_pg pa n s j = s j := by
  intro n
  induction n with
  | zero => intro s _; rfl
  | succ n ih =>
    intro s hn
    unfold rk_pg
    by_cases g : s (n + 1) = 0
    · rw [if_pos g]; exact ih s (by omega)
    · rw [if_neg g, ih _ (by omega)]
      rcases hp (n + 1) hn with ⟨a, b⟩ | ⟨p, a, b⟩
      · omega
      · rw [b, nI_clamp (by omega), pk_un (by omega)]
def rk_zr (s : Nat → Int32) (k : Nat) : Nat → Int32 := fun j => if j < k then 0 else s j
theorem rk_zr_0 (s : Nat → Int32) : rk_zr s 0 = s := by funext j; unfold rk_zr; rw [if_neg (by omega)]
theorem rk_zr_s (s : Nat → Int32) (k : Nat) : upd (rk_zr s k) k (vp_nar .boolean 0) = rk_zr s (k + 1) := by
  funext j
  by_cases e : j = k
  · subst e; rw [pk_us]; unfold rk_zr; rw [if_pos (by omega)]; exact rk_b0
  · rw [pk_un e]; unfold rk_zr
    by_cases g : j < k
    · rw [if_pos g, if_pos (by omega)]
    · rw [if_neg g, if_neg (by omega)]
/-- the work arrays of the component's selection hold what they should for the nodes below n -/
def rk_SI (FZ CH : Nat → Prop) (n : Nat) (fz ch : Nat → Int32) : Prop := ∀ m, m < n → ((fz m = 0 ∨ fz m = 1) ∧ (¬ fz m = 0 ↔ FZ m)) ∧ ((ch m = 0 ∨ ch m = 1) ∧ (¬ ch m = 0 ↔ CH m))
theorem rk_SI_u {FZ CH : Nat → Prop} {n : Nat} {fz ch : Nat → Int32} {x y : Int32} (h : rk_SI FZ CH n fz ch) (hx : (x = 0 ∨ x = 1) ∧ (¬ x = 0 ↔ FZ n)) (hy : (y = 0 ∨ y = 1) ∧ (¬ y = 0 ↔ CH n)) : rk_SI FZ CH (n + 1) (upd fz n x) (upd ch n y) := by
  intro m hm
  by_cases e : m = n
  · subst e; rw [pk_us, pk_us]; exact ⟨hx, hy⟩
  · rw [pk_un e, pk_un e]; exact h m (by omega)
section
variable {mN sN mL mT ct lk op ph tk vd : Int32} {kd ar pa sc la le tl bd se wa gv ra mu ca si ns ke fz ch : Nat → Int32} {N S : Nat} {L Q e : Nat → Nat} {sl : Nat → Nat → Nat} {T : Nat → Int32} {R : Prop}
theorem rk_xks {post : Int32 → Prop} {n : Nat} (hB : rk_B N S kd ar pa sc le bd L Q e sl) (hn : n < N) (hI : rk_KI N (rk_kp kd pa se L T R 41) (fun _ _ => True) ke) (h1 : (∃ i, i ≤ L n ∧ rk_kp kd pa se L T R 41 n i) → post 1) (h0 : ¬ (∃ i, i ≤ L n ∧ rk_kp kd pa se L T R 41 n i) → post 0) : wpX_keptSomewhere post (mN, sN, mL, mT, ct, lk, op, ph, tk, vd, kd, ar, pa, sc, la, le, tl, bd, se, wa, gv, ra, mu, ca, si, ns, ke, fz, ch) (nI n) := by
  have hN := hB.1.1
  have hL := hB.1.2.2.2.1 n hn
  have key : ∀ (d j m : Nat), j + d = L n + 1 → d < m → (∀ j', j' < j → ¬ rk_kp kd pa se L T R 41 n j') → wX_keptSomewhere_2 post (nI n) mN sN mL mT ct lk op ph tk vd kd ar pa sc la le tl bd se wa gv ra mu ca si ns ke fz ch m (nI j) := by
    intro d
    induction d with
    | zero =>
      intro j m hj hm hc
      obtain ⟨m, rfl⟩ : ∃ z, m = z + 1 := ⟨m - 1, by omega⟩
      rw [wX_keptSomewhere_2]
      dsimp only
      rw [nI_clamp (by omega), hB.2.1.1 n hn]
      exact ⟨vp_in_nI (by omega) (by omega), br_t (nI_lt (by omega) (by omega)) (h0 (fun ⟨i, a, b⟩ => hc i (by omega) b))⟩
    | succ d ih =>
      intro j m hj hm hc
      obtain ⟨m, rfl⟩ : ∃ z, m = z + 1 := ⟨m - 1, by omega⟩
      rw [wX_keptSomewhere_2]
      dsimp only
      rw [nI_clamp (show n < 2 ^ 31 by omega), hB.2.1.1 n hn, rk_ix, nI_clamp (by omega)]
      have hk := (hI n j hn (by omega)).2
      refine ⟨vp_in_nI (by omega) (by omega), br_f (nI_nlt (by omega) (by omega)) ⟨vp_in_nI (by omega) (by omega), br_c (fun q => nm_r (nI_1 j) (ih (j + 1) m (by omega) (by omega) (fun j' hj' => ?_))) (fun q => h1 ⟨j, by omega, (hk.mp q).1⟩)⟩⟩
      by_cases e1 : j' = j
      · subst e1; exact fun w => (hk.mpr ⟨w, trivial⟩) q
      · exact hc j' (by omega)
  unfold wpX_keptSomewhere
  dsimp only
  exact ⟨L n + 2, key (L n + 1) 0 (L n + 2) (by omega) (by omega) (fun j' hj' => by omega)⟩
theorem rk_xfr {post : Int32 → Prop} {m : Nat} (hB : rk_B N S kd ar pa sc le bd L Q e sl) (hv : ∀ z, rk_v3 (T z)) (hE : rk_XE N L T ra mu ca si) (hm : m < N) (hI : rk_KI N (rk_kp kd pa se L T R 41) (fun _ _ => True) ke) (h1 : rk_FR kd se sl T (rk_kp kd pa se L T R 41) m → post 1) (h0 : ¬ rk_FR kd se sl T (rk_kp kd pa se L T R 41) m → post 0) : wpX_freezes post (mN, sN, mL, mT, ct, lk, op, ph, tk, vd, kd, ar, pa, sc, la, le, tl, bd, se, wa, gv, ra, mu, ca, si, ns, ke, fz, ch) (nI m) := by
  have hN := hB.1.1
  have hk := (hI m 0 hm (by omega)).2
  have hin : vp_in (nI m) 40 := vp_in_nI (by omega) (by omega)
  unfold wpX_freezes
  dsimp only
  rw [nI_clamp (show m < 2 ^ 31 by omega), rk_ix0, nI_clamp (show m * 3 + 0 < 2 ^ 31 by omega)]
  refine ⟨hin, br_c (fun k8 => ⟨vp_in_nI (by omega) (by omega), br_c (fun q => h0 (fun w => (hk.mpr ⟨w.2.1, trivial⟩) q)) (fun q => ⟨hin, br_c (fun s => h0 (fun w => w.2.2.1 s)) (fun s => ?_)⟩)⟩) (fun k8 => h0 (fun w => k8 w.1))⟩
  have hu := (hB.2.2.1 m hm (Or.inr (Or.inr k8)) 0 (by omega)).2
  refine rk_xsl (i := 0) hN.2 hB.2.1.1 hB.1.2.2.2.1 (hB.2.1.2.2.2.1 m hm (Or.inr (Or.inr k8))) hm (by omega) ?_
  rw [nI_clamp (by omega), hE.1 _ hu]
  have h3 : rk_ev (T (sl m 0)) = 3 ↔ T (sl m 0) = 1 := by
    rcases hv (sl m 0) with z | z | z <;> rw [z] <;> decide
  exact ⟨vp_in_nI hu (by omega), br_c (fun t => h1 ⟨k8, (hk.mp q).1, s, h3.mp t⟩) (fun t => h0 (fun w => t (h3.mpr w.2.2.2)))⟩
theorem rk_x46 {post : SX → Prop} {J : Int32 → (Nat → Int32) → (Nat → Int32) → (Nat → Int32) → (Nat → Int32) → (Nat → Int32) → (Nat → Int32) → (Nat → Int32) → (Nat → Int32) → (Nat → Int32) → (Nat → Int32) → (Nat → Int32) → (Nat → Int32) → (Nat → Int32) → (Nat → Int32) → (Nat → Int32) → (Nat → Int32) → (Nat → Int32) → (Nat → Int32) → (Nat → Int32) → Prop} {n : Nat} {x : Int32}
    (hB : rk_B N S kd ar pa sc le bd L Q e sl) (hn : n < N) (hI : rk_KI N (rk_kp kd pa se L T R 41) (fun _ _ => True) ke) (hS : rk_SI (rk_fz pa (rk_FR kd se sl T (rk_kp kd pa se L T R 41)) 41) (rk_CH kd se L (rk_kp kd pa se L T R 41) (rk_fz pa (rk_FR kd se sl T (rk_kp kd pa se L T R 41)) 41)) n fz ch) (hx : (x = 0 ∨ x = 1) ∧ (¬ x = 0 ↔ rk_fz pa (rk_FR kd se sl T (rk_kp kd pa se L T R 41)) 41 n))
    (K : ∀ fz' ch' : Nat → Int32, rk_SI (rk_fz pa (rk_FR kd se sl T (rk_kp kd pa se L T R 41)) 41) (rk_CH kd se L (rk_kp kd pa se L T R 41) (rk_fz pa (rk_FR kd se sl T (rk_kp kd pa se L T R 41)) 41)) (n + 1) fz' ch' → J (nI (n + 1)) kd ar pa sc la le tl bd se wa gv ra mu ca si ns ke fz' ch') : wX_selectNext_46 post J (nI n) x mN sN mL mT ct lk op ph tk vd kd ar pa sc la le tl bd se wa gv ra mu ca si ns ke fz ch := by
  have hN := hB.1.1
  have hin : vp_in (nI n) 40 := vp_in_nI (by omega) (by omega)
  have hnx : vp_nar .boolean x = x := by
    rcases hx.1 with q | q <;> rw [q] <;> rfl
  have hend : ∀ y : Int32, ((y = 0 ∨ y = 1) ∧ (¬ y = 0 ↔ rk_CH kd se L (rk_kp kd pa se L T R 41) (rk_fz pa (rk_FR kd se sl T (rk_kp kd pa se L T R 41)) 41) n)) → ∀ z, z = nI n + 1 → J z kd ar pa sc la le tl bd se wa gv ra mu ca si ns ke (upd fz n x) (upd ch n y) := fun y hy => nm_r (nI_1 n) (K _ _ (rk_SI_u hS hx hy))
  have h81 : kd n = 1 → (x = 0 ∨ se n = 0) → wX_selectNext_81 post J (nI n) (nI n) mN sN mL mT ct lk op ph tk vd kd ar pa sc la le tl bd se wa gv ra mu ca si ns ke (upd fz n x) ch := by
    intro k1 hor
    have hno : ¬ (rk_fz pa (rk_FR kd se sl T (rk_kp kd pa se L T R 41)) 41 n ∧ ¬ se n = 0) := by
      intro q
      rcases hor with w | w
      · exact (hx.2.mpr q.1) w
      · exact q.2 w
    unfold wX_selectNext_81
    refine rk_xks hB hn hI (fun q => br_f (by decide) ⟨hin, nm_e ?_⟩) (fun q => br_t rfl ⟨hin, nm_e ?_⟩)
    · rw [nI_clamp (by omega), rk_b1]
      exact hend 1 ⟨Or.inr rfl, fun _ => ⟨k1, Or.inr q⟩, fun _ => by decide⟩
    · rw [nI_clamp (by omega), rk_b0]
      refine hend 0 ⟨Or.inl rfl, fun w => absurd rfl w, fun w => ?_⟩
      rcases w.2 with w | w
      · exact absurd w hno
      · exact absurd w q
  unfold wX_selectNext_46
  rw [nI_clamp (show n < 2 ^ 31 by omega), hnx]
  refine ⟨hin, nm_e ⟨hin, br_c (fun k1 => br_c (fun x0 => h81 k1 (Or.inl x0)) (fun x0 => ⟨hin, br_c (fun s => h81 k1 (Or.inr s)) (fun s => ⟨hin, nm_e ?_⟩)⟩)) (fun k1 => ⟨hin, nm_e ?_⟩)⟩⟩
  · rw [rk_b1]
    exact hend 1 ⟨Or.inr rfl, fun _ => ⟨k1, Or.inl ⟨hx.2.mp x0, s⟩⟩, fun _ => by decide⟩
  · rw [rk_b0]
    exact hend 0 ⟨Or.inl rfl, fun w => absurd rfl w, fun w => absurd w.1 k1⟩
theorem rk_xsn2 {post : SX → Prop} (hB : rk_B N S kd ar pa sc le bd L Q e sl) (hc : ct = nI N) (hv : ∀ z, rk_v3 (T z)) (hE : rk_XE N L T ra mu ca si) (hI : rk_KI N (rk_kp kd pa se L T R 41) (fun _ _ => True) ke)
    (K : ∀ fz ch : Nat → Int32, rk_SI (rk_fz pa (rk_FR kd se sl T (rk_kp kd pa se L T R 41)) 41) (rk_CH kd se L (rk_kp kd pa se L T R 41) (rk_fz pa (rk_FR kd se sl T (rk_kp kd pa se L T R 41)) 41)) N fz ch → ∃ q : Nat, wX_selectNext_103 post mN sN mL mT ct lk op ph tk vd q 0 kd ar pa sc la le tl bd se wa gv ra mu ca si ns ke fz ch) :
    ∀ (d n m : Nat) (fz ch : Nat → Int32), n + d = N → d < m → rk_SI (rk_fz pa (rk_FR kd se sl T (rk_kp kd pa se L T R 41)) 41) (rk_CH kd se L (rk_kp kd pa se L T R 41) (rk_fz pa (rk_FR kd se sl T (rk_kp kd pa se L T R 41)) 41)) n fz ch → wX_selectNext_2 post mN sN mL mT ct lk op ph tk vd m (nI n) kd ar pa sc la le tl bd se wa gv ra mu ca si ns ke fz ch := by
  have hN := hB.1.1
  have hPA := rk_CT_PA hB.1
  subst hc
  intro d
  induction d with
  | zero =>
    intro n m fz ch hn hm hS
    obtain ⟨m, rfl⟩ : ∃ z, m = z + 1 := ⟨m - 1, by omega⟩
    have en : n = N := by omega
    subst en
    rw [wX_selectNext_2]
    exact br_t (nI_le (by omega) (by omega)) (K fz ch hS)
  | succ d ih =>
    intro n m fz ch hn hm hS
    obtain ⟨m, rfl⟩ : ∃ z, m = z + 1 := ⟨m - 1, by omega⟩
    rw [wX_selectNext_2]
    dsimp only
    rw [nI_clamp (show n < 2 ^ 31 by omega)]
    refine br_f (nI_ge (by omega) (by omega)) ⟨vp_in_nI (by omega) (by omega), ?_⟩
    have hgo : ∀ x : Int32, ((x = 0 ∨ x = 1) ∧ (¬ x = 0 ↔ rk_fz pa (rk_FR kd se sl T (rk_kp kd pa se L T R 41)) 41 n)) → wX_selectNext_46 post (wX_selectNext_2 post mN sN mL mT (nI N) lk op ph tk vd m) (nI n) x mN sN mL mT (nI N) lk op ph tk vd kd ar pa sc la le tl bd se wa gv ra mu ca si ns ke fz ch := fun x hx => rk_x46 hB (by omega) hI hS hx (fun fz' ch' h => ih (n + 1) m fz' ch' (by omega) (by omega) h)
    rcases hPA n (by omega) with ⟨a, b⟩ | ⟨p, p1, p2⟩
    · subst a
      exact nm_r b (br_t (by decide) (hgo 0 ⟨Or.inl rfl, fun w => absurd rfl w, fun w => absurd w rk_fz_0⟩))
    · have hfs := rk_fz_s (FR := rk_FR kd se sl T (rk_kp kd pa se L T R 41)) hPA hN.2 (show n < N by omega) p1 p2
      refine nm_r p2 (br_f (nI_pos (by omega)) ⟨vp_in_nI (by omega) (by omega), ?_⟩)
      rw [nI_clamp (by omega)]
      have hp := (hS p p1).1.2
      refine br_c (fun q => rk_xfr hB hv hE (by omega) hI (fun w => br_f (by decide) ?_) (fun w => br_t rfl ?_)) (fun q => ?_)
      · unfold wX_selectNext_40 wX_selectNext_45
        exact hgo 1 ⟨Or.inr rfl, fun _ => hfs.mpr (Or.inr w), fun _ => by decide⟩
      · unfold wX_selectNext_45
        refine hgo 0 ⟨Or.inl rfl, fun y => absurd rfl y, fun y => ?_⟩
        rcases hfs.mp y with y | y
        · exact absurd q (hp.mpr y)
        · exact absurd y w
      · unfold wX_selectNext_40 wX_selectNext_45
        exact hgo 1 ⟨Or.inr rfl, fun _ => hfs.mpr (Or.inl (hp.mp q)), fun _ => by decide⟩
theorem rk_xsn136 {post : SX → Prop} (hp : rk_PA N pa) (hN : N ≤ 40) : ∀ (n m : Nat) (se : Nat → Int32), n < N → n < m → post (mN, sN, mL, mT, ct, lk, op, ph, tk, vd, kd, ar, pa, sc, la, le, tl, bd, rk_pg pa n se, wa, gv, ra, mu, ca, si, ns, ke, fz, ch) → wX_selectNext_136 post mN sN mL mT ct lk op ph tk vd m (nI n) kd ar pa sc la le tl bd se wa gv ra mu ca si ns ke fz ch := by
  intro n
  induction n with
  | zero =>
    intro m se _ hm h
    obtain ⟨m, rfl⟩ : ∃ z, m = z + 1 := ⟨m - 1, by omega⟩
    rw [wX_selectNext_136]
    exact br_t (by decide) h
  | succ n ih =>
    intro m se hn hm h
    obtain ⟨m, rfl⟩ : ∃ z, m = z + 1 := ⟨m - 1, by omega⟩
    rw [wX_selectNext_136]
    dsimp only
    rw [nI_clamp (show n + 1 < 2 ^ 31 by omega)]
    unfold rk_pg at h
    refine br_f (nI_nle (by omega) (by omega)) ⟨vp_in_nI (by omega) (by omega), br_c (fun q => nm_r (pk_m1 n) (ih m se (by omega) (by omega) ?_)) (fun q => ⟨vp_in_nI (by omega) (by omega), ?_⟩)⟩
    · rw [if_pos q] at h; exact h
    · rw [if_neg q] at h
      rcases hp (n + 1) hn with ⟨a, b⟩ | ⟨p, a, b⟩
      · omega
      · rw [b, nI_clamp (by omega)] at h ⊢
        exact ⟨vp_in_nI (by omega) (by omega), nm_e (nm_r (pk_m1 n) (ih m _ (by omega) (by omega) h))⟩
theorem rk_xsn103 {post : SX → Prop} (hp : rk_PA N pa) (hN : 0 < N ∧ N ≤ 40) (hc : ct = nI N) (s0 : Nat → Int32) (K : post (mN, sN, mL, mT, ct, lk, op, ph, tk, vd, kd, ar, pa, sc, la, le, tl, bd, rk_pg pa (N - 1) (rk_cp s0 ch N), wa, gv, ra, mu, ca, si, ns, ke, fz, ch)) : ∀ (d i m : Nat), i + d = N → d < m → wX_selectNext_103 post mN sN mL mT ct lk op ph tk vd m (nI i) kd ar pa sc la le tl bd (rk_cp s0 ch i) wa gv ra mu ca si ns ke fz ch := by
  subst hc
  intro d
  induction d with
  | zero =>
    intro i m hi hm
    obtain ⟨m, rfl⟩ : ∃ z, m = z + 1 := ⟨m - 1, by omega⟩
    have ei : i = N := by omega
    subst ei
    rw [wX_selectNext_103]
    dsimp only
    refine br_t (nI_le (by omega) (by omega)) (nm_r (e' := nI (i - 1)) (pk_sub (b := 1) (by omega)) ⟨i + 1, ?_⟩)
    exact rk_xsn136 hp hN.2 (i - 1) (i + 1) _ (by omega) (by omega) K
  | succ d ih =>
    intro i m hi hm
    obtain ⟨m, rfl⟩ : ∃ z, m = z + 1 := ⟨m - 1, by omega⟩
    rw [wX_selectNext_103]
    dsimp only
    rw [nI_clamp (by omega)]
    exact br_f (nI_ge (by omega) (by omega)) ⟨vp_in_nI (by omega) (by omega), vp_in_nI (by omega) (by omega), nm_r (rk_cp_s s0 ch i) (nm_r (nI_1 i) (ih (i + 1) m (by omega) (by omega)))⟩
theorem rk_xsn {post : SX → Prop} (hB : rk_B N S kd ar pa sc le bd L Q e sl) (hc : ct = nI N) (hv : ∀ z, rk_v3 (T z)) (hE : rk_XE N L T ra mu ca si) (hI : rk_KI N (rk_kp kd pa se L T R 41) (fun _ _ => True) ke)
    (K : ∀ fz' ch' : Nat → Int32, (∀ m, m < N → (ch' m = 0 ∨ ch' m = 1) ∧ (¬ ch' m = 0 ↔ rk_CH kd se L (rk_kp kd pa se L T R 41) (rk_fz pa (rk_FR kd se sl T (rk_kp kd pa se L T R 41)) 41) m)) → post (mN, sN, mL, mT, ct, lk, op, ph, tk, vd, kd, ar, pa, sc, la, le, tl, bd, rk_pg pa (N - 1) (rk_cp se ch' N), wa, gv, ra, mu, ca, si, ns, ke, fz', ch')) : wpX_selectNext post (mN, sN, mL, mT, ct, lk, op, ph, tk, vd, kd, ar, pa, sc, la, le, tl, bd, se, wa, gv, ra, mu, ca, si, ns, ke, fz, ch) := by
  have hN := hB.1.1
  unfold wpX_selectNext
  dsimp only
  refine ⟨N + 1, rk_xsn2 hB hc hv hE hI (fun fz' ch' h => ⟨N + 1, ?_⟩) N 0 (N + 1) fz ch (by omega) (by omega) (fun m hm => by omega)⟩
  have h103 := rk_xsn103 (post := post) (mN := mN) (sN := sN) (mL := mL) (mT := mT) (ct := ct) (lk := lk) (op := op) (ph := ph) (tk := tk) (vd := vd) (kd := kd) (ar := ar) (pa := pa) (sc := sc) (la := la) (le := le) (tl := tl) (bd := bd) (wa := wa) (gv := gv) (ra := ra) (mu := mu) (ca := ca) (si := si) (ns := ns) (ke := ke) (fz := fz') (ch := ch') (rk_CT_PA hB.1) hN hc se (K fz' ch' (fun m hm => (h m hm).2)) N 0 (N + 1) (by omega) (by omega)
  rw [rk_cp_0] at h103
  exact h103
theorem rk_xds {post : SX → Prop} (K : post (mN, sN, mL, mT, ct, lk, op, ph, tk, vd, kd, ar, pa, sc, la, le, tl, bd, rk_zr se 40, wa, gv, ra, mu, ca, si, ns, ke, fz, ch)) : wpX_dropSelection post (mN, sN, mL, mT, ct, lk, op, ph, tk, vd, kd, ar, pa, sc, la, le, tl, bd, se, wa, gv, ra, mu, ca, si, ns, ke, fz, ch) := by
  have key : ∀ (d i m : Nat), i + d = 40 → d < m → wX_dropSelection_2 post mN sN mL mT ct lk op ph tk vd m (nI i) kd ar pa sc la le tl bd (rk_zr se i) wa gv ra mu ca si ns ke fz ch := by
    intro d
    induction d with
    | zero =>
      intro i m hi hm
      obtain ⟨m, rfl⟩ : ∃ z, m = z + 1 := ⟨m - 1, by omega⟩
      have ei : i = 40 := by omega
      subst ei
      rw [wX_dropSelection_2]
      exact br_t (nI_le (a := 40) (by omega) (by omega)) K
    | succ d ih =>
      intro i m hi hm
      obtain ⟨m, rfl⟩ : ∃ z, m = z + 1 := ⟨m - 1, by omega⟩
      rw [wX_dropSelection_2]
      dsimp only
      rw [nI_clamp (by omega)]
      exact br_f (nI_ge (b := 40) (by omega) (by decide)) ⟨vp_in_nI (by omega) (by omega), nm_r (rk_zr_s se i) (nm_r (nI_1 i) (ih (i + 1) m (by omega) (by omega)))⟩
  unfold wpX_dropSelection
  dsimp only
  have := key 40 0 41 (by omega) (by omega)
  rw [rk_zr_0] at this
  exact ⟨41, this⟩
theorem rk_xdi {post : SX → Prop} (K : post (mN, sN, mL, mT, ct, lk, op, ph, tk, vd, kd, ar, pa, sc, la, le, tl, bd, se, rk_zr wa 8, gv, ra, mu, ca, si, ns, ke, fz, ch)) : wpX_dropInputs post (mN, sN, mL, mT, ct, lk, op, ph, tk, vd, kd, ar, pa, sc, la, le, tl, bd, se, wa, gv, ra, mu, ca, si, ns, ke, fz, ch) := by
  have key : ∀ (d i m : Nat), i + d = 8 → d < m → wX_dropInputs_2 post mN sN mL mT ct lk op ph tk vd m (nI i) kd ar pa sc la le tl bd se (rk_zr wa i) gv ra mu ca si ns ke fz ch := by
    intro d
    induction d with
    | zero =>
      intro i m hi hm
      obtain ⟨m, rfl⟩ : ∃ z, m = z + 1 := ⟨m - 1, by omega⟩
      have ei : i = 8 := by omega
      subst ei
      rw [wX_dropInputs_2]
      exact br_t (nI_le (a := 8) (by omega) (by omega)) K
    | succ d ih =>
      intro i m hi hm
      obtain ⟨m, rfl⟩ : ∃ z, m = z + 1 := ⟨m - 1, by omega⟩
      rw [wX_dropInputs_2]
      dsimp only
      rw [nI_clamp (by omega)]
      exact br_f (nI_ge (b := 8) (by omega) (by decide)) ⟨vp_in_nI (by omega) (by omega), nm_r (rk_zr_s wa i) (nm_r (nI_1 i) (ih (i + 1) m (by omega) (by omega)))⟩
  unfold wpX_dropInputs
  dsimp only
  have := key 8 0 9 (by omega) (by omega)
  rw [rk_zr_0] at this
  exact ⟨9, this⟩
end
end
section
/-! ===== the next selection in the reference ===== -/
section
variable {mN sN mL mT ct ph tk vd : Int32} {kd ar pa se nx yk wa gv ys yw yc : Nat → Int32} {N S : Nat} {L Q e : Nat → Nat} {sl : Nat → Nat → Nat} {bd : Nat → Int32} {T : Nat → Int32} {R : Prop}
def rk_FA (FZ FR : Nat → Prop) : Nat → Prop
  | 0 => False
  | m + 1 => FZ m ∨ FR m
theorem rk_FA_n {FR : Nat → Prop} (hp : rk_PA N pa) (hN : N ≤ 40) {n : Nat} (hn : n < N) : rk_fz pa FR 41 n ↔ rk_FA (rk_fz pa FR 41) FR (rk_pi (pa n)) := by
  rcases hp n hn with ⟨a, b⟩ | ⟨p, a, b⟩
  · subst a; rw [b, rk_pi_m]; exact ⟨fun q => absurd q rk_fz_0, fun q => q.elim⟩
  · rw [b, rk_pi_n (by omega), rk_fz_s hp hN hn a b]; exact Iff.rfl
theorem rk_yst50 {post : Int32 → Prop} (hB : rk_YB N S kd ar pa bd L Q e sl) (hE : ∀ z, rk_E N L (rk_ES N S kd L) z → rk_gl ys yw yc z = T z) (hI : rk_KI N (rk_kp kd pa se L T R 41) (fun _ _ => True) yk) :
    ∀ (b n c' : Nat), b < n → c' ≤ b → b ≤ N → (rk_FA (rk_fz pa (rk_FR kd se sl T (rk_kp kd pa se L T R 41)) 41) (rk_FR kd se sl T (rk_kp kd pa se L T R 41)) c' → post 1) → (¬ rk_FA (rk_fz pa (rk_FR kd se sl T (rk_kp kd pa se L T R 41)) 41) (rk_FR kd se sl T (rk_kp kd pa se L T R 41)) c' → post 0) → wY_stays_50 post mN sN mL mT ct ph tk vd kd ar pa se nx yk wa gv ys yw yc n (rk_pd c') (rk_pd b) := by
  have hT := hB.1
  have hN := hT.1
  have hPA := rk_CT_PA hT
  intro b
  induction b with
  | zero =>
    intro n c' hn hc' _ h1 h0
    obtain ⟨n, rfl⟩ : ∃ q, n = q + 1 := ⟨n - 1, by omega⟩
    rw [wY_stays_50]
    rw [show c' = 0 from by omega] at h0
    exact br_t (by decide) (h0 (fun q => q))
  | succ b ih =>
    intro n c' hn hc' hb h1 h0
    obtain ⟨n, rfl⟩ : ∃ q, n = q + 1 := ⟨n - 1, by omega⟩
    rw [wY_stays_50, rk_pd_s]
    dsimp only
    refine br_f (nI_pos (by omega)) ?_
    by_cases g : c' = b + 1
    · subst g
      have hb' : vp_in (nI b) 40 := vp_in_nI (by omega) (by omega)
      obtain ⟨e1, e2⟩ := rk_PA_pd hPA hN.2 (show b < N by omega)
      have hk := (hI b 0 (by omega) (by omega)).2
      have hfa := rk_FA_n (FR := rk_FR kd se sl T (rk_kp kd pa se L T R 41)) hPA hN.2 (show b < N by omega)
      have hnext : ¬ rk_FR kd se sl T (rk_kp kd pa se L T R 41) b → ∀ x, x = rk_pd (rk_pi (pa b)) → ∀ y, y = nI b + (-1) → wY_stays_50 post mN sN mL mT ct ph tk vd kd ar pa se nx yk wa gv ys yw yc n x y := by
        intro nf
        refine nm_e (nm_r (rk_pd_m b) (ih n _ (by omega) e2 (by omega) (fun q => h1 (Or.inl (hfa.mpr q))) (fun q => h0 (fun w => ?_))))
        rcases w with w | w
        · exact q (hfa.mp w)
        · exact nf w
      rw [rk_pd_s, nI_clamp (show b < 2 ^ 31 by omega), rk_ix0, nI_clamp (show b * 3 + 0 < 2 ^ 31 by omega), e1]
      refine br_t rfl ⟨hb', br_c (fun k8 => ⟨vp_in_nI (by omega) (by omega), br_c (fun q => ⟨hb', hnext (fun w => (hk.mpr ⟨w.2.1, trivial⟩) q)⟩) (fun q => ⟨hb', br_c (fun s => ⟨hb', hnext (fun w => w.2.2.1 s)⟩) (fun s => ?_)⟩)⟩) (fun k8 => ⟨hb', hnext (fun w => k8 w.1)⟩)⟩
      have hus := hB.2.2.1 b (by omega) (Or.inr (Or.inr k8)) 0 (by omega)
      have hy : ys (sl b 0) = T (sl b 0) := by
        have := hE _ (rk_E_s hus.2 hus.1)
        rw [rk_gl_s hus.2] at this
        exact this
      refine rk_yus (i := 0) hN.2 hPA (rk_CT_cu hT) hT.2.2.2.1 hB.2.1 (by omega) (Or.inr (Or.inr k8)) (by omega) hus.2 ?_
      rw [hy]
      exact br_c (fun t => h1 (Or.inr ⟨k8, (hk.mp q).1, s, t⟩)) (fun t => ⟨hb', hnext (fun w => t w.2.2.2)⟩)
    · exact br_f (rk_pd_ne (by omega) (by omega)) (nm_r (rk_pd_m b) (ih n c' (by omega) (by omega) (by omega) h1 h0))
theorem rk_yst {post : Int32 → Prop} {n : Nat} (hB : rk_YB N S kd ar pa bd L Q e sl) (hE : ∀ z, rk_E N L (rk_ES N S kd L) z → rk_gl ys yw yc z = T z) (hI : rk_KI N (rk_kp kd pa se L T R 41) (fun _ _ => True) yk) (hn : n < N)
    (h1 : ((rk_fz pa (rk_FR kd se sl T (rk_kp kd pa se L T R 41)) 41 n ∧ ¬ se n = 0) ∨ ∃ i, i ≤ L n ∧ rk_kp kd pa se L T R 41 n i) → post 1) (h0 : ¬ ((rk_fz pa (rk_FR kd se sl T (rk_kp kd pa se L T R 41)) 41 n ∧ ¬ se n = 0) ∨ ∃ i, i ≤ L n ∧ rk_kp kd pa se L T R 41 n i) → post 0) : wpY_stays post (mN, sN, mL, mT, ct, ph, tk, vd, kd, ar, pa, se, nx, yk, wa, gv, ys, yw, yc) (nI n) := by
  have hT := hB.1
  have hN := hT.1
  have hPA := rk_CT_PA hT
  have hin : vp_in (nI n) 40 := vp_in_nI (by omega) (by omega)
  have key : ∀ (d j m : Nat), j + d = 3 → d < m → (∀ j', j' < j → ¬ rk_kp kd pa se L T R 41 n j') → wY_stays_2 post (nI n) mN sN mL mT ct ph tk vd kd ar pa se nx yk wa gv ys yw yc m (nI j) := by
    intro d
    induction d with
    | zero =>
      intro j m hj hm hc
      obtain ⟨m, rfl⟩ : ∃ z, m = z + 1 := ⟨m - 1, by omega⟩
      rw [wY_stays_2]
      dsimp only
      rw [nI_clamp (by omega)]
      have hno : ¬ ∃ i, i ≤ L n ∧ rk_kp kd pa se L T R 41 n i := fun ⟨i, a, b⟩ => hc i (by have := hT.2.2.2.1 n hn; omega) b
      have hfa := rk_FA_n (FR := rk_FR kd se sl T (rk_kp kd pa se L T R 41)) hPA hN.2 hn
      obtain ⟨e1, e2⟩ := rk_PA_pd hPA hN.2 hn
      refine br_t (nI_le (a := 3) (by omega) (by omega)) ⟨hin, br_c (fun s => h0 (fun q => ?_)) (fun s => ⟨hin, nm_r e1 (nm_r (rk_pd_m' n) ⟨n + 1, rk_yst50 hB hE hI n (n + 1) _ (by omega) e2 (by omega) (fun q => h1 (Or.inl ⟨hfa.mpr q, s⟩)) (fun q => h0 (fun w => ?_))⟩)⟩)⟩
      · rcases q with q | q
        · exact q.2 s
        · exact hno q
      · rcases w with w | w
        · exact q (hfa.mp w.1)
        · exact hno w
    | succ d ih =>
      intro j m hj hm hc
      obtain ⟨m, rfl⟩ : ∃ z, m = z + 1 := ⟨m - 1, by omega⟩
      rw [wY_stays_2]
      dsimp only
      rw [rk_ix, nI_clamp (show n * 3 + j < 2 ^ 31 by omega)]
      have hk := (hI n j hn (by omega)).2
      refine br_f (nI_ge (b := 3) (by omega) (by decide)) ⟨vp_in_nI (by omega) (by omega), br_c (fun q => nm_r (nI_1 j) (ih (j + 1) m (by omega) (by omega) (fun j' hj' => ?_))) (fun q => h1 (Or.inr ⟨j, rk_kp_le hT hn (hk.mp q).1, (hk.mp q).1⟩))⟩
      by_cases e1 : j' = j
      · subst e1; exact fun w => (hk.mpr ⟨w, trivial⟩) q
      · exact hc j' (by omega)
  unfold wpY_stays
  dsimp only
  exact ⟨4, key 3 0 4 (by omega) (by omega) (fun j' hj' => by omega)⟩
theorem rk_ysn189 {post : SY → Prop} (hB : rk_YB N S kd ar pa bd L Q e sl) (hct : ct = nI N) (hE : ∀ z, rk_E N L (rk_ES N S kd L) z → rk_gl ys yw yc z = T z) (hI : rk_KI N (rk_kp kd pa se L T R 41) (fun _ _ => True) yk)
    (K : ∀ nx : Nat → Int32, (∀ m, m < N → (nx m = 0 ∨ nx m = 1) ∧ (¬ nx m = 0 ↔ rk_CH kd se L (rk_kp kd pa se L T R 41) (rk_fz pa (rk_FR kd se sl T (rk_kp kd pa se L T R 41)) 41) m)) → ∃ q : Nat, wY_selectNext_234 post mN sN mL mT ct ph tk vd q 0 kd ar pa se nx yk wa gv ys yw yc) :
    ∀ (d n m : Nat) (nx : Nat → Int32), n + d = N → d < m → (∀ m, m < n → (nx m = 0 ∨ nx m = 1) ∧ (¬ nx m = 0 ↔ rk_CH kd se L (rk_kp kd pa se L T R 41) (rk_fz pa (rk_FR kd se sl T (rk_kp kd pa se L T R 41)) 41) m)) → wY_selectNext_189 post mN sN mL mT ct ph tk vd m (nI n) kd ar pa se nx yk wa gv ys yw yc := by
  have hT := hB.1
  have hN := hT.1
  subst hct
  intro d
  induction d with
  | zero =>
    intro n m nx hn hm hS
    obtain ⟨m, rfl⟩ : ∃ z, m = z + 1 := ⟨m - 1, by omega⟩
    have en : n = N := by omega
    subst en
    rw [wY_selectNext_189]
    exact br_t (nI_le (by omega) (by omega)) (K nx hS)
  | succ d ih =>
    intro n m nx hn hm hS
    obtain ⟨m, rfl⟩ : ∃ z, m = z + 1 := ⟨m - 1, by omega⟩
    have hin : vp_in (nI n) 40 := vp_in_nI (by omega) (by omega)
    rw [wY_selectNext_189]
    dsimp only
    rw [nI_clamp (show n < 2 ^ 31 by omega), rk_b0, rk_b1]
    have hgo : ∀ y : Int32, ((y = 0 ∨ y = 1) ∧ (¬ y = 0 ↔ rk_CH kd se L (rk_kp kd pa se L T R 41) (rk_fz pa (rk_FR kd se sl T (rk_kp kd pa se L T R 41)) 41) n)) → ∀ z, z = nI n + 1 → wY_selectNext_189 post mN sN mL mT (nI N) ph tk vd m z kd ar pa se (upd nx n y) yk wa gv ys yw yc := fun y hy => nm_r (nI_1 n) (ih (n + 1) m _ (by omega) (by omega) (fun j hj => by
      by_cases e1 : j = n
      · subst e1; rw [pk_us]; exact hy
      · rw [pk_un e1]; exact hS j (by omega)))
    refine br_f (nI_ge (by omega) (by omega)) ⟨hin, br_c (fun k1 => rk_yst hB hE hI (by omega) (fun q => br_f (by decide) ⟨hin, nm_e (hgo 1 ⟨Or.inr rfl, fun _ => ⟨k1, q⟩, fun _ => by decide⟩)⟩) (fun q => br_t rfl ⟨hin, nm_e (hgo 0 ⟨Or.inl rfl, fun w => absurd rfl w, fun w => absurd w.2 q⟩)⟩)) (fun k1 => ⟨hin, nm_e (hgo 0 ⟨Or.inl rfl, fun w => absurd rfl w, fun w => absurd w.1 k1⟩)⟩)⟩
theorem rk_ysn267 {post : SY → Prop} (hp : rk_PA N pa) (hN : N ≤ 40) : ∀ (n m : Nat) (se : Nat → Int32), n < N → n < m → post (mN, sN, mL, mT, ct, ph, tk, vd, kd, ar, pa, rk_pg pa n se, nx, yk, wa, gv, ys, yw, yc) → wY_selectNext_267 post mN sN mL mT ct ph tk vd m (nI n) kd ar pa se nx yk wa gv ys yw yc := by
  intro n
  induction n with
  | zero =>
    intro m se _ hm h
    obtain ⟨m, rfl⟩ : ∃ z, m = z + 1 := ⟨m - 1, by omega⟩
    rw [wY_selectNext_267]
    exact br_t (by decide) h
  | succ n ih =>
    intro m se hn hm h
    obtain ⟨m, rfl⟩ : ∃ z, m = z + 1 := ⟨m - 1, by omega⟩
    rw [wY_selectNext_267]
    dsimp only
    rw [nI_clamp (show n + 1 < 2 ^ 31 by omega)]
    unfold rk_pg at h
    refine br_f (nI_nle (by omega) (by omega)) ⟨vp_in_nI (by omega) (by omega), br_c (fun q => nm_r (pk_m1 n) (ih m se (by omega) (by omega) ?_)) (fun q => ⟨vp_in_nI (by omega) (by omega), ?_⟩)⟩
    · rw [if_pos q] at h; exact h
    · rw [if_neg q] at h
      rcases hp (n + 1) hn with ⟨a, b⟩ | ⟨p, a, b⟩
      · omega
      · rw [b, nI_clamp (by omega)] at h ⊢
        exact ⟨vp_in_nI (by omega) (by omega), nm_e (nm_r (pk_m1 n) (ih m _ (by omega) (by omega) h))⟩
theorem rk_ysn234 {post : SY → Prop} (hp : rk_PA N pa) (hN : 0 < N ∧ N ≤ 40) (hc : ct = nI N) (s0 : Nat → Int32) (K : post (mN, sN, mL, mT, ct, ph, tk, vd, kd, ar, pa, rk_pg pa (N - 1) (rk_cp s0 nx N), nx, yk, wa, gv, ys, yw, yc)) : ∀ (d i m : Nat), i + d = N → d < m → wY_selectNext_234 post mN sN mL mT ct ph tk vd m (nI i) kd ar pa (rk_cp s0 nx i) nx yk wa gv ys yw yc := by
  subst hc
  intro d
  induction d with
  | zero =>
    intro i m hi hm
    obtain ⟨m, rfl⟩ : ∃ z, m = z + 1 := ⟨m - 1, by omega⟩
    have ei : i = N := by omega
    subst ei
    rw [wY_selectNext_234]
    dsimp only
    refine br_t (nI_le (by omega) (by omega)) (nm_r (e' := nI (i - 1)) (pk_sub (b := 1) (by omega)) ⟨i + 1, ?_⟩)
    exact rk_ysn267 hp hN.2 (i - 1) (i + 1) _ (by omega) (by omega) K
  | succ d ih =>
    intro i m hi hm
    obtain ⟨m, rfl⟩ : ∃ z, m = z + 1 := ⟨m - 1, by omega⟩
    rw [wY_selectNext_234]
    dsimp only
    rw [nI_clamp (by omega)]
    exact br_f (nI_ge (by omega) (by omega)) ⟨vp_in_nI (by omega) (by omega), vp_in_nI (by omega) (by omega), nm_r (rk_cp_s s0 nx i) (nm_r (nI_1 i) (ih (i + 1) m (by omega) (by omega)))⟩
theorem rk_ysn {post : SY → Prop} (hB : rk_YB N S kd ar pa bd L Q e sl) (hct : ct = nI N) (hE : ∀ z, rk_E N L (rk_ES N S kd L) z → rk_gl ys yw yc z = T z) (hR : vd = 1 ↔ R)
    (K : ∀ yk' nx' : Nat → Int32, (∀ m, m < N → (nx' m = 0 ∨ nx' m = 1) ∧ (¬ nx' m = 0 ↔ rk_CH kd se L (rk_kp kd pa se L T R 41) (rk_fz pa (rk_FR kd se sl T (rk_kp kd pa se L T R 41)) 41) m)) → post (mN, sN, mL, mT, ct, ph, tk, vd, kd, ar, pa, rk_pg pa (N - 1) (rk_cp se nx' N), nx', yk', wa, gv, ys, yw, yc)) : wpY_selectNext post (mN, sN, mL, mT, ct, ph, tk, vd, kd, ar, pa, se, nx, yk, wa, gv, ys, yw, yc) := by
  have hT := hB.1
  have hN := hT.1
  unfold wpY_selectNext
  dsimp only
  have hend : ∀ yk' : Nat → Int32, rk_KI N (rk_kp kd pa se L T R 41) (fun _ _ => True) yk' → ∃ q : Nat, wY_selectNext_189 post mN sN mL mT ct ph tk vd q 0 kd ar pa se nx yk' wa gv ys yw yc := by
    intro yk' h1
    refine ⟨N + 1, rk_ysn189 hB hct hE h1 (fun nx' h2 => ⟨N + 1, ?_⟩) N 0 (N + 1) nx (by omega) (by omega) (fun m hm => by omega)⟩
    have h234 := rk_ysn234 (post := post) (mN := mN) (sN := sN) (mL := mL) (mT := mT) (ct := ct) (ph := ph) (tk := tk) (vd := vd) (kd := kd) (ar := ar) (pa := pa) (nx := nx') (yk := yk') (wa := wa) (gv := gv) (ys := ys) (yw := yw) (yc := yc) (rk_CT_PA hT) hN hct se (K yk' nx' h2) N 0 (N + 1) (by omega) (by omega)
    rw [rk_cp_0] at h234
    exact h234
  have hstart : ∀ (r : Int32) (yk' : Nat → Int32), (r = 0 ∨ r = 1) → (¬ r = 0 ↔ R) → (∀ j, j < 120 → yk' j = 0) → rk_KI N (rk_kp kd pa se L T R 41) (rk_DY pa L 1 0) (upd yk' 0 r) := by
    intro r yk' hr hrR h1 c j hcN hj
    by_cases e1 : c = 0
    · subst e1
      by_cases e2 : j = 0
      · subst e2
        rw [show 0 * 3 + 0 = 0 from rfl, pk_us]
        exact ⟨hr, fun q => ⟨(rk_kp_0 0).mpr ⟨rfl, hrR.mp q⟩, Or.inl (by omega)⟩, fun q => hrR.mpr ((rk_kp_0 0).mp q.1).2⟩
      · rw [pk_un (by omega), h1 _ (by omega)]
        exact ⟨Or.inl rfl, fun q => absurd rfl q, fun q => absurd ((rk_kp_0 j).mp q.1).1 e2⟩
    · rw [pk_un (by omega), h1 _ (by omega)]
      refine ⟨Or.inl rfl, fun q => absurd rfl q, fun q => ?_⟩
      rcases q.2 with w | ⟨w1, p, p1, p2, p3⟩
      · omega
      · omega
  by_cases hv : vd = 1
  · refine ⟨121, rk_yk2 (r := 1) (Or.inr rfl) ⟨fun _ => rfl, fun _ => hv⟩ (fun yk1 h1 => ⟨N + 1, ?_⟩) 120 0 121 yk (by omega) (by omega) (fun j hj => by omega)⟩
    exact rk_yk42 hB hct hE hend (N - 1) 1 (N + 1) _ (by omega) (by omega) (by omega) (hstart 1 yk1 (Or.inr rfl) ⟨fun _ => hR.mp hv, fun _ => by decide⟩ h1)
  · refine ⟨121, rk_yk2 (r := 0) (Or.inl rfl) ⟨fun q => absurd q hv, fun q => absurd q (by decide)⟩ (fun yk1 h1 => ⟨N + 1, ?_⟩) 120 0 121 yk (by omega) (by omega) (fun j hj => by omega)⟩
    exact rk_yk42 hB hct hE hend (N - 1) 1 (N + 1) _ (by omega) (by omega) (by omega) (hstart 0 yk1 (Or.inl rfl) ⟨fun q => absurd rfl q, fun q => absurd (hR.mpr q) hv⟩ h1)
end
end
section
/-! ===== the tree while it is built ===== -/
def rk_nc (pa : Nat → Int32) (m : Nat) : Nat → Nat
  | 0 => 0
  | x + 1 => rk_nc pa m x + (if pa x = nI m then 1 else 0)
def rk_sm (f : Nat → Nat) : Nat → Nat
  | 0 => 0
  | n + 1 => rk_sm f n + f n
theorem rk_nc_le {pa : Nat → Int32} {m : Nat} : ∀ d a, rk_nc pa m a ≤ rk_nc pa m (a + d)
  | 0, _ => Nat.le_refl _
  | d + 1, a => Nat.le_trans (rk_nc_le d a) (by show rk_nc pa m (a + d) ≤ rk_nc pa m (a + d) + _; omega)
theorem rk_nc_0 {pa : Nat → Int32} {m : Nat} : ∀ N, (∀ x, x < N → ¬ pa x = nI m) → rk_nc pa m N = 0
  | 0, _ => rfl
  | N + 1, h => by
    simp only [rk_nc]
    rw [rk_nc_0 N (fun x hx => h x (by omega)), if_neg (h N (by omega))]
theorem rk_nc_1 {pa : Nat → Int32} {m : Nat} : ∀ N, 0 < rk_nc pa m N → ∃ x, x < N ∧ pa x = nI m
  | 0, h => by simp only [rk_nc] at h; omega
  | N + 1, h => by
    by_cases g : pa N = nI m
    · exact ⟨N, by omega, g⟩
    · simp only [rk_nc] at h
      rw [if_neg g] at h
      obtain ⟨x, a, b⟩ := rk_nc_1 N h
      exact ⟨x, by omega, b⟩
theorem rk_nc_p {pa : Nat → Int32} {m N x : Nat} (hx : x < N) (h : pa x = nI m) : rk_nc pa m x + 1 ≤ rk_nc pa m N := by
  have a := rk_nc_le (pa := pa) (m := m) (N - (x + 1)) (x + 1)
  rw [show x + 1 + (N - (x + 1)) = N from by omega] at a
  simp only [rk_nc] at a
  rw [if_pos h] at a
  exact a
theorem rk_nc_2 {pa : Nat → Int32} {m N x y : Nat} (hxy : x < y) (hy : y < N) (h1 : pa x = nI m) (h2 : pa y = nI m) : 2 ≤ rk_nc pa m N := by
  have a := rk_nc_p hy h2
  have b := rk_nc_p hxy h1
  omega
theorem rk_nc_2' {pa : Nat → Int32} {m : Nat} : ∀ N, 2 ≤ rk_nc pa m N → ∃ x y, x < y ∧ y < N ∧ pa x = nI m ∧ pa y = nI m
  | 0, h => by simp only [rk_nc] at h; omega
  | N + 1, h => by
    simp only [rk_nc] at h
    by_cases g : pa N = nI m
    · rw [if_pos g] at h
      obtain ⟨x, a, b⟩ := rk_nc_1 N (show 0 < rk_nc pa m N by omega)
      exact ⟨x, N, a, by omega, b, g⟩
    · rw [if_neg g] at h
      obtain ⟨x, y, a, b, c⟩ := rk_nc_2' N h
      exact ⟨x, y, a, by omega, c⟩
theorem rk_nc_c {pa pa' : Nat → Int32} {m : Nat} : ∀ N, (∀ x, x < N → pa' x = pa x) → rk_nc pa' m N = rk_nc pa m N
  | 0, _ => rfl
  | N + 1, h => by simp only [rk_nc]; rw [rk_nc_c N (fun x hx => h x (by omega)), h N (by omega)]
theorem rk_sm_0 {f : Nat → Nat} : ∀ N, rk_sm f N = 0 → ∀ n, n < N → f n = 0
  | 0, _, n, hn => by omega
  | N + 1, h, n, hn => by
    simp only [rk_sm] at h
    by_cases e : n = N
    · subst e; omega
    · exact rk_sm_0 N (by omega) n (by omega)
theorem rk_sm_z {f : Nat → Nat} : ∀ N, (∀ n, n < N → f n = 0) → rk_sm f N = 0
  | 0, _ => rfl
  | N + 1, h => by simp only [rk_sm]; rw [rk_sm_z N (fun n hn => h n (by omega)), h N (by omega)]
theorem rk_sm_c {f g : Nat → Nat} : ∀ N, (∀ n, n < N → f n = g n) → rk_sm f N = rk_sm g N
  | 0, _ => rfl
  | N + 1, h => by simp only [rk_sm]; rw [rk_sm_c N (fun n hn => h n (by omega)), h N (by omega)]
theorem rk_sm_d {f g : Nat → Nat} {q : Nat} (hq : g q + 1 = f q) (h : ∀ n, ¬ n = q → g n = f n) : ∀ N, q < N → rk_sm g N + 1 = rk_sm f N
  | 0, hN => by omega
  | N + 1, hN => by
    simp only [rk_sm]
    by_cases e : q = N
    · subst e
      rw [rk_sm_c (f := g) (g := f) q (fun n hn => h n (by omega))]; omega
    · have := rk_sm_d hq h N (by omega)
      rw [h N (fun w => e w.symm)]; omega
theorem rk_sm_le {f : Nat → Nat} {n : Nat} : ∀ N, n < N → f n ≤ rk_sm f N
  | 0, h => by omega
  | N + 1, h => by
    simp only [rk_sm]
    by_cases e : n = N
    · subst e; omega
    · have := rk_sm_le (f := f) (n := n) N (by omega); omega
def rk_use (k : Int32) : Prop := k = 2 ∨ k = 4 ∨ k = 8
/-- the tree: all but the open node -/
def rk_TJ (N S ML MT K : Nat) (kd ar pa sc la le tl bd : Nat → Int32) (A L TL : Nat → Nat) : Prop :=
  (∀ n, n < N → ∃ k, k ≤ 10 ∧ kd n = nI k) ∧ rk_PA N pa ∧
  (∀ c p, c < N → p < c → pa c = nI p → ∀ x, p < x → x < c → A x = 0 ∧ ∃ p', p ≤ p' ∧ p' < x ∧ pa x = nI p') ∧
  (∀ n, n + 1 < N → 0 < rk_ar (kd n) → pa (n + 1) = nI n) ∧
  (∀ n, n < N → la n = nI (A n) ∧ A n + rk_nc pa n N = rk_ar (kd n)) ∧
  (∀ n, n < N → (∀ x, n + 2 ≤ x → x < N → pa x = nI n → sc n = nI x) ∧ ((∀ x, n + 2 ≤ x → x < N → ¬ pa x = nI n) → sc n = -1)) ∧
  ((∀ n, n < N → le n = nI (L n) ∧ L n ≤ ML ∧ (kd n = 7 → L n < ML)) ∧ rk_cu N kd pa 7 L) ∧
  ((∀ n, n < N → tl n = nI (TL n) ∧ TL n ≤ MT ∧ (kd n = 9 → TL n < MT)) ∧ rk_cu N kd pa 9 TL) ∧
  (∀ n, n < N → ((rk_use (kd n) ∨ kd n = 10) → ∃ a, a < S ∧ ar n = nI a) ∧ (kd n = 3 → ∃ a, a < TL n ∧ ar n = nI a)) ∧
  (∀ n, n < N → rk_use (kd n) → bd n = rk_fb kd ar pa (ar n) 40 (rk_pi (pa n))) ∧
  ((N = 0 → K = 1) ∧ (0 < N → K = rk_sm A N))
/-- the open node: o is the index behind it, 0 for none -/
def rk_TO (N : Nat) (pa : Nat → Int32) (A : Nat → Nat) (o : Nat) : Prop :=
  o ≤ N ∧ (o = 0 → ∀ n, n < N → A n = 0) ∧ (∀ q, o = q + 1 → 0 < A q ∧ ∀ x, q < x → x < N → A x = 0 ∧ ∃ p', q ≤ p' ∧ p' < x ∧ pa x = nI p')
noncomputable def rk_e (N : Nat) (pa : Nat → Int32) (n : Nat) : Nat := Classical.choose (pk_least (fun x => n < x ∧ (N ≤ x ∨ rk_pi (pa x) ≤ n)) ⟨N + n + 1, by omega, Or.inl (by omega)⟩)
theorem rk_e_1 (N : Nat) (pa : Nat → Int32) (n : Nat) : (n < rk_e N pa n ∧ (N ≤ rk_e N pa n ∨ rk_pi (pa (rk_e N pa n)) ≤ n)) ∧ ∀ j, j < rk_e N pa n → ¬ (n < j ∧ (N ≤ j ∨ rk_pi (pa j) ≤ n)) :=
  Classical.choose_spec (pk_least (fun x => n < x ∧ (N ≤ x ∨ rk_pi (pa x) ≤ n)) ⟨N + n + 1, by omega, Or.inl (by omega)⟩)
theorem rk_e_le {N : Nat} {pa : Nat → Int32} {n x : Nat} (h : n < x) (h2 : N ≤ x ∨ rk_pi (pa x) ≤ n) : rk_e N pa n ≤ x := by
  by_cases g : rk_e N pa n ≤ x
  · exact g
  · exact absurd ⟨h, h2⟩ ((rk_e_1 N pa n).2 x (by omega))
theorem rk_e_ge {N : Nat} {pa : Nat → Int32} {n x : Nat} (h : ∀ j, n < j → j < x → j < N ∧ n < rk_pi (pa j)) : x ≤ rk_e N pa n := by
  by_cases g : x ≤ rk_e N pa n
  · exact g
  · have a := (rk_e_1 N pa n).1
    have b := h _ a.1 (by omega)
    omega
noncomputable def rk_slf (ar bd : Nat → Int32) (L : Nat → Nat) (n i : Nat) : Nat :=
  if bd n < 0 then (ar n).toNatClampNeg else 8 + ((bd n).toNatClampNeg * 3 + (if L (bd n).toNatClampNeg < i then 0 else i))
section
variable {N S ML MT K : Nat} {kd ar pa sc la le tl bd : Nat → Int32} {A L TL : Nat → Nat}
theorem rk_TJ_CT (hN : N ≤ 40) (hM : ML ≤ 2) (h : rk_TJ N S ML MT K kd ar pa sc la le tl bd A L TL) (hK : K = 0) : rk_CT N kd pa L (fun n => (sc n).toNatClampNeg) (rk_e N pa) := by
  obtain ⟨h1, h2, h3, h4, h5, h6, ⟨h7, h7c⟩, h8, h9, h10, h11⟩ := h
  have hN0 : 0 < N := by
    by_cases g : N = 0
    · have := h11.1 g; omega
    · omega
  have hA : ∀ n, n < N → A n = 0 := rk_sm_0 N (by rw [← h11.2 hN0]; exact hK)
  have hnc : ∀ n, n < N → rk_nc pa n N = rk_ar (kd n) := fun n hn => by
    have a := (h5 n hn).2
    rw [hA n hn] at a; omega
  have hpar : ∀ x n, x < N → pa x = nI n → n < N → n < x := fun x n hx hp hn => by
    rcases h2 x hx with ⟨a, b⟩ | ⟨p, a, b⟩
    · rw [b] at hp; exact absurd hp.symm (rk_m1_nI (by omega))
    · rw [b, nI_eq (by omega) (by omega)] at hp; omega
  have hfirst : ∀ n, n < N → 0 < rk_ar (kd n) → n + 1 < N ∧ pa (n + 1) = nI n := fun n hn ha => by
    obtain ⟨x, a, b⟩ := rk_nc_1 N (show 0 < rk_nc pa n N by rw [hnc n hn]; exact ha)
    have := hpar x n a b hn
    exact ⟨by omega, h4 n (by omega) ha⟩
  have hpi : ∀ {p : Nat}, p < N → rk_pi (nI p) = p + 1 := fun hp => rk_pi_n (by omega)
  have hLc : ∀ n p, n < N → p < n → pa n = nI p → L n = L p + (if kd p = 7 then 1 else 0) := fun n p hn hp he => by
    have a := h7c n hn
    rw [he, hpi (by omega)] at a
    exact a
  have hen : ∀ n, n < N → n < rk_e N pa n ∧ rk_e N pa n ≤ N := fun n hn => ⟨(rk_e_1 N pa n).1.1, rk_e_le hn (Or.inl (Nat.le_refl _))⟩
  have hge2 : ∀ {x n}, x < N → n + 1 < x → pa x = nI n → n < N → (sc n).toNatClampNeg = x := fun {x n} hx hnx hp hn => by
    rw [(h6 n hn).1 x (by omega) hx hp, nI_clamp (by omega)]
  refine ⟨⟨hN0, hN⟩, ⟨?_, ?_, ?_⟩, h1, fun n hn => by have := (h7 n hn).2.1; omega, hen, ?_, ?_, ?_, ?_⟩
  · rcases h2 0 hN0 with a | ⟨p, a, b⟩
    · exact a.2
    · omega
  · have a := h7c 0 hN0
    rcases h2 0 hN0 with b | ⟨p, b, c⟩
    · rw [b.2, rk_pi_m] at a; exact a
    · omega
  · refine Nat.le_antisymm (hen 0 hN0).2 (rk_e_ge (fun j a b => ⟨b, ?_⟩))
    rcases h2 j b with c | ⟨p, c, d⟩
    · omega
    · rw [d, hpi (by omega)]; omega
  · intro n hn ha
    refine Nat.le_antisymm (rk_e_le (by omega) ?_) (by have := (hen n hn).1; omega)
    by_cases g : N ≤ n + 1
    · exact Or.inl g
    · right
      rcases h2 (n + 1) (by omega) with b | ⟨p, b, c⟩
      · omega
      · rw [c, hpi (by omega)]
        by_cases e1 : p = n
        · subst e1
          have := rk_nc_p (show p + 1 < N by omega) c
          rw [hnc p hn, ha] at this; omega
        · omega
  · intro n hn ha
    obtain ⟨a1, a2⟩ := hfirst n hn (by omega)
    refine ⟨a1, a2, hLc (n + 1) n a1 (by omega) a2, ?_⟩
    have hone : ∀ x, x < N → pa x = nI n → x = n + 1 := fun x hx hp => by
      have b := hpar x n hx hp hn
      by_cases e1 : x = n + 1
      · exact e1
      · have := rk_nc_2 (show n + 1 < x by omega) hx a2 hp
        rw [hnc n hn, ha] at this; omega
    refine Nat.le_antisymm ?_ ?_
    · have b := (rk_e_1 N pa (n + 1)).1
      refine rk_e_le (by omega) ?_
      rcases b.2 with b2 | b2
      · exact Or.inl b2
      · by_cases g : N ≤ rk_e N pa (n + 1)
        · exact Or.inl g
        · right
          rcases h2 _ (show rk_e N pa (n + 1) < N by omega) with c | ⟨p, c, d⟩
          · rw [c.2, rk_pi_m]; omega
          · rw [d, hpi (by omega)] at b2 ⊢
            by_cases e1 : p = n
            · subst e1; have := hone _ (by omega) d; omega
            · omega
    · have b := (rk_e_1 N pa n).1
      have hgt : n + 2 ≤ rk_e N pa n := rk_e_ge (fun j c d => ⟨by omega, by rw [show j = n + 1 from by omega, a2, hpi hn]; omega⟩)
      refine rk_e_le (by omega) ?_
      rcases b.2 with b2 | b2
      · exact Or.inl b2
      · right; omega
  · intro n hn ha
    obtain ⟨a1, a2⟩ := hfirst n hn (by omega)
    obtain ⟨x, y, c1, c2, c3, c4⟩ := rk_nc_2' N (show 2 ≤ rk_nc pa n N by rw [hnc n hn]; omega)
    have hxn := hpar x n (by omega) c3 hn
    have hq : (sc n).toNatClampNeg = y := hge2 c2 (by omega) c4 hn
    have k7 : ¬ kd n = 7 := fun q => by rw [q] at ha; exact absurd ha (by decide)
    have hLs : ∀ z, z < N → pa z = nI n → L z = L n := fun z hz hp => by
      have := hLc z n hz (hpar z n hz hp hn) hp
      rw [if_neg k7] at this; exact this
    have hch : ∀ z, z < N → n + 1 < z → pa z = nI n → z = y := fun z hz hnz hp => by rw [← hge2 hz hnz hp hn, hq]
    show n + 1 < N ∧ pa (n + 1) = nI n ∧ L (n + 1) = L n ∧ n + 1 < (sc n).toNatClampNeg ∧ (sc n).toNatClampNeg < N ∧ pa (sc n).toNatClampNeg = nI n ∧ L (sc n).toNatClampNeg = L n ∧ rk_e N pa (n + 1) = (sc n).toNatClampNeg ∧ rk_e N pa n = rk_e N pa (sc n).toNatClampNeg
    rw [hq]
    refine ⟨a1, a2, hLs _ a1 a2, by omega, c2, c4, hLs _ c2 c4, ?_, ?_⟩
    · refine Nat.le_antisymm (rk_e_le (by omega) (Or.inr (by rw [c4, hpi hn]; omega))) (rk_e_ge (fun j d1 d2 => ⟨by omega, ?_⟩))
      obtain ⟨_, p', f1, f2, f3⟩ := h3 y n c2 (by omega) c4 j (by omega) d2
      rw [f3, hpi (by omega)]
      by_cases e1 : p' = n
      · subst e1; have := hch j (by omega) (by omega) f3; omega
      · omega
    · refine Nat.le_antisymm ?_ ?_
      · have b := (rk_e_1 N pa y).1
        refine rk_e_le (by omega) ?_
        rcases b.2 with b2 | b2
        · exact Or.inl b2
        · by_cases g : N ≤ rk_e N pa y
          · exact Or.inl g
          · right
            rcases h2 _ (show rk_e N pa y < N by omega) with c | ⟨p, c, d⟩
            · rw [c.2, rk_pi_m]; omega
            · rw [d, hpi (by omega)] at b2 ⊢
              by_cases e1 : p < n
              · omega
              · by_cases e2 : p = n
                · subst e2; have := hch _ (by omega) (by omega) d; omega
                · obtain ⟨_, p', f1, f2, f3⟩ := h3 _ p (by omega) c d y (by omega) (by omega)
                  rw [c4, nI_eq (by omega) (by omega)] at f3
                  omega
      · have b := (rk_e_1 N pa n).1
        have hgt : y + 1 ≤ rk_e N pa n := rk_e_ge (fun j d1 d2 => ⟨by omega, by
          by_cases e1 : j = y
          · rw [e1, c4, hpi hn]; omega
          · obtain ⟨_, p', f1, f2, f3⟩ := h3 y n c2 (by omega) c4 j (by omega) (by omega)
            rw [f3, hpi (by omega)]; omega⟩)
        refine rk_e_le (by omega) ?_
        rcases b.2 with b2 | b2
        · exact Or.inl b2
        · right; omega
  · intro n hn0 hn
    rcases h2 n hn with c | ⟨p, c, d⟩
    · omega
    · have hp := rk_nc_p hn d
      rw [hnc p (by omega)] at hp
      refine ⟨p, c, d, by omega, ?_⟩
      by_cases e1 : n = p + 1
      · exact Or.inl e1
      · right
        obtain ⟨a1, a2⟩ := hfirst p (by omega) (by omega)
        have := rk_nc_2 (show p + 1 < n by omega) hn a2 d
        rw [hnc p (by omega)] at this
        have h3' := rk_ar_3 (kd p)
        exact ⟨by omega, (hge2 hn (by omega) d (by omega)).symm⟩
theorem rk_TJ_all (hN : N ≤ 40) (hM : ML ≤ 2) (hMT : MT ≤ 3) (hS : S ≤ 8) (h : rk_TJ N S ML MT K kd ar pa sc la le tl bd A L TL) (hK : K = 0) :
    rk_B N S kd ar pa sc le bd L (fun n => (sc n).toNatClampNeg) (rk_e N pa) (rk_slf ar bd L) ∧ rk_YB N S kd ar pa bd L (fun n => (sc n).toNatClampNeg) (rk_e N pa) (rk_slf ar bd L) ∧ (∀ n, n < N → kd n = 3 → ∃ a, a ≤ 2 ∧ ar n = nI a) := by
  have hT := rk_TJ_CT hN hM h hK
  obtain ⟨h1, h2, h3, h4, h5, h6, ⟨h7, h7c⟩, h8, h9, h10, h11⟩ := h
  have hN0 := hT.1.1
  have hL2 := hT.2.2.2.1
  have hA : ∀ n, n < N → A n = 0 := rk_sm_0 N (by rw [← h11.2 hN0]; exact hK)
  have hnc : ∀ n, n < N → rk_nc pa n N = rk_ar (kd n) := fun n hn => by
    have a := (h5 n hn).2
    rw [hA n hn] at a; omega
  have hpi : ∀ n, n < N → rk_pi (pa n) ≤ n := fun n hn => (rk_PA_pd h2 hN hn).2
  have hSL : ∀ n, n < N → rk_use (kd n) → rk_SL N ar bd L (rk_slf ar bd L) n ∧ ∀ i, i ≤ L n → rk_ES N S kd L (rk_slf ar bd L n i) ∧ rk_slf ar bd L n i < 128 := by
    intro n hn hu
    have hb := h10 n hn hu
    obtain ⟨a, ha, ea⟩ := (h9 n hn).1 (Or.inl hu)
    rcases rk_fb_r h2 hN 40 (rk_pi (pa n)) (by have := hpi n hn; omega) (kd := kd) (ar := ar) (x := ar n) with q | ⟨b, hbn, q, q1, q2⟩
    · rw [q] at hb
      have es : ∀ i, rk_slf ar bd L n i = a := fun i => by unfold rk_slf; rw [hb, if_pos (by decide), ea, nI_clamp (by omega)]
      refine ⟨Or.inr ⟨hb, a, by omega, ea, es⟩, fun i _ => ?_⟩
      rw [es]; exact ⟨Or.inl ha, by omega⟩
    · rw [q] at hb
      have hbN : b < N := by have := hpi n hn; omega
      have hLb := hL2 b hbN
      have es : ∀ i, rk_slf ar bd L n i = 8 + (b * 3 + (if L b < i then 0 else i)) := fun i => by unfold rk_slf; rw [hb, if_neg (nI_pos (by omega)), nI_clamp (by omega)]
      refine ⟨Or.inl ⟨b, hbN, hb, es⟩, fun i _ => ?_⟩
      rw [es]
      by_cases g : L b < i
      · rw [if_pos g]; exact ⟨Or.inr ⟨b, 0, hbN, q1, by omega, rfl⟩, by omega⟩
      · rw [if_neg g]; exact ⟨Or.inr ⟨b, i, hbN, q1, by omega, rfl⟩, by omega⟩
  have hA3 : ∀ n, n < N → kd n = 3 → ∃ a, a ≤ 2 ∧ ar n = nI a := fun n hn k => by
    obtain ⟨a, ha, ea⟩ := (h9 n hn).2 k
    have := (h8.1 n hn).2.1
    exact ⟨a, by omega, ea⟩
  have hUS : rk_US N kd L (rk_slf ar bd L) (rk_ES N S kd L) := fun n hn hk i hi => (hSL n hn hk).2 i hi
  refine ⟨⟨hT, ⟨fun n hn => (h7 n hn).1, ?_, ?_, fun n hn hk => (hSL n hn hk).1, hA3⟩, hUS, hS⟩, ⟨hT, fun n hn hk => ⟨h10 n hn hk, (hSL n hn hk).1⟩, hUS, hS⟩, hA3⟩
  · intro n hn ha
    have a := hT.2.2.2.2.2.2.2.1 n hn ha
    have b := (h6 n hn).1 _ (show n + 2 ≤ (sc n).toNatClampNeg from a.2.2.2.1) a.2.2.2.2.1 a.2.2.2.2.2.1
    exact b
  · intro n hn ha
    refine (h6 n hn).2 (fun x hx1 hx2 hp => ?_)
    rcases rk_CT_ch hT hx2 (by omega) hp with q | q
    · omega
    · exact ha q.1
end
end
section
/-! ===== the tree grows by a node ===== -/
def rk_A2 (N o : Nat) (k : Int32) (A : Nat → Nat) (n : Nat) : Nat := if n = N then rk_ar k else if n + 1 = o then A n - 1 else A n
def rk_L2 (N l : Nat) (L : Nat → Nat) (n : Nat) : Nat := if n = N then l else L n
theorem rk_cu_up {N : Nat} {kd pa : Nat → Int32} {X k v : Int32} {c : Nat → Nat} {o : Nat} (hp : rk_PA N pa) (hN : N < 40) (ho : o ≤ N) (hv : v = rk_pd o) (h : rk_cu N kd pa X c) : rk_cu (N + 1) (upd kd N k) (upd pa N v) X (rk_L2 N (rk_cv kd X c o) c) := by
  have key : ∀ m, m ≤ N → rk_cv (upd kd N k) X (rk_L2 N (rk_cv kd X c o) c) m = rk_cv kd X c m := by
    intro m hm
    cases m with
    | zero => rfl
    | succ m => simp only [rk_cv, rk_L2]; rw [if_neg (by omega), pk_un (by omega)]
  intro n hn
  by_cases e : n = N
  · subst e
    rw [pk_us, hv]
    have : rk_pi (rk_pd o) = o := by
      cases o with
      | zero => rfl
      | succ o => rw [rk_pd_s, rk_pi_n (by omega)]
    rw [this, key o ho]
    unfold rk_L2; rw [if_pos rfl]
  · rw [pk_un e, key _ (by have := (rk_PA_pd hp (by omega) (show n < N by omega)).2; omega)]
    unfold rk_L2; rw [if_neg e]; exact h n (by omega)
theorem rk_cv_le {N M : Nat} {kd : Nat → Int32} {X : Int32} {c : Nat → Nat} (h : ∀ n, n < N → c n ≤ M ∧ (kd n = X → c n < M)) {o : Nat} (ho : o ≤ N) : rk_cv kd X c o ≤ M := by
  cases o with
  | zero => exact Nat.zero_le _
  | succ o =>
    simp only [rk_cv]
    have := h o (by omega)
    by_cases g : kd o = X
    · rw [if_pos g]; have := this.2 g; omega
    · rw [if_neg g]; omega
section
variable {N S ML MT K o : Nat} {kd ar pa sc la le tl bd sc' la' : Nat → Int32} {A L TL : Nat → Nat} {k av bv : Int32}
theorem rk_TO_q (hJ : rk_TJ N S ML MT K kd ar pa sc la le tl bd A L TL) (hO : rk_TO N pa A o) (hK : 0 < K) (h0 : o = 0) : N = 0 := by
  by_cases g : N = 0
  · exact g
  · have := hJ.2.2.2.2.2.2.2.2.2.2.2 (by omega)
    rw [rk_sm_z N (hO.2.1 h0)] at this; omega
theorem rk_TJ_add (hN : N < 40) (hJ : rk_TJ N S ML MT K kd ar pa sc la le tl bd A L TL) (hO : rk_TO N pa A o) (hK : 0 < K) (hk : ∃ j, j ≤ 10 ∧ k = nI j)
    (ha : (rk_use k ∨ k = 10) → ∃ a, a < S ∧ av = nI a) (ha3 : k = 3 → ∃ a, a < rk_cv kd 9 TL o ∧ av = nI a) (h7 : k = 7 → rk_cv kd 7 L o < ML) (h9 : k = 9 → rk_cv kd 9 TL o < MT)
    (hb : rk_use k → bv = rk_fb (upd kd N k) (upd ar N av) (upd pa N (rk_pd o)) av 40 o)
    (hs1 : sc' N = -1) (hs2 : ∀ n, n < N → ¬ n + 1 = o → sc' n = sc n) (hs3 : ∀ q, o = q + 1 → (N = q + 1 → sc' q = sc q) ∧ (¬ N = q + 1 → sc' q = nI N))
    (hl : ∀ n, n < N + 1 → la' n = nI (rk_A2 N o k A n)) :
    rk_TJ (N + 1) S ML MT (K - 1 + rk_ar k) (upd kd N k) (upd ar N av) (upd pa N (rk_pd o)) sc' la' (upd le N (nI (rk_cv kd 7 L o))) (upd tl N (nI (rk_cv kd 9 TL o))) (upd bd N bv) (rk_A2 N o k A) (rk_L2 N (rk_cv kd 7 L o) L) (rk_L2 N (rk_cv kd 9 TL o) TL) := by
  have hJ0 := hJ
  obtain ⟨j1, j2, j3, j4, j5, j6, ⟨j7, j7c⟩, ⟨j8, j8c⟩, j9, j10, j11⟩ := hJ
  obtain ⟨o1, o2, o3⟩ := hO
  have hpar : ∀ x n, x < N → pa x = nI n → n < 40 → n < x := fun x n hx hp hn => by
    rcases j2 x hx with ⟨a, b⟩ | ⟨p, a, b⟩
    · rw [b] at hp; exact absurd hp.symm (rk_m1_nI (by omega))
    · rw [b, nI_eq (by omega) (by omega)] at hp; omega
  have hup : ∀ x, x < N → upd pa N (rk_pd o) x = pa x := fun x hx => pk_un (by omega)
  have hA2 : ∀ x, x < N → A x = 0 → rk_A2 N o k A x = 0 := fun x hx h0 => by
    unfold rk_A2; rw [if_neg (by omega)]
    by_cases g : x + 1 = o
    · rw [if_pos g]; omega
    · rw [if_neg g]; exact h0
  have hncA : ∀ n, rk_nc (upd pa N (rk_pd o)) n (N + 1) = rk_nc pa n N + (if rk_pd o = nI n then 1 else 0) := fun n => by
    simp only [rk_nc]; rw [rk_nc_c N hup, pk_us]
  refine ⟨?_, ?_, ?_, ?_, ?_, ?_, ⟨?_, ?_⟩, ⟨?_, ?_⟩, ?_, ?_, ?_⟩
  · intro n hn
    by_cases e : n = N
    · subst e; rw [pk_us]; exact hk
    · rw [pk_un e]; exact j1 n (by omega)
  · intro n hn
    by_cases e : n = N
    · subst e
      rw [pk_us]
      cases o with
      | zero => left; exact ⟨rk_TO_q hJ0 ⟨o1, o2, o3⟩ hK rfl, rfl⟩
      | succ q => right; exact ⟨q, by omega, rk_pd_s q⟩
    · rw [pk_un e]; exact j2 n (by omega)
  · intro c p hc hpc he x hx1 hx2
    by_cases e : c = N
    · subst e
      rw [pk_us] at he
      cases o with
      | zero => exact absurd he.symm (rk_m1_nI (by omega))
      | succ q =>
        rw [rk_pd_s, nI_eq (by omega) (by omega)] at he
        subst he
        obtain ⟨a, p', b1, b2, b3⟩ := (o3 q rfl).2 x hx1 hx2
        exact ⟨hA2 x hx2 a, p', b1, b2, by rw [hup x hx2]; exact b3⟩
    · rw [hup c (by omega)] at he
      obtain ⟨a, p', b1, b2, b3⟩ := j3 c p (by omega) hpc he x hx1 hx2
      exact ⟨hA2 x (by omega) a, p', b1, b2, by rw [hup x (by omega)]; exact b3⟩
  · intro n hn har
    by_cases e : n + 1 = N
    · rw [e, pk_us]
      rw [pk_un (by omega)] at har
      have hz : rk_nc pa n N = 0 := rk_nc_0 N (fun x hx hp => by have := hpar x n hx hp (by omega); omega)
      have hAn := (j5 n (by omega)).2
      cases o with
      | zero => have := o2 rfl n (by omega); omega
      | succ q =>
        rw [rk_pd_s]
        by_cases e2 : n = q
        · rw [e2]
        · have := ((o3 q rfl).2 n (by omega) (by omega)).1; omega
    · rw [pk_un (by omega)] at har
      rw [hup _ (by omega)]; exact j4 n (by omega) har
  · intro n hn
    refine ⟨hl n hn, ?_⟩
    rw [hncA]
    by_cases e : n = N
    · subst e
      rw [pk_us, rk_nc_0 n (fun x hx hp => by have := hpar x n hx hp hN; omega), if_neg]
      · unfold rk_A2; rw [if_pos rfl]; rfl
      · cases o with
        | zero => exact fun q => rk_m1_nI (by omega) q.symm
        | succ q => rw [rk_pd_s, nI_eq (by omega) (by omega)]; omega
    · have hb5 := (j5 n (by omega)).2
      rw [pk_un e]
      unfold rk_A2
      rw [if_neg e]
      cases o with
      | zero =>
        rw [if_neg (by omega), if_neg (fun q => rk_m1_nI (by omega) q.symm)]; exact hb5
      | succ q =>
        rw [rk_pd_s]
        by_cases e2 : n = q
        · subst e2
          have := (o3 n rfl).1
          rw [if_pos rfl, if_pos rfl]; omega
        · rw [if_neg (by omega), if_neg (fun w => e2 (((nI_eq (by omega) (by omega)).mp w).symm))]; exact hb5
  · intro n hn
    by_cases e : n = N
    · subst e
      exact ⟨fun x a b => by omega, fun _ => hs1⟩
    · have hb6 := j6 n (by omega)
      by_cases e2 : n + 1 = o
      · obtain ⟨b1, b2⟩ := hs3 n e2.symm
        have hAq := (o3 n e2.symm).1
        by_cases e3 : N = n + 1
        · rw [b1 e3]
          exact ⟨fun x a b => by omega, fun _ => hb6.2 (fun x a b => by omega)⟩
        · rw [b2 e3]
          refine ⟨fun x a b hp => ?_, fun hno => absurd (by rw [pk_us, ← e2, rk_pd_s]) (hno N (by omega) (by omega))⟩
          by_cases e4 : x = N
          · rw [e4]
          · rw [hup x (by omega)] at hp
            have hc5 := (j5 n (by omega)).2
            have har3 := rk_ar_3 (kd n)
            have c1 := rk_nc_2 (show n + 1 < x by omega) (show x < N by omega) (j4 n (by omega) (by omega)) hp
            omega
      · rw [hs2 n (by omega) e2]
        have hNn : ¬ upd pa N (rk_pd o) N = nI n := by
          rw [pk_us]
          cases o with
          | zero => exact fun q => rk_m1_nI (by omega) q.symm
          | succ q => rw [rk_pd_s, nI_eq (by omega) (by omega)]; omega
        refine ⟨fun x a b hp => ?_, fun hno => hb6.2 (fun x a b => by have := hno x a (by omega); rw [hup x b] at this; exact this)⟩
        by_cases e4 : x = N
        · rw [e4] at hp; exact absurd hp hNn
        · rw [hup x (by omega)] at hp; exact hb6.1 x a (by omega) hp
  · intro n hn
    by_cases e : n = N
    · subst e
      rw [pk_us, pk_us]
      unfold rk_L2
      rw [if_pos rfl]
      exact ⟨rfl, rk_cv_le (fun m hm => (j7 m hm).2) o1, h7⟩
    · rw [pk_un e, pk_un e]; unfold rk_L2; rw [if_neg e]; exact j7 n (by omega)
  · exact rk_cu_up j2 hN o1 rfl j7c
  · intro n hn
    by_cases e : n = N
    · subst e
      rw [pk_us, pk_us]
      unfold rk_L2
      rw [if_pos rfl]
      exact ⟨rfl, rk_cv_le (fun m hm => (j8 m hm).2) o1, h9⟩
    · rw [pk_un e, pk_un e]; unfold rk_L2; rw [if_neg e]; exact j8 n (by omega)
  · exact rk_cu_up j2 hN o1 rfl j8c
  · intro n hn
    by_cases e : n = N
    · subst e
      rw [pk_us, pk_us]
      unfold rk_L2
      rw [if_pos rfl]
      exact ⟨ha, ha3⟩
    · rw [pk_un e, pk_un e]; unfold rk_L2; rw [if_neg e]; exact j9 n (by omega)
  · intro n hn hu
    by_cases e : n = N
    · subst e
      rw [pk_us] at hu
      rw [pk_us, pk_us, pk_us]
      have : rk_pi (rk_pd o) = o := by
        cases o with
        | zero => rfl
        | succ o => rw [rk_pd_s, rk_pi_n (by omega)]
      rw [this]; exact hb hu
    · rw [pk_un e] at hu
      rw [pk_un e, pk_un e, pk_un e, rk_fb_c j2 (by omega) (fun m hm => ⟨pk_un (by omega), pk_un (by omega), pk_un (by omega)⟩) 40 _ (by have := (rk_PA_pd j2 (by omega) (show n < N by omega)).2; omega)]
      exact j10 n (by omega) hu
  · refine ⟨fun q => by omega, fun _ => ?_⟩
    have hAN : rk_A2 N o k A N = rk_ar k := by unfold rk_A2; rw [if_pos rfl]
    simp only [rk_sm]
    rw [hAN]
    by_cases g : N = 0
    · subst g; rw [j11.1 rfl]; rfl
    · have hK2 := j11.2 (by omega)
      cases o with
      | zero => exact absurd (rk_TO_q hJ0 ⟨o1, o2, o3⟩ hK rfl) g
      | succ q =>
        have hAq := (o3 q rfl).1
        have hq1 : rk_A2 N (q + 1) k A q + 1 = A q := by unfold rk_A2; rw [if_neg (by omega), if_pos rfl]; omega
        have e1 : rk_sm (rk_A2 N (q + 1) k A) N = rk_sm (fun n => if n = q then A n - 1 else A n) N := rk_sm_c N (fun n hn => by
          unfold rk_A2; rw [if_neg (by omega)]
          by_cases e2 : n = q
          · rw [if_pos (by omega), if_pos e2]
          · rw [if_neg (by omega), if_neg e2])
        have e2 := rk_sm_d (f := A) (g := fun n => if n = q then A n - 1 else A n) (q := q) (by rw [if_pos rfl]; omega) (fun n hn => by rw [if_neg hn]) N (by omega)
        rw [e1]; omega
end
section
variable {mN sN mL mT ct lk op ph tk vd : Int32} {kd ar pa sc la le tl bd se wa gv ra mu ca si ns ke fz ch : Nat → Int32} {N S ML MT K o : Nat} {A L TL : Nat → Nat}
/-- the component's search for the next open node -/
theorem rk_xat74 {post : SX → Prop} (hN : N ≤ 40) (j2 : rk_PA N pa) (j3 : ∀ c p, c < N → p < c → pa c = nI p → ∀ x, p < x → x < c → A x = 0 ∧ ∃ p', p ≤ p' ∧ p' < x ∧ pa x = nI p') (j5 : ∀ n, n < N → la n = nI (A n) ∧ A n ≤ 2) (Kc : ∀ o' : Nat, rk_TO N pa A o' → post (mN, sN, mL, mT, ct, lk, rk_pd o', ph, tk, vd, kd, ar, pa, sc, la, le, tl, bd, se, wa, gv, ra, mu, ca, si, ns, ke, fz, ch)) :
    ∀ (m c st : Nat), c < m → c + st ≤ N → (c = 0 → ∀ n, n < N → A n = 0) → (∀ q, c = q + 1 → ∀ x, q < x → x < N → A x = 0 ∧ ∃ p', q ≤ p' ∧ p' < x ∧ pa x = nI p') → wX_attach_74 post mN sN mL mT ct lk op ph tk vd kd ar pa sc la le tl bd se wa gv ra mu ca si ns ke fz ch m (rk_pd c) (nI st) := by
  intro m
  induction m with
  | zero => intro c st h; omega
  | succ m ih =>
    intro c st hc hst h0 hq
    rw [wX_attach_74]
    dsimp only
    cases c with
    | zero =>
      have hT : rk_TO N pa A 0 := ⟨by omega, h0, fun q hq => by omega⟩
      exact br_c (fun _ => Kc 0 hT) (fun _ => br_t (by decide) (Kc 0 hT))
    | succ q =>
      rw [rk_pd_s, nI_clamp (show q < 2 ^ 31 by omega)]
      have hin : vp_in (nI q) 40 := vp_in_nI (by omega) (by omega)
      obtain ⟨e1, e2⟩ := rk_PA_pd j2 hN (show q < N by omega)
      refine br_f (nI_ge (b := 40) (by omega) (by decide)) (br_f (nI_pos (by omega)) ⟨hin, br_c (fun z => ⟨hin, nm_r e1 (nm_r (nI_1 st) (ih _ _ (by omega) (by omega) ?_ ?_))⟩) (fun z => ?_)⟩)
      all_goals rw [(j5 q (by omega)).1] at z
      all_goals have har := (j5 q (by omega)).2
      · have hz : A q = 0 := by
          rw [show (0 : Int32) = nI 0 from rfl, nI_eq (by omega) (by omega)] at z; exact z
        intro hc0 n hn
        have hq0 : q = 0 := by
          rcases j2 q (by omega) with w | ⟨p, a, b⟩
          · exact w.1
          · rw [b, rk_pi_n (by omega)] at hc0; omega
        by_cases e3 : n = q
        · rw [e3]; exact hz
        · exact (hq q rfl n (by omega) hn).1
      · have hz : A q = 0 := by
          rw [show (0 : Int32) = nI 0 from rfl, nI_eq (by omega) (by omega)] at z; exact z
        intro p hp x hx1 hx2
        have hpq : p < q ∧ pa q = nI p := by
          rcases j2 q (by omega) with w | ⟨p', a, b⟩
          · rw [w.2, rk_pi_m] at hp; omega
          · rw [b, rk_pi_n (by omega)] at hp
            have : p' = p := by omega
            subst this; exact ⟨a, b⟩
        by_cases e3 : x = q
        · subst e3; exact ⟨hz, p, by omega, by omega, hpq.2⟩
        · by_cases e4 : x < q
          · exact j3 q p (by omega) hpq.1 hpq.2 x hx1 e4
          · obtain ⟨a, p', b1, b2, b3⟩ := hq q rfl x (by omega) hx2
            exact ⟨a, p', by omega, b2, b3⟩
      · have := Kc (q + 1) ⟨by omega, fun w => by omega, fun q' hq' => by
          have : q' = q := by omega
          subst this
          exact ⟨Nat.pos_of_ne_zero (fun w => z (by rw [w]; rfl)), hq q' rfl⟩⟩
        rw [rk_pd_s] at this
        exact this
theorem rk_xfb9 {post : Int32 → Prop} {nn : Nat} (hN : N ≤ 40) (hp : rk_PA N pa) (hnn : nn < 40) : ∀ (m c st f : Nat), c < m → c + st ≤ 40 → c ≤ N → c ≤ f → post (rk_fb kd ar pa (ar nn) f c) → wX_findBinder_9 post (nI nn) mN sN mL mT ct lk op ph tk vd kd ar pa sc la le tl bd se wa gv ra mu ca si ns ke fz ch m (rk_pd c) (nI st) := by
  intro m
  induction m with
  | zero => intro c st f h; omega
  | succ m ih =>
    intro c st f hc hst hcN hf h
    rw [wX_findBinder_9]
    dsimp only
    cases c with
    | zero =>
      rw [rk_fb_0] at h
      exact br_c (fun _ => h) (fun _ => br_t (by decide) h)
    | succ q =>
      obtain ⟨f, rfl⟩ : ∃ z, f = z + 1 := ⟨f - 1, by omega⟩
      rw [rk_pd_s, nI_clamp (show q < 2 ^ 31 by omega), nI_clamp (show nn < 2 ^ 31 by omega)]
      have hin : vp_in (nI q) 40 := vp_in_nI (by omega) (by omega)
      have hin2 : vp_in (nI nn) 40 := vp_in_nI (by omega) (by omega)
      obtain ⟨e1, e2⟩ := rk_PA_pd hp hN (show q < N by omega)
      simp only [rk_fb] at h
      refine br_f (nI_ge (b := 40) (by omega) (by decide)) (br_f (nI_pos (by omega)) ⟨hin, br_c (fun k => ⟨hin, hin2, br_c (fun a => ?_) (fun a => ⟨hin, nm_r e1 (nm_r (nI_1 st) (ih _ _ f (by omega) (by omega) (by omega) (by omega) ?_))⟩)⟩) (fun k => ⟨hin, nm_r e1 (nm_r (nI_1 st) (ih _ _ f (by omega) (by omega) (by omega) (by omega) ?_))⟩)⟩)
      · rw [if_pos ⟨k, a⟩] at h; exact h
      · rw [if_neg (fun q => a q.2)] at h; exact h
      · rw [if_neg (fun q => k q.1)] at h; exact h
theorem rk_xfb {post : Int32 → Prop} {n : Nat} (hN : N ≤ 40) (hp : rk_PA N pa) (hn : n < N) (h : post (rk_fb kd ar pa (ar n) 40 (rk_pi (pa n)))) : wpX_findBinder post (mN, sN, mL, mT, ct, lk, op, ph, tk, vd, kd, ar, pa, sc, la, le, tl, bd, se, wa, gv, ra, mu, ca, si, ns, ke, fz, ch) (nI n) := by
  unfold wpX_findBinder
  dsimp only
  rw [nI_clamp (by omega)]
  have e := rk_PA_pd hp hN hn
  exact ⟨vp_in_nI (by omega) (by omega), nm_r e.1 ⟨41, rk_xfb9 hN hp (by omega) 41 _ 0 40 (by omega) (by omega) (by omega) (by omega) h⟩⟩
theorem rk_xus {post : Int32 → Prop} {k : Int32} (h1 : rk_use k → post 1) (h0 : ¬ rk_use k → post 0) : wpX_usesSignal post (mN, sN, mL, mT, ct, lk, op, ph, tk, vd, kd, ar, pa, sc, la, le, tl, bd, se, wa, gv, ra, mu, ca, si, ns, ke, fz, ch) k := by
  unfold wpX_usesSignal
  dsimp only
  refine br_c (fun a => h1 (Or.inl a)) (fun a => br_c (fun b => h1 (Or.inr (Or.inl b))) (fun b => br_c (fun c => h1 (Or.inr (Or.inr c))) (fun c => h0 (fun q => ?_))))
  rcases q with q | q | q
  · exact a q
  · exact b q
  · exact c q
end
end
section
/-! ===== add, on both sides ===== -/
def rk_ao (K S ML MT M N lu tu : Nat) (k v : Int32) : Int32 :=
  if K = 0 then -3 else if k < 0 then -4 else if ¬ k ≤ 10 then -4
  else if ((k = 2 ∨ k = 4 ∨ k = 8) ∨ k = 10) ∧ (v < 0 ∨ ¬ v < nI S) then -5
  else if k = 3 ∧ (v < 0 ∨ ¬ v < nI tu) then -5
  else if k = 7 ∧ ¬ lu < ML then -6 else if k = 9 ∧ ¬ tu < MT then -6 else if ¬ N + K + rk_ar k ≤ M then -7 else 0
/-- the arg that is stored -/
def rk_av (k v : Int32) : Int32 := if ((k = 2 ∨ k = 4 ∨ k = 8) ∨ k = 10) ∨ k = 3 then v else 0
theorem rk_lk {K a : Nat} (hK : 0 < K) : nI K + (nI a - 1) = nI (K - 1 + a) := by
  obtain ⟨q, rfl⟩ : ∃ q, K = q + 1 := ⟨K - 1, by omega⟩
  rw [show q + 1 - 1 + a = q + a from by omega, ← nI_1, ← nI_add]
  generalize nI q = x
  generalize nI a = y
  grind
section
variable {mN sN mL mT ct lk op ph tk vd : Int32} {kd ar pa sc la le tl bd se wa gv ra mu ca si ns ke fz ch : Nat → Int32} {N S ML MT K M o : Nat} {A L TL : Nat → Nat}
theorem rk_x300 {post : Int32 → SX → Prop} {x8 bv : Int32} {q : Nat} (hq : q < 100) (hN : N < 40) (hl : lk = nI q) (h : post x8 (mN, sN, mL, mT, ct, lk, op, if q = 0 then 1 else ph, tk, vd, kd, ar, pa, sc, la, le, tl, upd bd N bv, se, wa, gv, ra, mu, ca, si, ns, ke, fz, ch)) : wX_add_300 post x8 bv (nI N) mN sN mL mT ct lk op ph tk vd kd ar pa sc la le tl bd se wa gv ra mu ca si ns ke fz ch := by
  unfold wX_add_300
  rw [nI_clamp (by omega), hl]
  rw [hl] at h
  refine ⟨vp_in_nI hN (by omega), nm_e (pk_eq q 0 (fun z => ?_) (fun z => ?_))⟩
  · rw [if_pos z] at h; exact h
  · rw [if_neg z] at h; exact h
theorem rk_x247 {post : Int32 → SX → Prop} {k av : Int32} (hN : N < 40) (hJ : rk_TJ N S ML MT K kd ar pa sc la le tl bd A L TL) (hO : rk_TO N pa A o) (hK : 0 < K) (hK2 : K ≤ 40) (hk : ∃ j, j ≤ 10 ∧ k = nI j)
    (ha : (rk_use k ∨ k = 10) → ∃ a, a < S ∧ av = nI a) (ha3 : k = 3 → ∃ a, a < rk_cv kd 9 TL o ∧ av = nI a) (h7 : k = 7 → rk_cv kd 7 L o < ML) (h9 : k = 9 → rk_cv kd 9 TL o < MT)
    (Kc : ∀ (sc' la' bd' : Nat → Int32) (o' : Nat), rk_TJ (N + 1) S ML MT (K - 1 + rk_ar k) (upd kd N k) (upd ar N av) (upd pa N (rk_pd o)) sc' la' (upd le N (nI (rk_cv kd 7 L o))) (upd tl N (nI (rk_cv kd 9 TL o))) bd' (rk_A2 N o k A) (rk_L2 N (rk_cv kd 7 L o) L) (rk_L2 N (rk_cv kd 9 TL o) TL) → rk_TO (N + 1) (upd pa N (rk_pd o)) (rk_A2 N o k A) o' → post (nI N) (mN, sN, mL, mT, nI (N + 1), nI (K - 1 + rk_ar k), rk_pd o', if K - 1 + rk_ar k = 0 then 1 else ph, tk, vd, upd kd N k, upd ar N av, upd pa N (rk_pd o), sc', la', upd le N (nI (rk_cv kd 7 L o)), upd tl N (nI (rk_cv kd 9 TL o)), bd', se, wa, gv, ra, mu, ca, si, ns, ke, fz, ch)) :
    wX_add_247 post k (rk_pd o) (nI (rk_cv kd 7 L o)) (nI (rk_cv kd 9 TL o)) (nI (rk_ar k)) (nI N) av (nI N) mN sN mL mT ct (nI K) op ph tk vd (upd kd N k) ar pa sc la le tl bd se wa gv ra mu ca si ns ke fz ch := by
  have hin : vp_in (nI N) 40 := vp_in_nI (by omega) (by omega)
  have har3 := rk_ar_3 k
  have hj5 := hJ.2.2.2.2.1
  unfold wX_add_247
  rw [nI_clamp (show N < 2 ^ 31 by omega)]
  refine ⟨hin, nm_e ⟨hin, nm_e ⟨hin, nm_e ?_⟩⟩⟩
  unfold wpX_attach
  dsimp only
  rw [nI_clamp (show N < 2 ^ 31 by omega)]
  refine ⟨hin, nm_e ⟨hin, nm_e ⟨hin, nm_e ?_⟩⟩⟩
  have hrest : ∀ (u : Int32 → SX → Prop), u = post → ∀ (sc' la' : Nat → Int32) (o' : Nat), (∀ bv, (rk_use k → bv = rk_fb (upd kd N k) (upd ar N av) (upd pa N (rk_pd o)) av 40 o) → rk_TJ (N + 1) S ML MT (K - 1 + rk_ar k) (upd kd N k) (upd ar N av) (upd pa N (rk_pd o)) sc' la' (upd le N (nI (rk_cv kd 7 L o))) (upd tl N (nI (rk_cv kd 9 TL o))) (upd bd N bv) (rk_A2 N o k A) (rk_L2 N (rk_cv kd 7 L o) L) (rk_L2 N (rk_cv kd 9 TL o) TL)) → rk_TO (N + 1) (upd pa N (rk_pd o)) (rk_A2 N o k A) o' →
      wpX_usesSignal (fun r_110 => (((r_110 = 0 → (wX_add_300 u (nI N) (-2) (nI N) mN sN mL mT (nI (N + 1)) (nI (K - 1 + rk_ar k)) (rk_pd o') ph tk vd (upd kd N k) (upd ar N av) (upd pa N (rk_pd o)) sc' la' (upd le N (nI (rk_cv kd 7 L o))) (upd tl N (nI (rk_cv kd 9 TL o))) bd se wa gv ra mu ca si ns ke fz ch)) ∧ (¬ r_110 = 0 → (wpX_findBinder (fun r_144 => (wX_add_300 u (nI N) r_144 (nI N) mN sN mL mT (nI (N + 1)) (nI (K - 1 + rk_ar k)) (rk_pd o') ph tk vd (upd kd N k) (upd ar N av) (upd pa N (rk_pd o)) sc' la' (upd le N (nI (rk_cv kd 7 L o))) (upd tl N (nI (rk_cv kd 9 TL o))) bd se wa gv ra mu ca si ns ke fz ch)) (mN, sN, mL, mT, nI (N + 1), nI (K - 1 + rk_ar k), rk_pd o', ph, tk, vd, upd kd N k, upd ar N av, upd pa N (rk_pd o), sc', la', upd le N (nI (rk_cv kd 7 L o)), upd tl N (nI (rk_cv kd 9 TL o)), bd, se, wa, gv, ra, mu, ca, si, ns, ke, fz, ch) (nI N)))))) (mN, sN, mL, mT, nI (N + 1), nI (K - 1 + rk_ar k), rk_pd o', ph, tk, vd, upd kd N k, upd ar N av, upd pa N (rk_pd o), sc', la', upd le N (nI (rk_cv kd 7 L o)), upd tl N (nI (rk_cv kd 9 TL o)), bd, se, wa, gv, ra, mu, ca, si, ns, ke, fz, ch) k := by
    intro u hu sc' la' o' hTJ hTO
    subst hu
    refine rk_xus (fun z => br_f (by decide) ?_) (fun z => br_t rfl ?_)
    · have hp' := (hTJ _ (fun _ => rfl)).2.1
      refine rk_xfb (N := N + 1) (by omega) hp' (by omega) ?_
      rw [pk_us, pk_us]
      have hpi : rk_pi (rk_pd o) = o := by
        cases o with
        | zero => rfl
        | succ o => rw [rk_pd_s, rk_pi_n (by have := hO.1; omega)]
      rw [hpi]
      exact rk_x300 (q := K - 1 + rk_ar k) (by omega) hN rfl (Kc sc' la' _ o' (hTJ _ (fun _ => rfl)) hTO)
    · exact rk_x300 (q := K - 1 + rk_ar k) (by omega) hN rfl (Kc sc' la' _ o' (hTJ (-2) (fun q => absurd q z)) hTO)
  have fin : ∀ sc' la' : Nat → Int32, sc' N = -1 → (∀ n, n < N → ¬ n + 1 = o → sc' n = sc n) → (∀ q, o = q + 1 → (N = q + 1 → sc' q = sc q) ∧ (¬ N = q + 1 → sc' q = nI N)) → (∀ n, n < N + 1 → la' n = nI (rk_A2 N o k A n)) →
      wX_attach_49 (fun u => match u with | (mN, sN, mL, mT, ct, lk, op, ph, tk, vd, kd, ar, pa, sc, la, le, tl, bd, se, wa, gv, ra, mu, ca, si, ns, ke, fz, ch) => (wpX_usesSignal (fun r_110 => (((r_110 = 0 → (wX_add_300 post (nI N) (-2) (nI N) mN sN mL mT ct lk op ph tk vd kd ar pa sc la le tl bd se wa gv ra mu ca si ns ke fz ch)) ∧ (¬ r_110 = 0 → (wpX_findBinder (fun r_144 => (wX_add_300 post (nI N) r_144 (nI N) mN sN mL mT ct lk op ph tk vd kd ar pa sc la le tl bd se wa gv ra mu ca si ns ke fz ch)) (mN, sN, mL, mT, ct, lk, op, ph, tk, vd, kd, ar, pa, sc, la, le, tl, bd, se, wa, gv, ra, mu, ca, si, ns, ke, fz, ch) (nI N)))))) (mN, sN, mL, mT, ct, lk, op, ph, tk, vd, kd, ar, pa, sc, la, le, tl, bd, se, wa, gv, ra, mu, ca, si, ns, ke, fz, ch) k)) (nI N) (nI (rk_ar k)) mN sN mL mT ct (nI K) op ph tk vd (upd kd N k) (upd ar N av) (upd pa N (rk_pd o)) sc' la' (upd le N (nI (rk_cv kd 7 L o))) (upd tl N (nI (rk_cv kd 9 TL o))) bd se wa gv ra mu ca si ns ke fz ch := by
    intro sc' la' s1 s2 s3 s4
    have hTJ : ∀ bv, (rk_use k → bv = rk_fb (upd kd N k) (upd ar N av) (upd pa N (rk_pd o)) av 40 o) → rk_TJ (N + 1) S ML MT (K - 1 + rk_ar k) (upd kd N k) (upd ar N av) (upd pa N (rk_pd o)) sc' la' (upd le N (nI (rk_cv kd 7 L o))) (upd tl N (nI (rk_cv kd 9 TL o))) (upd bd N bv) (rk_A2 N o k A) (rk_L2 N (rk_cv kd 7 L o) L) (rk_L2 N (rk_cv kd 9 TL o) TL) :=
      fun bv hb => rk_TJ_add hN hJ hO hK hk ha ha3 h7 h9 hb s1 s2 s3 s4
    have hTJ1 := hTJ _ (fun _ => rfl)
    unfold wX_attach_49
    refine nm_r (nI_1 N) (nm_r (rk_lk hK) ⟨N + 2, ?_⟩)
    have h74 := rk_xat74 (N := N + 1) (A := rk_A2 N o k A) (mN := mN) (sN := sN) (mL := mL) (mT := mT) (ct := nI (N + 1)) (lk := nI (K - 1 + rk_ar k)) (op := op) (ph := ph) (tk := tk) (vd := vd) (kd := upd kd N k) (ar := upd ar N av) (pa := upd pa N (rk_pd o)) (sc := sc') (la := la') (le := upd le N (nI (rk_cv kd 7 L o))) (tl := upd tl N (nI (rk_cv kd 9 TL o))) (bd := bd) (se := se) (wa := wa) (gv := gv) (ra := ra) (mu := mu) (ca := ca) (si := si) (ns := ns) (ke := ke) (fz := fz) (ch := ch)
      (post := fun u => match u with | (mN, sN, mL, mT, ct, lk, op, ph, tk, vd, kd, ar, pa, sc, la, le, tl, bd, se, wa, gv, ra, mu, ca, si, ns, ke, fz, ch) => (wpX_usesSignal (fun r_110 => (((r_110 = 0 → (wX_add_300 post (nI N) (-2) (nI N) mN sN mL mT ct lk op ph tk vd kd ar pa sc la le tl bd se wa gv ra mu ca si ns ke fz ch)) ∧ (¬ r_110 = 0 → (wpX_findBinder (fun r_144 => (wX_add_300 post (nI N) r_144 (nI N) mN sN mL mT ct lk op ph tk vd kd ar pa sc la le tl bd se wa gv ra mu ca si ns ke fz ch)) (mN, sN, mL, mT, ct, lk, op, ph, tk, vd, kd, ar, pa, sc, la, le, tl, bd, se, wa, gv, ra, mu, ca, si, ns, ke, fz, ch) (nI N)))))) (mN, sN, mL, mT, ct, lk, op, ph, tk, vd, kd, ar, pa, sc, la, le, tl, bd, se, wa, gv, ra, mu, ca, si, ns, ke, fz, ch) k)) (by omega) hTJ1.2.1 hTJ1.2.2.1 (fun n hn => ⟨s4 n hn, by have := (hTJ1.2.2.2.2.1 n hn).2; have := rk_ar_3 (upd kd N k n); omega⟩) (fun o' hTO => hrest post rfl sc' la' o' hTJ hTO) (N + 2) (N + 1) 0 (by omega) (by omega) (fun q => by omega) (fun q hq x hx1 hx2 => by omega)
    rw [rk_pd_s] at h74
    exact h74
  have hA2n : ∀ n, n < N → ¬ n + 1 = o → rk_A2 N o k A n = A n := fun n hn ho => by unfold rk_A2; rw [if_neg (by omega), if_neg ho]
  have hA2N : rk_A2 N o k A N = rk_ar k := by unfold rk_A2; rw [if_pos rfl]
  have ho := hO.1
  cases o with
  | zero =>
    refine br_t (by decide) (fin _ _ pk_us (fun n hn _ => pk_un (by omega)) (fun q hq => by omega) (fun n hn => ?_))
    by_cases e : n = N
    · subst e; rw [pk_us, hA2N]
    · rw [pk_un e, hA2n n (by omega) (by omega)]; exact (hj5 n (by omega)).1
  | succ q =>
    have hq := (hO.2.2 q rfl).1
    have hinq : vp_in (nI q) 40 := vp_in_nI (by omega) (by omega)
    have hA2q : rk_A2 N (q + 1) k A q = A q - 1 := by unfold rk_A2; rw [if_neg (by omega), if_pos rfl]
    have hlq : nI (A q) - 1 = nI (A q - 1) := pk_sub (b := 1) (by omega)
    have hp1 : rk_pd (q + 1) = nI q := rk_pd_s q
    have hla : ∀ n, n < N + 1 → upd (upd la N (nI (rk_ar k))) q (nI (A q - 1)) n = nI (rk_A2 N (q + 1) k A n) := fun n hn => by
      by_cases e1 : n = q
      · subst e1; rw [pk_us, hA2q]
      · rw [pk_un e1]
        by_cases e : n = N
        · subst e; rw [pk_us, hA2N]
        · rw [pk_un e, hA2n n (by omega) (by omega)]; exact (hj5 n (by omega)).1
    have hlaq : upd la N (nI (rk_ar k)) q = nI (A q) := by rw [pk_un (by omega)]; exact (hj5 q (by omega)).1
    have hneg : ¬ rk_pd (q + 1) < 0 := by rw [hp1]; exact nI_pos (by omega)
    have hcl : (rk_pd (q + 1)).toNatClampNeg = q := by rw [hp1]; exact nI_clamp (by omega)
    have hvp : vp_in (rk_pd (q + 1)) 40 := by rw [hp1]; exact hinq
    have hs : rk_pd (q + 1) + 1 = nI (q + 1) := by rw [hp1, nI_1]
    rw [hcl, hlaq, hlq, hs]
    refine br_f hneg ⟨hvp, hvp, nm_e (pk_eq N (q + 1) (fun z => ?_) (fun z => ⟨hvp, nm_e ?_⟩))⟩
    · exact fin _ _ pk_us (fun n hn _ => pk_un (by omega)) (fun q' hq' => ⟨fun _ => pk_un (by omega), fun w => absurd (by omega) w⟩) hla
    · refine fin _ _ (by rw [pk_un (by omega)]; exact pk_us) (fun n hn hno => by rw [pk_un (by omega), pk_un (by omega)]) (fun q' hq' => ?_) hla
      have : q' = q := by omega
      subst this
      exact ⟨fun w => absurd w z, fun _ => pk_us⟩
end
end
section
/-! ===== add: the whole ===== -/
theorem rk_k10 {k : Int32} (h0 : ¬ k < 0) (h1 : k ≤ 10) : ∃ j, j ≤ 10 ∧ k = nI j := nI_of2 (M := 10) (n := 10) (by decide) h0 h1
theorem rk_v_lt {v : Int32} {S : Nat} (h0 : ¬ v < 0) (h1 : v < nI S) (hS : S < 100) : ∃ a, a < S ∧ v = nI a := by
  obtain ⟨j, hj, rfl⟩ := nI_of h0
  rw [nI_ltI hj (by omega)] at h1
  exact ⟨j, h1, rfl⟩
section
variable {K S ML MT M N lu tu : Nat} {k v : Int32}
/-- the conditions under which a node is taken -/
theorem rk_ao_0 (h : rk_ao K S ML MT M N lu tu k v = 0) : ¬ K = 0 ∧ ¬ k < 0 ∧ k ≤ 10 ∧ ¬ (((k = 2 ∨ k = 4 ∨ k = 8) ∨ k = 10) ∧ (v < 0 ∨ ¬ v < nI S)) ∧ ¬ (k = 3 ∧ (v < 0 ∨ ¬ v < nI tu)) ∧ ¬ (k = 7 ∧ ¬ lu < ML) ∧ ¬ (k = 9 ∧ ¬ tu < MT) ∧ N + K + rk_ar k ≤ M := by
  unfold rk_ao at h
  by_cases c0 : K = 0
  · rw [if_pos c0] at h; exact absurd h (by decide)
  rw [if_neg c0] at h
  by_cases c1 : k < 0
  · rw [if_pos c1] at h; exact absurd h (by decide)
  rw [if_neg c1] at h
  by_cases c2 : ¬ k ≤ 10
  · rw [if_pos c2] at h; exact absurd h (by decide)
  rw [if_neg c2] at h
  by_cases c3 : ((k = 2 ∨ k = 4 ∨ k = 8) ∨ k = 10) ∧ (v < 0 ∨ ¬ v < nI S)
  · rw [if_pos c3] at h; exact absurd h (by decide)
  rw [if_neg c3] at h
  by_cases c4 : k = 3 ∧ (v < 0 ∨ ¬ v < nI tu)
  · rw [if_pos c4] at h; exact absurd h (by decide)
  rw [if_neg c4] at h
  by_cases c5 : k = 7 ∧ ¬ lu < ML
  · rw [if_pos c5] at h; exact absurd h (by decide)
  rw [if_neg c5] at h
  by_cases c6 : k = 9 ∧ ¬ tu < MT
  · rw [if_pos c6] at h; exact absurd h (by decide)
  rw [if_neg c6] at h
  by_cases c7 : ¬ N + K + rk_ar k ≤ M
  · rw [if_pos c7] at h; exact absurd h (by decide)
  exact ⟨c0, c1, Decidable.byContradiction c2, c3, c4, c5, c6, Decidable.byContradiction c7⟩
theorem rk_ao_3 (c0 : K = 0) : rk_ao K S ML MT M N lu tu k v = -3 := by unfold rk_ao; rw [if_pos c0]
theorem rk_ao_4 (c0 : ¬ K = 0) (c : k < 0 ∨ ¬ k ≤ 10) : rk_ao K S ML MT M N lu tu k v = -4 := by
  unfold rk_ao; rw [if_neg c0]
  by_cases c1 : k < 0
  · rw [if_pos c1]
  · rw [if_neg c1, if_pos (c.resolve_left c1)]
theorem rk_ao_5 (c0 : ¬ K = 0) (c1 : ¬ k < 0) (c2 : k ≤ 10) (c : (((k = 2 ∨ k = 4 ∨ k = 8) ∨ k = 10) ∧ (v < 0 ∨ ¬ v < nI S)) ∨ (k = 3 ∧ (v < 0 ∨ ¬ v < nI tu))) : rk_ao K S ML MT M N lu tu k v = -5 := by
  unfold rk_ao; rw [if_neg c0, if_neg c1, if_neg (fun q => q c2)]
  by_cases c3 : ((k = 2 ∨ k = 4 ∨ k = 8) ∨ k = 10) ∧ (v < 0 ∨ ¬ v < nI S)
  · rw [if_pos c3]
  · rw [if_neg c3, if_pos (c.resolve_left c3)]
theorem rk_ao_6 (c0 : ¬ K = 0) (c1 : ¬ k < 0) (c2 : k ≤ 10) (c3 : ¬ (((k = 2 ∨ k = 4 ∨ k = 8) ∨ k = 10) ∧ (v < 0 ∨ ¬ v < nI S))) (c4 : ¬ (k = 3 ∧ (v < 0 ∨ ¬ v < nI tu))) (c : (k = 7 ∧ ¬ lu < ML) ∨ (k = 9 ∧ ¬ tu < MT)) : rk_ao K S ML MT M N lu tu k v = -6 := by
  unfold rk_ao; rw [if_neg c0, if_neg c1, if_neg (fun q => q c2), if_neg c3, if_neg c4]
  by_cases c5 : k = 7 ∧ ¬ lu < ML
  · rw [if_pos c5]
  · rw [if_neg c5, if_pos (c.resolve_left c5)]
theorem rk_ao_7 (c0 : ¬ K = 0) (c1 : ¬ k < 0) (c2 : k ≤ 10) (c3 : ¬ (((k = 2 ∨ k = 4 ∨ k = 8) ∨ k = 10) ∧ (v < 0 ∨ ¬ v < nI S))) (c4 : ¬ (k = 3 ∧ (v < 0 ∨ ¬ v < nI tu))) (c5 : ¬ (k = 7 ∧ ¬ lu < ML)) (c6 : ¬ (k = 9 ∧ ¬ tu < MT)) : rk_ao K S ML MT M N lu tu k v = if ¬ N + K + rk_ar k ≤ M then -7 else 0 := by
  unfold rk_ao; rw [if_neg c0, if_neg c1, if_neg (fun q => q c2), if_neg c3, if_neg c4, if_neg c5, if_neg c6]
end
section
variable {mN sN mL mT ct lk op ph tk vd : Int32} {kd ar pa sc la le tl bd se wa gv ra mu ca si ns ke fz ch : Nat → Int32} {N S ML MT K M o : Nat} {A L TL : Nat → Nat} {k v : Int32}
theorem rk_xadd {post : Int32 → SX → Prop} (hM : M ≤ 40) (hS : S ≤ 8) (hML : ML ≤ 2) (hMT : MT ≤ 3) (hNK : N + K ≤ M) (hJ : rk_TJ N S ML MT K kd ar pa sc la le tl bd A L TL) (hO : rk_TO N pa A o)
    (e1 : mN = nI M) (e2 : sN = nI S) (e3 : mL = nI ML) (e4 : mT = nI MT) (e5 : ct = nI N) (e6 : lk = nI K) (e7 : op = rk_pd o)
    (hr : ∀ r, rk_ao K S ML MT M N (rk_cv kd 7 L o) (rk_cv kd 9 TL o) k v = r → ¬ r = 0 → post r (mN, sN, mL, mT, ct, lk, op, ph, tk, vd, kd, ar, pa, sc, la, le, tl, bd, se, wa, gv, ra, mu, ca, si, ns, ke, fz, ch))
    (Kc : rk_ao K S ML MT M N (rk_cv kd 7 L o) (rk_cv kd 9 TL o) k v = 0 → ∀ (av : Int32) (sc' la' bd' : Nat → Int32) (o' : Nat), av = rk_av k v → rk_TJ (N + 1) S ML MT (K - 1 + rk_ar k) (upd kd N k) (upd ar N av) (upd pa N (rk_pd o)) sc' la' (upd le N (nI (rk_cv kd 7 L o))) (upd tl N (nI (rk_cv kd 9 TL o))) bd' (rk_A2 N o k A) (rk_L2 N (rk_cv kd 7 L o) L) (rk_L2 N (rk_cv kd 9 TL o) TL) → rk_TO (N + 1) (upd pa N (rk_pd o)) (rk_A2 N o k A) o' → post (nI N) (mN, sN, mL, mT, nI (N + 1), nI (K - 1 + rk_ar k), rk_pd o', if K - 1 + rk_ar k = 0 then 1 else ph, tk, vd, upd kd N k, upd ar N av, upd pa N (rk_pd o), sc', la', upd le N (nI (rk_cv kd 7 L o)), upd tl N (nI (rk_cv kd 9 TL o)), bd', se, wa, gv, ra, mu, ca, si, ns, ke, fz, ch)) : wpX_add post (mN, sN, mL, mT, ct, lk, op, ph, tk, vd, kd, ar, pa, sc, la, le, tl, bd, se, wa, gv, ra, mu, ca, si, ns, ke, fz, ch) k v := by
  subst e1 e2 e3 e4 e5 e6
  have hO1 := hO.1
  have hcv7 : rk_cv kd 7 L o ≤ ML := rk_cv_le (fun m hm => (hJ.2.2.2.2.2.2.1.1 m hm).2) hO1
  have hcv9 : rk_cv kd 9 TL o ≤ MT := rk_cv_le (fun m hm => (hJ.2.2.2.2.2.2.2.1.1 m hm).2) hO1
  have har3 := rk_ar_3 k
  have hm1 : ∀ {r : Int32}, rk_ao K S ML MT M N (rk_cv kd 7 L o) (rk_cv kd 9 TL o) k v = r → r = -3 ∨ r = -4 ∨ r = -5 ∨ r = -6 ∨ r = -7 → post r (nI M, nI S, nI ML, nI MT, nI N, nI K, op, ph, tk, vd, kd, ar, pa, sc, la, le, tl, bd, se, wa, gv, ra, mu, ca, si, ns, ke, fz, ch) := fun {r} h q => hr r h (by rcases q with q | q | q | q | q <;> rw [q] <;> decide)
  have w88 : ¬ K = 0 → ¬ k < 0 → k ≤ 10 → wX_add_88 post k v (rk_pd o) (nI (rk_cv kd 7 L o)) (nI (rk_cv kd 9 TL o)) (nI M) (nI S) (nI ML) (nI MT) (nI N) (nI K) op ph tk vd kd ar pa sc la le tl bd se wa gv ra mu ca si ns ke fz ch := by
    intro c0 c1 c2
    have w183 : ∀ z : Int32, (z = 0 ↔ ¬ ((k = 2 ∨ k = 4 ∨ k = 8) ∨ k = 10)) → ¬ (((k = 2 ∨ k = 4 ∨ k = 8) ∨ k = 10) ∧ (v < 0 ∨ ¬ v < nI S)) → ¬ (k = 3 ∧ (v < 0 ∨ ¬ v < nI (rk_cv kd 9 TL o))) → ¬ (k = 7 ∧ ¬ rk_cv kd 7 L o < ML) → ¬ (k = 9 ∧ ¬ rk_cv kd 9 TL o < MT) → wX_add_183 post k v (rk_pd o) (nI (rk_cv kd 7 L o)) (nI (rk_cv kd 9 TL o)) z (nI M) (nI S) (nI ML) (nI MT) (nI N) (nI K) op ph tk vd kd ar pa sc la le tl bd se wa gv ra mu ca si ns ke fz ch := by
      intro z hz c3 c4 c5 c6
      have hao := rk_ao_7 (M := M) (N := N) c0 c1 c2 c3 c4 c5 c6
      unfold wX_add_183
      refine rk_xcc ?_
      rw [nI_add, nI_add]
      refine pk_le (N + K + rk_ar k) M (fun c7 => ⟨vp_in_nI (by omega) (by omega), ?_⟩) (fun c7 => hm1 (r := -7) (by rw [hao, if_pos (by omega)]) (by simp))
      rw [if_neg (by omega)] at hao
      rw [nI_clamp (show N < 2 ^ 31 by omega)]
      have h247 : ∀ av : Int32, av = rk_av k v → wX_add_247 post k (rk_pd o) (nI (rk_cv kd 7 L o)) (nI (rk_cv kd 9 TL o)) (nI (rk_ar k)) (nI N) av (nI N) (nI M) (nI S) (nI ML) (nI MT) (nI N) (nI K) op ph tk vd (upd kd N k) ar pa sc la le tl bd se wa gv ra mu ca si ns ke fz ch := by
        intro av hav
        refine rk_x247 (by omega) hJ hO (by omega) (by omega) (rk_k10 c1 c2) (fun q => ?_) (fun q => ?_) (fun q => Decidable.byContradiction (fun w => c5 ⟨q, w⟩)) (fun q => Decidable.byContradiction (fun w => c6 ⟨q, w⟩)) (fun sc' la' bd' o' t1 t2 => Kc hao av sc' la' bd' o' hav t1 t2)
        · have q' : ((k = 2 ∨ k = 4 ∨ k = 8) ∨ k = 10) := q
          rw [hav]; unfold rk_av; rw [if_pos (Or.inl q')]
          exact rk_v_lt (fun w => c3 ⟨q, Or.inl w⟩) (Decidable.byContradiction (fun w => c3 ⟨q, Or.inr w⟩)) (by omega)
        · rw [hav]; unfold rk_av; rw [if_pos (Or.inr q)]
          exact rk_v_lt (fun w => c4 ⟨q, Or.inl w⟩) (Decidable.byContradiction (fun w => c4 ⟨q, Or.inr w⟩)) (by omega)
      refine nm_e (br_c (fun z0 => br_c (fun k3 => ?_) (fun k3 => ?_)) (fun z0 => ?_))
      · unfold wX_add_242; exact h247 v (by unfold rk_av; rw [if_pos (Or.inr k3)])
      · exact h247 0 (by unfold rk_av; rw [if_neg (fun q => q.elim (hz.mp z0) k3)])
      · unfold wX_add_242; exact h247 v (by unfold rk_av; rw [if_pos (Or.inl (Decidable.byContradiction (fun q => z0 (hz.mpr q))))])
    have w165 : ∀ z : Int32, (z = 0 ↔ ¬ ((k = 2 ∨ k = 4 ∨ k = 8) ∨ k = 10)) → ¬ (((k = 2 ∨ k = 4 ∨ k = 8) ∨ k = 10) ∧ (v < 0 ∨ ¬ v < nI S)) → ¬ (k = 3 ∧ (v < 0 ∨ ¬ v < nI (rk_cv kd 9 TL o))) → ¬ (k = 7 ∧ ¬ rk_cv kd 7 L o < ML) → wX_add_165 post k v (rk_pd o) (nI (rk_cv kd 7 L o)) (nI (rk_cv kd 9 TL o)) z (nI M) (nI S) (nI ML) (nI MT) (nI N) (nI K) op ph tk vd kd ar pa sc la le tl bd se wa gv ra mu ca si ns ke fz ch := by
      intro z hz c3 c4 c5
      unfold wX_add_165
      refine br_c (fun k9 => pk_lt (rk_cv kd 9 TL o) MT (fun q => w183 z hz c3 c4 c5 (fun w => w.2 q)) (fun q => hm1 (r := -6) (rk_ao_6 c0 c1 c2 c3 c4 (Or.inr ⟨k9, by omega⟩)) (by simp))) (fun k9 => w183 z hz c3 c4 c5 (fun w => k9 w.1))
    have w147 : ∀ z : Int32, (z = 0 ↔ ¬ ((k = 2 ∨ k = 4 ∨ k = 8) ∨ k = 10)) → ¬ (((k = 2 ∨ k = 4 ∨ k = 8) ∨ k = 10) ∧ (v < 0 ∨ ¬ v < nI S)) → ¬ (k = 3 ∧ (v < 0 ∨ ¬ v < nI (rk_cv kd 9 TL o))) → wX_add_147 post k v (rk_pd o) (nI (rk_cv kd 7 L o)) (nI (rk_cv kd 9 TL o)) z (nI M) (nI S) (nI ML) (nI MT) (nI N) (nI K) op ph tk vd kd ar pa sc la le tl bd se wa gv ra mu ca si ns ke fz ch := by
      intro z hz c3 c4
      unfold wX_add_147
      refine br_c (fun k7 => pk_lt (rk_cv kd 7 L o) ML (fun q => w165 z hz c3 c4 (fun w => w.2 q)) (fun q => hm1 (r := -6) (rk_ao_6 c0 c1 c2 c3 c4 (Or.inl ⟨k7, by omega⟩)) (by simp))) (fun k7 => w165 z hz c3 c4 (fun w => k7 w.1))
    have w129 : ∀ z : Int32, (z = 0 ↔ ¬ ((k = 2 ∨ k = 4 ∨ k = 8) ∨ k = 10)) → ¬ (((k = 2 ∨ k = 4 ∨ k = 8) ∨ k = 10) ∧ (v < 0 ∨ ¬ v < nI S)) → wX_add_129 post k v (rk_pd o) (nI (rk_cv kd 7 L o)) (nI (rk_cv kd 9 TL o)) z (nI M) (nI S) (nI ML) (nI MT) (nI N) (nI K) op ph tk vd kd ar pa sc la le tl bd se wa gv ra mu ca si ns ke fz ch := by
      intro z hz c3
      unfold wX_add_129
      refine br_c (fun k3 => br_c (fun q => hm1 (r := -5) (rk_ao_5 c0 c1 c2 (Or.inr ⟨k3, Or.inl q⟩)) (by simp)) (fun q => br_c (fun p => w147 z hz c3 (fun w => w.2.elim q (fun x => x p))) (fun p => hm1 (r := -5) (rk_ao_5 c0 c1 c2 (Or.inr ⟨k3, Or.inr p⟩)) (by simp)))) (fun k3 => w147 z hz c3 (fun w => k3 w.1))
    have w107 : ∀ z : Int32, (z = 0 ↔ ¬ ((k = 2 ∨ k = 4 ∨ k = 8) ∨ k = 10)) → wX_add_107 post k v (rk_pd o) (nI (rk_cv kd 7 L o)) (nI (rk_cv kd 9 TL o)) z (nI M) (nI S) (nI ML) (nI MT) (nI N) (nI K) op ph tk vd kd ar pa sc la le tl bd se wa gv ra mu ca si ns ke fz ch := by
      intro z hz
      unfold wX_add_107
      refine br_c (fun z0 => w129 z hz (fun w => hz.mp z0 w.1)) (fun z0 => ?_)
      have hn : ((k = 2 ∨ k = 4 ∨ k = 8) ∨ k = 10) := Decidable.byContradiction (fun q => z0 (hz.mpr q))
      exact br_c (fun q => hm1 (r := -5) (rk_ao_5 c0 c1 c2 (Or.inl ⟨hn, Or.inl q⟩)) (by simp)) (fun q => br_c (fun p => w129 z hz (fun w => w.2.elim q (fun x => x p))) (fun p => hm1 (r := -5) (rk_ao_5 c0 c1 c2 (Or.inl ⟨hn, Or.inr p⟩)) (by simp)))
    unfold wX_add_88
    refine rk_xus (fun u => br_f (by decide) ?_) (fun u => br_t rfl (br_c (fun k10 => ?_) (fun k10 => w107 0 ⟨fun _ w => w.elim u k10, fun _ => rfl⟩)))
    · unfold wX_add_102; exact w107 1 ⟨fun q => absurd q (by decide), fun q => absurd (Or.inl u) q⟩
    · unfold wX_add_102; exact w107 1 ⟨fun q => absurd q (by decide), fun q => absurd (Or.inr k10) q⟩
  unfold wpX_add
  dsimp only
  rw [e7]
  rw [e7] at hm1 w88
  refine pk_eq K 0 (fun c0 => hm1 (r := -3) (rk_ao_3 c0) (by simp)) (fun c0 => br_c (fun c1 => hm1 (r := -4) (rk_ao_4 c0 (Or.inl c1)) (by simp)) (fun c1 => br_c (fun c2 => ?_) (fun c2 => hm1 (r := -4) (rk_ao_4 c0 (Or.inr c2)) (by simp))))
  have w := w88 c0 c1 c2
  cases o with
  | zero => exact br_t (by decide) w
  | succ q =>
    have hin : vp_in (nI q) 40 := vp_in_nI (by omega) (by omega)
    have hlq := (hJ.2.2.2.2.2.2.1.1 q (by omega)).1
    have htq := (hJ.2.2.2.2.2.2.2.1.1 q (by omega)).1
    rw [rk_pd_s] at w ⊢
    rw [nI_clamp (show q < 2 ^ 31 by omega), hlq]
    simp only [rk_cv] at w
    have w60 : ∀ z : Nat, z = (if kd q = 7 then 1 else 0) → wX_add_60 post k v (nI q) (nI z) (nI (L q)) (nI M) (nI S) (nI ML) (nI MT) (nI N) (nI K) (nI q) ph tk vd kd ar pa sc la le tl bd se wa gv ra mu ca si ns ke fz ch := by
      intro z hz
      unfold wX_add_60
      rw [nI_clamp (show q < 2 ^ 31 by omega), htq]
      refine nm_r (nI_add _ _) ⟨hin, hin, br_c (fun k9 => ?_) (fun k9 => ?_)⟩
      · unfold wX_add_85
        refine nm_r (nI_add _ 1) ?_
        rw [if_pos k9, ← hz] at w; exact w
      · unfold wX_add_85
        refine nm_r (nI_add _ 0) ?_
        rw [if_neg k9, ← hz] at w; exact w
    exact br_f (nI_pos (by omega)) ⟨hin, hin, br_c (fun k7 => w60 1 (by rw [if_pos k7])) (fun k7 => w60 0 (by rw [if_neg k7]))⟩
end
end
section
/-! ===== add in the reference ===== -/
def rk_ls (A : Nat → Nat) : Nat → Nat
  | 0 => 0
  | m + 1 => if 0 < A m then m + 1 else rk_ls A m
theorem rk_ls_o {N o : Nat} {pa : Nat → Int32} {A : Nat → Nat} (hO : rk_TO N pa A o) : rk_ls A N = o := by
  obtain ⟨o1, o2, o3⟩ := hO
  cases o with
  | zero =>
    have : ∀ m, m ≤ N → rk_ls A m = 0 := by
      intro m
      induction m with
      | zero => intro _; rfl
      | succ m ih => intro hm; simp only [rk_ls]; rw [if_neg (by have := o2 rfl m (by omega); omega)]; exact ih (by omega)
    exact this N (Nat.le_refl _)
  | succ q =>
    obtain ⟨h1, h2⟩ := o3 q rfl
    have : ∀ d, q + 1 + d ≤ N → rk_ls A (q + 1 + d) = q + 1 := by
      intro d
      induction d with
      | zero => intro _; simp only [rk_ls]; rw [if_pos h1]
      | succ d ih => intro hd; show (if 0 < A (q + 1 + d) then q + 1 + d + 1 else rk_ls A (q + 1 + d)) = q + 1; rw [if_neg (by have := (h2 (q + 1 + d) (by omega) (by omega)).1; omega)]; exact ih (by omega)
    have a := this (N - (q + 1)) (by omega)
    rw [show q + 1 + (N - (q + 1)) = N from by omega] at a
    exact a
section
variable {mN sN mL mT ct ph tk vd : Int32} {kd ar pa se nx yk wa gv ys yw yc : Nat → Int32} {N S ML MT K M o : Nat} {A L TL : Nat → Nat} {k v : Int32}
theorem rk_yla {post : Int32 → Prop} {m a : Nat} (hN : N ≤ 40) (hct : ct = nI N) (hm : m < N) (h : a + rk_nc pa m N = rk_ar (kd m)) (Kp : post (nI a)) : wpY_lacking post (mN, sN, mL, mT, ct, ph, tk, vd, kd, ar, pa, se, nx, yk, wa, gv, ys, yw, yc) (nI m) := by
  have har3 := rk_ar_3 (kd m)
  subst hct
  have key : ∀ (d x j : Nat), x + d = N → d < j → wY_lacking_13 post (nI m) mN sN mL mT (nI N) ph tk vd kd ar pa se nx yk wa gv ys yw yc j (nI (rk_ar (kd m) - rk_nc pa m x)) (nI x) := by
    intro d
    induction d with
    | zero =>
      intro x j hx hj
      obtain ⟨j, rfl⟩ : ∃ z, j = z + 1 := ⟨j - 1, by omega⟩
      have ex : x = N := by omega
      subst ex
      rw [wY_lacking_13]
      refine br_t (nI_le (by omega) (by omega)) ?_
      rw [show rk_ar (kd m) - rk_nc pa m x = a from by omega]; exact Kp
    | succ d ih =>
      intro x j hx hj
      obtain ⟨j, rfl⟩ : ∃ z, j = z + 1 := ⟨j - 1, by omega⟩
      have hn := ih (x + 1) j (by omega) (by omega)
      have hle := rk_nc_le (pa := pa) (m := m) (N - (x + 1)) (x + 1)
      rw [show x + 1 + (N - (x + 1)) = N from by omega] at hle
      rw [wY_lacking_13]
      dsimp only
      rw [nI_clamp (by omega)]
      simp only [rk_nc] at hn hle
      refine br_f (nI_ge (by omega) (by omega)) ⟨vp_in_nI (by omega) (by omega), br_c (fun q => ?_) (fun q => ?_)⟩
      · rw [if_pos q] at hn hle
        refine nm_r (e' := nI (rk_ar (kd m) - (rk_nc pa m x + 1))) ?_ (nm_r (nI_1 x) hn)
        rw [show rk_ar (kd m) - rk_nc pa m x = rk_ar (kd m) - (rk_nc pa m x + 1) + 1 from by omega, pk_m1]
      · rw [if_neg q] at hn
        exact nm_r (nI_1 x) hn
  unfold wpY_lacking
  dsimp only
  rw [nI_clamp (by omega)]
  exact ⟨vp_in_nI (by omega) (by omega), rk_yar ⟨N + 1, key N 0 (N + 1) (by omega) (by omega)⟩⟩
theorem rk_ymi {post : Int32 → Prop} (hN : N ≤ 40) (hct : ct = nI N) (h : ∀ m, m < N → A m + rk_nc pa m N = rk_ar (kd m)) (hK : (N = 0 → K = 1) ∧ (0 < N → K = rk_sm A N)) (Kp : post (nI K)) : wpY_missing post (mN, sN, mL, mT, ct, ph, tk, vd, kd, ar, pa, se, nx, yk, wa, gv, ys, yw, yc) := by
  have key : ∀ (d m j : Nat), m + d = N → d < j → post (nI (rk_sm A N)) → wY_missing_13 post mN sN mL mT ct ph tk vd kd ar pa se nx yk wa gv ys yw yc j (nI (rk_sm A m)) (nI m) := by
    intro d
    induction d with
    | zero =>
      intro m j hm hj hp
      obtain ⟨j, rfl⟩ : ∃ z, j = z + 1 := ⟨j - 1, by omega⟩
      have ex : m = N := by omega
      subst ex
      rw [wY_missing_13]
      exact br_t (by rw [hct]; exact nI_le (by omega) (by omega)) hp
    | succ d ih =>
      intro m j hm hj hp
      obtain ⟨j, rfl⟩ : ∃ z, j = z + 1 := ⟨j - 1, by omega⟩
      have hn := ih (m + 1) j (by omega) (by omega) hp
      simp only [rk_sm] at hn
      rw [wY_missing_13]
      exact br_f (by rw [hct]; exact nI_ge (by omega) (by omega)) (rk_yla hN hct (by omega) (h m (by omega)) (nm_r (nI_add _ _) (nm_r (nI_1 m) hn)))
  unfold wpY_missing
  dsimp only
  by_cases g : N = 0
  · rw [hK.1 g] at Kp
    exact br_t (by rw [hct, g]; rfl) Kp
  · rw [hK.2 (by omega)] at Kp
    exact br_f (by rw [hct]; exact nI_ne0 (by omega) (by omega)) ⟨N + 1, key N 0 (N + 1) (by omega) (by omega) Kp⟩
theorem rk_yadd {post : Int32 → SY → Prop} (hM : M ≤ 40) (hS : S ≤ 8) (hML : ML ≤ 2) (hMT : MT ≤ 3) (hNK : N + K ≤ M) (hO : rk_TO N pa A o) (hp : rk_PA N pa) (hc7 : rk_cu N kd pa 7 L) (hc9 : rk_cu N kd pa 9 TL) (hcv7 : rk_cv kd 7 L o ≤ ML) (hcv9 : rk_cv kd 9 TL o ≤ MT)
    (h5 : ∀ m, m < N → A m + rk_nc pa m N = rk_ar (kd m)) (hK : (N = 0 → K = 1) ∧ (0 < N → K = rk_sm A N))
    (e1 : mN = nI M) (e2 : sN = nI S) (e3 : mL = nI ML) (e4 : mT = nI MT) (e5 : ct = nI N)
    (hr : ∀ r, rk_ao K S ML MT M N (rk_cv kd 7 L o) (rk_cv kd 9 TL o) k v = r → ¬ r = 0 → post r (mN, sN, mL, mT, ct, ph, tk, vd, kd, ar, pa, se, nx, yk, wa, gv, ys, yw, yc))
    (Kc : rk_ao K S ML MT M N (rk_cv kd 7 L o) (rk_cv kd 9 TL o) k v = 0 → (∀ m, m < N + 1 → rk_A2 N o k A m + rk_nc (upd pa N (rk_pd o)) m (N + 1) = rk_ar (upd kd N k m)) ∧ (K - 1 + rk_ar k = rk_sm (rk_A2 N o k A) (N + 1)) ∧ post (nI N) (mN, sN, mL, mT, nI (N + 1), if K - 1 + rk_ar k = 0 then 1 else ph, tk, vd, upd kd N k, upd ar N (rk_av k v), upd pa N (rk_pd o), se, nx, yk, wa, gv, ys, yw, yc)) : wpY_add post (mN, sN, mL, mT, ct, ph, tk, vd, kd, ar, pa, se, nx, yk, wa, gv, ys, yw, yc) k v := by
  subst e1 e2 e3 e4 e5
  have hO1 := hO.1
  have har3 := rk_ar_3 k
  have hm1 : ∀ {r : Int32}, rk_ao K S ML MT M N (rk_cv kd 7 L o) (rk_cv kd 9 TL o) k v = r → r = -3 ∨ r = -4 ∨ r = -5 ∨ r = -6 ∨ r = -7 → post r (nI M, nI S, nI ML, nI MT, nI N, ph, tk, vd, kd, ar, pa, se, nx, yk, wa, gv, ys, yw, yc) := fun {r} h q => hr r h (by rcases q with q | q | q | q | q <;> rw [q] <;> decide)
  have wtop : ¬ K = 0 → ¬ k < 0 → k ≤ 10 → ∃ n31 : Nat, wY_add_31 post k v (nI K) (nI M) (nI S) (nI ML) (nI MT) (nI N) ph tk vd kd ar pa se nx yk wa gv ys yw yc n31 (-1) 0 := by
    intro c0 c1 c2
    have w182 : ∀ z : Int32, (z = 0 ↔ ¬ ((k = 2 ∨ k = 4 ∨ k = 8) ∨ k = 10)) → ¬ (((k = 2 ∨ k = 4 ∨ k = 8) ∨ k = 10) ∧ (v < 0 ∨ ¬ v < nI S)) → ¬ (k = 3 ∧ (v < 0 ∨ ¬ v < nI (rk_cv kd 9 TL o))) → ¬ (k = 7 ∧ ¬ rk_cv kd 7 L o < ML) → ¬ (k = 9 ∧ ¬ rk_cv kd 9 TL o < MT) → wY_add_182 post k v (nI K) (rk_pd o) z (nI M) (nI S) (nI ML) (nI MT) (nI N) ph tk vd kd ar pa se nx yk wa gv ys yw yc := by
      intro z hz c3 c4 c5 c6
      have hao := rk_ao_7 (M := M) (N := N) c0 c1 c2 c3 c4 c5 c6
      unfold wY_add_182
      refine rk_yar ?_
      rw [nI_add, nI_add]
      refine pk_lt M (N + K + rk_ar k) (fun c7 => hm1 (r := -7) (by rw [hao, if_pos (by omega)]) (by simp)) (fun c7 => br_t (nI_lt (b := 40) (by omega) (by decide)) ⟨vp_in_nI (by omega) (by omega), ?_⟩)
      rw [if_neg (by omega)] at hao
      obtain ⟨k1, k2, k3⟩ := Kc hao
      rw [nI_clamp (show N < 2 ^ 31 by omega)]
      have h246 : ∀ av : Int32, av = rk_av k v → wY_add_246 post (rk_pd o) av (nI N) (nI M) (nI S) (nI ML) (nI MT) (nI N) ph tk vd (upd kd N k) ar pa se nx yk wa gv ys yw yc := by
        intro av hav
        subst hav
        unfold wY_add_246
        rw [nI_clamp (show N < 2 ^ 31 by omega)]
        refine ⟨vp_in_nI (by omega) (by omega), nm_e ⟨vp_in_nI (by omega) (by omega), nm_e (nm_r (nI_1 N) ?_)⟩⟩
        refine rk_ymi (N := N + 1) (A := rk_A2 N o k A) (K := K - 1 + rk_ar k) (by omega) rfl k1 ⟨fun q => by omega, fun _ => k2⟩ ?_
        rw [nI_pred]
        refine pk_eq (K - 1 + rk_ar k) 0 (fun q => ?_) (fun q => ?_)
        · rw [if_pos q] at k3; exact k3
        · rw [if_neg q] at k3; exact k3
      refine nm_e (br_c (fun z0 => br_c (fun k3 => ?_) (fun k3 => ?_)) (fun z0 => ?_))
      · unfold wY_add_241; exact h246 v (by unfold rk_av; rw [if_pos (Or.inr k3)])
      · exact h246 0 (by unfold rk_av; rw [if_neg (fun q => q.elim (hz.mp z0) k3)])
      · unfold wY_add_241; exact h246 v (by unfold rk_av; rw [if_pos (Or.inl (Decidable.byContradiction (fun q => z0 (hz.mpr q))))])
    have w164 : ∀ z : Int32, (z = 0 ↔ ¬ ((k = 2 ∨ k = 4 ∨ k = 8) ∨ k = 10)) → ¬ (((k = 2 ∨ k = 4 ∨ k = 8) ∨ k = 10) ∧ (v < 0 ∨ ¬ v < nI S)) → ¬ (k = 3 ∧ (v < 0 ∨ ¬ v < nI (rk_cv kd 9 TL o))) → ¬ (k = 7 ∧ ¬ rk_cv kd 7 L o < ML) → wY_add_164 post k v (nI K) (rk_pd o) z (nI (rk_cv kd 9 TL o)) (nI M) (nI S) (nI ML) (nI MT) (nI N) ph tk vd kd ar pa se nx yk wa gv ys yw yc := by
      intro z hz c3 c4 c5
      unfold wY_add_164
      refine br_c (fun k9 => pk_lt (rk_cv kd 9 TL o) MT (fun q => w182 z hz c3 c4 c5 (fun w => w.2 q)) (fun q => hm1 (r := -6) (rk_ao_6 c0 c1 c2 c3 c4 (Or.inr ⟨k9, by omega⟩)) (by simp))) (fun k9 => w182 z hz c3 c4 c5 (fun w => k9 w.1))
    have w146 : ∀ z : Int32, (z = 0 ↔ ¬ ((k = 2 ∨ k = 4 ∨ k = 8) ∨ k = 10)) → ¬ (((k = 2 ∨ k = 4 ∨ k = 8) ∨ k = 10) ∧ (v < 0 ∨ ¬ v < nI S)) → ¬ (k = 3 ∧ (v < 0 ∨ ¬ v < nI (rk_cv kd 9 TL o))) → wY_add_146 post k v (nI K) (rk_pd o) z (nI (rk_cv kd 9 TL o)) (nI (rk_cv kd 7 L o)) (nI M) (nI S) (nI ML) (nI MT) (nI N) ph tk vd kd ar pa se nx yk wa gv ys yw yc := by
      intro z hz c3 c4
      unfold wY_add_146
      refine br_c (fun k7 => pk_lt (rk_cv kd 7 L o) ML (fun q => w164 z hz c3 c4 (fun w => w.2 q)) (fun q => hm1 (r := -6) (rk_ao_6 c0 c1 c2 c3 c4 (Or.inl ⟨k7, by omega⟩)) (by simp))) (fun k7 => w164 z hz c3 c4 (fun w => k7 w.1))
    have w108 : ∀ z : Int32, (z = 0 ↔ ¬ ((k = 2 ∨ k = 4 ∨ k = 8) ∨ k = 10)) → ¬ (((k = 2 ∨ k = 4 ∨ k = 8) ∨ k = 10) ∧ (v < 0 ∨ ¬ v < nI S)) → wY_add_108 post k v (nI K) (rk_pd o) z (nI M) (nI S) (nI ML) (nI MT) (nI N) ph tk vd kd ar pa se nx yk wa gv ys yw yc := by
      intro z hz c3
      unfold wY_add_108
      refine rk_ycu (N := N) (by omega) hp hc9 hO1 (rk_ycu (N := N) (by omega) hp hc7 hO1 ?_)
      refine br_c (fun k3 => br_c (fun q => hm1 (r := -5) (rk_ao_5 c0 c1 c2 (Or.inr ⟨k3, Or.inl q⟩)) (by simp)) (fun q => br_c (fun p => w146 z hz c3 (fun w => w.2.elim q (fun x => x p))) (fun p => hm1 (r := -5) (rk_ao_5 c0 c1 c2 (Or.inr ⟨k3, Or.inr p⟩)) (by simp)))) (fun k3 => w146 z hz c3 (fun w => k3 w.1))
    have w86 : ∀ z : Int32, (z = 0 ↔ ¬ ((k = 2 ∨ k = 4 ∨ k = 8) ∨ k = 10)) → wY_add_86 post k v (nI K) (rk_pd o) z (nI M) (nI S) (nI ML) (nI MT) (nI N) ph tk vd kd ar pa se nx yk wa gv ys yw yc := by
      intro z hz
      unfold wY_add_86
      refine br_c (fun z0 => w108 z hz (fun w => hz.mp z0 w.1)) (fun z0 => ?_)
      have hn : ((k = 2 ∨ k = 4 ∨ k = 8) ∨ k = 10) := Decidable.byContradiction (fun q => z0 (hz.mpr q))
      exact br_c (fun q => hm1 (r := -5) (rk_ao_5 c0 c1 c2 (Or.inl ⟨hn, Or.inl q⟩)) (by simp)) (fun q => br_c (fun p => w108 z hz (fun w => w.2.elim q (fun x => x p))) (fun p => hm1 (r := -5) (rk_ao_5 c0 c1 c2 (Or.inl ⟨hn, Or.inr p⟩)) (by simp)))
    have w81 : ((k = 2 ∨ k = 4 ∨ k = 8) ∨ k = 10) → wY_add_81 post k v (nI K) (rk_pd o) (nI M) (nI S) (nI ML) (nI MT) (nI N) ph tk vd kd ar pa se nx yk wa gv ys yw yc := by
      intro hn
      unfold wY_add_81; exact w86 1 ⟨fun q => absurd q (by decide), fun q => absurd hn q⟩
    have key : ∀ (d m j : Nat), m + d = N → d < j → wY_add_31 post k v (nI K) (nI M) (nI S) (nI ML) (nI MT) (nI N) ph tk vd kd ar pa se nx yk wa gv ys yw yc j (rk_pd (rk_ls A m)) (nI m) := by
      intro d
      induction d with
      | zero =>
        intro m j hm hj
        obtain ⟨j, rfl⟩ : ∃ z, j = z + 1 := ⟨j - 1, by omega⟩
        have ex : m = N := by omega
        rw [ex, rk_ls_o hO]
        rw [wY_add_31]
        refine br_t (nI_le (by omega) (by omega)) (br_c (fun q => w81 (Or.inl (Or.inl q))) (fun q2 => br_c (fun q => w81 (Or.inl (Or.inr (Or.inl q)))) (fun q4 => br_c (fun q => w81 (Or.inl (Or.inr (Or.inr q)))) (fun q8 => br_c (fun q => w81 (Or.inr q)) (fun q10 => w86 0 ⟨fun _ w => ?_, fun _ => rfl⟩)))))
        rcases w with (w | w | w) | w
        · exact q2 w
        · exact q4 w
        · exact q8 w
        · exact q10 w
      | succ d ih =>
        intro m j hm hj
        obtain ⟨j, rfl⟩ : ∃ z, j = z + 1 := ⟨j - 1, by omega⟩
        have hn := ih (m + 1) j (by omega) (by omega)
        simp only [rk_ls] at hn
        have h5m := h5 m (by omega)
        have har := rk_ar_3 (kd m)
        rw [wY_add_31]
        refine br_f (nI_ge (by omega) (by omega)) (rk_yla (N := N) (by omega) rfl (by omega) h5m (pk_le (A m) 0 (fun q => nm_r (nI_1 m) ?_) (fun q => nm_r (nI_1 m) ?_)))
        · rw [if_neg (by omega)] at hn; exact hn
        · rw [if_pos (by omega), rk_pd_s] at hn; exact hn
    exact ⟨N + 1, key N 0 (N + 1) (by omega) (by omega)⟩
  unfold wpY_add
  dsimp only
  refine rk_ymi (N := N) (A := A) (K := K) (by omega) rfl h5 hK ?_
  exact pk_eq K 0 (fun c0 => hm1 (r := -3) (rk_ao_3 c0) (by simp)) (fun c0 => br_c (fun c1 => hm1 (r := -4) (rk_ao_4 c0 (Or.inl c1)) (by simp)) (fun c1 => br_c (fun c2 => wtop c0 c1 c2) (fun c2 => hm1 (r := -4) (rk_ao_4 c0 (Or.inr c2)) (by simp))))
end
end
section
/-! ===== the relation; derive, react in step ===== -/
/-- what the answers show after a derivation -/
def rk_EN (N S : Nat) (kd : Nat → Int32) (L : Nat → Nat) (ra mu ca si ys yw yc : Nat → Int32) : Prop :=
  (∀ x, x < 128 → rk_ES N S kd L x → si x = rk_ev (ys x) ∧ rk_v3 (ys x)) ∧
  (∀ n i, n < N → i ≤ L n → (ra (n * 3 + i) = rk_ev (yw (n * 3 + i)) ∧ rk_v3 (yw (n * 3 + i))) ∧ (mu (n * 3 + i) = rk_em (fun k => yc ((n * 3 + i) * 5 + k)) ∧ ca (n * 3 + i) = rk_ec (fun k => yc ((n * 3 + i) * 5 + k))) ∧ ∀ k, k < 5 → rk_v3 (yc ((n * 3 + i) * 5 + k)))
/-- the component's part of the relation -/
def rk_RX (M S ML MT N K o : Nat) (ph vd : Int32) (kd ar pa sc la le tl bd se gv : Nat → Int32) (A L TL : Nat → Nat) : Prop :=
  (M ≤ 40 ∧ S ≤ 8 ∧ ML ≤ 2 ∧ MT ≤ 3 ∧ N + K ≤ M) ∧ rk_TJ N S ML MT K kd ar pa sc la le tl bd A L TL ∧ rk_TO N pa A o ∧
  ((K = 0 ∧ (ph = 1 ∨ ph = 2 ∨ ph = 3)) ∨ (¬ K = 0 ∧ ph = 0)) ∧ (∀ n, N ≤ n → se n = 0) ∧ (vd = 0 → ∀ s, s < 8 → gv s = 0) ∧ (¬ vd = 0 → K = 0)
def rk_RR (M S ML MT N K o : Nat) (ph vd : Int32) (kd ar pa sc la le tl bd se gv ra mu ca si ys yw yc : Nat → Int32) (A L TL : Nat → Nat) : Prop :=
  rk_RX M S ML MT N K o ph vd kd ar pa sc la le tl bd se gv A L TL ∧ (¬ vd = 0 → rk_EN N S kd L ra mu ca si ys yw yc)
def i_Rel (_ : Nat) (u : SX) (v : SY) : Prop :=
  ∃ (M S ML MT N K o : Nat) (ph tk vd : Int32) (kd ar pa sc la le tl bd se wa gv ra mu ca si ns ke fz ch nx yk ys yw yc : Nat → Int32) (A L TL : Nat → Nat), u = (nI M, nI S, nI ML, nI MT, nI N, nI K, rk_pd o, ph, tk, vd, kd, ar, pa, sc, la, le, tl, bd, se, wa, gv, ra, mu, ca, si, ns, ke, fz, ch) ∧ v = (nI M, nI S, nI ML, nI MT, nI N, ph, tk, vd, kd, ar, pa, se, nx, yk, wa, gv, ys, yw, yc) ∧ rk_RR M S ML MT N K o ph vd kd ar pa sc la le tl bd se gv ra mu ca si ys yw yc A L TL
theorem rk_el {k : Nat} {u : SX} {v : SY} {P : SX → SY → Prop} (h : ∀ (M S ML MT N K o : Nat) (ph tk vd : Int32) (kd ar pa sc la le tl bd se wa gv ra mu ca si ns ke fz ch nx yk ys yw yc : Nat → Int32) (A L TL : Nat → Nat), rk_RR M S ML MT N K o ph vd kd ar pa sc la le tl bd se gv ra mu ca si ys yw yc A L TL → P (nI M, nI S, nI ML, nI MT, nI N, nI K, rk_pd o, ph, tk, vd, kd, ar, pa, sc, la, le, tl, bd, se, wa, gv, ra, mu, ca, si, ns, ke, fz, ch) (nI M, nI S, nI ML, nI MT, nI N, ph, tk, vd, kd, ar, pa, se, nx, yk, wa, gv, ys, yw, yc)) (I : i_Rel k u v) : P u v :=
  Exists.elim I fun M I => Exists.elim I fun S I => Exists.elim I fun ML I => Exists.elim I fun MT I => Exists.elim I fun N I => Exists.elim I fun K I => Exists.elim I fun o I => Exists.elim I fun ph I => Exists.elim I fun tk I => Exists.elim I fun vd I =>
  Exists.elim I fun kd I => Exists.elim I fun ar I => Exists.elim I fun pa I => Exists.elim I fun sc I => Exists.elim I fun la I => Exists.elim I fun le I => Exists.elim I fun tl I => Exists.elim I fun bd I => Exists.elim I fun se I => Exists.elim I fun wa I => Exists.elim I fun gv I => Exists.elim I fun ra I => Exists.elim I fun mu I => Exists.elim I fun ca I => Exists.elim I fun si I => Exists.elim I fun ns I => Exists.elim I fun ke I => Exists.elim I fun fz I => Exists.elim I fun ch I => Exists.elim I fun nx I => Exists.elim I fun yk I => Exists.elim I fun ys I => Exists.elim I fun yw I => Exists.elim I fun yc I =>
  Exists.elim I fun A I => Exists.elim I fun L I => Exists.elim I fun TL I => by
    rw [I.1, I.2.1]
    exact h M S ML MT N K o ph tk vd kd ar pa sc la le tl bd se wa gv ra mu ca si ns ke fz ch nx yk ys yw yc A L TL I.2.2
section
variable {M S ML MT N K o k : Nat} {ph tk vd : Int32} {kd ar pa sc la le tl bd se wa gv ra mu ca si ns ke fz ch nx yk ys yw yc : Nat → Int32} {A L TL : Nat → Nat}
theorem rk_in (h : rk_RR M S ML MT N K o ph vd kd ar pa sc la le tl bd se gv ra mu ca si ys yw yc A L TL) : i_Rel k (nI M, nI S, nI ML, nI MT, nI N, nI K, rk_pd o, ph, tk, vd, kd, ar, pa, sc, la, le, tl, bd, se, wa, gv, ra, mu, ca, si, ns, ke, fz, ch) (nI M, nI S, nI ML, nI MT, nI N, ph, tk, vd, kd, ar, pa, se, nx, yk, wa, gv, ys, yw, yc) :=
  ⟨M, S, ML, MT, N, K, o, ph, tk, vd, kd, ar, pa, sc, la, le, tl, bd, se, wa, gv, ra, mu, ca, si, ns, ke, fz, ch, nx, yk, ys, yw, yc, A, L, TL, rfl, rfl, h⟩
theorem rk_PV_r {T : Nat → Int32} {r : Int32} (h : rk_PV N kd se L T r) : r = 3 ∨ r = 4 ∨ r = 2 ∨ r = 1 := by
  rcases h with h | h | h | h
  · exact Or.inl h.2
  · exact Or.inr (Or.inl h.2.2)
  · exact Or.inr (Or.inr (Or.inl h.2.2.2))
  · exact Or.inr (Or.inr (Or.inr h.2.2.2))
theorem rk_EN_of {T : Nat → Int32} (hv : ∀ z, rk_v3 (T z)) (hX : rk_XE N L T ra mu ca si) (hY : ∀ z, rk_E N L (rk_ES N S kd L) z → rk_gl ys yw yc z = T z) (hL : ∀ n, n < N → L n ≤ 2) (hN : N ≤ 40) : rk_EN N S kd L ra mu ca si ys yw yc := by
  refine ⟨fun x hx he => ?_, fun n i hn hi => ?_⟩
  · have a := hY x (rk_E_s hx he)
    rw [rk_gl_s hx] at a
    rw [a]; exact ⟨hX.1 x hx, hv x⟩
  · have hl := hL n hn
    have a := hY _ (rk_E_w hn hi)
    rw [show rk_gl ys yw yc (128 + (n * 3 + i)) = yw (n * 3 + i) from rk_gl_w (by omega)] at a
    have b : ∀ j, j < 5 → yc ((n * 3 + i) * 5 + j) = T (248 + ((n * 3 + i) * 5 + j)) := fun j hj => rk_ycode hY hn hi hj
    obtain ⟨x1, x2⟩ := hX.2 n i hn hi
    refine ⟨by rw [a]; exact ⟨x1, hv _⟩, ⟨by rw [rk_em_c b]; exact x2.1, by rw [rk_ec_c b]; exact x2.2⟩, fun j hj => by rw [b j hj]; exact hv _⟩
theorem rk_der {post : Int32 → SX → Prop} (hR : rk_RX M S ML MT N K o ph vd kd ar pa sc la le tl bd se gv A L TL)
    (Kc : ∀ (r vd' : Int32) (gv' ra' mu' ca' si' ns' : Nat → Int32), (∀ nx yk ys yw yc : Nat → Int32, rk_RR M S ML MT N K o ph vd kd ar pa sc la le tl bd se gv ra mu ca si ys yw yc A L TL → ∀ postY : Int32 → SY → Prop, (∀ nx' yk' ys' yw' yc' : Nat → Int32, rk_RR M S ML MT N K o ph vd' kd ar pa sc la le tl bd se gv' ra' mu' ca' si' ys' yw' yc' A L TL → postY r (nI M, nI S, nI ML, nI MT, nI N, ph, tk, vd', kd, ar, pa, se, nx', yk', wa, gv', ys', yw', yc')) → wpY_derive postY (nI M, nI S, nI ML, nI MT, nI N, ph, tk, vd, kd, ar, pa, se, nx, yk, wa, gv, ys, yw, yc)) → post r (nI M, nI S, nI ML, nI MT, nI N, nI K, rk_pd o, ph, tk, vd', kd, ar, pa, sc, la, le, tl, bd, se, wa, gv', ra', mu', ca', si', ns', ke, fz, ch)) : wpX_derive post (nI M, nI S, nI ML, nI MT, nI N, nI K, rk_pd o, ph, tk, vd, kd, ar, pa, sc, la, le, tl, bd, se, wa, gv, ra, mu, ca, si, ns, ke, fz, ch) := by
  obtain ⟨⟨m1, m2, m3, m4, m5⟩, hJ, hO, hph, hse, hgv, hvd⟩ := hR
  by_cases hp : ph = 1 ∨ ph = 2
  · have hK : K = 0 := by
      rcases hph with q | q
      · exact q.1
      · rw [q.2] at hp; exact absurd hp (by decide)
    obtain ⟨hB, hYB, hA3⟩ := rk_TJ_all (by omega) m3 m4 m2 hJ hK
    refine rk_xde hB rfl rfl hp (fun T si' ra' mu' ca' ns' r h1 h2 h3 => Kc r r _ ra' mu' ca' si' ns' ?_)
    intro nx yk ys yw yc hR2 postY KY
    refine rk_yde hYB rfl rfl hA3 h1 h3 ⟨?_, ?_⟩ (fun ys' yw' yc' h4 => KY _ _ ys' yw' yc' ?_)
    · intro q; rw [q] at hp; exact absurd hp (by decide)
    · intro q; rw [q] at hp; exact absurd hp (by decide)
    · have hr := rk_PV_r h3
      have hr0 : ¬ r = 0 := by rcases hr with q | q | q | q <;> rw [q] <;> decide
      exact ⟨⟨⟨m1, m2, m3, m4, m5⟩, hJ, hO, hph, hse, fun q => absurd q hr0, fun _ => hK⟩, fun _ => rk_EN_of h1.1 h2 h4 hB.1.2.2.2.1 (by omega)⟩
  · have h1 : ¬ ph = 1 := fun q => hp (Or.inl q)
    have h2 : ¬ ph = 2 := fun q => hp (Or.inr q)
    unfold wpX_derive
    dsimp only
    refine br_f h1 (br_f h2 (Kc (-1) vd gv ra mu ca si ns ?_))
    intro nx yk ys yw yc hR2 postY KY
    have hq := KY nx yk ys yw yc hR2
    unfold wpY_derive
    dsimp only
    refine br_c (fun _ => hq) (fun h0 => br_t ?_ hq)
    rcases hph with q | q
    · rcases q.2 with q | q | q
      · exact absurd q h1
      · exact absurd q h2
      · exact q
    · exact absurd q.2 h0
theorem rk_yre23 {post : Int32 → SY → Prop} {r : Int32} (hr : r = 1 ∨ r = 2) (Kc : post r (nI M, nI S, nI ML, nI MT, nI N, if r = 1 then 2 else 3, tk + 1, vd, kd, ar, pa, se, nx, yk, rk_zr wa 8, gv, ys, yw, yc)) : ∃ q : Nat, wY_react_23 post r (nI M) (nI S) (nI ML) (nI MT) (nI N) ph tk vd q 0 kd ar pa se nx yk wa gv ys yw yc := by
  have key : ∀ (d i m : Nat), i + d = 8 → d < m → wY_react_23 post r (nI M) (nI S) (nI ML) (nI MT) (nI N) ph tk vd m (nI i) kd ar pa se nx yk (rk_zr wa i) gv ys yw yc := by
    intro d
    induction d with
    | zero =>
      intro i m hi hm
      obtain ⟨m, rfl⟩ : ∃ z, m = z + 1 := ⟨m - 1, by omega⟩
      have ei : i = 8 := by omega
      subst ei
      rw [wY_react_23]
      refine br_t (nI_le (a := 8) (by omega) (by omega)) (nm_e (br_c (fun q => ?_) (fun q => ?_)))
      · rw [if_pos q] at Kc; exact Kc
      · rw [if_neg q] at Kc; exact Kc
    | succ d ih =>
      intro i m hi hm
      obtain ⟨m, rfl⟩ : ∃ z, m = z + 1 := ⟨m - 1, by omega⟩
      rw [wY_react_23]
      dsimp only
      rw [nI_clamp (by omega)]
      exact br_f (nI_ge (b := 8) (by omega) (by decide)) ⟨vp_in_nI (by omega) (by omega), nm_r (rk_zr_s wa i) (nm_r (nI_1 i) (ih (i + 1) m (by omega) (by omega)))⟩
  have := key 8 0 9 (by omega) (by omega)
  rw [rk_zr_0] at this
  exact ⟨9, this⟩
theorem rk_rea {post : Int32 → SX → Prop} (hR : rk_RX M S ML MT N K o ph vd kd ar pa sc la le tl bd se gv A L TL)
    (Kc : ∀ (r ph' tk' vd' : Int32) (se' wa' gv' ra' mu' ca' si' ns' ke' fz' ch' : Nat → Int32), rk_RX M S ML MT N K o ph' vd' kd ar pa sc la le tl bd se' gv' A L TL → (∀ nx yk ys yw yc : Nat → Int32, rk_RR M S ML MT N K o ph vd kd ar pa sc la le tl bd se gv ra mu ca si ys yw yc A L TL → ∀ postY : Int32 → SY → Prop, (∀ nx' yk' ys' yw' yc' : Nat → Int32, rk_RR M S ML MT N K o ph' vd' kd ar pa sc la le tl bd se' gv' ra' mu' ca' si' ys' yw' yc' A L TL → postY r (nI M, nI S, nI ML, nI MT, nI N, ph', tk', vd', kd, ar, pa, se', nx', yk', wa', gv', ys', yw', yc')) → wpY_react postY (nI M, nI S, nI ML, nI MT, nI N, ph, tk, vd, kd, ar, pa, se, nx, yk, wa, gv, ys, yw, yc)) → post r (nI M, nI S, nI ML, nI MT, nI N, nI K, rk_pd o, ph', tk', vd', kd, ar, pa, sc, la, le, tl, bd, se', wa', gv', ra', mu', ca', si', ns', ke', fz', ch')) : wpX_react post (nI M, nI S, nI ML, nI MT, nI N, nI K, rk_pd o, ph, tk, vd, kd, ar, pa, sc, la, le, tl, bd, se, wa, gv, ra, mu, ca, si, ns, ke, fz, ch) := by
  by_cases hp : ph = 1 ∨ ph = 2
  · obtain ⟨⟨m1, m2, m3, m4, m5⟩, hJ, hO, hph, hse, hgv, hvd⟩ := hR
    have hK : K = 0 := by
      rcases hph with q | q
      · exact q.1
      · rw [q.2] at hp; exact absurd hp (by decide)
    obtain ⟨hB, hYB, hA3⟩ := rk_TJ_all (by omega) m3 m4 m2 hJ hK
    have hT := hB.1
    have hN := hT.1
    have hPA := rk_CT_PA hT
    have hyp : ¬ ph = 0 ∧ ¬ ph = 3 := ⟨fun q => by rw [q] at hp; exact absurd hp (by decide), fun q => by rw [q] at hp; exact absurd hp (by decide)⟩
    unfold wpX_react
    dsimp only
    refine rk_xde hB rfl rfl hp (fun T si' ra' mu' ca' ns' r h1 h2 h3 => ?_)
    dsimp only
    have hr := rk_PV_r h3
    have hr0 : ¬ r = 0 := by rcases hr with q | q | q | q <;> rw [q] <;> decide
    have hEN : ∀ ys' yw' yc' : Nat → Int32, (∀ z, rk_E N L (rk_ES N S kd L) z → rk_gl ys' yw' yc' z = T z) → rk_EN N S kd L ra' mu' ca' si' ys' yw' yc' := fun ys' yw' yc' h4 => rk_EN_of h1.1 h2 h4 hT.2.2.2.1 (by omega)
    -- the reference, up to its selection
    have hyd : ∀ (nx yk ys yw yc : Nat → Int32) (postY : Int32 → SY → Prop), (∀ ys' yw' yc' : Nat → Int32, (∀ z, rk_E N L (rk_ES N S kd L) z → rk_gl ys' yw' yc' z = T z) → ((r = 1 → wY_react_17 postY r (nI M) (nI S) (nI ML) (nI MT) (nI N) ph tk r kd ar pa se nx yk wa (rk_cp gv wa 8) ys' yw' yc') ∧ (¬ r = 1 → ((r = 2 → wY_react_17 postY r (nI M) (nI S) (nI ML) (nI MT) (nI N) ph tk r kd ar pa se nx yk wa (rk_cp gv wa 8) ys' yw' yc') ∧ (¬ r = 2 → postY r (nI M, nI S, nI ML, nI MT, nI N, ph, tk, r, kd, ar, pa, se, nx, yk, wa, rk_cp gv wa 8, ys', yw', yc')))))) → wpY_react postY (nI M, nI S, nI ML, nI MT, nI N, ph, tk, vd, kd, ar, pa, se, nx, yk, wa, gv, ys, yw, yc) := by
      intro nx yk ys yw yc postY KY
      unfold wpY_react
      dsimp only
      exact rk_yde hYB rfl rfl hA3 h1 h3 hyp (fun ys' yw' yc' h4 => KY ys' yw' yc' h4)
    refine br_c (fun r1 => ?_) (fun r1 => br_c (fun r2 => ?_) (fun r2 => ?_))
    · -- it goes on
      refine rk_xmk (R := True) hB rfl h2 trivial (fun ke' k1 => ?_)
      dsimp only
      refine rk_xsn hB rfl h1.1 h2 k1 (fun fz' ch' k2 => ?_)
      dsimp only
      unfold wX_react_45
      refine rk_xdi (nm_e ?_)
      have hRX : rk_RX M S ML MT N K o 2 r kd ar pa sc la le tl bd (rk_pg pa (N - 1) (rk_cp se ch' N)) (rk_cp gv wa 8) A L TL := by
        refine ⟨⟨m1, m2, m3, m4, m5⟩, hJ, hO, Or.inl ⟨hK, Or.inr (Or.inl rfl)⟩, fun n hn => ?_, fun q => absurd q hr0, fun _ => hK⟩
        rw [rk_pg_hi hPA hN.2 hn (N - 1) _ (by omega)]
        unfold rk_cp
        rw [if_neg (by omega)]; exact hse n hn
      refine Kc r 2 (tk + 1) r _ _ _ ra' mu' ca' si' ns' ke' fz' ch' hRX ?_
      intro nx yk ys yw yc hR2 postY KY
      refine hyd nx yk ys yw yc postY (fun ys' yw' yc' h4 => br_t r1 ?_)
      unfold wY_react_17
      refine rk_ysn (R := True) (bd := bd) hYB rfl h4 ⟨fun _ => trivial, fun _ => r1⟩ (fun yk' nx' k3 => ?_)
      dsimp only
      have e1 : rk_cp se nx' N = rk_cp se ch' N := by
        funext j
        unfold rk_cp
        by_cases g : j < N
        · rw [if_pos g, if_pos g]
          obtain ⟨a1, a2⟩ := k2 j g
          obtain ⟨b1, b2⟩ := k3 j g
          have : nx' j = ch' j := by
            rcases a1 with a | a <;> rcases b1 with b | b
            · rw [a, b]
            · exact absurd (a2.mpr (b2.mp (by rw [b]; decide))) (fun q => q a)
            · exact absurd (b2.mpr (a2.mp (by rw [a]; decide))) (fun q => q b)
            · rw [a, b]
          rw [this]
        · rw [if_neg g, if_neg g]
      rw [e1]
      refine rk_yre23 (Or.inl r1) ?_
      rw [if_pos r1]
      exact KY nx' yk' ys' yw' yc' ⟨hRX, fun _ => hEN ys' yw' yc' h4⟩
    · -- it ends
      refine rk_xds ?_
      dsimp only
      unfold wX_react_45
      refine rk_xdi (nm_e ?_)
      have hRX : rk_RX M S ML MT N K o 3 r kd ar pa sc la le tl bd (rk_zr se 40) (rk_cp gv wa 8) A L TL := by
        refine ⟨⟨m1, m2, m3, m4, m5⟩, hJ, hO, Or.inl ⟨hK, Or.inr (Or.inr rfl)⟩, fun n hn => ?_, fun q => absurd q hr0, fun _ => hK⟩
        unfold rk_zr
        by_cases g2 : n < 40
        · rw [if_pos g2]
        · rw [if_neg g2]; exact hse n hn
      refine Kc r 3 (tk + 1) r _ _ _ ra' mu' ca' si' ns' ke fz ch hRX ?_
      intro nx yk ys yw yc hR2 postY KY
      refine hyd nx yk ys yw yc postY (fun ys' yw' yc' h4 => br_f r1 (br_t r2 ?_))
      unfold wY_react_17
      refine rk_ysn (R := False) (bd := bd) hYB rfl h4 ⟨fun q => absurd q r1, fun q => q.elim⟩ (fun yk' nx' k3 => ?_)
      dsimp only
      have hn0 : ∀ m, m < N → nx' m = 0 := fun m hm => by
        obtain ⟨b1, b2⟩ := k3 m hm
        rcases b1 with b | b
        · exact b
        · exact (rk_CH_R (b2.mp (by rw [b]; decide))).elim
      have e1 : rk_pg pa (N - 1) (rk_cp se nx' N) = rk_zr se 40 := by
        rw [rk_pg_z (N - 1) (fun m hm => by unfold rk_cp; rw [if_pos (by omega), hn0 m (by omega)]; exact rk_b0)]
        funext j
        unfold rk_cp rk_zr
        by_cases g : j < N
        · rw [if_pos g, if_pos (by omega), hn0 j g]; exact rk_b0
        · rw [if_neg g, hse j (by omega)]
          by_cases g2 : j < 40
          · rw [if_pos g2]
          · rw [if_neg g2]
      rw [e1]
      refine rk_yre23 (Or.inr r2) ?_
      rw [if_neg r1]
      exact KY nx' yk' ys' yw' yc' ⟨hRX, fun _ => hEN ys' yw' yc' h4⟩
    · have hRX : rk_RX M S ML MT N K o ph r kd ar pa sc la le tl bd se (rk_cp gv wa 8) A L TL := ⟨⟨m1, m2, m3, m4, m5⟩, hJ, hO, hph, hse, fun q => absurd q hr0, fun _ => hK⟩
      refine Kc r ph tk r se wa _ ra' mu' ca' si' ns' ke fz ch hRX ?_
      intro nx yk ys yw yc hR2 postY KY
      exact hyd nx yk ys yw yc postY (fun ys' yw' yc' h4 => br_f r1 (br_f r2 (KY nx yk ys' yw' yc' ⟨hRX, fun _ => hEN ys' yw' yc' h4⟩)))
  · have h1 : ¬ ph = 1 := fun q => hp (Or.inl q)
    have h2 : ¬ ph = 2 := fun q => hp (Or.inr q)
    have h3 : ph = 0 ∨ ph = 3 := by
      rcases hR.2.2.2.1 with q | q
      · rcases q.2 with q | q | q
        · exact absurd q h1
        · exact absurd q h2
        · exact Or.inr q
      · exact Or.inl q.2
    unfold wpX_react
    dsimp only
    unfold wpX_derive
    dsimp only
    refine br_f h1 (br_f h2 (br_f (by decide) (br_f (by decide) (Kc (-1) ph tk vd se wa gv ra mu ca si ns ke fz ch hR ?_))))
    intro nx yk ys yw yc hR2 postY KY
    have hq := KY nx yk ys yw yc hR2
    unfold wpY_react
    dsimp only
    unfold wpY_derive
    dsimp only
    exact br_c (fun _ => br_f (by decide) (br_f (by decide) hq)) (fun h0 => br_t (h3.resolve_left h0) (br_f (by decide) (br_f (by decide) hq)))
end
end
section
/-! ===== run ===== -/
def rk_cl (p lo hi : Int32) : Int32 := if lo ≤ p then (if p ≤ hi then p else hi) else lo
theorem rk_cl_n (p : Int32) (lo hi : Nat) (h : lo ≤ hi) (hh : hi < 100) : ∃ m, lo ≤ m ∧ m ≤ hi ∧ rk_cl p (nI lo) (nI hi) = nI m := by
  unfold rk_cl
  by_cases a : nI lo ≤ p
  · rw [if_pos a]
    have hp : ¬ p < 0 := fun q => by
      have := Int32.lt_of_le_of_lt a q
      exact nI_pos (by omega) this
    obtain ⟨j, hj, rfl⟩ := nI_of hp
    rw [nI_leI (by omega) hj] at a
    by_cases b : nI j ≤ nI hi
    · rw [if_pos b]
      rw [nI_leI hj (by omega)] at b
      exact ⟨j, a, b, rfl⟩
    · rw [if_neg b]; exact ⟨hi, h, Nat.le_refl _, rfl⟩
  · rw [if_neg a]; exact ⟨lo, Nat.le_refl _, h, rfl⟩
section
variable {mN sN mL mT ct lk op ph tk vd : Int32} {kd ar pa sc la le tl bd se wa gv ra mu ca si ns ke fz ch : Nat → Int32}
theorem rk_xcl {post : Int32 → Prop} {p lo hi : Int32} (h : post (rk_cl p lo hi)) : wpX_clamp post (mN, sN, mL, mT, ct, lk, op, ph, tk, vd, kd, ar, pa, sc, la, le, tl, bd, se, wa, gv, ra, mu, ca, si, ns, ke, fz, ch) p lo hi := by
  unfold wpX_clamp
  dsimp only
  unfold rk_cl at h
  refine br_c (fun a => br_c (fun b => ?_) (fun b => ?_)) (fun a => ?_)
  · rw [if_pos a, if_pos b] at h; exact h
  · rw [if_pos a, if_neg b] at h; exact h
  · rw [if_neg a] at h; exact h
end
section
variable {mN sN mL mT ct ph tk vd : Int32} {kd ar pa se nx yk wa gv ys yw yc : Nat → Int32}
theorem rk_ycl {post : Int32 → Prop} {p lo hi : Int32} (h : post (rk_cl p lo hi)) : wpY_clamp post (mN, sN, mL, mT, ct, ph, tk, vd, kd, ar, pa, se, nx, yk, wa, gv, ys, yw, yc) p lo hi := by
  unfold wpY_clamp
  dsimp only
  unfold rk_cl at h
  refine br_c (fun a => br_c (fun b => ?_) (fun b => ?_)) (fun a => ?_)
  · rw [if_pos a, if_pos b] at h; exact h
  · rw [if_pos a, if_neg b] at h; exact h
  · rw [if_neg a] at h; exact h
end
theorem rk_cl_16 (p : Int32) {l : Nat} (h : rk_cl p 0 16 = nI l) (hl : l ≤ 16) : ∀ t, t ≤ 16 → (l ≤ t ↔ (16 ≤ t ∨ p ≤ nI t)) := by
  intro t ht
  unfold rk_cl at h
  by_cases a : (0 : Int32) ≤ p
  · rw [if_pos a] at h
    obtain ⟨j, hj, rfl⟩ := nI_of (x := p) (Int32.not_lt.mpr a)
    rw [nI_leI hj (by omega)]
    by_cases b : nI j ≤ 16
    · rw [if_pos b, nI_eq hj (by omega)] at h
      omega
    · rw [if_neg b, show (16 : Int32) = nI 16 from rfl, nI_eq (by omega) (by omega)] at h
      rw [show (16 : Int32) = nI 16 from rfl, nI_leI hj (by omega)] at b
      omega
  · rw [if_neg a, show (0 : Int32) = nI 0 from rfl, nI_eq (by omega) (by omega)] at h
    have hp : p < 0 := Int32.not_le.mp a
    have : p ≤ nI t := Int32.le_of_lt (Int32.lt_of_lt_of_le hp (nI_pos' (by omega)))
    exact ⟨fun _ => Or.inr this, fun _ => by omega⟩
section
variable {M S ML MT N K o k0 : Nat} {kd ar pa sc la le tl bd : Nat → Int32} {A L TL : Nat → Nat}
theorem rk_run {post : Int32 → SX → Prop} {p : Int32} {l : Nat} (hl16 : l ≤ 16) (hl : ∀ t, t ≤ 16 → (l ≤ t ↔ (16 ≤ t ∨ p ≤ nI t))) (Z : (Int32 → SY → Prop) → Prop)
    (Kc : ∀ (r : Int32) (u' : SX), (∀ q : Int32 → SY → Prop, (∀ v', i_Rel k0 u' v' → q r v') → Z q) → post r u') :
    ∀ (d t acc m : Nat) (ph tk vd : Int32) (se wa gv ra mu ca si ns ke fz ch : Nat → Int32), t + d = l → acc ≤ t → d + 1 < m → rk_RX M S ML MT N K o ph vd kd ar pa sc la le tl bd se gv A L TL →
    (∀ q : Int32 → SY → Prop, (∀ nx yk ys yw yc : Nat → Int32, rk_RR M S ML MT N K o ph vd kd ar pa sc la le tl bd se gv ra mu ca si ys yw yc A L TL → ∀ n : Nat, 17 < n + t → wY_run_4 q p n (nI acc) (nI t) (nI M) (nI S) (nI ML) (nI MT) (nI N) ph tk vd kd ar pa se nx yk wa gv ys yw yc) → Z q) → wX_run_17 post (nI l) m (nI acc) 1 (nI t) (nI M) (nI S) (nI ML) (nI MT) (nI N) (nI K) (rk_pd o) ph tk vd kd ar pa sc la le tl bd se wa gv ra mu ca si ns ke fz ch := by
  intro d
  induction d with
  | zero =>
    intro t acc m ph tk vd se wa gv ra mu ca si ns ke fz ch ht hacc hm hR hZ
    obtain ⟨m, rfl⟩ : ∃ z, m = z + 1 := ⟨m - 1, by omega⟩
    rw [wX_run_17]
    refine br_t (nI_le (by omega) (by omega)) (Kc (nI acc) _ (fun q hq => hZ q (fun nx yk ys yw yc hR2 n hn => ?_)))
    obtain ⟨n, rfl⟩ : ∃ z, n = z + 1 := ⟨n - 1, by omega⟩
    rw [wY_run_4]
    dsimp only
    have hs := hq _ (rk_in (nx := nx) (yk := yk) hR2)
    rcases (hl t (by omega)).mp (by omega) with w | w
    · exact br_t (nI_le (a := 16) w (by omega)) hs
    · exact br_c (fun _ => hs) (fun _ => br_t w hs)
  | succ d ih =>
    intro t acc m ph tk vd se wa gv ra mu ca si ns ke fz ch ht hacc hm hR hZ
    obtain ⟨m, rfl⟩ : ∃ z, m = z + 2 := ⟨m - 2, by omega⟩
    have hnl : ¬ (16 ≤ t ∨ p ≤ nI t) := fun w => by have := (hl t (by omega)).mpr w; omega
    rw [wX_run_17]
    refine br_f (nI_ge (by omega) (by omega)) (br_f (by decide) (rk_rea hR (fun r ph' tk' vd' se' wa' gv' ra' mu' ca' si' ns' ke' fz' ch' hRX sim => ?_)))
    dsimp only
    -- one turn of the reference
    have hY : ∀ (q : Int32 → SY → Prop) (n : Nat), (∀ nx yk ys yw yc : Nat → Int32, rk_RR M S ML MT N K o ph' vd' kd ar pa sc la le tl bd se' gv' ra' mu' ca' si' ys yw yc A L TL → ((r = 1 → wY_run_4 q p n (nI (acc + 1)) (nI (t + 1)) (nI M) (nI S) (nI ML) (nI MT) (nI N) ph' tk' vd' kd ar pa se' nx yk wa' gv' ys yw yc) ∧ (¬ r = 1 → q (nI (if r = 2 then acc + 1 else acc)) (nI M, nI S, nI ML, nI MT, nI N, ph', tk', vd', kd, ar, pa, se', nx, yk, wa', gv', ys, yw, yc)))) →
        ∀ nx yk ys yw yc : Nat → Int32, rk_RR M S ML MT N K o ph vd kd ar pa sc la le tl bd se gv ra mu ca si ys yw yc A L TL → wY_run_4 q p (n + 1) (nI acc) (nI t) (nI M) (nI S) (nI ML) (nI MT) (nI N) ph tk vd kd ar pa se nx yk wa gv ys yw yc := by
      intro q n H nx yk ys yw yc hR2
      rw [wY_run_4]
      dsimp only
      refine br_f (fun w => hnl (Or.inl ?_)) (br_f (fun w => hnl (Or.inr w)) (sim nx yk ys yw yc hR2 _ (fun nx' yk' ys' yw' yc' hR3 => ?_)))
      · rw [show (16 : Int32) = nI 16 from rfl, nI_leI (by omega) (by omega)] at w; exact w
      · obtain ⟨H1, H2⟩ := H nx' yk' ys' yw' yc' hR3
        dsimp only
        refine br_c (fun r1 => ?_) (fun r1 => br_c (fun r2 => ?_) (fun r2 => ?_))
        · unfold wY_run_33
          refine nm_r (nI_1 acc) ?_
          unfold wY_run_36
          exact br_t r1 (nm_r (nI_1 t) (H1 r1))
        · have h2 := H2 r1
          rw [if_pos r2] at h2
          unfold wY_run_33
          refine nm_r (nI_1 acc) ?_
          unfold wY_run_36
          exact br_f r1 h2
        · have h2 := H2 r1
          rw [if_neg r2] at h2
          unfold wY_run_36
          exact br_f r1 h2
    -- the component stops
    have hstop : ∀ acc' : Nat, ¬ r = 1 → acc' = (if r = 2 then acc + 1 else acc) → wX_run_17 post (nI l) (m + 1) (nI acc') 0 (nI (t + 1)) (nI M) (nI S) (nI ML) (nI MT) (nI N) (nI K) (rk_pd o) ph' tk' vd' kd ar pa sc la le tl bd se' wa' gv' ra' mu' ca' si' ns' ke' fz' ch' := by
      intro acc' r1 ha
      have hp : post (nI acc') (nI M, nI S, nI ML, nI MT, nI N, nI K, rk_pd o, ph', tk', vd', kd, ar, pa, sc, la, le, tl, bd, se', wa', gv', ra', mu', ca', si', ns', ke', fz', ch') := Kc _ _ (fun q hq => hZ q (fun nx yk ys yw yc hR2 n hn => by
        obtain ⟨n, rfl⟩ : ∃ z, n = z + 1 := ⟨n - 1, by omega⟩
        exact hY q n (fun nx' yk' ys' yw' yc' hR3 => ⟨fun w => absurd w r1, fun _ => by rw [← ha]; exact hq _ (rk_in hR3)⟩) nx yk ys yw yc hR2))
      rw [wX_run_17]
      exact br_c (fun _ => hp) (fun _ => br_t rfl hp)
    refine br_c (fun r1 => ?_) (fun r1 => ?_)
    · unfold wX_run_45
      refine br_f (by decide) (nm_r (nI_1 acc) (nm_r (nI_1 t) ?_))
      refine ih (t + 1) (acc + 1) (m + 1) ph' tk' vd' se' wa' gv' ra' mu' ca' si' ns' ke' fz' ch' (by omega) (by omega) (by omega) hRX (fun q hq => hZ q (fun nx yk ys yw yc hR2 n hn => ?_))
      obtain ⟨n, rfl⟩ : ∃ z, n = z + 1 := ⟨n - 1, by omega⟩
      exact hY q n (fun nx' yk' ys' yw' yc' hR3 => ⟨fun _ => hq nx' yk' ys' yw' yc' hR3 n (by omega), fun w => absurd r1 w⟩) nx yk ys yw yc hR2
    · unfold wX_run_45
      exact br_t rfl (br_c (fun r2 => nm_r (nI_1 acc) (nm_r (nI_1 t) (hstop (acc + 1) r1 (by rw [if_pos r2])))) (fun r2 => nm_r (nI_1 t) (hstop acc r1 (by rw [if_neg r2]))))
end
end
section
/-! ===== reset, questions: the parts ===== -/
theorem rk_nn {n : Nat} {v : Int32} (h : nI n ≤ v) (hn : n < 100) : ¬ v < 0 := fun q => nI_pos (n := n) (by omega) (Int32.lt_of_le_of_lt h q)
section
variable {mN sN mL mT ct lk op ph tk vd : Int32} {kd ar pa sc la le tl bd se wa gv ra mu ca si ns ke fz ch : Nat → Int32} {K : Nat}
theorem rk_xrs10 {post : SX → Prop} (hK : K < 100) (Kc : post (mN, sN, mL, mT, ct, nI K, op, if K = 0 then 1 else 0, 0, 0, kd, ar, pa, sc, la, le, tl, bd, se, wa, rk_zr gv 8, ra, mu, ca, si, ns, ke, fz, ch)) : ∃ q : Nat, wX_reset_10 post mN sN mL mT ct (nI K) op ph tk vd q 0 kd ar pa sc la le tl bd se wa gv ra mu ca si ns ke fz ch := by
  have key : ∀ (d i m : Nat), i + d = 8 → d < m → wX_reset_10 post mN sN mL mT ct (nI K) op ph tk vd m (nI i) kd ar pa sc la le tl bd se wa (rk_zr gv i) ra mu ca si ns ke fz ch := by
    intro d
    induction d with
    | zero =>
      intro i m hi hm
      obtain ⟨m, rfl⟩ : ∃ z, m = z + 1 := ⟨m - 1, by omega⟩
      have ei : i = 8 := by omega
      subst ei
      rw [wX_reset_10]
      refine br_t (nI_le (a := 8) (by omega) (by omega)) (pk_eq K 0 (fun q => ?_) (fun q => ?_))
      · rw [if_pos q] at Kc; exact Kc
      · rw [if_neg q] at Kc; exact Kc
    | succ d ih =>
      intro i m hi hm
      obtain ⟨m, rfl⟩ : ∃ z, m = z + 1 := ⟨m - 1, by omega⟩
      rw [wX_reset_10]
      dsimp only
      rw [nI_clamp (by omega)]
      exact br_f (nI_ge (b := 8) (by omega) (by decide)) ⟨vp_in_nI (by omega) (by omega), nm_r (rk_zr_s gv i) (nm_r (nI_1 i) (ih (i + 1) m (by omega) (by omega)))⟩
  have := key 8 0 9 (by omega) (by omega)
  rw [rk_zr_0] at this
  exact ⟨9, this⟩
theorem rk_xrs {post : SX → Prop} (hK : K < 100) (Kc : post (mN, sN, mL, mT, ct, nI K, op, if K = 0 then 1 else 0, 0, 0, kd, ar, pa, sc, la, le, tl, bd, rk_zr se 40, rk_zr wa 8, rk_zr gv 8, ra, mu, ca, si, ns, ke, fz, ch)) : wpX_reset post (mN, sN, mL, mT, ct, nI K, op, ph, tk, vd, kd, ar, pa, sc, la, le, tl, bd, se, wa, gv, ra, mu, ca, si, ns, ke, fz, ch) := by
  unfold wpX_reset
  dsimp only
  refine rk_xds ?_
  dsimp only
  refine rk_xdi ?_
  dsimp only
  exact rk_xrs10 hK Kc
theorem rk_xsh {post : Int32 → Prop} {y : Int32} (hy : rk_v3 y) (h : post y) : wpX_shown post (mN, sN, mL, mT, ct, lk, op, ph, tk, vd, kd, ar, pa, sc, la, le, tl, bd, se, wa, gv, ra, mu, ca, si, ns, ke, fz, ch) (rk_ev y) := by
  unfold wpX_shown
  dsimp only
  rcases hy with q | q | q <;> subst q
  · exact br_f (by decide) (br_t (by decide) h)
  · exact br_t (by decide) h
  · exact br_f (by decide) (br_f (by decide) h)
end
section
variable {mN sN mL mT ct ph tk vd : Int32} {kd ar pa se nx yk wa gv ys yw yc : Nat → Int32} {N K : Nat} {A : Nat → Nat}
theorem rk_yrs23' {post : SY → Prop} (hN : N ≤ 40) (hK2 : K < 100) (hct : ct = nI N) (h : ∀ m, m < N → A m + rk_nc pa m N = rk_ar (kd m)) (hK : (N = 0 → K = 1) ∧ (0 < N → K = rk_sm A N)) (Kc : post (mN, sN, mL, mT, ct, if K = 0 then 1 else 0, 0, 0, kd, ar, pa, se, nx, yk, rk_zr wa 8, rk_zr gv 8, ys, yw, yc)) : ∃ q : Nat, wY_reset_23 post mN sN mL mT ct ph tk vd q 0 kd ar pa se nx yk wa gv ys yw yc := by
  have key : ∀ (d i m : Nat), i + d = 8 → d < m → wY_reset_23 post mN sN mL mT ct ph tk vd m (nI i) kd ar pa se nx yk (rk_zr wa i) (rk_zr gv i) ys yw yc := by
    intro d
    induction d with
    | zero =>
      intro i m hi hm
      obtain ⟨m, rfl⟩ : ∃ z, m = z + 1 := ⟨m - 1, by omega⟩
      have ei : i = 8 := by omega
      subst ei
      rw [wY_reset_23]
      refine br_t (nI_le (a := 8) (by omega) (by omega)) (rk_ymi hN hct h hK (pk_eq K 0 (fun q => ?_) (fun q => ?_)))
      · rw [if_pos q] at Kc; exact Kc
      · rw [if_neg q] at Kc; exact Kc
    | succ d ih =>
      intro i m hi hm
      obtain ⟨m, rfl⟩ : ∃ z, m = z + 1 := ⟨m - 1, by omega⟩
      rw [wY_reset_23]
      dsimp only
      rw [nI_clamp (by omega)]
      exact br_f (nI_ge (b := 8) (by omega) (by decide)) ⟨vp_in_nI (by omega) (by omega), nm_r (rk_zr_s wa i) ⟨vp_in_nI (by omega) (by omega), nm_r (rk_zr_s gv i) (nm_r (nI_1 i) (ih (i + 1) m (by omega) (by omega)))⟩⟩
  have := key 8 0 9 (by omega) (by omega)
  rw [rk_zr_0, rk_zr_0] at this
  exact ⟨9, this⟩
theorem rk_yreset {post : SY → Prop} (hN : N ≤ 40) (hK2 : K < 100) (hct : ct = nI N) (h : ∀ m, m < N → A m + rk_nc pa m N = rk_ar (kd m)) (hK : (N = 0 → K = 1) ∧ (0 < N → K = rk_sm A N)) (Kc : post (mN, sN, mL, mT, ct, if K = 0 then 1 else 0, 0, 0, kd, ar, pa, rk_zr se 40, nx, yk, rk_zr wa 8, rk_zr gv 8, ys, yw, yc)) : wpY_reset post (mN, sN, mL, mT, ct, ph, tk, vd, kd, ar, pa, se, nx, yk, wa, gv, ys, yw, yc) := by
  have key : ∀ (d i m : Nat), i + d = 40 → d < m → wY_reset_2 post mN sN mL mT ct ph tk vd m (nI i) kd ar pa (rk_zr se i) nx yk wa gv ys yw yc := by
    intro d
    induction d with
    | zero =>
      intro i m hi hm
      obtain ⟨m, rfl⟩ : ∃ z, m = z + 1 := ⟨m - 1, by omega⟩
      have ei : i = 40 := by omega
      subst ei
      rw [wY_reset_2]
      exact br_t (nI_le (a := 40) (by omega) (by omega)) (rk_yrs23' hN hK2 hct h hK Kc)
    | succ d ih =>
      intro i m hi hm
      obtain ⟨m, rfl⟩ : ∃ z, m = z + 1 := ⟨m - 1, by omega⟩
      rw [wY_reset_2]
      dsimp only
      rw [nI_clamp (by omega)]
      exact br_f (nI_ge (b := 40) (by omega) (by decide)) ⟨vp_in_nI (by omega) (by omega), nm_r (rk_zr_s se i) (nm_r (nI_1 i) (ih (i + 1) m (by omega) (by omega)))⟩
  unfold wpY_reset
  dsimp only
  have := key 40 0 41 (by omega) (by omega)
  rw [rk_zr_0] at this
  exact ⟨41, this⟩
end
section
variable {M S ML MT N K o k : Nat} {ph tk vd : Int32} {kd ar pa sc la le tl bd se wa gv ra mu ca si ns ke fz ch nx yk ys yw yc : Nat → Int32} {A L TL : Nat → Nat}
theorem rk_TJ_0 (kd ar pa sc la le tl bd : Nat → Int32) (A L TL : Nat → Nat) : rk_TJ 0 S ML MT 1 kd ar pa sc la le tl bd A L TL :=
  ⟨fun n hn => by omega, fun n hn => by omega, fun c p hc => by omega, fun n hn => by omega, fun n hn => by omega, fun n hn => by omega, ⟨fun n hn => by omega, fun n hn => by omega⟩, ⟨fun n hn => by omega, fun n hn => by omega⟩, fun n hn => by omega, fun n hn => by omega, fun _ => rfl, fun h => by omega⟩
theorem rk_TO_0 (pa : Nat → Int32) (A : Nat → Nat) : rk_TO 0 pa A 0 := ⟨Nat.le_refl _, fun _ n hn => by omega, fun q hq => by omega⟩
theorem rk_RX_r (h : rk_RX M S ML MT N K o ph vd kd ar pa sc la le tl bd se gv A L TL) : rk_RX M S ML MT N K o (if K = 0 then 1 else 0) 0 kd ar pa sc la le tl bd (rk_zr se 40) (rk_zr gv 8) A L TL := by
  obtain ⟨h1, h2, h3, h4, h5, h6, h7⟩ := h
  refine ⟨h1, h2, h3, ?_, fun n hn => ?_, fun _ s hs => ?_, fun q => absurd rfl q⟩
  · by_cases g : K = 0
    · rw [if_pos g]; exact Or.inl ⟨g, Or.inl rfl⟩
    · rw [if_neg g]; exact Or.inr ⟨g, rfl⟩
  · unfold rk_zr
    by_cases g : n < 40
    · rw [if_pos g]
    · rw [if_neg g]; exact h5 n hn
  · unfold rk_zr; rw [if_pos hs]
theorem rk_RX_N (h : rk_RX M S ML MT N K o ph vd kd ar pa sc la le tl bd se gv A L TL) : 1 ≤ N + K := by
  have := h.2.1.2.2.2.2.2.2.2.2.2.2.1
  by_cases g : N = 0
  · have := this g; omega
  · omega
end
end
section
/-! ===== what is owed ===== -/
theorem i_up {k : Nat} {u : SX} {v : SY} (h : i_Rel k u v) : i_Rel (k + 4) u v := h
theorem i_vc0 (k0 : Int32) (k1 : Int32) (k2 : Int32) (k3 : Int32) : wpX_init (fun u => wpY_init (fun v => i_Rel 4 u v) k0 k1 k2 k3) k0 k1 k2 k3 := by
  obtain ⟨M, a1, a2, a3⟩ := rk_cl_n k0 1 40 (by omega) (by omega)
  obtain ⟨S, b1, b2, b3⟩ := rk_cl_n k1 1 8 (by omega) (by omega)
  obtain ⟨ML, c1, c2, c3⟩ := rk_cl_n k2 0 2 (by omega) (by omega)
  obtain ⟨MT, d1, d2, d3⟩ := rk_cl_n k3 0 3 (by omega) (by omega)
  have a4 : rk_cl k0 1 40 = nI M := a3
  have b4 : rk_cl k1 1 8 = nI S := b3
  have c4 : rk_cl k2 0 2 = nI ML := c3
  have d4 : rk_cl k3 0 3 = nI MT := d3
  unfold wpX_init
  refine rk_xcl ?_
  rw [a4]
  refine rk_xcl ?_
  rw [b4]
  refine rk_xcl ?_
  rw [c4]
  refine rk_xcl ?_
  rw [d4]
  unfold wpX_clear
  dsimp only
  refine rk_xrs (K := 1) (by omega) ?_
  dsimp only
  unfold wpY_init
  refine rk_ycl ?_
  rw [a4]
  refine rk_ycl ?_
  rw [b4]
  refine rk_ycl ?_
  rw [c4]
  refine rk_ycl ?_
  rw [d4]
  have e1 : ∀ n, rk_zr (fun _ => (0 : Int32)) n = fun _ => 0 := fun n => by
    funext j; unfold rk_zr
    by_cases g : j < n
    · rw [if_pos g]
    · rw [if_neg g]
  rw [e1, e1]
  exact rk_in (M := M) (S := S) (ML := ML) (MT := MT) (N := 0) (K := 1) (o := 0) (A := fun _ => 0) (L := fun _ => 0) (TL := fun _ => 0) ⟨⟨⟨by omega, by omega, by omega, by omega, by omega⟩, rk_TJ_0 _ _ _ _ _ _ _ _ _ _ _, rk_TO_0 _ _, Or.inr ⟨by omega, rfl⟩, fun n _ => rfl, fun _ s _ => rfl, fun q => absurd rfl q⟩, fun q => absurd rfl q⟩
theorem i_vc_add {k : Nat} {u : SX} {v : SY} (I : i_Rel k u v) (hk : k + 4 ≤ 2052) (v1 : Int32) (v2 : Int32) : wpX_add (fun r u' => wpY_add (fun r' v' => r' = r ∧ i_Rel (k + 4) u' v') v v1 v2) u v1 v2 := by
  refine rk_el (P := fun u v => wpX_add (fun r u' => wpY_add (fun r' v' => r' = r ∧ i_Rel (k + 4) u' v') v v1 v2) u v1 v2) ?_ I
  intro M S ML MT N K o ph tk vd kd ar pa sc la le tl bd se wa gv ra mu ca si ns ke fz ch nx yk ys yw yc A L TL hR
  have hR' := hR
  obtain ⟨⟨⟨m1, m2, m3, m4, m5⟩, hJ, hO, hph, hse, hgv, hvd⟩, hen⟩ := hR
  have hcv7 : rk_cv kd 7 L o ≤ ML := rk_cv_le (fun m hm => (hJ.2.2.2.2.2.2.1.1 m hm).2) hO.1
  have hcv9 : rk_cv kd 9 TL o ≤ MT := rk_cv_le (fun m hm => (hJ.2.2.2.2.2.2.2.1.1 m hm).2) hO.1
  refine rk_xadd m1 m2 m3 m4 m5 hJ hO rfl rfl rfl rfl rfl rfl rfl (fun r h hne => ?_) (fun h av sc' la' bd' o' hav t1 t2 => ?_)
  · refine rk_yadd m1 m2 m3 m4 m5 hO hJ.2.1 hJ.2.2.2.2.2.2.1.2 hJ.2.2.2.2.2.2.2.1.2 hcv7 hcv9 (fun m hm => (hJ.2.2.2.2.1 m hm).2) hJ.2.2.2.2.2.2.2.2.2.2 rfl rfl rfl rfl rfl (fun r' h' _ => ⟨h'.symm.trans h, rk_in hR'⟩) (fun h' => absurd (h.symm.trans h') hne)
  · refine rk_yadd m1 m2 m3 m4 m5 hO hJ.2.1 hJ.2.2.2.2.2.2.1.2 hJ.2.2.2.2.2.2.2.1.2 hcv7 hcv9 (fun m hm => (hJ.2.2.2.2.1 m hm).2) hJ.2.2.2.2.2.2.2.2.2.2 rfl rfl rfl rfl rfl (fun r' h' hne => absurd (h'.symm.trans h) hne) (fun _ => ⟨fun m hm => (t1.2.2.2.2.1 m hm).2, t1.2.2.2.2.2.2.2.2.2.2.2 (by omega), rfl, ?_⟩)
    subst hav
    have hacc := rk_ao_0 h
    have hp0 : ph = 0 := by
      rcases hph with q | q
      · exact absurd q.1 hacc.1
      · exact q.2
    have hv0 : vd = 0 := Decidable.byContradiction (fun q => hacc.1 (hvd q))
    refine rk_in ⟨⟨⟨m1, m2, m3, m4, by have := hacc.2.2.2.2.2.2.2; omega⟩, t1, t2, ?_, fun n hn => hse n (by omega), hgv, fun q => absurd hv0 q⟩, fun q => absurd hv0 q⟩
    by_cases g : K - 1 + rk_ar v1 = 0
    · rw [if_pos g]; exact Or.inl ⟨g, Or.inl rfl⟩
    · rw [if_neg g]; exact Or.inr ⟨g, hp0⟩
theorem i_vc_clear {k : Nat} {u : SX} {v : SY} (I : i_Rel k u v) (hk : k + 4 ≤ 2052) : wpX_clear (fun u' => wpY_clear (fun v' => i_Rel (k + 4) u' v') v) u := by
  refine rk_el (P := fun u v => wpX_clear (fun u' => wpY_clear (fun v' => i_Rel (k + 4) u' v') v) u) ?_ I
  intro M S ML MT N K o ph tk vd kd ar pa sc la le tl bd se wa gv ra mu ca si ns ke fz ch nx yk ys yw yc A L TL hR
  have hN1 := rk_RX_N hR.1
  obtain ⟨⟨⟨m1, m2, m3, m4, m5⟩, hJ, hO, hph, hse, hgv, hvd⟩, hen⟩ := hR
  unfold wpX_clear
  dsimp only
  refine rk_xrs (K := 1) (by omega) ?_
  dsimp only
  unfold wpY_clear
  dsimp only
  refine rk_yreset (N := 0) (K := 1) (A := A) (by omega) (by omega) rfl (fun m hm => by omega) ⟨fun _ => rfl, fun h => by omega⟩ ?_
  dsimp only
  refine rk_in (M := M) (S := S) (ML := ML) (MT := MT) (N := 0) (K := 1) (o := 0) (A := A) (L := L) (TL := TL) ⟨⟨⟨m1, m2, m3, m4, by omega⟩, rk_TJ_0 _ _ _ _ _ _ _ _ _ _ _, rk_TO_0 _ _, Or.inr ⟨by omega, rfl⟩, fun n _ => ?_, fun _ s hs => ?_, fun q => absurd rfl q⟩, fun q => absurd rfl q⟩
  · unfold rk_zr
    by_cases g : n < 40
    · rw [if_pos g]
    · rw [if_neg g]; exact hse n (by omega)
  · unfold rk_zr; rw [if_pos hs]
theorem i_vc_reset {k : Nat} {u : SX} {v : SY} (I : i_Rel k u v) (hk : k + 4 ≤ 2052) : wpX_reset (fun u' => wpY_reset (fun v' => i_Rel (k + 4) u' v') v) u := by
  refine rk_el (P := fun u v => wpX_reset (fun u' => wpY_reset (fun v' => i_Rel (k + 4) u' v') v) u) ?_ I
  intro M S ML MT N K o ph tk vd kd ar pa sc la le tl bd se wa gv ra mu ca si ns ke fz ch nx yk ys yw yc A L TL hR
  have hJ := hR.1.2.1
  have hm := hR.1.1
  refine rk_xrs (K := K) (by omega) ?_
  exact rk_yreset (N := N) (K := K) (A := A) (by omega) (by omega) rfl (fun m hm => (hJ.2.2.2.2.1 m hm).2) hJ.2.2.2.2.2.2.2.2.2.2 (rk_in ⟨rk_RX_r hR.1, fun q => absurd rfl q⟩)
theorem i_vc_input {k : Nat} {u : SX} {v : SY} (I : i_Rel k u v) (hk : k + 4 ≤ 2052) (v1 : Int32) (v2 : Int32) : wpX_input (fun r u' => wpY_input (fun r' v' => r' = r ∧ i_Rel (k + 4) u' v') v v1 v2) u v1 v2 := by
  refine rk_el (P := fun u v => wpX_input (fun r u' => wpY_input (fun r' v' => r' = r ∧ i_Rel (k + 4) u' v') v v1 v2) u v1 v2) ?_ I
  intro M S ML MT N K o ph tk vd kd ar pa sc la le tl bd se wa gv ra mu ca si ns ke fz ch nx yk ys yw yc A L TL hR
  have hm := hR.1.1
  unfold wpX_input wpX_isSignal wpY_input
  dsimp only
  rcases pk_ix v1 (n := S) (by omega) with h | h | ⟨j, hj, rfl⟩
  · exact br_t h (br_t rfl (br_t h ⟨rfl, rk_in hR⟩))
  · have h0 := rk_nn h (by omega)
    exact br_f h0 (br_t h (br_t rfl (br_f h0 (br_f (Int32.not_lt.mpr h) ⟨rfl, rk_in hR⟩))))
  · have h0 : ¬ nI j < 0 := nI_pos (by omega)
    have hin : vp_in (nI j) 8 := vp_in_nI (by omega) (by omega)
    refine br_f h0 (br_f (nI_ge hj (by omega)) (br_f (by decide) (br_c (fun z => ⟨hin, nm_e ?_⟩) (fun z => ⟨hin, nm_e ?_⟩))))
    · exact br_f h0 (br_t (nI_lt hj (by omega)) (br_t z ⟨hin, nm_e ⟨rfl, rk_in hR⟩⟩))
    · exact br_f h0 (br_t (nI_lt hj (by omega)) (br_f z ⟨hin, nm_e ⟨rfl, rk_in hR⟩⟩))
theorem i_vc_derive {k : Nat} {u : SX} {v : SY} (I : i_Rel k u v) (hk : k + 4 ≤ 2052) : wpX_derive (fun r u' => wpY_derive (fun r' v' => r' = r ∧ i_Rel (k + 4) u' v') v) u := by
  refine rk_el (P := fun u v => wpX_derive (fun r u' => wpY_derive (fun r' v' => r' = r ∧ i_Rel (k + 4) u' v') v) u) ?_ I
  intro M S ML MT N K o ph tk vd kd ar pa sc la le tl bd se wa gv ra mu ca si ns ke fz ch nx yk ys yw yc A L TL hR
  exact rk_der hR.1 (fun r vd' gv' ra' mu' ca' si' ns' sim => sim nx yk ys yw yc hR _ (fun nx' yk' ys' yw' yc' hR2 => ⟨rfl, rk_in hR2⟩))
theorem i_vc_react {k : Nat} {u : SX} {v : SY} (I : i_Rel k u v) (hk : k + 4 ≤ 2052) : wpX_react (fun r u' => wpY_react (fun r' v' => r' = r ∧ i_Rel (k + 4) u' v') v) u := by
  refine rk_el (P := fun u v => wpX_react (fun r u' => wpY_react (fun r' v' => r' = r ∧ i_Rel (k + 4) u' v') v) u) ?_ I
  intro M S ML MT N K o ph tk vd kd ar pa sc la le tl bd se wa gv ra mu ca si ns ke fz ch nx yk ys yw yc A L TL hR
  exact rk_rea hR.1 (fun r ph' tk' vd' se' wa' gv' ra' mu' ca' si' ns' ke' fz' ch' _ sim => sim nx yk ys yw yc hR _ (fun nx' yk' ys' yw' yc' hR2 => ⟨rfl, rk_in hR2⟩))
theorem i_vc_run {k : Nat} {u : SX} {v : SY} (I : i_Rel k u v) (hk : k + 4 ≤ 2052) (v1 : Int32) : wpX_run (fun r u' => wpY_run (fun r' v' => r' = r ∧ i_Rel (k + 4) u' v') v v1) u v1 := by
  refine rk_el (P := fun u v => wpX_run (fun r u' => wpY_run (fun r' v' => r' = r ∧ i_Rel (k + 4) u' v') v v1) u v1) ?_ I
  intro M S ML MT N K o ph tk vd kd ar pa sc la le tl bd se wa gv ra mu ca si ns ke fz ch nx yk ys yw yc A L TL hR
  obtain ⟨l, _, hl, he⟩ := rk_cl_n v1 0 16 (by omega) (by omega)
  have he' : rk_cl v1 0 16 = nI l := he
  unfold wpX_run
  dsimp only
  refine rk_xcl ?_
  rw [he']
  refine ⟨19, rk_run (k0 := k + 4) hl (rk_cl_16 v1 he' hl) (fun q => wpY_run q (nI M, nI S, nI ML, nI MT, nI N, ph, tk, vd, kd, ar, pa, se, nx, yk, wa, gv, ys, yw, yc) v1) (fun r u' H => H _ (fun v' hv => ⟨rfl, hv⟩)) l 0 0 19 ph tk vd se wa gv ra mu ca si ns ke fz ch (by omega) (by omega) (by omega) hR.1 (fun q hq => ?_)⟩
  unfold wpY_run
  dsimp only
  exact ⟨18, hq nx yk ys yw yc hR 18 (by omega)⟩
theorem i_vc_size {k : Nat} {u : SX} {v : SY} (I : i_Rel k u v) (hk : k + 4 ≤ 2052) : wpX_size (fun r => wpY_size (fun r' => r' = r ∧ i_Rel (k + 4) u v) v) u := by
  refine rk_el (P := fun u v => wpX_size (fun r => wpY_size (fun r' => r' = r ∧ i_Rel (k + 4) u v) v) u) ?_ I
  intro M S ML MT N K o ph tk vd kd ar pa sc la le tl bd se wa gv ra mu ca si ns ke fz ch nx yk ys yw yc A L TL hR
  unfold wpX_size wpY_size
  dsimp only
  exact ⟨rfl, rk_in hR⟩
theorem i_vc_missing {k : Nat} {u : SX} {v : SY} (I : i_Rel k u v) (hk : k + 4 ≤ 2052) : wpX_missing (fun r => wpY_missing (fun r' => r' = r ∧ i_Rel (k + 4) u v) v) u := by
  refine rk_el (P := fun u v => wpX_missing (fun r => wpY_missing (fun r' => r' = r ∧ i_Rel (k + 4) u v) v) u) ?_ I
  intro M S ML MT N K o ph tk vd kd ar pa sc la le tl bd se wa gv ra mu ca si ns ke fz ch nx yk ys yw yc A L TL hR
  have hJ := hR.1.2.1
  have hm := hR.1.1
  unfold wpX_missing
  dsimp only
  exact rk_ymi (N := N) (K := K) (A := A) (by omega) rfl (fun m hm => (hJ.2.2.2.2.1 m hm).2) hJ.2.2.2.2.2.2.2.2.2.2 ⟨rfl, rk_in hR⟩
theorem i_vc_phase {k : Nat} {u : SX} {v : SY} (I : i_Rel k u v) (hk : k + 4 ≤ 2052) : wpX_phase (fun r => wpY_phase (fun r' => r' = r ∧ i_Rel (k + 4) u v) v) u := by
  refine rk_el (P := fun u v => wpX_phase (fun r => wpY_phase (fun r' => r' = r ∧ i_Rel (k + 4) u v) v) u) ?_ I
  intro M S ML MT N K o ph tk vd kd ar pa sc la le tl bd se wa gv ra mu ca si ns ke fz ch nx yk ys yw yc A L TL hR
  unfold wpX_phase wpY_phase
  dsimp only
  exact ⟨rfl, rk_in hR⟩
theorem i_vc_kindAt {k : Nat} {u : SX} {v : SY} (I : i_Rel k u v) (hk : k + 4 ≤ 2052) (v1 : Int32) : wpX_kindAt (fun r => wpY_kindAt (fun r' => r' = r ∧ i_Rel (k + 4) u v) v v1) u v1 := by
  refine rk_el (P := fun u v => wpX_kindAt (fun r => wpY_kindAt (fun r' => r' = r ∧ i_Rel (k + 4) u v) v v1) u v1) ?_ I
  intro M S ML MT N K o ph tk vd kd ar pa sc la le tl bd se wa gv ra mu ca si ns ke fz ch nx yk ys yw yc A L TL hR
  have hm := hR.1.1
  unfold wpX_kindAt wpX_isNode wpY_kindAt
  dsimp only
  rcases pk_ix v1 (n := N) (by omega) with h | h | ⟨j, hj, rfl⟩
  · exact br_t h (br_t rfl (br_t h ⟨rfl, rk_in hR⟩))
  · have h0 := rk_nn h (by omega)
    exact br_f h0 (br_t h (br_t rfl (br_f h0 (br_f (Int32.not_lt.mpr h) ⟨rfl, rk_in hR⟩))))
  · have h0 : ¬ nI j < 0 := nI_pos (by omega)
    have hin : vp_in (nI j) 40 := vp_in_nI (by omega) (by omega)
    exact br_f h0 (br_f (nI_ge hj (by omega)) (br_f (by decide) ⟨hin, br_f h0 (br_t (nI_lt hj (by omega)) ⟨hin, rfl, rk_in hR⟩)⟩))
theorem i_vc_argAt {k : Nat} {u : SX} {v : SY} (I : i_Rel k u v) (hk : k + 4 ≤ 2052) (v1 : Int32) : wpX_argAt (fun r => wpY_argAt (fun r' => r' = r ∧ i_Rel (k + 4) u v) v v1) u v1 := by
  refine rk_el (P := fun u v => wpX_argAt (fun r => wpY_argAt (fun r' => r' = r ∧ i_Rel (k + 4) u v) v v1) u v1) ?_ I
  intro M S ML MT N K o ph tk vd kd ar pa sc la le tl bd se wa gv ra mu ca si ns ke fz ch nx yk ys yw yc A L TL hR
  have hm := hR.1.1
  unfold wpX_argAt wpX_isNode wpY_argAt
  dsimp only
  rcases pk_ix v1 (n := N) (by omega) with h | h | ⟨j, hj, rfl⟩
  · exact br_t h (br_t rfl (br_t h ⟨rfl, rk_in hR⟩))
  · have h0 := rk_nn h (by omega)
    exact br_f h0 (br_t h (br_t rfl (br_f h0 (br_f (Int32.not_lt.mpr h) ⟨rfl, rk_in hR⟩))))
  · have h0 : ¬ nI j < 0 := nI_pos (by omega)
    have hin : vp_in (nI j) 40 := vp_in_nI (by omega) (by omega)
    exact br_f h0 (br_f (nI_ge hj (by omega)) (br_f (by decide) ⟨hin, br_f h0 (br_t (nI_lt hj (by omega)) ⟨hin, rfl, rk_in hR⟩)⟩))
theorem i_vc_binderAt {k : Nat} {u : SX} {v : SY} (I : i_Rel k u v) (hk : k + 4 ≤ 2052) (v1 : Int32) : wpX_binderAt (fun r => wpY_binderAt (fun r' => r' = r ∧ i_Rel (k + 4) u v) v v1) u v1 := by
  refine rk_el (P := fun u v => wpX_binderAt (fun r => wpY_binderAt (fun r' => r' = r ∧ i_Rel (k + 4) u v) v v1) u v1) ?_ I
  intro M S ML MT N K o ph tk vd kd ar pa sc la le tl bd se wa gv ra mu ca si ns ke fz ch nx yk ys yw yc A L TL hR
  have hm := hR.1.1
  have hJ := hR.1.2.1
  unfold wpX_binderAt wpX_isNode
  dsimp only
  rcases pk_ix v1 (n := N) (by omega) with h | h | ⟨j, hj, rfl⟩
  · unfold wpY_binderAt
    dsimp only
    exact br_t h (br_t rfl (br_t h ⟨rfl, rk_in hR⟩))
  · have h0 := rk_nn h (by omega)
    unfold wpY_binderAt
    dsimp only
    exact br_f h0 (br_t h (br_t rfl (br_f h0 (br_f (Int32.not_lt.mpr h) ⟨rfl, rk_in hR⟩))))
  · have h0 : ¬ nI j < 0 := nI_pos (by omega)
    have hin : vp_in (nI j) 40 := vp_in_nI (by omega) (by omega)
    rw [nI_clamp (show j < 2 ^ 31 by omega)]
    have hy : rk_use (kd j) → wY_binderAt_47 (fun r' => r' = bd j ∧ i_Rel (k + 4) (nI M, nI S, nI ML, nI MT, nI N, nI K, rk_pd o, ph, tk, vd, kd, ar, pa, sc, la, le, tl, bd, se, wa, gv, ra, mu, ca, si, ns, ke, fz, ch) (nI M, nI S, nI ML, nI MT, nI N, ph, tk, vd, kd, ar, pa, se, nx, yk, wa, gv, ys, yw, yc)) (nI j) (nI M) (nI S) (nI ML) (nI MT) (nI N) ph tk vd kd ar pa se nx yk wa gv ys yw yc := fun hu => by
      unfold wY_binderAt_47
      exact rk_ybi (N := N) (by omega) hJ.2.1 hj ⟨(hJ.2.2.2.2.2.2.2.2.2.1 j hj hu).symm, rk_in hR⟩
    refine br_f h0 (br_f (nI_ge hj (by omega)) (br_f (by decide) ⟨hin, rk_xus (fun hu => br_f (by decide) ⟨hin, ?_⟩) (fun hu => br_t rfl ?_)⟩))
    · unfold wpY_binderAt
      dsimp only
      rw [nI_clamp (show j < 2 ^ 31 by omega)]
      refine br_f h0 (br_t (nI_lt hj (by omega)) ⟨hin, br_c (fun _ => hy hu) (fun k2 => ⟨hin, br_c (fun _ => hy hu) (fun k4 => ⟨hin, br_c (fun _ => hy hu) (fun k8 => ?_)⟩)⟩)⟩)
      rcases hu with q | q | q
      · exact absurd q k2
      · exact absurd q k4
      · exact absurd q k8
    · unfold wpY_binderAt
      dsimp only
      rw [nI_clamp (show j < 2 ^ 31 by omega)]
      exact br_f h0 (br_t (nI_lt hj (by omega)) ⟨hin, br_f (fun q => hu (Or.inl q)) ⟨hin, br_f (fun q => hu (Or.inr (Or.inl q))) ⟨hin, br_f (fun q => hu (Or.inr (Or.inr q))) ⟨rfl, rk_in hR⟩⟩⟩⟩)
theorem i_vc_instants {k : Nat} {u : SX} {v : SY} (I : i_Rel k u v) (hk : k + 4 ≤ 2052) : wpX_instants (fun r => wpY_instants (fun r' => r' = r ∧ i_Rel (k + 4) u v) v) u := by
  refine rk_el (P := fun u v => wpX_instants (fun r => wpY_instants (fun r' => r' = r ∧ i_Rel (k + 4) u v) v) u) ?_ I
  intro M S ML MT N K o ph tk vd kd ar pa sc la le tl bd se wa gv ra mu ca si ns ke fz ch nx yk ys yw yc A L TL hR
  unfold wpX_instants wpY_instants
  dsimp only
  exact ⟨rfl, rk_in hR⟩
theorem i_vc_selected {k : Nat} {u : SX} {v : SY} (I : i_Rel k u v) (hk : k + 4 ≤ 2052) (v1 : Int32) : wpX_selected (fun r => wpY_selected (fun r' => r' = r ∧ i_Rel (k + 4) u v) v v1) u v1 := by
  refine rk_el (P := fun u v => wpX_selected (fun r => wpY_selected (fun r' => r' = r ∧ i_Rel (k + 4) u v) v v1) u v1) ?_ I
  intro M S ML MT N K o ph tk vd kd ar pa sc la le tl bd se wa gv ra mu ca si ns ke fz ch nx yk ys yw yc A L TL hR
  have hm := hR.1.1
  unfold wpX_selected wpX_isNode wpY_selected
  dsimp only
  rcases pk_ix v1 (n := N) (by omega) with h | h | ⟨j, hj, rfl⟩
  · exact br_t h (br_t rfl (br_t h ⟨rfl, rk_in hR⟩))
  · have h0 := rk_nn h (by omega)
    exact br_f h0 (br_t h (br_t rfl (br_f h0 (br_f (Int32.not_lt.mpr h) ⟨rfl, rk_in hR⟩))))
  · have h0 : ¬ nI j < 0 := nI_pos (by omega)
    have hin : vp_in (nI j) 40 := vp_in_nI (by omega) (by omega)
    refine br_f h0 (br_f (nI_ge hj (by omega)) (br_f (by decide) ⟨hin, br_c (fun z => ?_) (fun z => ?_)⟩))
    · exact br_f h0 (br_t (nI_lt hj (by omega)) ⟨hin, br_t z ⟨rfl, rk_in hR⟩⟩)
    · exact br_f h0 (br_t (nI_lt hj (by omega)) ⟨hin, br_f z ⟨rfl, rk_in hR⟩⟩)
theorem i_vc_pending {k : Nat} {u : SX} {v : SY} (I : i_Rel k u v) (hk : k + 4 ≤ 2052) (v1 : Int32) : wpX_pending (fun r => wpY_pending (fun r' => r' = r ∧ i_Rel (k + 4) u v) v v1) u v1 := by
  refine rk_el (P := fun u v => wpX_pending (fun r => wpY_pending (fun r' => r' = r ∧ i_Rel (k + 4) u v) v v1) u v1) ?_ I
  intro M S ML MT N K o ph tk vd kd ar pa sc la le tl bd se wa gv ra mu ca si ns ke fz ch nx yk ys yw yc A L TL hR
  have hm := hR.1.1
  unfold wpX_pending wpX_isSignal wpY_pending
  dsimp only
  rcases pk_ix v1 (n := S) (by omega) with h | h | ⟨j, hj, rfl⟩
  · exact br_t h (br_t rfl (br_t h ⟨rfl, rk_in hR⟩))
  · have h0 := rk_nn h (by omega)
    exact br_f h0 (br_t h (br_t rfl (br_f h0 (br_f (Int32.not_lt.mpr h) ⟨rfl, rk_in hR⟩))))
  · have h0 : ¬ nI j < 0 := nI_pos (by omega)
    have hin : vp_in (nI j) 8 := vp_in_nI (by omega) (by omega)
    refine br_f h0 (br_f (nI_ge hj (by omega)) (br_f (by decide) ⟨hin, br_c (fun z => ?_) (fun z => ?_)⟩))
    · exact br_f h0 (br_t (nI_lt hj (by omega)) ⟨hin, br_t z ⟨rfl, rk_in hR⟩⟩)
    · exact br_f h0 (br_t (nI_lt hj (by omega)) ⟨hin, br_f z ⟨rfl, rk_in hR⟩⟩)
theorem i_vc_given {k : Nat} {u : SX} {v : SY} (I : i_Rel k u v) (hk : k + 4 ≤ 2052) (v1 : Int32) : wpX_given (fun r => wpY_given (fun r' => r' = r ∧ i_Rel (k + 4) u v) v v1) u v1 := by
  refine rk_el (P := fun u v => wpX_given (fun r => wpY_given (fun r' => r' = r ∧ i_Rel (k + 4) u v) v v1) u v1) ?_ I
  intro M S ML MT N K o ph tk vd kd ar pa sc la le tl bd se wa gv ra mu ca si ns ke fz ch nx yk ys yw yc A L TL hR
  have hm := hR.1.1
  have hgv := hR.1.2.2.2.2.2.1
  unfold wpX_given wpX_isSignal wpY_given
  dsimp only
  rcases pk_ix v1 (n := S) (by omega) with h | h | ⟨j, hj, rfl⟩
  · exact br_t h (br_t rfl (br_t h ⟨rfl, rk_in hR⟩))
  · have h0 := rk_nn h (by omega)
    exact br_f h0 (br_t h (br_t rfl (br_f h0 (br_f (Int32.not_lt.mpr h) ⟨rfl, rk_in hR⟩))))
  · have h0 : ¬ nI j < 0 := nI_pos (by omega)
    have hin : vp_in (nI j) 8 := vp_in_nI (by omega) (by omega)
    refine br_f h0 (br_f (nI_ge hj (by omega)) (br_f (by decide) ⟨hin, br_c (fun z => ?_) (fun z => ?_)⟩))
    · exact br_f h0 (br_t (nI_lt hj (by omega)) (br_c (fun _ => ⟨rfl, rk_in hR⟩) (fun _ => ⟨hin, br_t z ⟨rfl, rk_in hR⟩⟩)))
    · rw [nI_clamp (by omega)] at z
      refine br_f h0 (br_t (nI_lt hj (by omega)) (br_f (fun q => z (hgv q j (by omega))) ⟨hin, ?_⟩))
      rw [nI_clamp (by omega)]
      exact br_f z ⟨rfl, rk_in hR⟩
theorem i_vc_verdict {k : Nat} {u : SX} {v : SY} (I : i_Rel k u v) (hk : k + 4 ≤ 2052) : wpX_verdict (fun r => wpY_verdict (fun r' => r' = r ∧ i_Rel (k + 4) u v) v) u := by
  refine rk_el (P := fun u v => wpX_verdict (fun r => wpY_verdict (fun r' => r' = r ∧ i_Rel (k + 4) u v) v) u) ?_ I
  intro M S ML MT N K o ph tk vd kd ar pa sc la le tl bd se wa gv ra mu ca si ns ke fz ch nx yk ys yw yc A L TL hR
  unfold wpX_verdict wpY_verdict
  dsimp only
  exact ⟨rfl, rk_in hR⟩
theorem i_vc_status {k : Nat} {u : SX} {v : SY} (I : i_Rel k u v) (hk : k + 4 ≤ 2052) (v1 : Int32) : wpX_status (fun r => wpY_status (fun r' => r' = r ∧ i_Rel (k + 4) u v) v v1) u v1 := by
  refine rk_el (P := fun u v => wpX_status (fun r => wpY_status (fun r' => r' = r ∧ i_Rel (k + 4) u v) v v1) u v1) ?_ I
  intro M S ML MT N K o ph tk vd kd ar pa sc la le tl bd se wa gv ra mu ca si ns ke fz ch nx yk ys yw yc A L TL hR
  have hm := hR.1.1
  unfold wpX_status wpX_isSignal wpY_status
  dsimp only
  rcases pk_ix v1 (n := S) (by omega) with h | h | ⟨j, hj, rfl⟩
  · exact br_t h (br_t rfl (br_t h ⟨rfl, rk_in hR⟩))
  · have h0 := rk_nn h (by omega)
    exact br_f h0 (br_t h (br_t rfl (br_f h0 (br_f (Int32.not_lt.mpr h) ⟨rfl, rk_in hR⟩))))
  · have h0 : ¬ nI j < 0 := nI_pos (by omega)
    have hin : vp_in (nI j) 128 := vp_in_nI (by omega) (by omega)
    rw [nI_clamp (by omega)]
    refine br_f h0 (br_f (nI_ge hj (by omega)) (br_f (by decide) (br_c (fun z => ?_) (fun z => ⟨hin, ?_⟩))))
    · exact br_f h0 (br_t (nI_lt hj (by omega)) (br_t z ⟨rfl, rk_in hR⟩))
    · obtain ⟨e1, e2⟩ := (hR.2 z).1 j (by omega) (Or.inl hj)
      rw [e1]
      exact rk_xsh e2 (br_f h0 (br_t (nI_lt hj (by omega)) (br_f z ⟨hin, rfl, rk_in hR⟩)))
theorem i_vc_localStatus {k : Nat} {u : SX} {v : SY} (I : i_Rel k u v) (hk : k + 4 ≤ 2052) (v1 : Int32) (v2 : Int32) : wpX_localStatus (fun r => wpY_localStatus (fun r' => r' = r ∧ i_Rel (k + 4) u v) v v1 v2) u v1 v2 := by
  refine rk_el (P := fun u v => wpX_localStatus (fun r => wpY_localStatus (fun r' => r' = r ∧ i_Rel (k + 4) u v) v v1 v2) u v1 v2) ?_ I
  intro M S ML MT N K o ph tk vd kd ar pa sc la le tl bd se wa gv ra mu ca si ns ke fz ch nx yk ys yw yc A L TL hR
  have hm := hR.1.1
  have hJ := hR.1.2.1
  unfold wpX_localStatus wpX_isPair wpY_localStatus
  dsimp only
  rcases pk_ix v1 (n := N) (by omega) with h | h | ⟨j, hj, rfl⟩
  · exact br_t h (br_t rfl (br_t h ⟨rfl, rk_in hR⟩))
  · have h0 := rk_nn h (by omega)
    exact br_f h0 (br_t h (br_t rfl (br_f h0 (br_t h ⟨rfl, rk_in hR⟩))))
  · have h0 : ¬ nI j < 0 := nI_pos (by omega)
    have h1 : ¬ nI N ≤ nI j := nI_ge hj (by omega)
    have hin : vp_in (nI j) 40 := vp_in_nI (by omega) (by omega)
    have hlj := (hJ.2.2.2.2.2.2.1.1 j hj)
    rw [nI_clamp (show j < 2 ^ 31 by omega), hlj.1]
    by_cases g : v2 < 0
    · exact br_f h0 (br_f h1 (br_t g (br_t rfl (br_f h0 (br_f h1 ⟨hin, br_c (fun _ => br_t g ⟨rfl, rk_in hR⟩) (fun _ => ⟨rfl, rk_in hR⟩)⟩)))))
    · obtain ⟨i, hi, rfl⟩ := nI_of g
      by_cases gl : L j < i
      · refine br_f h0 (br_f h1 (br_f g ⟨hin, br_t (nI_lt gl hi) (br_t rfl (br_f h0 (br_f h1 ⟨hin, br_c (fun _ => br_f g (rk_ylv (N := N) (by omega) hJ.2.1 hJ.2.2.2.2.2.2.1.2 hj (br_f (nI_ge gl hi) ⟨rfl, rk_in hR⟩))) (fun _ => ⟨rfl, rk_in hR⟩)⟩)))⟩))
      · have hi2 : i ≤ 2 := by omega
        have hix : vp_in (nI (8 + (j * 3 + i))) 128 := vp_in_nI (by omega) (by omega)
        rw [rk_iy, nI_clamp (show 8 + (j * 3 + i) < 2 ^ 31 by omega)]
        refine br_f h0 (br_f h1 (br_f g ⟨hin, br_f (nI_nlt (by omega) (by omega)) (br_f (by decide) ⟨hin, br_c (fun k10 => br_c (fun z => ?_) (fun z => ⟨hix, ?_⟩)) (fun k10 => ?_)⟩)⟩))
        · exact br_f h0 (br_f h1 ⟨hin, br_t k10 (br_f g (rk_ylv (N := N) (by omega) hJ.2.1 hJ.2.2.2.2.2.2.1.2 hj (br_t (nI_le (by omega) (by omega)) (br_t z ⟨rfl, rk_in hR⟩))))⟩)
        · obtain ⟨e1, e2⟩ := (hR.2 z).1 (8 + (j * 3 + i)) (by omega) (Or.inr ⟨j, i, hj, k10, by omega, rfl⟩)
          rw [e1]
          exact rk_xsh e2 (br_f h0 (br_f h1 ⟨hin, br_t k10 (br_f g (rk_ylv (N := N) (by omega) hJ.2.1 hJ.2.2.2.2.2.2.1.2 hj (br_t (nI_le (by omega) (by omega)) (br_f z ⟨hix, rfl, rk_in hR⟩))))⟩))
        · exact br_f h0 (br_f h1 ⟨hin, br_f k10 ⟨rfl, rk_in hR⟩⟩)
theorem i_vc_went {k : Nat} {u : SX} {v : SY} (I : i_Rel k u v) (hk : k + 4 ≤ 2052) (v1 : Int32) (v2 : Int32) : wpX_went (fun r => wpY_went (fun r' => r' = r ∧ i_Rel (k + 4) u v) v v1 v2) u v1 v2 := by
  refine rk_el (P := fun u v => wpX_went (fun r => wpY_went (fun r' => r' = r ∧ i_Rel (k + 4) u v) v v1 v2) u v1 v2) ?_ I
  intro M S ML MT N K o ph tk vd kd ar pa sc la le tl bd se wa gv ra mu ca si ns ke fz ch nx yk ys yw yc A L TL hR
  have hm := hR.1.1
  have hJ := hR.1.2.1
  unfold wpX_went wpX_isPair wpY_went
  dsimp only
  rcases pk_ix v1 (n := N) (by omega) with h | h | ⟨j, hj, rfl⟩
  · exact br_t h (br_t rfl (br_t h ⟨rfl, rk_in hR⟩))
  · have h0 := rk_nn h (by omega)
    exact br_f h0 (br_t h (br_t rfl (br_f h0 (br_t h ⟨rfl, rk_in hR⟩))))
  · have h0 : ¬ nI j < 0 := nI_pos (by omega)
    have h1 : ¬ nI N ≤ nI j := nI_ge hj (by omega)
    have hin : vp_in (nI j) 40 := vp_in_nI (by omega) (by omega)
    have hlj := (hJ.2.2.2.2.2.2.1.1 j hj)
    rw [nI_clamp (show j < 2 ^ 31 by omega), hlj.1]
    by_cases g : v2 < 0
    · exact br_f h0 (br_f h1 (br_t g (br_t rfl (br_f h0 (br_f h1 (br_t g ⟨rfl, rk_in hR⟩))))))
    · obtain ⟨i, hi, rfl⟩ := nI_of g
      by_cases gl : L j < i
      · exact br_f h0 (br_f h1 (br_f g ⟨hin, br_t (nI_lt gl hi) (br_t rfl (br_f h0 (br_f h1 (br_f g (rk_ylv (N := N) (by omega) hJ.2.1 hJ.2.2.2.2.2.2.1.2 hj (br_f (nI_ge gl hi) ⟨rfl, rk_in hR⟩))))))⟩))
      · have hi2 : i ≤ 2 := by omega
        have hix : vp_in (nI (j * 3 + i)) 120 := vp_in_nI (by omega) (by omega)
        rw [rk_ix, nI_clamp (show j * 3 + i < 2 ^ 31 by omega)]
        refine br_f h0 (br_f h1 (br_f g ⟨hin, br_f (nI_nlt (by omega) (by omega)) (br_f (by decide) (br_c (fun z => ?_) (fun z => ⟨hix, ?_⟩)))⟩))
        · exact br_f h0 (br_f h1 (br_f g (rk_ylv (N := N) (by omega) hJ.2.1 hJ.2.2.2.2.2.2.1.2 hj (br_t (nI_le (by omega) (by omega)) (br_t z ⟨rfl, rk_in hR⟩)))))
        · obtain ⟨e1, e2⟩ := ((hR.2 z).2 j i hj (by omega)).1
          rw [e1]
          exact rk_xsh e2 (br_f h0 (br_f h1 (br_f g (rk_ylv (N := N) (by omega) hJ.2.1 hJ.2.2.2.2.2.2.1.2 hj (br_t (nI_le (by omega) (by omega)) (br_f z ⟨hix, rfl, rk_in hR⟩))))))
theorem i_vc_completion {k : Nat} {u : SX} {v : SY} (I : i_Rel k u v) (hk : k + 4 ≤ 2052) (v1 : Int32) (v2 : Int32) (v3 : Int32) : wpX_completion (fun r => wpY_completion (fun r' => r' = r ∧ i_Rel (k + 4) u v) v v1 v2 v3) u v1 v2 v3 := by
  refine rk_el (P := fun u v => wpX_completion (fun r => wpY_completion (fun r' => r' = r ∧ i_Rel (k + 4) u v) v v1 v2 v3) u v1 v2 v3) ?_ I
  intro M S ML MT N K o ph tk vd kd ar pa sc la le tl bd se wa gv ra mu ca si ns ke fz ch nx yk ys yw yc A L TL hR
  have hm := hR.1.1
  have hJ := hR.1.2.1
  unfold wpX_completion wpX_isPair wpY_completion
  dsimp only
  rcases pk_ix v1 (n := N) (by omega) with h | h | ⟨j, hj, rfl⟩
  · exact br_t h (br_t rfl (br_t h ⟨rfl, rk_in hR⟩))
  · have h0 := rk_nn h (by omega)
    exact br_f h0 (br_t h (br_t rfl (br_f h0 (br_t h ⟨rfl, rk_in hR⟩))))
  · have h0 : ¬ nI j < 0 := nI_pos (by omega)
    have h1 : ¬ nI N ≤ nI j := nI_ge hj (by omega)
    have hin : vp_in (nI j) 40 := vp_in_nI (by omega) (by omega)
    have hlj := (hJ.2.2.2.2.2.2.1.1 j hj)
    rw [nI_clamp (show j < 2 ^ 31 by omega), hlj.1]
    by_cases g : v2 < 0
    · exact br_f h0 (br_f h1 (br_t g (br_t rfl (br_f h0 (br_f h1 (br_t g ⟨rfl, rk_in hR⟩))))))
    · obtain ⟨i, hi, rfl⟩ := nI_of g
      by_cases gl : L j < i
      · exact br_f h0 (br_f h1 (br_f g ⟨hin, br_t (nI_lt gl hi) (br_t rfl (br_f h0 (br_f h1 (br_f g (rk_ylv (N := N) (by omega) hJ.2.1 hJ.2.2.2.2.2.2.1.2 hj (br_t (nI_lt gl hi) ⟨rfl, rk_in hR⟩))))))⟩))
      · have hi2 : i ≤ 2 := by omega
        have hix : vp_in (nI (j * 3 + i)) 120 := vp_in_nI (by omega) (by omega)
        have hng : ¬ nI (L j) < nI i := nI_nlt (by omega) (by omega)
        have hlv : ∀ {post : Int32 → Prop}, post (nI (L j)) → wpY_level post (nI M, nI S, nI ML, nI MT, nI N, ph, tk, vd, kd, ar, pa, se, nx, yk, wa, gv, ys, yw, yc) (nI j) := fun h => rk_ylv (N := N) (by omega) hJ.2.1 hJ.2.2.2.2.2.2.1.2 hj h
        refine br_f h0 (br_f h1 (br_f g ⟨hin, br_f hng (br_f (by decide) ?_)⟩))
        by_cases c0 : v3 < 0
        · exact br_t c0 (br_f h0 (br_f h1 (br_f g (hlv (br_f hng (br_t c0 ⟨rfl, rk_in hR⟩))))))
        · by_cases c4 : v3 ≤ 4
          · obtain ⟨c, hc, rfl⟩ := nI_of2 (M := 4) (n := 4) (by decide) c0 c4
            refine br_f c0 (br_t c4 (br_c (fun z => ?_) (fun z => ?_)))
            · exact br_f h0 (br_f h1 (br_f g (hlv (br_f hng (br_f c0 (br_t c4 (br_t z ⟨rfl, rk_in hR⟩)))))))
            · obtain ⟨_, ⟨e1, e2⟩, e3⟩ := (hR.2 z).2 j i hj (by omega)
              have hiy : vp_in (nI ((j * 3 + i) * 5 + c)) 600 := vp_in_nI (by omega) (by omega)
              have hY : ∀ r : Int32, yc ((j * 3 + i) * 5 + c) = r → wpY_completion (fun r' => r' = r ∧ i_Rel (k + 4) (nI M, nI S, nI ML, nI MT, nI N, nI K, rk_pd o, ph, tk, vd, kd, ar, pa, sc, la, le, tl, bd, se, wa, gv, ra, mu, ca, si, ns, ke, fz, ch) (nI M, nI S, nI ML, nI MT, nI N, ph, tk, vd, kd, ar, pa, se, nx, yk, wa, gv, ys, yw, yc)) (nI M, nI S, nI ML, nI MT, nI N, ph, tk, vd, kd, ar, pa, se, nx, yk, wa, gv, ys, yw, yc) (nI j) (nI i) (nI c) := fun r hr => by
                unfold wpY_completion
                dsimp only
                rw [rk_iz, nI_clamp (show (j * 3 + i) * 5 + c < 2 ^ 31 by omega)]
                exact br_f h0 (br_f h1 (br_f g (hlv (br_f hng (br_f c0 (br_t c4 (br_f z ⟨hiy, hr, rk_in hR⟩)))))))
              have s1 := rk_sh_m (fun k => yc ((j * 3 + i) * 5 + k)) (k := c) (by omega)
              have s2 := rk_sh_c (fun k => yc ((j * 3 + i) * 5 + k)) (k := c) (by omega)
              refine nm_r (rk_ix j i) ?_
              rw [nI_clamp (show j * 3 + i < 2 ^ 31 by omega), e1, e2]
              refine ⟨hix, br_c (fun q1 => ⟨hix, br_c (fun q2 => ?_) (fun q2 => ?_)⟩) (fun q1 => ?_)⟩
              · have := hY 0 (s2.mp q2)
                unfold wpY_completion at this
                exact this
              · have := hY 2 (by
                  rcases e3 c (by omega) with w | w | w
                  · exact absurd (s2.mpr w) q2
                  · exact absurd w (s1.mp q1)
                  · exact w)
                unfold wpY_completion at this
                exact this
              · have := hY 1 (Decidable.byContradiction (fun w => q1 (s1.mpr w)))
                unfold wpY_completion at this
                exact this
          · exact br_f c0 (br_f c4 (br_f h0 (br_f h1 (br_f g (hlv (br_f hng (br_f c0 (br_f c4 ⟨rfl, rk_in hR⟩))))))))
end
