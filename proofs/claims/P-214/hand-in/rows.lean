section
/-! pure rows to paste: stores, nI and lN arithmetic, masks, shifts, narrowing, branches by naturals (pk_le, pk_lt, pk_eq), loops (lp1 .. lp16: the measure of the state; rp1 ..: recursion), negatives. Take what you need -/
theorem pk_us {f : Nat → Int32} {k : Nat} {x : Int32} : upd f k x k = x := if_pos rfl
theorem pk_un {f : Nat → Int32} {k j : Nat} {x : Int32} (h : j ≠ k) : upd f k x j = f j := if_neg h
theorem pk_uLs {f : Nat → Int64} {k : Nat} {x : Int64} : vp_updL f k x k = x := if_pos rfl
theorem pk_uLn {f : Nat → Int64} {k j : Nat} {x : Int64} (h : j ≠ k) : vp_updL f k x j = f j := if_neg h
theorem pk_sub {a b : Nat} (h : b ≤ a) : nI a - nI b = nI (a - b) := by
  obtain ⟨c, rfl⟩ : ∃ c, a = c + b := ⟨a - b, by omega⟩
  rw [← nI_add, Int32.add_sub_cancel, Nat.add_sub_cancel]
theorem pk_m1 (n : Nat) : nI (n + 1) + (-1) = nI n := by
  rw [← nI_1, Int32.add_assoc, show (1 : Int32) + (-1) = 0 from rfl, Int32.add_zero]
theorem pk_mul (a b : Nat) : nI a * nI b = nI (a * b) := (Int32.ofNat_mul a b).symm
theorem pk_div {a d : Nat} (ha : a < 2 ^ 31) (h0 : 0 < d) (hd : d < 2 ^ 31) : nI a / nI d = nI (a / d) := by
  apply Int32.toInt_inj.mp
  rw [lg_idiv_nonneg (by rw [nI_toInt ha]; omega) (by rw [nI_toInt hd]; omega), nI_toInt ha, nI_toInt hd, nI_toInt (Nat.lt_of_le_of_lt (Nat.div_le_self a d) ha)]
  first | rfl | exact (Int.natCast_ediv _ _).symm
theorem pk_rem {a d : Nat} (ha : a < 2 ^ 31) (h0 : 0 < d) (hd : d < 2 ^ 31) : nI a - nI a / nI d * nI d = nI (a % d) := by
  rw [pk_div ha h0 hd, pk_mul, pk_sub (Nat.div_mul_le_self a d)]
  exact congrArg nI (by have := Nat.div_add_mod' a d; omega)
theorem pk_sub_toInt {a b : Nat} (ha : a < 2 ^ 30) (hb : b < 2 ^ 30) : (nI a - nI b).toInt = (a : Int) - b := by
  rw [Int32.toInt_sub, nI_toInt (by omega), nI_toInt (by omega)]
  exact Int.bmod_eq_of_le (by omega) (by omega)
theorem pk_sneg {a b : Nat} (hb : b < 2 ^ 30) (h : a < b) : nI a - nI b < 0 := by
  rw [Int32.lt_iff_toInt_lt, pk_sub_toInt (by omega) hb, show (0 : Int32).toInt = 0 from by decide]
  omega
theorem pk_ix (x : Int32) {n : Nat} (hn : n < 2 ^ 31) : x < 0 ∨ nI n ≤ x ∨ ∃ j : Nat, j < n ∧ x = nI j := by
  by_cases h : x < 0
  · exact Or.inl h
  · obtain ⟨j, hj, rfl⟩ := nI_of h
    by_cases h2 : j < n
    · exact Or.inr (Or.inr ⟨j, h2, rfl⟩)
    · exact Or.inr (Or.inl (nI_le (by omega) hj))
theorem pk_le {x y : Int32} {A B : Prop} (a b : Nat) (f : a ≤ b → A) (g : b < a → B) (hx : x = nI a := by rfl) (hy : y = nI b := by rfl) (ha : a < 2 ^ 31 := by omega) (hb : b < 2 ^ 31 := by omega) : (x ≤ y → A) ∧ (¬ x ≤ y → B) := by
  subst hx hy
  rw [nI_leI ha hb]
  exact ⟨f, fun z => g (by omega)⟩
theorem pk_lt {x y : Int32} {A B : Prop} (a b : Nat) (f : a < b → A) (g : b ≤ a → B) (hx : x = nI a := by rfl) (hy : y = nI b := by rfl) (ha : a < 2 ^ 31 := by omega) (hb : b < 2 ^ 31 := by omega) : (x < y → A) ∧ (¬ x < y → B) := by
  subst hx hy
  rw [nI_ltI ha hb]
  exact ⟨f, fun z => g (by omega)⟩
theorem pk_eq {x y : Int32} {A B : Prop} (a b : Nat) (f : a = b → A) (g : a ≠ b → B) (hx : x = nI a := by rfl) (hy : y = nI b := by rfl) (ha : a < 2 ^ 31 := by omega) (hb : b < 2 ^ 31 := by omega) : (x = y → A) ∧ (¬ x = y → B) := by
  subst hx hy
  rw [nI_eq ha hb]
  exact ⟨f, g⟩
theorem pk_in {x : Int32} (n N : Nat) (h : n < N) (hx : x = nI n := by rfl) (hN : N < 2 ^ 31 := by omega) : vp_in x N := by
  subst hx
  exact vp_in_nI h hN
theorem pk_cl {x : Int32} (n : Nat) (hx : x = nI n := by rfl) (h : n < 2 ^ 31 := by omega) : x.toNatClampNeg = n := by
  subst hx
  exact nI_clamp h
theorem pk_tn {n : Nat} (h : n < 2 ^ 32) : (nI n).toBitVec.toNat = n := Nat.mod_eq_of_lt h
theorem pk_and (x : Int32) {m : Int32} (k : Nat) (hm : m.toBitVec.toNat = 2 ^ k - 1) : x &&& m = nI (x.toBitVec.toNat % 2 ^ k) := by
  apply Int32.toBitVec_inj.mp
  apply BitVec.eq_of_toNat_eq
  rw [Int32.toBitVec_and, BitVec.toNat_and, hm, Nat.and_two_pow_sub_one_eq_mod]
  show _ = (BitVec.ofNat 32 _).toNat
  rw [BitVec.toNat_ofNat]
  exact (Nat.mod_eq_of_lt (Nat.lt_of_le_of_lt (Nat.mod_le _ _) x.toBitVec.isLt)).symm
theorem pk_andN {n : Nat} (h : n < 2 ^ 32) {m : Int32} (k : Nat) (hm : m.toBitVec.toNat = 2 ^ k - 1) : nI n &&& m = nI (n % 2 ^ k) := by
  rw [pk_and _ k hm, pk_tn h]
theorem pk_andE (x : Int32) {m : Int32} (k : Nat) (hm : m.toBitVec.toNat = 2 ^ k - 1) : ∃ j : Nat, j < 2 ^ k ∧ x &&& m = nI j := ⟨_, Nat.mod_lt _ (Nat.two_pow_pos k), pk_and x k hm⟩
theorem pk_andIn (x : Int32) {m : Int32} (k : Nat) (hm : m.toBitVec.toNat = 2 ^ k - 1) (hk : k ≤ 30) : vp_in (x &&& m) (2 ^ k) := by
  obtain ⟨j, hj, e⟩ := pk_andE x k hm
  rw [e]
  exact vp_in_nI hj (Nat.lt_of_le_of_lt (Nat.pow_le_pow_right (by decide) hk) (by decide))
theorem pk_shl (a s : Int32) (k : Nat) (hs : (s.toBitVec.smod 32).toNat = k) : (a <<< s).toBitVec.toNat = a.toBitVec.toNat * 2 ^ k % 2 ^ 32 := by
  show (a.toBitVec <<< (s.toBitVec.smod 32).toNat).toNat = _
  rw [hs, BitVec.toNat_shiftLeft, Nat.shiftLeft_eq]
theorem pk_shlN {n : Nat} (s : Int32) (k : Nat) (hs : (s.toBitVec.smod 32).toNat = k) (h : n * 2 ^ k < 2 ^ 32) : nI n <<< s = nI (n * 2 ^ k) := by
  apply Int32.toBitVec_inj.mp
  apply BitVec.eq_of_toNat_eq
  have hn : n < 2 ^ 32 := Nat.lt_of_le_of_lt (Nat.le_mul_of_pos_right n (Nat.two_pow_pos k)) h
  rw [pk_shl _ _ k hs, pk_tn hn, pk_tn h, Nat.mod_eq_of_lt h]
theorem pk_shr (a s : Int32) (k : Nat) (hs : (s.toBitVec.smod 32).toNat = k) : (a >>> s).toInt = a.toInt >>> k := by
  show (a.toBitVec.sshiftRight (s.toBitVec.smod 32).toNat).toInt = _
  rw [hs, BitVec.toInt_sshiftRight]
  rfl
theorem pk_shrN {n : Nat} (h : n < 2 ^ 31) (s : Int32) (k : Nat) (hs : (s.toBitVec.smod 32).toNat = k) : nI n >>> s = nI (n / 2 ^ k) := by
  apply Int32.toInt_inj.mp
  have h2 : n / 2 ^ k ≤ n := Nat.div_le_self _ _
  rw [pk_shr _ _ k hs, nI_toInt h, nI_toInt (by omega), Int.shiftRight_eq_div_pow]
  rfl
theorem pk_ushr (x s : Int32) (k : Nat) (hs : ((s.toUInt32 &&& Int32.toUInt32 31).toBitVec % 32).toNat = k) : (x.toUInt32 >>> (s.toUInt32 &&& Int32.toUInt32 31)).toInt32.toBitVec.toNat = x.toBitVec.toNat / 2 ^ k := by
  have e : (x.toUInt32 >>> (s.toUInt32 &&& Int32.toUInt32 31)).toInt32.toBitVec = x.toBitVec >>> k := by
    rw [← hs]
    exact UInt32.toBitVec_shiftRight _ _
  rw [e, BitVec.toNat_ushiftRight, Nat.shiftRight_eq_div_pow]
theorem pk_ushrN {n : Nat} (hn : n < 2 ^ 32) (s : Int32) (k : Nat) (hs : ((s.toUInt32 &&& Int32.toUInt32 31).toBitVec % 32).toNat = k) : ((nI n).toUInt32 >>> (s.toUInt32 &&& Int32.toUInt32 31)).toInt32 = nI (n / 2 ^ k) := by
  apply Int32.toBitVec_inj.mp
  apply BitVec.eq_of_toNat_eq
  rw [pk_ushr _ s k hs, pk_tn hn, pk_tn (Nat.lt_of_le_of_lt (Nat.div_le_self _ _) hn)]
theorem pk_nb (z : Int32) : narrow .byte (.int z.toInt8.toInt32) = .int z.toInt8.toInt32 := congrArg Value.int (by simp)
theorem pk_ns (z : Int32) : narrow .short (.int z.toInt16.toInt32) = .int z.toInt16.toInt32 := congrArg Value.int (by simp)
theorem pk_fb (r : Int32) : fits .byte (.int r.toInt8.toInt32) = true := by
  have ⟨a, b⟩ := lg_i2b_range r
  have h1 : (-128 : Int32).toInt = -128 := by decide
  have h2 : (127 : Int32).toInt = 127 := by decide
  simp only [fits, Bool.and_eq_true, decide_eq_true_eq, Int32.le_iff_toInt_le, h1, h2]
  omega
theorem pk_fs (r : Int32) : fits .short (.int r.toInt16.toInt32) = true := by
  have ⟨a, b⟩ := lg_i2s_range r
  have h1 : (-32768 : Int32).toInt = -32768 := by decide
  have h2 : (32767 : Int32).toInt = 32767 := by decide
  simp only [fits, Bool.and_eq_true, decide_eq_true_eq, Int32.le_iff_toInt_le, h1, h2]
  omega
theorem pk_charN {q : Nat} (hq : q < 65536) : narrow .char (.int (nI q)) = .int (nI q) ∧ fits .char (.int (nI q)) = true := by
  constructor
  · have e : (nI q).toUInt32.toUInt16.toUInt32.toInt32 = nI q := by
      apply Int32.toBitVec_inj.mp
      apply BitVec.eq_of_toNat_eq
      show (nI q).toUInt32.toUInt16.toUInt32.toNat = q % 2 ^ 32
      rw [UInt16.toNat_toUInt32, UInt32.toNat_toUInt16, show (nI q).toUInt32.toNat = q % 2 ^ 32 from rfl]
      omega
    exact congrArg Value.int e
  · have a : (0 : Int32) ≤ nI q := nI_pos' (by omega)
    have b : nI q ≤ 65535 := nI_le (b := 65535) (by omega) (by decide)
    show (decide ((0 : Int32) ≤ nI q) && decide (nI q ≤ 65535)) = true
    rw [decide_eq_true a, decide_eq_true b]
    rfl
theorem pk_char (x : Int32) : (x.toUInt32 % 65536).toInt32 = nI (x.toBitVec.toNat % 65536) := by
  apply Int32.toBitVec_inj.mp
  apply BitVec.eq_of_toNat_eq
  rw [pk_tn (by omega)]
  show (x.toUInt32 % 65536).toNat = _
  rw [UInt32.toNat_mod]
  rfl
theorem pk_nc (x : Int32) : narrow .char (.int (x.toUInt32 % 65536).toInt32) = .int (x.toUInt32 % 65536).toInt32 := by
  rw [pk_char]
  exact (pk_charN (Nat.mod_lt _ (by decide))).1
theorem pk_fc (x : Int32) : fits .char (.int (x.toUInt32 % 65536).toInt32) = true := by
  rw [pk_char]
  exact (pk_charN (Nat.mod_lt _ (by decide))).2
theorem pk_vb (z : Int32) : vp_nar .byte z.toInt8.toInt32 = z.toInt8.toInt32 := by rw [vp_nar_byte]; simp
theorem pk_vs (z : Int32) : vp_nar .short z.toInt16.toInt32 = z.toInt16.toInt32 := by rw [vp_nar_short]; simp
theorem pk_vc (z : Int32) : vp_nar .char (z.toUInt32 % 65536).toInt32 = (z.toUInt32 % 65536).toInt32 := Value.int.inj (pk_nc z)
theorem pk_lT {n : Nat} (h : n < 2 ^ 63) : (lN n).toInt = (n : Int) := lg_ofNat_toInt h
theorem pk_lLT {a b : Nat} (ha : a < 2 ^ 63) (hb : b < 2 ^ 63) : lN a < lN b ↔ a < b := by
  rw [Int64.lt_iff_toInt_lt, pk_lT ha, pk_lT hb]; omega
theorem pk_lLE {a b : Nat} (ha : a < 2 ^ 63) (hb : b < 2 ^ 63) : lN a ≤ lN b ↔ a ≤ b := by
  rw [Int64.le_iff_toInt_le, pk_lT ha, pk_lT hb]; omega
theorem pk_lEQ {a b : Nat} (ha : a < 2 ^ 63) (hb : b < 2 ^ 63) : lN a = lN b ↔ a = b := by
  rw [← Int64.toInt_inj, pk_lT ha, pk_lT hb]; omega
theorem pk_lOf {x : Int64} (h : ¬ x < 0) : ∃ k : Nat, k < 2 ^ 63 ∧ x = lN k := by
  rw [Int64.lt_iff_toInt_lt] at h
  have h0 : (0 : Int64).toInt = 0 := by decide
  have hx := Int64.toInt_lt x
  refine ⟨x.toInt.toNat, by omega, Int64.toInt_inj.mp ?_⟩
  rw [pk_lT (by omega)]
  omega
theorem pk_lDiv {a b : Nat} (ha : a < 2 ^ 63) (h0 : 0 < b) (hb : b < 2 ^ 63) : lN a / lN b = lN (a / b) := by
  apply Int64.toInt_inj.mp
  rw [lg_ldiv_nonneg (by rw [pk_lT ha]; omega) (by rw [pk_lT hb]; omega), pk_lT ha, pk_lT hb, pk_lT (Nat.lt_of_le_of_lt (Nat.div_le_self a b) ha)]
  rfl
theorem pk_lRem {a b : Nat} (ha : a < 2 ^ 63) (h0 : 0 < b) (hb : b < 2 ^ 63) : lN a - lN a / lN b * lN b = lN (a % b) := by
  rw [pk_lDiv ha h0 hb, lN_mul, lN_sub (Nat.div_mul_le_self a b)]
  exact congrArg lN (by have := Nat.div_add_mod' a b; omega)
theorem pk_loop {σ : Type} (W : Nat → Nat → σ → Prop) (I : Nat → σ → Prop) (e i0 : Nat) (s : σ) (hi : i0 ≤ e) (h0 : I i0 s) (hx : ∀ n s, I e s → W (n + 1) e s)
    (hs : ∀ n i s, i < e → I i s → (∀ s', I (i + 1) s' → W n (i + 1) s') → W (n + 1) i s) : ∃ n, W n i0 s :=
  ⟨e + 1, loop_i W I e hx hs (e + 1) i0 s hi (by omega) h0⟩
theorem pk_loopD {σ : Type} (W : Nat → Nat → σ → Prop) (I : Nat → σ → Prop) (hx : ∀ n s, I 0 s → W (n + 1) 0 s)
    (hs : ∀ n i s, I (i + 1) s → (∀ s', I i s' → W n i s') → W (n + 1) (i + 1) s) : ∀ (e : Nat) (s : σ), I e s → W (e + 1) e s := by
  intro e
  induction e with
  | zero => exact fun s h => hx 0 s h
  | succ e ih => exact fun s h => hs (e + 1) e s h (fun s' h' => ih s' h')
theorem lp1 {A1 : Type} (W : Nat → A1 → Prop) (I : A1 → Prop) (μ : A1 → Nat) (hs : ∀ (n : Nat) (a1 : A1), I a1 → (∀ (b1 : A1), I b1 → μ b1 < μ a1 → W n b1) → W (n + 1) a1) (a1 : A1) (h : I a1) : ∃ n, W n a1 :=
  loop_m (σ := A1) (fun n s => W n s) (fun s => I s) (fun s => μ s) (fun n s hI hk => hs n s hI (fun b1 h9 hm => hk b1 h9 hm)) a1 h
theorem lp2 {A1 A2 : Type} (W : Nat → A1 → A2 → Prop) (I : A1 → A2 → Prop) (μ : A1 → A2 → Nat) (hs : ∀ (n : Nat) (a1 : A1) (a2 : A2), I a1 a2 → (∀ (b1 : A1) (b2 : A2), I b1 b2 → μ b1 b2 < μ a1 a2 → W n b1 b2) → W (n + 1) a1 a2) (a1 : A1) (a2 : A2) (h : I a1 a2) : ∃ n, W n a1 a2 :=
  loop_m (σ := A1 × A2) (fun n s => W n s.1 s.2) (fun s => I s.1 s.2) (fun s => μ s.1 s.2) (fun n s hI hk => hs n s.1 s.2 hI (fun b1 b2 h9 hm => hk (b1, b2) h9 hm)) (a1, a2) h
theorem lp3 {A1 A2 A3 : Type} (W : Nat → A1 → A2 → A3 → Prop) (I : A1 → A2 → A3 → Prop) (μ : A1 → A2 → A3 → Nat) (hs : ∀ (n : Nat) (a1 : A1) (a2 : A2) (a3 : A3), I a1 a2 a3 → (∀ (b1 : A1) (b2 : A2) (b3 : A3), I b1 b2 b3 → μ b1 b2 b3 < μ a1 a2 a3 → W n b1 b2 b3) → W (n + 1) a1 a2 a3) (a1 : A1) (a2 : A2) (a3 : A3) (h : I a1 a2 a3) : ∃ n, W n a1 a2 a3 :=
  loop_m (σ := A1 × A2 × A3) (fun n s => W n s.1 s.2.1 s.2.2) (fun s => I s.1 s.2.1 s.2.2) (fun s => μ s.1 s.2.1 s.2.2) (fun n s hI hk => hs n s.1 s.2.1 s.2.2 hI (fun b1 b2 b3 h9 hm => hk (b1, b2, b3) h9 hm)) (a1, a2, a3) h
theorem lp4 {A1 A2 A3 A4 : Type} (W : Nat → A1 → A2 → A3 → A4 → Prop) (I : A1 → A2 → A3 → A4 → Prop) (μ : A1 → A2 → A3 → A4 → Nat) (hs : ∀ (n : Nat) (a1 : A1) (a2 : A2) (a3 : A3) (a4 : A4), I a1 a2 a3 a4 → (∀ (b1 : A1) (b2 : A2) (b3 : A3) (b4 : A4), I b1 b2 b3 b4 → μ b1 b2 b3 b4 < μ a1 a2 a3 a4 → W n b1 b2 b3 b4) → W (n + 1) a1 a2 a3 a4) (a1 : A1) (a2 : A2) (a3 : A3) (a4 : A4) (h : I a1 a2 a3 a4) : ∃ n, W n a1 a2 a3 a4 :=
  loop_m (σ := A1 × A2 × A3 × A4) (fun n s => W n s.1 s.2.1 s.2.2.1 s.2.2.2) (fun s => I s.1 s.2.1 s.2.2.1 s.2.2.2) (fun s => μ s.1 s.2.1 s.2.2.1 s.2.2.2) (fun n s hI hk => hs n s.1 s.2.1 s.2.2.1 s.2.2.2 hI (fun b1 b2 b3 b4 h9 hm => hk (b1, b2, b3, b4) h9 hm)) (a1, a2, a3, a4) h
theorem lp5 {A1 A2 A3 A4 A5 : Type} (W : Nat → A1 → A2 → A3 → A4 → A5 → Prop) (I : A1 → A2 → A3 → A4 → A5 → Prop) (μ : A1 → A2 → A3 → A4 → A5 → Nat) (hs : ∀ (n : Nat) (a1 : A1) (a2 : A2) (a3 : A3) (a4 : A4) (a5 : A5), I a1 a2 a3 a4 a5 → (∀ (b1 : A1) (b2 : A2) (b3 : A3) (b4 : A4) (b5 : A5), I b1 b2 b3 b4 b5 → μ b1 b2 b3 b4 b5 < μ a1 a2 a3 a4 a5 → W n b1 b2 b3 b4 b5) → W (n + 1) a1 a2 a3 a4 a5) (a1 : A1) (a2 : A2) (a3 : A3) (a4 : A4) (a5 : A5) (h : I a1 a2 a3 a4 a5) : ∃ n, W n a1 a2 a3 a4 a5 :=
  loop_m (σ := A1 × A2 × A3 × A4 × A5) (fun n s => W n s.1 s.2.1 s.2.2.1 s.2.2.2.1 s.2.2.2.2) (fun s => I s.1 s.2.1 s.2.2.1 s.2.2.2.1 s.2.2.2.2) (fun s => μ s.1 s.2.1 s.2.2.1 s.2.2.2.1 s.2.2.2.2) (fun n s hI hk => hs n s.1 s.2.1 s.2.2.1 s.2.2.2.1 s.2.2.2.2 hI (fun b1 b2 b3 b4 b5 h9 hm => hk (b1, b2, b3, b4, b5) h9 hm)) (a1, a2, a3, a4, a5) h
theorem lp6 {A1 A2 A3 A4 A5 A6 : Type} (W : Nat → A1 → A2 → A3 → A4 → A5 → A6 → Prop) (I : A1 → A2 → A3 → A4 → A5 → A6 → Prop) (μ : A1 → A2 → A3 → A4 → A5 → A6 → Nat) (hs : ∀ (n : Nat) (a1 : A1) (a2 : A2) (a3 : A3) (a4 : A4) (a5 : A5) (a6 : A6), I a1 a2 a3 a4 a5 a6 → (∀ (b1 : A1) (b2 : A2) (b3 : A3) (b4 : A4) (b5 : A5) (b6 : A6), I b1 b2 b3 b4 b5 b6 → μ b1 b2 b3 b4 b5 b6 < μ a1 a2 a3 a4 a5 a6 → W n b1 b2 b3 b4 b5 b6) → W (n + 1) a1 a2 a3 a4 a5 a6) (a1 : A1) (a2 : A2) (a3 : A3) (a4 : A4) (a5 : A5) (a6 : A6) (h : I a1 a2 a3 a4 a5 a6) : ∃ n, W n a1 a2 a3 a4 a5 a6 :=
  loop_m (σ := A1 × A2 × A3 × A4 × A5 × A6) (fun n s => W n s.1 s.2.1 s.2.2.1 s.2.2.2.1 s.2.2.2.2.1 s.2.2.2.2.2) (fun s => I s.1 s.2.1 s.2.2.1 s.2.2.2.1 s.2.2.2.2.1 s.2.2.2.2.2) (fun s => μ s.1 s.2.1 s.2.2.1 s.2.2.2.1 s.2.2.2.2.1 s.2.2.2.2.2) (fun n s hI hk => hs n s.1 s.2.1 s.2.2.1 s.2.2.2.1 s.2.2.2.2.1 s.2.2.2.2.2 hI (fun b1 b2 b3 b4 b5 b6 h9 hm => hk (b1, b2, b3, b4, b5, b6) h9 hm)) (a1, a2, a3, a4, a5, a6) h
theorem lp7 {A1 A2 A3 A4 A5 A6 A7 : Type} (W : Nat → A1 → A2 → A3 → A4 → A5 → A6 → A7 → Prop) (I : A1 → A2 → A3 → A4 → A5 → A6 → A7 → Prop) (μ : A1 → A2 → A3 → A4 → A5 → A6 → A7 → Nat) (hs : ∀ (n : Nat) (a1 : A1) (a2 : A2) (a3 : A3) (a4 : A4) (a5 : A5) (a6 : A6) (a7 : A7), I a1 a2 a3 a4 a5 a6 a7 → (∀ (b1 : A1) (b2 : A2) (b3 : A3) (b4 : A4) (b5 : A5) (b6 : A6) (b7 : A7), I b1 b2 b3 b4 b5 b6 b7 → μ b1 b2 b3 b4 b5 b6 b7 < μ a1 a2 a3 a4 a5 a6 a7 → W n b1 b2 b3 b4 b5 b6 b7) → W (n + 1) a1 a2 a3 a4 a5 a6 a7) (a1 : A1) (a2 : A2) (a3 : A3) (a4 : A4) (a5 : A5) (a6 : A6) (a7 : A7) (h : I a1 a2 a3 a4 a5 a6 a7) : ∃ n, W n a1 a2 a3 a4 a5 a6 a7 :=
  loop_m (σ := A1 × A2 × A3 × A4 × A5 × A6 × A7) (fun n s => W n s.1 s.2.1 s.2.2.1 s.2.2.2.1 s.2.2.2.2.1 s.2.2.2.2.2.1 s.2.2.2.2.2.2) (fun s => I s.1 s.2.1 s.2.2.1 s.2.2.2.1 s.2.2.2.2.1 s.2.2.2.2.2.1 s.2.2.2.2.2.2) (fun s => μ s.1 s.2.1 s.2.2.1 s.2.2.2.1 s.2.2.2.2.1 s.2.2.2.2.2.1 s.2.2.2.2.2.2) (fun n s hI hk => hs n s.1 s.2.1 s.2.2.1 s.2.2.2.1 s.2.2.2.2.1 s.2.2.2.2.2.1 s.2.2.2.2.2.2 hI (fun b1 b2 b3 b4 b5 b6 b7 h9 hm => hk (b1, b2, b3, b4, b5, b6, b7) h9 hm)) (a1, a2, a3, a4, a5, a6, a7) h
theorem lp8 {A1 A2 A3 A4 A5 A6 A7 A8 : Type} (W : Nat → A1 → A2 → A3 → A4 → A5 → A6 → A7 → A8 → Prop) (I : A1 → A2 → A3 → A4 → A5 → A6 → A7 → A8 → Prop) (μ : A1 → A2 → A3 → A4 → A5 → A6 → A7 → A8 → Nat) (hs : ∀ (n : Nat) (a1 : A1) (a2 : A2) (a3 : A3) (a4 : A4) (a5 : A5) (a6 : A6) (a7 : A7) (a8 : A8), I a1 a2 a3 a4 a5 a6 a7 a8 → (∀ (b1 : A1) (b2 : A2) (b3 : A3) (b4 : A4) (b5 : A5) (b6 : A6) (b7 : A7) (b8 : A8), I b1 b2 b3 b4 b5 b6 b7 b8 → μ b1 b2 b3 b4 b5 b6 b7 b8 < μ a1 a2 a3 a4 a5 a6 a7 a8 → W n b1 b2 b3 b4 b5 b6 b7 b8) → W (n + 1) a1 a2 a3 a4 a5 a6 a7 a8) (a1 : A1) (a2 : A2) (a3 : A3) (a4 : A4) (a5 : A5) (a6 : A6) (a7 : A7) (a8 : A8) (h : I a1 a2 a3 a4 a5 a6 a7 a8) : ∃ n, W n a1 a2 a3 a4 a5 a6 a7 a8 :=
  loop_m (σ := A1 × A2 × A3 × A4 × A5 × A6 × A7 × A8) (fun n s => W n s.1 s.2.1 s.2.2.1 s.2.2.2.1 s.2.2.2.2.1 s.2.2.2.2.2.1 s.2.2.2.2.2.2.1 s.2.2.2.2.2.2.2) (fun s => I s.1 s.2.1 s.2.2.1 s.2.2.2.1 s.2.2.2.2.1 s.2.2.2.2.2.1 s.2.2.2.2.2.2.1 s.2.2.2.2.2.2.2) (fun s => μ s.1 s.2.1 s.2.2.1 s.2.2.2.1 s.2.2.2.2.1 s.2.2.2.2.2.1 s.2.2.2.2.2.2.1 s.2.2.2.2.2.2.2) (fun n s hI hk => hs n s.1 s.2.1 s.2.2.1 s.2.2.2.1 s.2.2.2.2.1 s.2.2.2.2.2.1 s.2.2.2.2.2.2.1 s.2.2.2.2.2.2.2 hI (fun b1 b2 b3 b4 b5 b6 b7 b8 h9 hm => hk (b1, b2, b3, b4, b5, b6, b7, b8) h9 hm)) (a1, a2, a3, a4, a5, a6, a7, a8) h
theorem lp9 {A1 A2 A3 A4 A5 A6 A7 A8 A9 : Type} (W : Nat → A1 → A2 → A3 → A4 → A5 → A6 → A7 → A8 → A9 → Prop) (I : A1 → A2 → A3 → A4 → A5 → A6 → A7 → A8 → A9 → Prop) (μ : A1 → A2 → A3 → A4 → A5 → A6 → A7 → A8 → A9 → Nat) (hs : ∀ (n : Nat) (a1 : A1) (a2 : A2) (a3 : A3) (a4 : A4) (a5 : A5) (a6 : A6) (a7 : A7) (a8 : A8) (a9 : A9), I a1 a2 a3 a4 a5 a6 a7 a8 a9 → (∀ (b1 : A1) (b2 : A2) (b3 : A3) (b4 : A4) (b5 : A5) (b6 : A6) (b7 : A7) (b8 : A8) (b9 : A9), I b1 b2 b3 b4 b5 b6 b7 b8 b9 → μ b1 b2 b3 b4 b5 b6 b7 b8 b9 < μ a1 a2 a3 a4 a5 a6 a7 a8 a9 → W n b1 b2 b3 b4 b5 b6 b7 b8 b9) → W (n + 1) a1 a2 a3 a4 a5 a6 a7 a8 a9) (a1 : A1) (a2 : A2) (a3 : A3) (a4 : A4) (a5 : A5) (a6 : A6) (a7 : A7) (a8 : A8) (a9 : A9) (h : I a1 a2 a3 a4 a5 a6 a7 a8 a9) : ∃ n, W n a1 a2 a3 a4 a5 a6 a7 a8 a9 :=
  loop_m (σ := A1 × A2 × A3 × A4 × A5 × A6 × A7 × A8 × A9) (fun n s => W n s.1 s.2.1 s.2.2.1 s.2.2.2.1 s.2.2.2.2.1 s.2.2.2.2.2.1 s.2.2.2.2.2.2.1 s.2.2.2.2.2.2.2.1 s.2.2.2.2.2.2.2.2) (fun s => I s.1 s.2.1 s.2.2.1 s.2.2.2.1 s.2.2.2.2.1 s.2.2.2.2.2.1 s.2.2.2.2.2.2.1 s.2.2.2.2.2.2.2.1 s.2.2.2.2.2.2.2.2) (fun s => μ s.1 s.2.1 s.2.2.1 s.2.2.2.1 s.2.2.2.2.1 s.2.2.2.2.2.1 s.2.2.2.2.2.2.1 s.2.2.2.2.2.2.2.1 s.2.2.2.2.2.2.2.2) (fun n s hI hk => hs n s.1 s.2.1 s.2.2.1 s.2.2.2.1 s.2.2.2.2.1 s.2.2.2.2.2.1 s.2.2.2.2.2.2.1 s.2.2.2.2.2.2.2.1 s.2.2.2.2.2.2.2.2 hI (fun b1 b2 b3 b4 b5 b6 b7 b8 b9 h9 hm => hk (b1, b2, b3, b4, b5, b6, b7, b8, b9) h9 hm)) (a1, a2, a3, a4, a5, a6, a7, a8, a9) h
theorem lp10 {A1 A2 A3 A4 A5 A6 A7 A8 A9 A10 : Type} (W : Nat → A1 → A2 → A3 → A4 → A5 → A6 → A7 → A8 → A9 → A10 → Prop) (I : A1 → A2 → A3 → A4 → A5 → A6 → A7 → A8 → A9 → A10 → Prop) (μ : A1 → A2 → A3 → A4 → A5 → A6 → A7 → A8 → A9 → A10 → Nat) (hs : ∀ (n : Nat) (a1 : A1) (a2 : A2) (a3 : A3) (a4 : A4) (a5 : A5) (a6 : A6) (a7 : A7) (a8 : A8) (a9 : A9) (a10 : A10), I a1 a2 a3 a4 a5 a6 a7 a8 a9 a10 → (∀ (b1 : A1) (b2 : A2) (b3 : A3) (b4 : A4) (b5 : A5) (b6 : A6) (b7 : A7) (b8 : A8) (b9 : A9) (b10 : A10), I b1 b2 b3 b4 b5 b6 b7 b8 b9 b10 → μ b1 b2 b3 b4 b5 b6 b7 b8 b9 b10 < μ a1 a2 a3 a4 a5 a6 a7 a8 a9 a10 → W n b1 b2 b3 b4 b5 b6 b7 b8 b9 b10) → W (n + 1) a1 a2 a3 a4 a5 a6 a7 a8 a9 a10) (a1 : A1) (a2 : A2) (a3 : A3) (a4 : A4) (a5 : A5) (a6 : A6) (a7 : A7) (a8 : A8) (a9 : A9) (a10 : A10) (h : I a1 a2 a3 a4 a5 a6 a7 a8 a9 a10) : ∃ n, W n a1 a2 a3 a4 a5 a6 a7 a8 a9 a10 :=
  loop_m (σ := A1 × A2 × A3 × A4 × A5 × A6 × A7 × A8 × A9 × A10) (fun n s => W n s.1 s.2.1 s.2.2.1 s.2.2.2.1 s.2.2.2.2.1 s.2.2.2.2.2.1 s.2.2.2.2.2.2.1 s.2.2.2.2.2.2.2.1 s.2.2.2.2.2.2.2.2.1 s.2.2.2.2.2.2.2.2.2) (fun s => I s.1 s.2.1 s.2.2.1 s.2.2.2.1 s.2.2.2.2.1 s.2.2.2.2.2.1 s.2.2.2.2.2.2.1 s.2.2.2.2.2.2.2.1 s.2.2.2.2.2.2.2.2.1 s.2.2.2.2.2.2.2.2.2) (fun s => μ s.1 s.2.1 s.2.2.1 s.2.2.2.1 s.2.2.2.2.1 s.2.2.2.2.2.1 s.2.2.2.2.2.2.1 s.2.2.2.2.2.2.2.1 s.2.2.2.2.2.2.2.2.1 s.2.2.2.2.2.2.2.2.2) (fun n s hI hk => hs n s.1 s.2.1 s.2.2.1 s.2.2.2.1 s.2.2.2.2.1 s.2.2.2.2.2.1 s.2.2.2.2.2.2.1 s.2.2.2.2.2.2.2.1 s.2.2.2.2.2.2.2.2.1 s.2.2.2.2.2.2.2.2.2 hI (fun b1 b2 b3 b4 b5 b6 b7 b8 b9 b10 h9 hm => hk (b1, b2, b3, b4, b5, b6, b7, b8, b9, b10) h9 hm)) (a1, a2, a3, a4, a5, a6, a7, a8, a9, a10) h
theorem lp11 {A1 A2 A3 A4 A5 A6 A7 A8 A9 A10 A11 : Type} (W : Nat → A1 → A2 → A3 → A4 → A5 → A6 → A7 → A8 → A9 → A10 → A11 → Prop) (I : A1 → A2 → A3 → A4 → A5 → A6 → A7 → A8 → A9 → A10 → A11 → Prop) (μ : A1 → A2 → A3 → A4 → A5 → A6 → A7 → A8 → A9 → A10 → A11 → Nat) (hs : ∀ (n : Nat) (a1 : A1) (a2 : A2) (a3 : A3) (a4 : A4) (a5 : A5) (a6 : A6) (a7 : A7) (a8 : A8) (a9 : A9) (a10 : A10) (a11 : A11), I a1 a2 a3 a4 a5 a6 a7 a8 a9 a10 a11 → (∀ (b1 : A1) (b2 : A2) (b3 : A3) (b4 : A4) (b5 : A5) (b6 : A6) (b7 : A7) (b8 : A8) (b9 : A9) (b10 : A10) (b11 : A11), I b1 b2 b3 b4 b5 b6 b7 b8 b9 b10 b11 → μ b1 b2 b3 b4 b5 b6 b7 b8 b9 b10 b11 < μ a1 a2 a3 a4 a5 a6 a7 a8 a9 a10 a11 → W n b1 b2 b3 b4 b5 b6 b7 b8 b9 b10 b11) → W (n + 1) a1 a2 a3 a4 a5 a6 a7 a8 a9 a10 a11) (a1 : A1) (a2 : A2) (a3 : A3) (a4 : A4) (a5 : A5) (a6 : A6) (a7 : A7) (a8 : A8) (a9 : A9) (a10 : A10) (a11 : A11) (h : I a1 a2 a3 a4 a5 a6 a7 a8 a9 a10 a11) : ∃ n, W n a1 a2 a3 a4 a5 a6 a7 a8 a9 a10 a11 :=
  loop_m (σ := A1 × A2 × A3 × A4 × A5 × A6 × A7 × A8 × A9 × A10 × A11) (fun n s => W n s.1 s.2.1 s.2.2.1 s.2.2.2.1 s.2.2.2.2.1 s.2.2.2.2.2.1 s.2.2.2.2.2.2.1 s.2.2.2.2.2.2.2.1 s.2.2.2.2.2.2.2.2.1 s.2.2.2.2.2.2.2.2.2.1 s.2.2.2.2.2.2.2.2.2.2) (fun s => I s.1 s.2.1 s.2.2.1 s.2.2.2.1 s.2.2.2.2.1 s.2.2.2.2.2.1 s.2.2.2.2.2.2.1 s.2.2.2.2.2.2.2.1 s.2.2.2.2.2.2.2.2.1 s.2.2.2.2.2.2.2.2.2.1 s.2.2.2.2.2.2.2.2.2.2) (fun s => μ s.1 s.2.1 s.2.2.1 s.2.2.2.1 s.2.2.2.2.1 s.2.2.2.2.2.1 s.2.2.2.2.2.2.1 s.2.2.2.2.2.2.2.1 s.2.2.2.2.2.2.2.2.1 s.2.2.2.2.2.2.2.2.2.1 s.2.2.2.2.2.2.2.2.2.2) (fun n s hI hk => hs n s.1 s.2.1 s.2.2.1 s.2.2.2.1 s.2.2.2.2.1 s.2.2.2.2.2.1 s.2.2.2.2.2.2.1 s.2.2.2.2.2.2.2.1 s.2.2.2.2.2.2.2.2.1 s.2.2.2.2.2.2.2.2.2.1 s.2.2.2.2.2.2.2.2.2.2 hI (fun b1 b2 b3 b4 b5 b6 b7 b8 b9 b10 b11 h9 hm => hk (b1, b2, b3, b4, b5, b6, b7, b8, b9, b10, b11) h9 hm)) (a1, a2, a3, a4, a5, a6, a7, a8, a9, a10, a11) h
theorem lp12 {A1 A2 A3 A4 A5 A6 A7 A8 A9 A10 A11 A12 : Type} (W : Nat → A1 → A2 → A3 → A4 → A5 → A6 → A7 → A8 → A9 → A10 → A11 → A12 → Prop) (I : A1 → A2 → A3 → A4 → A5 → A6 → A7 → A8 → A9 → A10 → A11 → A12 → Prop) (μ : A1 → A2 → A3 → A4 → A5 → A6 → A7 → A8 → A9 → A10 → A11 → A12 → Nat) (hs : ∀ (n : Nat) (a1 : A1) (a2 : A2) (a3 : A3) (a4 : A4) (a5 : A5) (a6 : A6) (a7 : A7) (a8 : A8) (a9 : A9) (a10 : A10) (a11 : A11) (a12 : A12), I a1 a2 a3 a4 a5 a6 a7 a8 a9 a10 a11 a12 → (∀ (b1 : A1) (b2 : A2) (b3 : A3) (b4 : A4) (b5 : A5) (b6 : A6) (b7 : A7) (b8 : A8) (b9 : A9) (b10 : A10) (b11 : A11) (b12 : A12), I b1 b2 b3 b4 b5 b6 b7 b8 b9 b10 b11 b12 → μ b1 b2 b3 b4 b5 b6 b7 b8 b9 b10 b11 b12 < μ a1 a2 a3 a4 a5 a6 a7 a8 a9 a10 a11 a12 → W n b1 b2 b3 b4 b5 b6 b7 b8 b9 b10 b11 b12) → W (n + 1) a1 a2 a3 a4 a5 a6 a7 a8 a9 a10 a11 a12) (a1 : A1) (a2 : A2) (a3 : A3) (a4 : A4) (a5 : A5) (a6 : A6) (a7 : A7) (a8 : A8) (a9 : A9) (a10 : A10) (a11 : A11) (a12 : A12) (h : I a1 a2 a3 a4 a5 a6 a7 a8 a9 a10 a11 a12) : ∃ n, W n a1 a2 a3 a4 a5 a6 a7 a8 a9 a10 a11 a12 :=
  loop_m (σ := A1 × A2 × A3 × A4 × A5 × A6 × A7 × A8 × A9 × A10 × A11 × A12) (fun n s => W n s.1 s.2.1 s.2.2.1 s.2.2.2.1 s.2.2.2.2.1 s.2.2.2.2.2.1 s.2.2.2.2.2.2.1 s.2.2.2.2.2.2.2.1 s.2.2.2.2.2.2.2.2.1 s.2.2.2.2.2.2.2.2.2.1 s.2.2.2.2.2.2.2.2.2.2.1 s.2.2.2.2.2.2.2.2.2.2.2) (fun s => I s.1 s.2.1 s.2.2.1 s.2.2.2.1 s.2.2.2.2.1 s.2.2.2.2.2.1 s.2.2.2.2.2.2.1 s.2.2.2.2.2.2.2.1 s.2.2.2.2.2.2.2.2.1 s.2.2.2.2.2.2.2.2.2.1 s.2.2.2.2.2.2.2.2.2.2.1 s.2.2.2.2.2.2.2.2.2.2.2) (fun s => μ s.1 s.2.1 s.2.2.1 s.2.2.2.1 s.2.2.2.2.1 s.2.2.2.2.2.1 s.2.2.2.2.2.2.1 s.2.2.2.2.2.2.2.1 s.2.2.2.2.2.2.2.2.1 s.2.2.2.2.2.2.2.2.2.1 s.2.2.2.2.2.2.2.2.2.2.1 s.2.2.2.2.2.2.2.2.2.2.2) (fun n s hI hk => hs n s.1 s.2.1 s.2.2.1 s.2.2.2.1 s.2.2.2.2.1 s.2.2.2.2.2.1 s.2.2.2.2.2.2.1 s.2.2.2.2.2.2.2.1 s.2.2.2.2.2.2.2.2.1 s.2.2.2.2.2.2.2.2.2.1 s.2.2.2.2.2.2.2.2.2.2.1 s.2.2.2.2.2.2.2.2.2.2.2 hI (fun b1 b2 b3 b4 b5 b6 b7 b8 b9 b10 b11 b12 h9 hm => hk (b1, b2, b3, b4, b5, b6, b7, b8, b9, b10, b11, b12) h9 hm)) (a1, a2, a3, a4, a5, a6, a7, a8, a9, a10, a11, a12) h
theorem lp13 {A1 A2 A3 A4 A5 A6 A7 A8 A9 A10 A11 A12 A13 : Type} (W : Nat → A1 → A2 → A3 → A4 → A5 → A6 → A7 → A8 → A9 → A10 → A11 → A12 → A13 → Prop) (I : A1 → A2 → A3 → A4 → A5 → A6 → A7 → A8 → A9 → A10 → A11 → A12 → A13 → Prop) (μ : A1 → A2 → A3 → A4 → A5 → A6 → A7 → A8 → A9 → A10 → A11 → A12 → A13 → Nat) (hs : ∀ (n : Nat) (a1 : A1) (a2 : A2) (a3 : A3) (a4 : A4) (a5 : A5) (a6 : A6) (a7 : A7) (a8 : A8) (a9 : A9) (a10 : A10) (a11 : A11) (a12 : A12) (a13 : A13), I a1 a2 a3 a4 a5 a6 a7 a8 a9 a10 a11 a12 a13 → (∀ (b1 : A1) (b2 : A2) (b3 : A3) (b4 : A4) (b5 : A5) (b6 : A6) (b7 : A7) (b8 : A8) (b9 : A9) (b10 : A10) (b11 : A11) (b12 : A12) (b13 : A13), I b1 b2 b3 b4 b5 b6 b7 b8 b9 b10 b11 b12 b13 → μ b1 b2 b3 b4 b5 b6 b7 b8 b9 b10 b11 b12 b13 < μ a1 a2 a3 a4 a5 a6 a7 a8 a9 a10 a11 a12 a13 → W n b1 b2 b3 b4 b5 b6 b7 b8 b9 b10 b11 b12 b13) → W (n + 1) a1 a2 a3 a4 a5 a6 a7 a8 a9 a10 a11 a12 a13) (a1 : A1) (a2 : A2) (a3 : A3) (a4 : A4) (a5 : A5) (a6 : A6) (a7 : A7) (a8 : A8) (a9 : A9) (a10 : A10) (a11 : A11) (a12 : A12) (a13 : A13) (h : I a1 a2 a3 a4 a5 a6 a7 a8 a9 a10 a11 a12 a13) : ∃ n, W n a1 a2 a3 a4 a5 a6 a7 a8 a9 a10 a11 a12 a13 :=
  loop_m (σ := A1 × A2 × A3 × A4 × A5 × A6 × A7 × A8 × A9 × A10 × A11 × A12 × A13) (fun n s => W n s.1 s.2.1 s.2.2.1 s.2.2.2.1 s.2.2.2.2.1 s.2.2.2.2.2.1 s.2.2.2.2.2.2.1 s.2.2.2.2.2.2.2.1 s.2.2.2.2.2.2.2.2.1 s.2.2.2.2.2.2.2.2.2.1 s.2.2.2.2.2.2.2.2.2.2.1 s.2.2.2.2.2.2.2.2.2.2.2.1 s.2.2.2.2.2.2.2.2.2.2.2.2) (fun s => I s.1 s.2.1 s.2.2.1 s.2.2.2.1 s.2.2.2.2.1 s.2.2.2.2.2.1 s.2.2.2.2.2.2.1 s.2.2.2.2.2.2.2.1 s.2.2.2.2.2.2.2.2.1 s.2.2.2.2.2.2.2.2.2.1 s.2.2.2.2.2.2.2.2.2.2.1 s.2.2.2.2.2.2.2.2.2.2.2.1 s.2.2.2.2.2.2.2.2.2.2.2.2) (fun s => μ s.1 s.2.1 s.2.2.1 s.2.2.2.1 s.2.2.2.2.1 s.2.2.2.2.2.1 s.2.2.2.2.2.2.1 s.2.2.2.2.2.2.2.1 s.2.2.2.2.2.2.2.2.1 s.2.2.2.2.2.2.2.2.2.1 s.2.2.2.2.2.2.2.2.2.2.1 s.2.2.2.2.2.2.2.2.2.2.2.1 s.2.2.2.2.2.2.2.2.2.2.2.2) (fun n s hI hk => hs n s.1 s.2.1 s.2.2.1 s.2.2.2.1 s.2.2.2.2.1 s.2.2.2.2.2.1 s.2.2.2.2.2.2.1 s.2.2.2.2.2.2.2.1 s.2.2.2.2.2.2.2.2.1 s.2.2.2.2.2.2.2.2.2.1 s.2.2.2.2.2.2.2.2.2.2.1 s.2.2.2.2.2.2.2.2.2.2.2.1 s.2.2.2.2.2.2.2.2.2.2.2.2 hI (fun b1 b2 b3 b4 b5 b6 b7 b8 b9 b10 b11 b12 b13 h9 hm => hk (b1, b2, b3, b4, b5, b6, b7, b8, b9, b10, b11, b12, b13) h9 hm)) (a1, a2, a3, a4, a5, a6, a7, a8, a9, a10, a11, a12, a13) h
theorem lp14 {A1 A2 A3 A4 A5 A6 A7 A8 A9 A10 A11 A12 A13 A14 : Type} (W : Nat → A1 → A2 → A3 → A4 → A5 → A6 → A7 → A8 → A9 → A10 → A11 → A12 → A13 → A14 → Prop) (I : A1 → A2 → A3 → A4 → A5 → A6 → A7 → A8 → A9 → A10 → A11 → A12 → A13 → A14 → Prop) (μ : A1 → A2 → A3 → A4 → A5 → A6 → A7 → A8 → A9 → A10 → A11 → A12 → A13 → A14 → Nat) (hs : ∀ (n : Nat) (a1 : A1) (a2 : A2) (a3 : A3) (a4 : A4) (a5 : A5) (a6 : A6) (a7 : A7) (a8 : A8) (a9 : A9) (a10 : A10) (a11 : A11) (a12 : A12) (a13 : A13) (a14 : A14), I a1 a2 a3 a4 a5 a6 a7 a8 a9 a10 a11 a12 a13 a14 → (∀ (b1 : A1) (b2 : A2) (b3 : A3) (b4 : A4) (b5 : A5) (b6 : A6) (b7 : A7) (b8 : A8) (b9 : A9) (b10 : A10) (b11 : A11) (b12 : A12) (b13 : A13) (b14 : A14), I b1 b2 b3 b4 b5 b6 b7 b8 b9 b10 b11 b12 b13 b14 → μ b1 b2 b3 b4 b5 b6 b7 b8 b9 b10 b11 b12 b13 b14 < μ a1 a2 a3 a4 a5 a6 a7 a8 a9 a10 a11 a12 a13 a14 → W n b1 b2 b3 b4 b5 b6 b7 b8 b9 b10 b11 b12 b13 b14) → W (n + 1) a1 a2 a3 a4 a5 a6 a7 a8 a9 a10 a11 a12 a13 a14) (a1 : A1) (a2 : A2) (a3 : A3) (a4 : A4) (a5 : A5) (a6 : A6) (a7 : A7) (a8 : A8) (a9 : A9) (a10 : A10) (a11 : A11) (a12 : A12) (a13 : A13) (a14 : A14) (h : I a1 a2 a3 a4 a5 a6 a7 a8 a9 a10 a11 a12 a13 a14) : ∃ n, W n a1 a2 a3 a4 a5 a6 a7 a8 a9 a10 a11 a12 a13 a14 :=
  loop_m (σ := A1 × A2 × A3 × A4 × A5 × A6 × A7 × A8 × A9 × A10 × A11 × A12 × A13 × A14) (fun n s => W n s.1 s.2.1 s.2.2.1 s.2.2.2.1 s.2.2.2.2.1 s.2.2.2.2.2.1 s.2.2.2.2.2.2.1 s.2.2.2.2.2.2.2.1 s.2.2.2.2.2.2.2.2.1 s.2.2.2.2.2.2.2.2.2.1 s.2.2.2.2.2.2.2.2.2.2.1 s.2.2.2.2.2.2.2.2.2.2.2.1 s.2.2.2.2.2.2.2.2.2.2.2.2.1 s.2.2.2.2.2.2.2.2.2.2.2.2.2) (fun s => I s.1 s.2.1 s.2.2.1 s.2.2.2.1 s.2.2.2.2.1 s.2.2.2.2.2.1 s.2.2.2.2.2.2.1 s.2.2.2.2.2.2.2.1 s.2.2.2.2.2.2.2.2.1 s.2.2.2.2.2.2.2.2.2.1 s.2.2.2.2.2.2.2.2.2.2.1 s.2.2.2.2.2.2.2.2.2.2.2.1 s.2.2.2.2.2.2.2.2.2.2.2.2.1 s.2.2.2.2.2.2.2.2.2.2.2.2.2) (fun s => μ s.1 s.2.1 s.2.2.1 s.2.2.2.1 s.2.2.2.2.1 s.2.2.2.2.2.1 s.2.2.2.2.2.2.1 s.2.2.2.2.2.2.2.1 s.2.2.2.2.2.2.2.2.1 s.2.2.2.2.2.2.2.2.2.1 s.2.2.2.2.2.2.2.2.2.2.1 s.2.2.2.2.2.2.2.2.2.2.2.1 s.2.2.2.2.2.2.2.2.2.2.2.2.1 s.2.2.2.2.2.2.2.2.2.2.2.2.2) (fun n s hI hk => hs n s.1 s.2.1 s.2.2.1 s.2.2.2.1 s.2.2.2.2.1 s.2.2.2.2.2.1 s.2.2.2.2.2.2.1 s.2.2.2.2.2.2.2.1 s.2.2.2.2.2.2.2.2.1 s.2.2.2.2.2.2.2.2.2.1 s.2.2.2.2.2.2.2.2.2.2.1 s.2.2.2.2.2.2.2.2.2.2.2.1 s.2.2.2.2.2.2.2.2.2.2.2.2.1 s.2.2.2.2.2.2.2.2.2.2.2.2.2 hI (fun b1 b2 b3 b4 b5 b6 b7 b8 b9 b10 b11 b12 b13 b14 h9 hm => hk (b1, b2, b3, b4, b5, b6, b7, b8, b9, b10, b11, b12, b13, b14) h9 hm)) (a1, a2, a3, a4, a5, a6, a7, a8, a9, a10, a11, a12, a13, a14) h
theorem lp15 {A1 A2 A3 A4 A5 A6 A7 A8 A9 A10 A11 A12 A13 A14 A15 : Type} (W : Nat → A1 → A2 → A3 → A4 → A5 → A6 → A7 → A8 → A9 → A10 → A11 → A12 → A13 → A14 → A15 → Prop) (I : A1 → A2 → A3 → A4 → A5 → A6 → A7 → A8 → A9 → A10 → A11 → A12 → A13 → A14 → A15 → Prop) (μ : A1 → A2 → A3 → A4 → A5 → A6 → A7 → A8 → A9 → A10 → A11 → A12 → A13 → A14 → A15 → Nat) (hs : ∀ (n : Nat) (a1 : A1) (a2 : A2) (a3 : A3) (a4 : A4) (a5 : A5) (a6 : A6) (a7 : A7) (a8 : A8) (a9 : A9) (a10 : A10) (a11 : A11) (a12 : A12) (a13 : A13) (a14 : A14) (a15 : A15), I a1 a2 a3 a4 a5 a6 a7 a8 a9 a10 a11 a12 a13 a14 a15 → (∀ (b1 : A1) (b2 : A2) (b3 : A3) (b4 : A4) (b5 : A5) (b6 : A6) (b7 : A7) (b8 : A8) (b9 : A9) (b10 : A10) (b11 : A11) (b12 : A12) (b13 : A13) (b14 : A14) (b15 : A15), I b1 b2 b3 b4 b5 b6 b7 b8 b9 b10 b11 b12 b13 b14 b15 → μ b1 b2 b3 b4 b5 b6 b7 b8 b9 b10 b11 b12 b13 b14 b15 < μ a1 a2 a3 a4 a5 a6 a7 a8 a9 a10 a11 a12 a13 a14 a15 → W n b1 b2 b3 b4 b5 b6 b7 b8 b9 b10 b11 b12 b13 b14 b15) → W (n + 1) a1 a2 a3 a4 a5 a6 a7 a8 a9 a10 a11 a12 a13 a14 a15) (a1 : A1) (a2 : A2) (a3 : A3) (a4 : A4) (a5 : A5) (a6 : A6) (a7 : A7) (a8 : A8) (a9 : A9) (a10 : A10) (a11 : A11) (a12 : A12) (a13 : A13) (a14 : A14) (a15 : A15) (h : I a1 a2 a3 a4 a5 a6 a7 a8 a9 a10 a11 a12 a13 a14 a15) : ∃ n, W n a1 a2 a3 a4 a5 a6 a7 a8 a9 a10 a11 a12 a13 a14 a15 :=
  loop_m (σ := A1 × A2 × A3 × A4 × A5 × A6 × A7 × A8 × A9 × A10 × A11 × A12 × A13 × A14 × A15) (fun n s => W n s.1 s.2.1 s.2.2.1 s.2.2.2.1 s.2.2.2.2.1 s.2.2.2.2.2.1 s.2.2.2.2.2.2.1 s.2.2.2.2.2.2.2.1 s.2.2.2.2.2.2.2.2.1 s.2.2.2.2.2.2.2.2.2.1 s.2.2.2.2.2.2.2.2.2.2.1 s.2.2.2.2.2.2.2.2.2.2.2.1 s.2.2.2.2.2.2.2.2.2.2.2.2.1 s.2.2.2.2.2.2.2.2.2.2.2.2.2.1 s.2.2.2.2.2.2.2.2.2.2.2.2.2.2) (fun s => I s.1 s.2.1 s.2.2.1 s.2.2.2.1 s.2.2.2.2.1 s.2.2.2.2.2.1 s.2.2.2.2.2.2.1 s.2.2.2.2.2.2.2.1 s.2.2.2.2.2.2.2.2.1 s.2.2.2.2.2.2.2.2.2.1 s.2.2.2.2.2.2.2.2.2.2.1 s.2.2.2.2.2.2.2.2.2.2.2.1 s.2.2.2.2.2.2.2.2.2.2.2.2.1 s.2.2.2.2.2.2.2.2.2.2.2.2.2.1 s.2.2.2.2.2.2.2.2.2.2.2.2.2.2) (fun s => μ s.1 s.2.1 s.2.2.1 s.2.2.2.1 s.2.2.2.2.1 s.2.2.2.2.2.1 s.2.2.2.2.2.2.1 s.2.2.2.2.2.2.2.1 s.2.2.2.2.2.2.2.2.1 s.2.2.2.2.2.2.2.2.2.1 s.2.2.2.2.2.2.2.2.2.2.1 s.2.2.2.2.2.2.2.2.2.2.2.1 s.2.2.2.2.2.2.2.2.2.2.2.2.1 s.2.2.2.2.2.2.2.2.2.2.2.2.2.1 s.2.2.2.2.2.2.2.2.2.2.2.2.2.2) (fun n s hI hk => hs n s.1 s.2.1 s.2.2.1 s.2.2.2.1 s.2.2.2.2.1 s.2.2.2.2.2.1 s.2.2.2.2.2.2.1 s.2.2.2.2.2.2.2.1 s.2.2.2.2.2.2.2.2.1 s.2.2.2.2.2.2.2.2.2.1 s.2.2.2.2.2.2.2.2.2.2.1 s.2.2.2.2.2.2.2.2.2.2.2.1 s.2.2.2.2.2.2.2.2.2.2.2.2.1 s.2.2.2.2.2.2.2.2.2.2.2.2.2.1 s.2.2.2.2.2.2.2.2.2.2.2.2.2.2 hI (fun b1 b2 b3 b4 b5 b6 b7 b8 b9 b10 b11 b12 b13 b14 b15 h9 hm => hk (b1, b2, b3, b4, b5, b6, b7, b8, b9, b10, b11, b12, b13, b14, b15) h9 hm)) (a1, a2, a3, a4, a5, a6, a7, a8, a9, a10, a11, a12, a13, a14, a15) h
theorem lp16 {A1 A2 A3 A4 A5 A6 A7 A8 A9 A10 A11 A12 A13 A14 A15 A16 : Type} (W : Nat → A1 → A2 → A3 → A4 → A5 → A6 → A7 → A8 → A9 → A10 → A11 → A12 → A13 → A14 → A15 → A16 → Prop) (I : A1 → A2 → A3 → A4 → A5 → A6 → A7 → A8 → A9 → A10 → A11 → A12 → A13 → A14 → A15 → A16 → Prop) (μ : A1 → A2 → A3 → A4 → A5 → A6 → A7 → A8 → A9 → A10 → A11 → A12 → A13 → A14 → A15 → A16 → Nat) (hs : ∀ (n : Nat) (a1 : A1) (a2 : A2) (a3 : A3) (a4 : A4) (a5 : A5) (a6 : A6) (a7 : A7) (a8 : A8) (a9 : A9) (a10 : A10) (a11 : A11) (a12 : A12) (a13 : A13) (a14 : A14) (a15 : A15) (a16 : A16), I a1 a2 a3 a4 a5 a6 a7 a8 a9 a10 a11 a12 a13 a14 a15 a16 → (∀ (b1 : A1) (b2 : A2) (b3 : A3) (b4 : A4) (b5 : A5) (b6 : A6) (b7 : A7) (b8 : A8) (b9 : A9) (b10 : A10) (b11 : A11) (b12 : A12) (b13 : A13) (b14 : A14) (b15 : A15) (b16 : A16), I b1 b2 b3 b4 b5 b6 b7 b8 b9 b10 b11 b12 b13 b14 b15 b16 → μ b1 b2 b3 b4 b5 b6 b7 b8 b9 b10 b11 b12 b13 b14 b15 b16 < μ a1 a2 a3 a4 a5 a6 a7 a8 a9 a10 a11 a12 a13 a14 a15 a16 → W n b1 b2 b3 b4 b5 b6 b7 b8 b9 b10 b11 b12 b13 b14 b15 b16) → W (n + 1) a1 a2 a3 a4 a5 a6 a7 a8 a9 a10 a11 a12 a13 a14 a15 a16) (a1 : A1) (a2 : A2) (a3 : A3) (a4 : A4) (a5 : A5) (a6 : A6) (a7 : A7) (a8 : A8) (a9 : A9) (a10 : A10) (a11 : A11) (a12 : A12) (a13 : A13) (a14 : A14) (a15 : A15) (a16 : A16) (h : I a1 a2 a3 a4 a5 a6 a7 a8 a9 a10 a11 a12 a13 a14 a15 a16) : ∃ n, W n a1 a2 a3 a4 a5 a6 a7 a8 a9 a10 a11 a12 a13 a14 a15 a16 :=
  loop_m (σ := A1 × A2 × A3 × A4 × A5 × A6 × A7 × A8 × A9 × A10 × A11 × A12 × A13 × A14 × A15 × A16) (fun n s => W n s.1 s.2.1 s.2.2.1 s.2.2.2.1 s.2.2.2.2.1 s.2.2.2.2.2.1 s.2.2.2.2.2.2.1 s.2.2.2.2.2.2.2.1 s.2.2.2.2.2.2.2.2.1 s.2.2.2.2.2.2.2.2.2.1 s.2.2.2.2.2.2.2.2.2.2.1 s.2.2.2.2.2.2.2.2.2.2.2.1 s.2.2.2.2.2.2.2.2.2.2.2.2.1 s.2.2.2.2.2.2.2.2.2.2.2.2.2.1 s.2.2.2.2.2.2.2.2.2.2.2.2.2.2.1 s.2.2.2.2.2.2.2.2.2.2.2.2.2.2.2) (fun s => I s.1 s.2.1 s.2.2.1 s.2.2.2.1 s.2.2.2.2.1 s.2.2.2.2.2.1 s.2.2.2.2.2.2.1 s.2.2.2.2.2.2.2.1 s.2.2.2.2.2.2.2.2.1 s.2.2.2.2.2.2.2.2.2.1 s.2.2.2.2.2.2.2.2.2.2.1 s.2.2.2.2.2.2.2.2.2.2.2.1 s.2.2.2.2.2.2.2.2.2.2.2.2.1 s.2.2.2.2.2.2.2.2.2.2.2.2.2.1 s.2.2.2.2.2.2.2.2.2.2.2.2.2.2.1 s.2.2.2.2.2.2.2.2.2.2.2.2.2.2.2) (fun s => μ s.1 s.2.1 s.2.2.1 s.2.2.2.1 s.2.2.2.2.1 s.2.2.2.2.2.1 s.2.2.2.2.2.2.1 s.2.2.2.2.2.2.2.1 s.2.2.2.2.2.2.2.2.1 s.2.2.2.2.2.2.2.2.2.1 s.2.2.2.2.2.2.2.2.2.2.1 s.2.2.2.2.2.2.2.2.2.2.2.1 s.2.2.2.2.2.2.2.2.2.2.2.2.1 s.2.2.2.2.2.2.2.2.2.2.2.2.2.1 s.2.2.2.2.2.2.2.2.2.2.2.2.2.2.1 s.2.2.2.2.2.2.2.2.2.2.2.2.2.2.2) (fun n s hI hk => hs n s.1 s.2.1 s.2.2.1 s.2.2.2.1 s.2.2.2.2.1 s.2.2.2.2.2.1 s.2.2.2.2.2.2.1 s.2.2.2.2.2.2.2.1 s.2.2.2.2.2.2.2.2.1 s.2.2.2.2.2.2.2.2.2.1 s.2.2.2.2.2.2.2.2.2.2.1 s.2.2.2.2.2.2.2.2.2.2.2.1 s.2.2.2.2.2.2.2.2.2.2.2.2.1 s.2.2.2.2.2.2.2.2.2.2.2.2.2.1 s.2.2.2.2.2.2.2.2.2.2.2.2.2.2.1 s.2.2.2.2.2.2.2.2.2.2.2.2.2.2.2 hI (fun b1 b2 b3 b4 b5 b6 b7 b8 b9 b10 b11 b12 b13 b14 b15 b16 h9 hm => hk (b1, b2, b3, b4, b5, b6, b7, b8, b9, b10, b11, b12, b13, b14, b15, b16) h9 hm)) (a1, a2, a3, a4, a5, a6, a7, a8, a9, a10, a11, a12, a13, a14, a15, a16) h
theorem pk_least (P : Nat → Prop) (h : ∃ k, P k) : ∃ k, P k ∧ ∀ j, j < k → ¬ P j := by
  obtain ⟨k, hk⟩ := h
  induction k using Nat.strongRecOn with
  | ind k ih =>
    by_cases e : ∃ j, j < k ∧ P j
    · obtain ⟨j, hj, pj⟩ := e
      exact ih j hj pj
    · exact ⟨k, hk, fun j hj pj => e ⟨j, hj, pj⟩⟩
theorem rp1 {ρ A1 : Type} (W : Nat → (ρ → Prop) → A1 → Prop) (ok : A1 → Prop) (μ : A1 → Nat) (val : A1 → ρ)
    (hs : ∀ (d : Nat) (post : ρ → Prop) (a1 : A1), ok a1 → post (val a1) → (∀ (post' : ρ → Prop) (b1 : A1), ok b1 → μ b1 < μ a1 → post' (val b1) → W d post' b1) → W (d + 1) post a1) :
    ∀ (d : Nat) (post : ρ → Prop) (a1 : A1), ok a1 → μ a1 < d → post (val a1) → W d post a1 := by
  intro d
  induction d with
  | zero => intro post a1 _ h; omega
  | succ d ih =>
    intro post a1 ho hm hp
    exact hs d post a1 ho hp (fun post' b1 ho' hm' hp' => ih post' b1 ho' (by omega) hp')
theorem rp2 {ρ A1 A2 : Type} (W : Nat → (ρ → Prop) → A1 → A2 → Prop) (ok : A1 → A2 → Prop) (μ : A1 → A2 → Nat) (val : A1 → A2 → ρ)
    (hs : ∀ (d : Nat) (post : ρ → Prop) (a1 : A1) (a2 : A2), ok a1 a2 → post (val a1 a2) → (∀ (post' : ρ → Prop) (b1 : A1) (b2 : A2), ok b1 b2 → μ b1 b2 < μ a1 a2 → post' (val b1 b2) → W d post' b1 b2) → W (d + 1) post a1 a2) :
    ∀ (d : Nat) (post : ρ → Prop) (a1 : A1) (a2 : A2), ok a1 a2 → μ a1 a2 < d → post (val a1 a2) → W d post a1 a2 := by
  intro d
  induction d with
  | zero => intro post a1 a2 _ h; omega
  | succ d ih =>
    intro post a1 a2 ho hm hp
    exact hs d post a1 a2 ho hp (fun post' b1 b2 ho' hm' hp' => ih post' b1 b2 ho' (by omega) hp')
theorem rp3 {ρ A1 A2 A3 : Type} (W : Nat → (ρ → Prop) → A1 → A2 → A3 → Prop) (ok : A1 → A2 → A3 → Prop) (μ : A1 → A2 → A3 → Nat) (val : A1 → A2 → A3 → ρ)
    (hs : ∀ (d : Nat) (post : ρ → Prop) (a1 : A1) (a2 : A2) (a3 : A3), ok a1 a2 a3 → post (val a1 a2 a3) → (∀ (post' : ρ → Prop) (b1 : A1) (b2 : A2) (b3 : A3), ok b1 b2 b3 → μ b1 b2 b3 < μ a1 a2 a3 → post' (val b1 b2 b3) → W d post' b1 b2 b3) → W (d + 1) post a1 a2 a3) :
    ∀ (d : Nat) (post : ρ → Prop) (a1 : A1) (a2 : A2) (a3 : A3), ok a1 a2 a3 → μ a1 a2 a3 < d → post (val a1 a2 a3) → W d post a1 a2 a3 := by
  intro d
  induction d with
  | zero => intro post a1 a2 a3 _ h; omega
  | succ d ih =>
    intro post a1 a2 a3 ho hm hp
    exact hs d post a1 a2 a3 ho hp (fun post' b1 b2 b3 ho' hm' hp' => ih post' b1 b2 b3 ho' (by omega) hp')
theorem rp4 {ρ A1 A2 A3 A4 : Type} (W : Nat → (ρ → Prop) → A1 → A2 → A3 → A4 → Prop) (ok : A1 → A2 → A3 → A4 → Prop) (μ : A1 → A2 → A3 → A4 → Nat) (val : A1 → A2 → A3 → A4 → ρ)
    (hs : ∀ (d : Nat) (post : ρ → Prop) (a1 : A1) (a2 : A2) (a3 : A3) (a4 : A4), ok a1 a2 a3 a4 → post (val a1 a2 a3 a4) → (∀ (post' : ρ → Prop) (b1 : A1) (b2 : A2) (b3 : A3) (b4 : A4), ok b1 b2 b3 b4 → μ b1 b2 b3 b4 < μ a1 a2 a3 a4 → post' (val b1 b2 b3 b4) → W d post' b1 b2 b3 b4) → W (d + 1) post a1 a2 a3 a4) :
    ∀ (d : Nat) (post : ρ → Prop) (a1 : A1) (a2 : A2) (a3 : A3) (a4 : A4), ok a1 a2 a3 a4 → μ a1 a2 a3 a4 < d → post (val a1 a2 a3 a4) → W d post a1 a2 a3 a4 := by
  intro d
  induction d with
  | zero => intro post a1 a2 a3 a4 _ h; omega
  | succ d ih =>
    intro post a1 a2 a3 a4 ho hm hp
    exact hs d post a1 a2 a3 a4 ho hp (fun post' b1 b2 b3 b4 ho' hm' hp' => ih post' b1 b2 b3 b4 ho' (by omega) hp')
theorem rp5 {ρ A1 A2 A3 A4 A5 : Type} (W : Nat → (ρ → Prop) → A1 → A2 → A3 → A4 → A5 → Prop) (ok : A1 → A2 → A3 → A4 → A5 → Prop) (μ : A1 → A2 → A3 → A4 → A5 → Nat) (val : A1 → A2 → A3 → A4 → A5 → ρ)
    (hs : ∀ (d : Nat) (post : ρ → Prop) (a1 : A1) (a2 : A2) (a3 : A3) (a4 : A4) (a5 : A5), ok a1 a2 a3 a4 a5 → post (val a1 a2 a3 a4 a5) → (∀ (post' : ρ → Prop) (b1 : A1) (b2 : A2) (b3 : A3) (b4 : A4) (b5 : A5), ok b1 b2 b3 b4 b5 → μ b1 b2 b3 b4 b5 < μ a1 a2 a3 a4 a5 → post' (val b1 b2 b3 b4 b5) → W d post' b1 b2 b3 b4 b5) → W (d + 1) post a1 a2 a3 a4 a5) :
    ∀ (d : Nat) (post : ρ → Prop) (a1 : A1) (a2 : A2) (a3 : A3) (a4 : A4) (a5 : A5), ok a1 a2 a3 a4 a5 → μ a1 a2 a3 a4 a5 < d → post (val a1 a2 a3 a4 a5) → W d post a1 a2 a3 a4 a5 := by
  intro d
  induction d with
  | zero => intro post a1 a2 a3 a4 a5 _ h; omega
  | succ d ih =>
    intro post a1 a2 a3 a4 a5 ho hm hp
    exact hs d post a1 a2 a3 a4 a5 ho hp (fun post' b1 b2 b3 b4 b5 ho' hm' hp' => ih post' b1 b2 b3 b4 b5 ho' (by omega) hp')
theorem rp6 {ρ A1 A2 A3 A4 A5 A6 : Type} (W : Nat → (ρ → Prop) → A1 → A2 → A3 → A4 → A5 → A6 → Prop) (ok : A1 → A2 → A3 → A4 → A5 → A6 → Prop) (μ : A1 → A2 → A3 → A4 → A5 → A6 → Nat) (val : A1 → A2 → A3 → A4 → A5 → A6 → ρ)
    (hs : ∀ (d : Nat) (post : ρ → Prop) (a1 : A1) (a2 : A2) (a3 : A3) (a4 : A4) (a5 : A5) (a6 : A6), ok a1 a2 a3 a4 a5 a6 → post (val a1 a2 a3 a4 a5 a6) → (∀ (post' : ρ → Prop) (b1 : A1) (b2 : A2) (b3 : A3) (b4 : A4) (b5 : A5) (b6 : A6), ok b1 b2 b3 b4 b5 b6 → μ b1 b2 b3 b4 b5 b6 < μ a1 a2 a3 a4 a5 a6 → post' (val b1 b2 b3 b4 b5 b6) → W d post' b1 b2 b3 b4 b5 b6) → W (d + 1) post a1 a2 a3 a4 a5 a6) :
    ∀ (d : Nat) (post : ρ → Prop) (a1 : A1) (a2 : A2) (a3 : A3) (a4 : A4) (a5 : A5) (a6 : A6), ok a1 a2 a3 a4 a5 a6 → μ a1 a2 a3 a4 a5 a6 < d → post (val a1 a2 a3 a4 a5 a6) → W d post a1 a2 a3 a4 a5 a6 := by
  intro d
  induction d with
  | zero => intro post a1 a2 a3 a4 a5 a6 _ h; omega
  | succ d ih =>
    intro post a1 a2 a3 a4 a5 a6 ho hm hp
    exact hs d post a1 a2 a3 a4 a5 a6 ho hp (fun post' b1 b2 b3 b4 b5 b6 ho' hm' hp' => ih post' b1 b2 b3 b4 b5 b6 ho' (by omega) hp')
theorem rec_p {σ ρ : Type} (W : Nat → (ρ → Prop) → σ → Prop) (ok : σ → Prop) (μ : σ → Nat) (val : σ → ρ)
    (hs : ∀ d s post, ok s → post (val s) → (∀ s' post', ok s' → μ s' < μ s → post' (val s') → W d post' s') → W (d + 1) post s) :
    ∀ d s post, ok s → μ s < d → post (val s) → W d post s := by
  intro d
  induction d with
  | zero => intro s post _ h; omega
  | succ d ih =>
    intro s post ho hm hp
    exact hs d s post ho hp (fun s' post' ho' hm' hp' => ih s' post' ho' (by omega) hp')
theorem rec_q {σ ρ : Type} (W : Nat → (ρ → Prop) → σ → Prop) (ok : σ → Prop) (μ : σ → Nat) (Q : σ → ρ → Prop)
    (hs : ∀ d s post, ok s → (∀ r, Q s r → post r) → (∀ s' post', ok s' → μ s' < μ s → (∀ r, Q s' r → post' r) → W d post' s') → W (d + 1) post s) :
    ∀ d s post, ok s → μ s < d → (∀ r, Q s r → post r) → W d post s := by
  intro d
  induction d with
  | zero => intro s post _ h; omega
  | succ d ih =>
    intro s post ho hm hp
    exact hs d s post ho hp (fun s' post' ho' hm' hp' => ih s' post' ho' (by omega) hp')
def bx_sum (f : Nat → Int32) : Nat → Int32
  | 0 => 0
  | n + 1 => bx_sum f n + f n
theorem ek_u {A : Prop} {B : Nat → Prop} {k N : Nat} (hk : k < N) (h : B k) : (some k = none → A) ∧ (∀ y : Nat, some k = some y → (y < N ∧ B y)) :=
  ⟨fun z => absurd z (Option.some_ne_none k), fun _ e => (by cases e; exact ⟨hk, h⟩)⟩
theorem ek_nu {A : Prop} {B : Nat → Prop} (h : A) : ((none : Option Nat) = none → A) ∧ (∀ y : Nat, (none : Option Nat) = some y → B y) :=
  ⟨fun _ => h, fun _ e => (by cases e)⟩
theorem ek_if {c d A B : Prop} (e : c ↔ d) (f : d → A) (g : ¬ d → B) : (c → A) ∧ (¬ c → B) :=
  ⟨fun z => f (e.mp z), fun z => g (fun y => z (e.mpr y))⟩
theorem ek_v {α : Sort _} {P : α → Prop} {a b : α} (e : a = b) (h : P b) : P a := e ▸ h
theorem co_some {x : Option Nat} {A : Prop} {B : Nat → Prop} (i : Nat) (h : B i) (hx : x = some i := by rfl) : (x = none → A) ∧ (∀ y : Nat, x = some y → B y) := by
  subst hx
  exact ⟨fun e => (nomatch e), fun y e => Option.some.inj e ▸ h⟩
theorem co_none {x : Option Nat} {A : Prop} {B : Nat → Prop} (h : A) (hx : x = none := by rfl) : (x = none → A) ∧ (∀ y : Nat, x = some y → B y) := by
  subst hx
  exact ⟨fun _ => h, fun y e => (nomatch e)⟩
theorem co_any {x : Option Nat} {A : Prop} {B : Nat → Prop} (hn : x = none → A) (hs : ∀ i : Nat, x = some i → B i) : (x = none → A) ∧ (∀ y : Nat, x = some y → B y) := ⟨hn, hs⟩
theorem co_2 {P : Nat → Prop} (h0 : P 0) (h1 : P 1) {i : Nat} (hi : i < 2) : P i :=
  match i, hi with
  | 0, _ => h0
  | 1, _ => h1
theorem co_3 {P : Nat → Prop} (h0 : P 0) (h1 : P 1) (h2 : P 2) {i : Nat} (hi : i < 3) : P i :=
  match i, hi with
  | 0, _ => h0
  | 1, _ => h1
  | 2, _ => h2
theorem co_4 {P : Nat → Prop} (h0 : P 0) (h1 : P 1) (h2 : P 2) (h3 : P 3) {i : Nat} (hi : i < 4) : P i :=
  match i, hi with
  | 0, _ => h0
  | 1, _ => h1
  | 2, _ => h2
  | 3, _ => h3
theorem co_dec {N : Nat} {P : Nat → Prop} [DecidablePred P] (h : (List.range N).all (fun i => decide (P i)) = true) {i : Nat} (hi : i < N) : P i := by
  have := List.all_eq_true.mp h i (List.mem_range.mpr hi)
  exact of_decide_eq_true this
theorem co_tab {α : Type} {l : List α} {d : α} {P : α → Prop} (h : ∀ a, a ∈ l → P a) {i : Nat} (hi : i < l.length) : P (l.getD i d) := by
  rw [List.getD_eq_getElem?_getD, List.getElem?_eq_getElem hi]
  exact h _ (List.getElem_mem hi)
theorem pk_mu {x : Int32} {L : Nat} (h0 : ¬ x < 0) (h : ¬ nI L ≤ x) (hL : L < 2 ^ 31) : ∃ j : Nat, j < L ∧ x = nI j ∧ x + 1 = nI (j + 1) ∧ x.toNatClampNeg = j ∧ L - (x + 1).toNatClampNeg < L - x.toNatClampNeg := by
  obtain ⟨j, hj, rfl⟩ := nI_of h0
  have hl : j < L := Nat.not_le.mp fun q => h (nI_le q hj)
  refine ⟨j, hl, rfl, nI_1 j, nI_clamp hj, ?_⟩
  rw [nI_1, nI_clamp (by omega), nI_clamp hj]
  omega
theorem op_s {α : Type} {r : Option α} {A : Prop} {B : α → Prop} {y : α} (h : r = some y) (b : B y) : (r = none → A) ∧ ∀ z, r = some z → B z :=
  ⟨fun e => (by rw [h] at e; cases e), fun z e => (by rw [h] at e; cases e; exact b)⟩
def l_holds {α : Type} (a : Nat → Option Nat) (LP : List Nat) (p : Nat → α) (c : Nat) (b : Nat → α) : Prop :=
  ∀ j, j < c → ∃ y, a j = some y ∧ y ∈ LP ∧ p y = b j
theorem l_holds_0 {α : Type} {a : Nat → Option Nat} {LP : List Nat} {p b : Nat → α} : l_holds a LP p 0 b := fun j h => absurd h (Nat.not_lt_zero j)
theorem l_in_new (LP : List Nat) (q : Nat) : q ∈ LP ++ [q] := List.mem_append.mpr (Or.inr (List.mem_singleton.mpr rfl))
def l_sum (b : Nat → Int32) : Nat → Int32
  | 0 => 0
  | k + 1 => l_sum b k + b k
theorem sb_shr0 (x : Int32) : x >>> ((0 : Int32) &&& 31) = x := by
  rw [show ((0 : Int32) &&& 31) = 0 by decide]
  simp
theorem sb_shl0 (x : Int32) : x <<< ((0 : Int32) &&& 31) = x := by
  rw [show ((0 : Int32) &&& 31) = 0 by decide]
  simp
theorem sb_cl0 : (0 : Int32).toNatClampNeg = 0 := by decide
theorem sb_m1 {p : Nat} (h : 0 < p) : nI p + (-1) = nI (p - 1) := by
  obtain ⟨q, rfl⟩ : ∃ q, p = q + 1 := ⟨p - 1, by omega⟩
  exact pk_m1 q
def sb_b (c : Nat) : Int32 := (nI c).toInt8.toInt32
theorem sb_byte : ∀ c, c < 256 → sb_b c &&& 255 = nI c ∧ ((nI c).toUInt32 % 65536).toInt32 = nI c ∧ nI c ≤ 255 := by decide +kernel
def sb_Fit (a : Nat → Int32) : Prop := ∀ j, fits .byte (.int (a j)) = true
def sb_Lat (t : Nat → Nat) (n : Nat) (a : Nat → Int32) : Prop := ∀ j, j < n → t j < 256 ∧ a j = sb_b (t j)
theorem sb_fitB (c : Nat) : fits .byte (.int (sb_b c)) = true := pk_fb _
theorem sb_fit0 : sb_Fit (fun _ => 0) := fun _ => by
  show fits .byte (.int 0) = true
  decide
theorem sb_fitU {a : Nat → Int32} {k : Nat} {x : Int32} (h : sb_Fit a) (hx : fits .byte (.int x) = true) : sb_Fit (upd a k x) := by
  intro j
  by_cases e : j = k
  · subst e
    rw [pk_us]
    exact hx
  · rw [pk_un e]
    exact h j
def sb_cat (t : Nat → Nat) (n : Nat) (s : Nat → Nat) : Nat → Nat := fun j => if j < n then t j else s (j - n)
theorem sb_cat_lo {t s : Nat → Nat} {n j : Nat} (h : j < n) : sb_cat t n s j = t j := if_pos h
theorem sb_cat_hi {t s : Nat → Nat} {n j : Nat} : sb_cat t n s (n + j) = s j := by
  show (if n + j < n then t (n + j) else s (n + j - n)) = s j
  rw [if_neg (by omega), Nat.add_sub_cancel_left]
theorem sb_latPut {t s : Nat → Nat} {n w : Nat} {a a' : Nat → Int32} (h : sb_Lat t n a) (hk : ∀ j, j < n → a' j = a j) (hs : ∀ i, i < w → s i < 256 ∧ a' (n + i) = sb_b (s i)) : sb_Lat (sb_cat t n s) (n + w) a' := by
  intro j hj
  by_cases e : j < n
  · rw [sb_cat_lo e, hk j e]
    exact h j e
  · obtain ⟨i, rfl⟩ : ∃ i, j = n + i := ⟨j - n, by omega⟩
    rw [sb_cat_hi]
    exact hs i (by omega)
theorem sb_latKeep {t : Nat → Nat} {n : Nat} {a a' : Nat → Int32} (h : sb_Lat t n a) (hk : ∀ j, j < n → a' j = a j) : sb_Lat t n a' := fun j hj => by
  rw [hk j hj]
  exact h j hj
def sb_cap (q m : Nat) : Nat := if q ≤ m then m else if 2 * m + 2 < q then q else 2 * m + 2
def sb_Room (q m mc ms : Nat) : Prop := q ≤ m ∨ (1 ≤ mc ∧ sb_cap q m ≤ ms ∧ sb_cap q m ≤ 65536)
theorem sb_cap_ge (q m : Nat) : q ≤ sb_cap q m := by
  unfold sb_cap
  split
  · omega
  · split <;> omega
theorem sb_cap_gem (q m : Nat) : m ≤ sb_cap q m := by
  unfold sb_cap
  split
  · omega
  · split <;> omega
theorem sb_cap_le {q m mc ms : Nat} (hm : m ≤ 65536) (hr : sb_Room q m mc ms) : sb_cap q m ≤ 65536 := by
  rcases hr with h | h
  · rw [sb_cap, if_pos h]
    exact hm
  · exact h.2.2
theorem sb_at {P : Int32 → Prop} {x y : Int32} (e : x = y) (h : P y) : P x := e ▸ h
def sb_dg (w : Nat) : Nat := if w < 10 then 1 else if w < 100 then 2 else if w < 1000 then 3 else if w < 10000 then 4 else if w < 100000 then 5 else if w < 1000000 then 6 else if w < 10000000 then 7 else if w < 100000000 then 8 else if w < 1000000000 then 9 else 10
def sb_dec (v : Nat) : Nat → Nat := fun i => 48 + v / 10 ^ (sb_dg v - 1 - i) % 10
theorem sb_dg_in (w : Nat) : 1 ≤ sb_dg w ∧ sb_dg w ≤ 10 := by
  unfold sb_dg
  constructor <;> (repeat' split) <;> omega
theorem sb_dg100 {w : Nat} (h : 100 ≤ w) (hw : w < 2 ^ 31) : sb_dg w = sb_dg (w / 100) + 2 := by
  rw [sb_dg, sb_dg, if_neg (show ¬ w < 10 by omega), if_neg (show ¬ w < 100 by omega)]
  by_cases h3 : w < 1000
  · rw [if_pos h3, if_pos (show w / 100 < 10 by omega)]
  rw [if_neg h3, if_neg (show ¬ w / 100 < 10 by omega)]
  by_cases h4 : w < 10000
  · rw [if_pos h4, if_pos (show w / 100 < 100 by omega)]
  rw [if_neg h4, if_neg (show ¬ w / 100 < 100 by omega)]
  by_cases h5 : w < 100000
  · rw [if_pos h5, if_pos (show w / 100 < 1000 by omega)]
  rw [if_neg h5, if_neg (show ¬ w / 100 < 1000 by omega)]
  by_cases h6 : w < 1000000
  · rw [if_pos h6, if_pos (show w / 100 < 10000 by omega)]
  rw [if_neg h6, if_neg (show ¬ w / 100 < 10000 by omega)]
  by_cases h7 : w < 10000000
  · rw [if_pos h7, if_pos (show w / 100 < 100000 by omega)]
  rw [if_neg h7, if_neg (show ¬ w / 100 < 100000 by omega)]
  by_cases h8 : w < 100000000
  · rw [if_pos h8, if_pos (show w / 100 < 1000000 by omega)]
  rw [if_neg h8, if_neg (show ¬ w / 100 < 1000000 by omega)]
  by_cases h9 : w < 1000000000
  · rw [if_pos h9, if_pos (show w / 100 < 10000000 by omega)]
  rw [if_neg h9, if_neg (show ¬ w / 100 < 10000000 by omega)]
  rw [if_pos (show w / 100 < 100000000 by omega)]
theorem sb_negT {w : Nat} (h : w < 2 ^ 31) : (-nI w).toInt = -(w : Int) := by
  rw [Int32.toInt_neg, nI_toInt h]
  exact Int.bmod_eq_of_le (by omega) (by omega)
theorem sb_nle {a b : Nat} (ha : a < 2 ^ 31) (hb : b < 2 ^ 31) : -nI a ≤ -nI b ↔ b ≤ a := by
  rw [Int32.le_iff_toInt_le, sb_negT ha, sb_negT hb]
  omega
theorem sb_nlt {a b : Nat} (ha : a < 2 ^ 31) (hb : b < 2 ^ 31) : -nI a < -nI b ↔ b < a := by
  rw [Int32.lt_iff_toInt_lt, sb_negT ha, sb_negT hb]
  omega
theorem sb_cmp {A B : Prop} {x : Int32} (v c : Nat) (f : c ≤ v → A) (g : v < c → B) (hv : v < 2 ^ 31) (hx : x = -nI c := by rfl) (hc : c < 2 ^ 31 := by omega) : (-nI v ≤ x → A) ∧ (¬ -nI v ≤ x → B) := by
  subst hx
  rw [sb_nle hv hc]
  exact ⟨f, fun z => g (by omega)⟩
theorem sb_ndiv {w : Nat} (hw : w < 2 ^ 31) : (-nI w) / 100 = -nI (w / 100) := by
  apply Int32.toInt_inj.mp
  have h100 : (100 : Int32).toInt = 100 := by decide
  rw [Int32.toInt_div, sb_negT hw, h100, sb_negT (by omega), Int.neg_tdiv, Int.tdiv_eq_ediv_of_nonneg (by omega), Int.bmod_eq_of_le (by omega) (by omega)]
  omega
theorem sb_nrem {w : Nat} (hw : w < 2 ^ 31) : (-nI (w / 100)) * 100 - (-nI w) = nI (w % 100) := by
  have h := pk_rem (a := w) (d := 100) hw (by decide) (by decide)
  rw [pk_div hw (by decide) (by decide)] at h
  rw [← h]
  show (-nI (w / 100)) * nI 100 - (-nI w) = nI w - nI (w / 100) * nI 100
  rw [Int32.neg_mul, Int32.sub_neg, Int32.add_comm, ← Int32.sub_eq_add_neg]
end
section
/-! rows on bits, shifts and unsigned numbers, to paste: each family out of a closed proof of our own, whole with what it rests on; each by itself clean at Lean in its own claim (generation 39, form 5). Take a family whole -/
/-! ===== Int32 by its bits: bt x i ===== -/
def bt (x : Int32) (i : Nat) : Bool := x.toBitVec.getLsbD i
theorem b_ext {x y : Int32} (h : ∀ i, i < 32 → bt x i = bt y i) : x = y := Int32.toBitVec_inj.mp (BitVec.eq_of_getLsbD_eq (fun i hi => h i hi))
theorem b_or (x y : Int32) (i : Nat) : bt (x ||| y) i = (bt x i || bt y i) := by unfold bt; rw [Int32.toBitVec_or, BitVec.getLsbD_or]
theorem b_and (x y : Int32) (i : Nat) : bt (x &&& y) i = (bt x i && bt y i) := by unfold bt; rw [Int32.toBitVec_and, BitVec.getLsbD_and]
theorem b_xor (x y : Int32) (i : Nat) : bt (x ^^^ y) i = (bt x i ^^ bt y i) := by unfold bt; rw [Int32.toBitVec_xor, BitVec.getLsbD_xor]
theorem b_big {x : Int32} {i : Nat} (h : 32 ≤ i) : bt x i = false := BitVec.getLsbD_of_ge _ _ h
theorem b_255 (i : Nat) : bt 255 i = decide (i < 8) := by
  rcases Nat.lt_or_ge i 32 with h | h
  · exact (by decide +kernel : ∀ i, i < 32 → bt 255 i = decide (i < 8)) i h
  · rw [b_big h, decide_eq_false (by omega)]
theorem b_65535 (i : Nat) : bt 65535 i = decide (i < 16) := by
  rcases Nat.lt_or_ge i 32 with h | h
  · exact (by decide +kernel : ∀ i, i < 32 → bt 65535 i = decide (i < 16)) i h
  · rw [b_big h, decide_eq_false (by omega)]
theorem b_m1 : ∀ i, i < 32 → bt (-1) i = true := by decide +kernel
theorem b_0 (i : Nat) : bt 0 i = false := BitVec.getLsbD_zero
theorem s_l : ∀ n, n < 32 → ((nI n &&& 31).toBitVec.smod 32).toNat = n := by decide +kernel
theorem s_u : ∀ n, n < 32 → (((nI n).toUInt32 &&& Int32.toUInt32 31).toBitVec % 32).toNat = n := by decide +kernel
theorem b_shl (n : Nat) (hn : n < 32) (x : Int32) {i : Nat} (hi : i < 32) : bt (x <<< (nI n &&& 31)) i = (decide (n ≤ i) && bt x (i - n)) := by
  unfold bt
  rw [Int32.toBitVec_shiftLeft]
  show (x.toBitVec <<< ((nI n &&& 31).toBitVec.smod 32).toNat).getLsbD i = _
  rw [s_l n hn, BitVec.getLsbD_shiftLeft]
  rcases Nat.lt_or_ge i n with h | h
  · simp [h, Nat.not_le.mpr h]
  · simp [hi, h, Nat.not_lt.mpr h]
theorem b_ushr (n : Nat) (hn : n < 32) (x : Int32) (i : Nat) : bt ((x.toUInt32 >>> ((nI n).toUInt32 &&& Int32.toUInt32 31)).toInt32) i = bt x (n + i) := by
  show (x.toUInt32 >>> ((nI n).toUInt32 &&& Int32.toUInt32 31)).toBitVec.getLsbD i = x.toUInt32.toBitVec.getLsbD (n + i)
  rw [UInt32.toBitVec_shiftRight]
  show (x.toUInt32.toBitVec >>> (((nI n).toUInt32 &&& Int32.toUInt32 31).toBitVec % 32).toNat).getLsbD i = _
  rw [s_u n hn, BitVec.getLsbD_ushiftRight]
theorem b_sshr (n : Nat) (hn : n < 32) (x : Int32) {i : Nat} (hi : i < 32) : bt (x >>> (nI n &&& 31)) i = if n + i < 32 then bt x (n + i) else bt x 31 := by
  unfold bt
  rw [Int32.toBitVec_shiftRight]
  show (x.toBitVec.sshiftRight ((nI n &&& 31).toBitVec.smod 32).toNat).getLsbD i = _
  rw [s_l n hn, BitVec.getLsbD_sshiftRight, BitVec.msb_eq_getLsbD_last]
  simp [hi]
theorem b_shl8 (x : Int32) {i : Nat} (hi : i < 32) : bt (x <<< ((8 : Int32) &&& 31)) i = (decide (8 ≤ i) && bt x (i - 8)) := b_shl 8 (by omega) x hi
theorem b_shl16 (x : Int32) {i : Nat} (hi : i < 32) : bt (x <<< ((16 : Int32) &&& 31)) i = (decide (16 ≤ i) && bt x (i - 16)) := b_shl 16 (by omega) x hi
theorem b_shl24 (x : Int32) {i : Nat} (hi : i < 32) : bt (x <<< ((24 : Int32) &&& 31)) i = (decide (24 ≤ i) && bt x (i - 24)) := b_shl 24 (by omega) x hi
theorem b_sshr8 (x : Int32) {i : Nat} (hi : i < 32) : bt (x >>> ((8 : Int32) &&& 31)) i = if 8 + i < 32 then bt x (8 + i) else bt x 31 := b_sshr 8 (by omega) x hi
/-! ===== nI under and, xor, >>>, one bit, 65535 ===== -/
theorem nx_and (a b : Nat) : nI a &&& nI b = nI (a &&& b) := by
  apply Int32.toBitVec_inj.1
  show BitVec.ofNat 32 a &&& BitVec.ofNat 32 b = BitVec.ofNat 32 (a &&& b)
  apply BitVec.eq_of_getLsbD_eq
  intro i hi
  simp [hi]
theorem nx_xor (a b : Nat) : nI a ^^^ nI b = nI (a ^^^ b) := by
  apply Int32.toBitVec_inj.1
  show BitVec.ofNat 32 a ^^^ BitVec.ofNat 32 b = BitVec.ofNat 32 (a ^^^ b)
  apply BitVec.eq_of_getLsbD_eq
  intro i hi
  simp [hi]
theorem nx_cnt : ∀ j : Fin 32, (UInt32.ofNat j.val &&& Int32.toUInt32 31).toNat % 32 = j.val := by decide +kernel
theorem nx_ush {k j : Nat} (hk : k < 65536) (hj : j < 32) : ((nI k).toUInt32 >>> ((nI j).toUInt32 &&& Int32.toUInt32 31)).toInt32 = nI (k >>> j) := by
  have hs : k >>> j ≤ k := by
    rw [Nat.shiftRight_eq_div_pow]
    exact Nat.div_le_self _ _
  have e2 : UInt32.ofNat k >>> (UInt32.ofNat j &&& Int32.toUInt32 31) = UInt32.ofNat (k >>> j) := by
    apply UInt32.toNat_inj.1
    have h1 : (UInt32.ofNat k).toNat = k := Nat.mod_eq_of_lt (by omega)
    have h2 : (UInt32.ofNat (k >>> j)).toNat = k >>> j := Nat.mod_eq_of_lt (by omega)
    rw [UInt32.toNat_shiftRight, nx_cnt ⟨j, hj⟩, h1, h2]
  show (UInt32.ofNat k >>> (UInt32.ofNat j &&& Int32.toUInt32 31)).toInt32 = _
  rw [e2]
  rfl
theorem nx_bit {k j : Nat} (hk : k < 65536) (hj : j < 16) : (((nI k).toUInt32 >>> ((nI j).toUInt32 &&& Int32.toUInt32 31)).toInt32 &&& 1) = 0 ↔ k.testBit j = false := by
  rw [nx_ush hk (by omega)]
  show nI (k >>> j) &&& nI 1 = 0 ↔ _
  rw [nx_and, Nat.and_one_is_mod, ← nI_0, nI_eq (by omega) (by omega), Nat.testBit_eq_decide_div_mod_eq, Nat.shiftRight_eq_div_pow, decide_eq_false_iff_not]
  generalize k / 2 ^ j = z
  omega
theorem nx_mod (k : Nat) : nI k &&& 65535 = nI (k % 65536) := by
  show nI k &&& nI 65535 = _
  rw [nx_and, show (65535 : Nat) = 2 ^ 16 - 1 from rfl, Nat.and_two_pow_sub_one_eq_mod]
theorem nx_m16 {k : Nat} (h : k < 65536) : nI k &&& 65535 = nI k := by rw [nx_mod, Nat.mod_eq_of_lt h]
theorem nx_mask (x : Int32) : ∃ k, k < 65536 ∧ x &&& 65535 = nI k := by
  have e : x = nI x.toBitVec.toNat := by
    apply Int32.toBitVec_inj.1
    show x.toBitVec = BitVec.ofNat 32 x.toBitVec.toNat
    simp
  refine ⟨x.toBitVec.toNat % 65536, Nat.mod_lt _ (by omega), ?_⟩
  rw [← nx_mod, ← e]
/-! ===== Int32 as a set of bits: test, set ===== -/
def nf_M (m : Int32) : Nat := 4294967296 - m.toBitVec.toNat
theorem nf_sh : ∀ l, l < 32 → ((1 : Int32) <<< (nI l &&& 31)).toBitVec = BitVec.twoPow 32 l := by decide +kernel
theorem nf_sl : ∀ l, l < 32 → (((nI l).toUInt32 &&& Int32.toUInt32 31).toBitVec % 32).toNat = l := by decide +kernel
theorem nf_tp : ∀ l, l < 32 → BitVec.twoPow 32 l ≠ 0#32 := by decide +kernel
theorem nf_bit (m : Int32) (l : Nat) (hl : l < 32) : ((m.toUInt32 >>> ((nI l).toUInt32 &&& Int32.toUInt32 31)).toInt32 &&& 1) = 0 ↔ (m &&& ((1 : Int32) <<< (nI l &&& 31))) = 0 := by
  have e : ((m.toUInt32 >>> ((nI l).toUInt32 &&& Int32.toUInt32 31)).toInt32).toBitVec = m.toBitVec >>> l := by
    show m.toBitVec >>> (((nI l).toUInt32 &&& Int32.toUInt32 31).toBitVec % 32) = m.toBitVec >>> l
    rw [BitVec.ushiftRight_eq', nf_sl l hl]
  rw [← Int32.toBitVec_inj, ← Int32.toBitVec_inj, Int32.toBitVec_and, Int32.toBitVec_and, nf_sh l hl, e, BitVec.and_twoPow]
  show (m.toBitVec >>> l &&& 1#32) = 0#32 ↔ _ = 0#32
  rw [BitVec.and_one_eq_setWidth_ofBool_getLsbD, BitVec.getLsbD_ushiftRight, Nat.add_zero]
  cases hb : m.toBitVec.getLsbD l
  · exact ⟨fun _ => by simp, fun _ => by decide⟩
  · exact ⟨fun z => absurd z (by decide), fun z => absurd ((if_pos rfl).symm.trans z) (nf_tp l hl)⟩
theorem nf_gr (m k : Int32) (h : m &&& k = 0) (hk : k ≠ 0) : nf_M (m ||| k) < nf_M m := by
  have hm := m.toBitVec.isLt
  have hm' := (m ||| k).toBitVec.isLt
  have h1 : m.toBitVec.toNat ≤ (m ||| k).toBitVec.toNat := by
    rw [Int32.toBitVec_or, BitVec.toNat_or]
    exact Nat.left_le_or
  have h2 : m.toBitVec.toNat ≠ (m ||| k).toBitVec.toNat := by
    intro e
    have e2 : m = m ||| k := Int32.toBitVec_inj.mp (BitVec.eq_of_toNat_eq e)
    apply hk
    apply Int32.toBitVec_inj.mp
    show k.toBitVec = 0#32
    apply BitVec.eq_of_getLsbD_eq
    intro i hi
    have a : m.toBitVec.getLsbD i = (m.toBitVec.getLsbD i || k.toBitVec.getLsbD i) := by rw [← BitVec.getLsbD_or, ← Int32.toBitVec_or, ← e2]
    have b : (m.toBitVec.getLsbD i && k.toBitVec.getLsbD i) = false := by
      rw [← BitVec.getLsbD_and, ← Int32.toBitVec_and, h]
      exact BitVec.getLsbD_zero
    rw [BitVec.getLsbD_zero]
    revert a b
    cases m.toBitVec.getLsbD i <;> cases k.toBitVec.getLsbD i <;> simp
  unfold nf_M
  omega
/-! ===== a byte read unsigned ===== -/
theorem bp_b (x : Int32) : x.toInt8.toInt32 &&& 255 = x &&& 255 := by
  apply Int32.toBitVec_inj.mp
  rw [Int32.toBitVec_and, Int32.toBitVec_and, Int8.toBitVec_toInt32, Int32.toBitVec_toInt8]
  apply BitVec.eq_of_getLsbD_eq
  intro i hi
  rw [BitVec.getLsbD_and, BitVec.getLsbD_and]
  have hm : ∀ i < 32, 8 ≤ i → (255 : Int32).toBitVec.getLsbD i = false := by decide
  rcases Nat.lt_or_ge i 8 with z | z
  · rw [BitVec.getLsbD_signExtend, BitVec.getLsbD_signExtend, if_pos z, if_pos hi]
    simp only [z, hi, decide_true, Bool.true_and]
  · rw [hm i hi z]; simp
/-! ===== the char cast and 65535 ===== -/
theorem em_w (v : Int32) : ∃ w : Nat, w < 65536 ∧ (v.toUInt32 % 65536).toInt32 = nI w ∧ v &&& 65535 = nI w := by
  have hr := lw_u16_r v
  have h0 : (0 : Int32).toInt = 0 := by decide
  obtain ⟨w, h1, h2⟩ := nI_of (x := lw_u16 v) (by rw [Int32.lt_iff_toInt_lt]; omega)
  have h3 : (v.toUInt32 % 65536).toInt32 = nI w := h2
  rw [h2, nI_toInt h1] at hr
  exact ⟨w, by omega, h3, by rw [← lg_i2c_mask, ← lg_i2c_nf, h3]⟩
/-! ===== Int64 as a set of bits: test, set, clear ===== -/
theorem ts_nf {x : Bool} (h : ¬ x = false) : x = true := by cases x <;> first | rfl | exact absurd rfl h
theorem ts_nt {x : Bool} (h : ¬ x = true) : x = false := by cases x <;> first | rfl | exact absurd rfl h
theorem ts_bit {w : Int64} {s : UInt64} {j : Nat} (hj : j < 64) (hs : s.toNat = j) : ((w.toUInt64 >>> s).toInt64 &&& 1) = 0 ↔ w.toBitVec.getLsbD j = false := by
  have e : (w.toUInt64 >>> s).toInt64.toBitVec = w.toBitVec >>> j := by
    apply BitVec.eq_of_toNat_eq
    show (w.toUInt64 >>> s).toNat = _
    rw [UInt64.toNat_shiftRight, hs, Nat.mod_eq_of_lt hj, BitVec.toNat_ushiftRight]
    rfl
  rw [← Int64.toBitVec_inj, Int64.toBitVec_and, e]
  show w.toBitVec >>> j &&& 1#64 = 0#64 ↔ _
  constructor
  · intro h
    have t := congrArg (fun x => x.getLsbD 0) h
    simpa using t
  · intro h
    apply BitVec.eq_of_getLsbD_eq
    intro i hi
    cases i with
    | zero => simp [h]
    | succ i => simp
theorem ts_or {w m : Int64} {j : Nat} (hj : j < 64) (hm : m.toBitVec = BitVec.twoPow 64 j) : (w ||| m) = w ↔ w.toBitVec.getLsbD j = true := by
  rw [← Int64.toBitVec_inj, Int64.toBitVec_or, hm]
  constructor
  · intro h
    have t := congrArg (fun x => x.getLsbD j) h
    simp only [BitVec.getLsbD_or, BitVec.getLsbD_twoPow] at t
    simpa [hj] using t.symm
  · intro h
    apply BitVec.eq_of_getLsbD_eq
    intro i hi
    rw [BitVec.getLsbD_or, BitVec.getLsbD_twoPow]
    by_cases e : j = i
    · subst e; rw [h, Bool.true_or]
    · simp [e]
theorem ts_and {w m : Int64} {j : Nat} (hj : j < 64) (hm : m.toBitVec = BitVec.twoPow 64 j) : (w &&& (m ^^^ (-1))) = w ↔ w.toBitVec.getLsbD j = false := by
  have ha : (-1 : Int64).toBitVec = BitVec.allOnes 64 := by decide
  rw [← Int64.toBitVec_inj, Int64.toBitVec_and, Int64.toBitVec_xor, hm, ha]
  constructor
  · intro h
    have t := congrArg (fun x => x.getLsbD j) h
    simp only [BitVec.getLsbD_and, BitVec.getLsbD_xor, BitVec.getLsbD_twoPow, BitVec.getLsbD_allOnes] at t
    simpa [hj] using t.symm
  · intro h
    apply BitVec.eq_of_getLsbD_eq
    intro i hi
    rw [BitVec.getLsbD_and, BitVec.getLsbD_xor, BitVec.getLsbD_twoPow, BitVec.getLsbD_allOnes]
    by_cases e : j = i
    · subst e; rw [h, Bool.false_and]
    · simp [e, hi]
/-! ===== lN n to 2^64: shifts, and, or, masks, one bit ===== -/
theorem wb_tb (n : Nat) : (lN n).toBitVec = BitVec.ofNat 64 n := rfl
theorem wb_inj {a b : Int64} (h : a.toBitVec = b.toBitVec) : a = b := Int64.toBitVec_inj.mp h
theorem wb_tn {n : Nat} (h : n < 2 ^ 64) : (lN n).toBitVec.toNat = n := by rw [wb_tb, BitVec.toNat_ofNat, Nat.mod_eq_of_lt h]
theorem wb_of (x : Int64) : ∃ n, n < 2 ^ 64 ∧ x = lN n := ⟨x.toBitVec.toNat, x.toBitVec.isLt, wb_inj (by rw [wb_tb]; simp)⟩
theorem wb_of32 (x : Int32) : ∃ n, n < 2 ^ 32 ∧ x = nI n := ⟨x.toBitVec.toNat, x.toBitVec.isLt, Int32.toBitVec_inj.mp (by show _ = BitVec.ofNat 32 _; simp)⟩
theorem wb_c : ∀ k, k < 64 → ((nI k).toInt64 &&& 63) = lN k := by decide +kernel
theorem wb_cu : ∀ k, k < 64 → ((nI k).toInt64.toUInt64 &&& Int64.toUInt64 63) = UInt64.ofNat k := by decide +kernel
theorem wb_sm : ∀ k, k < 64 → (BitVec.ofNat 64 k).smod 64 = BitVec.ofNat 64 k := by decide +kernel
theorem wb_pw {a b : Nat} (h : a ≤ b) : 2 ^ b = 2 ^ a * 2 ^ (b - a) := by rw [← Nat.pow_add]; congr 1; omega
theorem wb_lt2 {a b : Nat} (h : a < b) : 2 ^ a < 2 ^ b := Nat.pow_lt_pow_right (by decide) h
theorem wb_mod (n : Nat) : lN n = lN (n % 2 ^ 64) := wb_inj (by rw [wb_tb, wb_tb]; apply BitVec.eq_of_toNat_eq; rw [BitVec.toNat_ofNat, BitVec.toNat_ofNat, Nat.mod_mod])
theorem wb_shr {n k : Nat} (hn : n < 2 ^ 64) (hk : k < 64) : ((lN n).toUInt64 >>> ((nI k).toInt64.toUInt64 &&& Int64.toUInt64 63)).toInt64 = lN (n / 2 ^ k) := by
  rw [wb_cu k hk]
  apply wb_inj
  apply BitVec.eq_of_toNat_eq
  show ((lN n).toUInt64 >>> UInt64.ofNat k).toNat = (BitVec.ofNat 64 _).toNat
  have h1 : (UInt64.ofNat k).toNat = k := by
    show (BitVec.ofNat 64 k).toNat = k
    rw [BitVec.toNat_ofNat, Nat.mod_eq_of_lt (by omega)]
  have h2 : (lN n).toUInt64.toNat = n := wb_tn hn
  rw [UInt64.toNat_shiftRight, h1, h2, Nat.mod_eq_of_lt hk, Nat.shiftRight_eq_div_pow, BitVec.toNat_ofNat, Nat.mod_eq_of_lt (Nat.lt_of_le_of_lt (Nat.div_le_self _ _) hn)]
theorem wb_shl (n : Nat) {k : Nat} (hk : k < 64) : lN n <<< ((nI k).toInt64 &&& 63) = lN (n * 2 ^ k) := by
  rw [wb_c k hk]
  apply wb_inj
  rw [Int64.toBitVec_shiftLeft, wb_tb, wb_tb, wb_tb, wb_sm k hk]
  apply BitVec.eq_of_toNat_eq
  rw [BitVec.shiftLeft_eq', BitVec.toNat_shiftLeft, BitVec.toNat_ofNat, BitVec.toNat_ofNat, BitVec.toNat_ofNat, Nat.mod_eq_of_lt (show k < 2 ^ 64 by omega), Nat.shiftLeft_eq, Nat.mul_mod, Nat.mod_mod, ← Nat.mul_mod]
theorem wb_and {a b : Nat} (ha : a < 2 ^ 64) (hb : b < 2 ^ 64) : lN a &&& lN b = lN (a &&& b) := by
  apply wb_inj
  rw [Int64.toBitVec_and, wb_tb, wb_tb, wb_tb]
  apply BitVec.eq_of_toNat_eq
  rw [BitVec.toNat_and, BitVec.toNat_ofNat, BitVec.toNat_ofNat, BitVec.toNat_ofNat, Nat.mod_eq_of_lt ha, Nat.mod_eq_of_lt hb, Nat.mod_eq_of_lt (Nat.and_lt_two_pow _ hb)]
theorem wb_or {a b : Nat} (ha : a < 2 ^ 64) (hb : b < 2 ^ 64) : lN a ||| lN b = lN (a ||| b) := by
  apply wb_inj
  rw [Int64.toBitVec_or, wb_tb, wb_tb, wb_tb]
  apply BitVec.eq_of_toNat_eq
  rw [BitVec.toNat_or, BitVec.toNat_ofNat, BitVec.toNat_ofNat, BitVec.toNat_ofNat, Nat.mod_eq_of_lt ha, Nat.mod_eq_of_lt hb, Nat.mod_eq_of_lt (Nat.or_lt_two_pow ha hb)]
theorem wb_mask {n k : Nat} (hn : n < 2 ^ 64) (hk : k < 64) : lN n &&& lN (2 ^ k - 1) = lN (n % 2 ^ k) := by
  rw [wb_and hn (by have := wb_lt2 hk; omega), Nat.and_two_pow_sub_one_eq_mod]
theorem wb_a1 {n : Nat} (hn : n < 2 ^ 64) : lN n &&& 1 = lN (n % 2) := wb_mask (k := 1) hn (by decide)
theorem wb_bit {n k : Nat} (hn : n < 2 ^ 64) (hk : k < 64) : ((lN n).toUInt64 >>> ((nI k).toInt64.toUInt64 &&& Int64.toUInt64 63)).toInt64 &&& 1 = lN (n / 2 ^ k % 2) := by
  rw [wb_shr hn hk, wb_a1 (Nat.lt_of_le_of_lt (Nat.div_le_self _ _) hn)]
theorem wb_xor {q k : Nat} (hk : k < 63) (h : 2 ^ k ≤ q) (h2 : q < 2 ^ (k + 1)) : lN q ^^^ lN (2 ^ k) = lN (q - 2 ^ k) := by
  obtain ⟨r, rfl⟩ : ∃ r, q = 2 ^ k + r := ⟨q - 2 ^ k, by omega⟩
  have hr : r < 2 ^ k := by rw [Nat.pow_succ] at h2; omega
  have hx : (2 ^ k + r) ^^^ 2 ^ k = r := by
    apply Nat.eq_of_testBit_eq
    intro i
    rw [Nat.testBit_xor, Nat.testBit_two_pow]
    rcases Nat.lt_trichotomy i k with h | h | h
    · rw [Nat.testBit_two_pow_add_gt h]
      simp [show ¬ k = i by omega]
    · subst h
      rw [Nat.testBit_two_pow_add_eq]
      simp
    · have a1 : 2 ^ (k + 1) ≤ 2 ^ i := Nat.pow_le_pow_right (by decide) h
      rw [Nat.testBit_lt_two_pow (show 2 ^ k + r < 2 ^ i by omega), Nat.testBit_lt_two_pow (show r < 2 ^ i by omega)]
      simp [show ¬ k = i by omega]
  have b1 := wb_lt2 (show k + 1 < 64 by omega)
  have b2 := wb_lt2 (show k < 64 by omega)
  apply wb_inj
  rw [Int64.toBitVec_xor, wb_tb, wb_tb, wb_tb]
  apply BitVec.eq_of_toNat_eq
  rw [BitVec.toNat_xor, BitVec.toNat_ofNat, BitVec.toNat_ofNat, BitVec.toNat_ofNat, Nat.mod_eq_of_lt (by omega : 2 ^ k + r < 2 ^ 64), Nat.mod_eq_of_lt b2, hx, Nat.add_sub_cancel_left, Nat.mod_eq_of_lt (by omega)]
/-! ===== lN: masks, 'or' of parts that don't overlap is a sum ===== -/
theorem u_tn {n : Nat} (h : n < 2 ^ 64) : (UInt64.ofNat n).toNat = n := Nat.mod_eq_of_lt h
theorem g_and {a b c : Nat} (ha : a < 2 ^ 64) (hb : b < 2 ^ 64) (hc : a &&& b = c) : lN a &&& lN b = lN c := by
  subst hc
  have h : UInt64.ofNat a &&& UInt64.ofNat b = UInt64.ofNat (a &&& b) := UInt64.toNat_inj.mp (by rw [UInt64.toNat_and, u_tn ha, u_tn hb, u_tn (Nat.and_lt_two_pow a hb)])
  have h2 := congrArg UInt64.toInt64 h
  exact h2
theorem g_and1 {a : Nat} (ha : a < 2 ^ 64) : lN a &&& 1 = lN (a % 2) := g_and (b := 1) ha (by decide) (Nat.and_two_pow_sub_one_eq_mod a 1)
theorem g_mask {a s p : Nat} (hp : 2 ^ s = p) (hs : s < 64) (ha : a < 2 ^ 64) : lN a &&& lN (p - 1) = lN (a % p) := by
  subst hp
  have := Nat.pow_lt_pow_right (show 1 < 2 by decide) hs
  exact g_and ha (by omega) (Nat.and_two_pow_sub_one_eq_mod a s)
theorem g_or {k p a b : Nat} (hp : 2 ^ k = p) (ha : a < p) (h : b * p + a < 2 ^ 64) : lN (b * p) ||| lN a = lN (b * p + a) := by
  subst hp
  have h1 : b * 2 ^ k ||| a = b * 2 ^ k + a := by rw [← Nat.shiftLeft_eq, Nat.shiftLeft_add_eq_or_of_lt ha]
  have h3 : UInt64.ofNat (b * 2 ^ k) ||| UInt64.ofNat a = UInt64.ofNat (b * 2 ^ k + a) := UInt64.toNat_inj.mp (by rw [UInt64.toNat_or, u_tn (by omega), u_tn (by omega), u_tn h, h1])
  have h2 := congrArg UInt64.toInt64 h3
  exact h2
theorem g_or' {k p a b : Nat} (hp : 2 ^ k = p) (ha : a < p) (h : a + b * p < 2 ^ 64) : lN a ||| lN (b * p) = lN (a + b * p) := by
  rw [Int64.or_comm, g_or hp ha (by omega), Nat.add_comm]
theorem g_ushr {a k p : Nat} {y : UInt64} (hy : y = UInt64.ofNat k) (hk : k < 64) (hp : 2 ^ k = p) (ha : a < 2 ^ 64) : ((lN a).toUInt64 >>> y).toInt64 = lN (a / p) := by
  subst hy hp
  have h : UInt64.ofNat a >>> UInt64.ofNat k = UInt64.ofNat (a / 2 ^ k) := UInt64.toNat_inj.mp (by rw [UInt64.toNat_shiftRight, u_tn ha, u_tn (by omega), u_tn (Nat.lt_of_le_of_lt (Nat.div_le_self _ _) ha), Nat.mod_eq_of_lt hk, Nat.shiftRight_eq_div_pow])
  have h2 := congrArg UInt64.toInt64 h
  exact h2
theorem g_shl {a k p : Nat} {y : Int64} (hy : y.toBitVec.smod 64 = BitVec.ofNat 64 k) (hk : k < 64) (hp : 2 ^ k = p) (ha : a < 2 ^ 64) : lN a <<< y = lN (a * p) := by
  subst hp
  apply Int64.toBitVec_inj.mp
  rw [Int64.toBitVec_shiftLeft, hy]
  apply BitVec.eq_of_toNat_eq
  have hb : (lN a).toBitVec.toNat = a := Nat.mod_eq_of_lt ha
  have hk' : (BitVec.ofNat 64 k).toNat = k := Nat.mod_eq_of_lt (by omega)
  have h : ((lN a).toBitVec <<< BitVec.ofNat 64 k).toNat = (a * 2 ^ k) % 2 ^ 64 := by simp only [BitVec.shiftLeft_eq', BitVec.toNat_shiftLeft, hb, hk', Nat.shiftLeft_eq]
  exact h
/-! ===== lN to 2^62 under >> and >>> ===== -/
theorem pf_lI {a : Nat} (h : a < 2 ^ 63) : (lN a).toInt = (a : Int) := lg_ofNat_toInt h
theorem pf_shr {a d : Nat} {D : Int64} (hD : (D.toBitVec.smod 64).toNat = d) (h : a < 2 ^ 62) : lN a >>> D = lN (a / 2 ^ d) := by
  have hd : a / 2 ^ d ≤ a := Nat.div_le_self _ _
  apply Int64.toInt_inj.mp
  have e : (lN a >>> D).toInt = (lN a).toInt >>> d := by
    rw [← hD]
    exact BitVec.toInt_sshiftRight ..
  rw [e, Int.shiftRight_eq_div_pow, pf_lI (by omega), pf_lI (by omega)]
  rfl
theorem pf_ushr {a d : Nat} {D : UInt64} (hD : D.toNat % 64 = d) (h : a < 2 ^ 62) : ((lN a).toUInt64 >>> D).toInt64 = lN (a / 2 ^ d) := by
  have hd : a / 2 ^ d ≤ a := Nat.div_le_self _ _
  have e : (lN a).toUInt64 >>> D = UInt64.ofNat (a / 2 ^ d) := UInt64.toNat_inj.mp (by
    rw [UInt64.toNat_shiftRight, hD, Nat.shiftRight_eq_div_pow, UInt64.toNat_ofNat']
    show (UInt64.ofNat a).toNat / 2 ^ d = _
    rw [UInt64.toNat_ofNat', Nat.mod_eq_of_lt (by omega), Nat.mod_eq_of_lt (by omega)])
  rw [e]
  rfl
theorem pf_andw (x : Int64) : ∃ m, m < 2 ^ 32 ∧ x &&& 4294967295 = lN m := ⟨x.toBitVec.toNat % 2 ^ 32, Nat.mod_lt _ (by decide), Int64.toBitVec_inj.mp (BitVec.eq_of_toNat_eq (by
  show (x.toBitVec &&& 4294967295#64).toNat = (BitVec.ofNat 64 (x.toBitVec.toNat % 2 ^ 32)).toNat
  rw [BitVec.toNat_and, show (4294967295#64).toNat = 2 ^ 32 - 1 from by decide, Nat.and_two_pow_sub_one_eq_mod, BitVec.toNat_ofNat]
  omega))⟩
/-! ===== Int64 as an unsigned number: uN x ===== -/
def uN (x : Int64) : Nat := x.toUInt64.toNat
theorem uN_lt (x : Int64) : uN x < 18446744073709551616 := x.toUInt64.toNat_lt
theorem uN_inj {x y : Int64} (h : uN x = uN y) : x = y := congrArg UInt64.toInt64 (UInt64.toNat_inj.mp h)
theorem uN_add (x y : Int64) : uN (x + y) = (uN x + uN y) % 18446744073709551616 := by
  show (x.toUInt64 + y.toUInt64).toNat = _
  exact UInt64.toNat_add _ _
theorem uN_mul (x y : Int64) : uN (x * y) = (uN x * uN y) % 18446744073709551616 := by
  show (x.toUInt64 * y.toUInt64).toNat = _
  exact UInt64.toNat_mul _ _
theorem uN_shl (x : Int64) : uN (x <<< ((1 : Int32).toInt64 &&& 63)) = (2 * uN x) % 18446744073709551616 := by
  have h : (((1 : Int32).toInt64 &&& 63).toBitVec.smod 64).toNat = 1 := by decide
  show (x.toBitVec <<< (((1 : Int32).toInt64 &&& 63).toBitVec.smod 64).toNat).toNat = _
  rw [h, BitVec.toNat_shiftLeft, Nat.shiftLeft_eq, Nat.mul_comm]
  rfl
theorem uN_shr (x : Int64) (s : UInt64) : uN (x.toUInt64 >>> s).toInt64 = uN x / 2 ^ (s.toNat % 64) := by
  show (x.toUInt64 >>> s).toNat = _
  rw [UInt64.toNat_shiftRight, Nat.shiftRight_eq_div_pow]
  rfl
theorem uN_s32 (x : Int64) : uN (x.toUInt64 >>> ((32 : Int32).toInt64.toUInt64 &&& Int64.toUInt64 63)).toInt64 = uN x / 4294967296 := by
  have h : ((32 : Int32).toInt64.toUInt64 &&& Int64.toUInt64 63).toNat % 64 = 32 := by decide
  rw [uN_shr, h]
theorem uN_s63 (x : Int64) : uN (x.toUInt64 >>> ((63 : Int32).toInt64.toUInt64 &&& Int64.toUInt64 63)).toInt64 = uN x / 9223372036854775808 := by
  have h : ((63 : Int32).toInt64.toUInt64 &&& Int64.toUInt64 63).toNat % 64 = 63 := by decide
  rw [uN_shr, h]
theorem uN_lo (x : Int64) : uN (x &&& 4294967295) = uN x % 4294967296 := by
  show (x.toUInt64 &&& Int64.toUInt64 4294967295).toNat = _
  rw [UInt64.toNat_and]
  exact Nat.and_two_pow_sub_one_eq_mod _ 32
theorem uN_bit (x : Int64) : (x &&& 1) = 0 ↔ uN x % 2 = 0 := by
  have h : uN (x &&& 1) = uN x % 2 := by
    show (x.toUInt64 &&& Int64.toUInt64 1).toNat = _
    rw [UInt64.toNat_and]
    exact Nat.and_two_pow_sub_one_eq_mod _ 1
  rw [← h]
  exact ⟨fun z => by rw [z]; rfl, fun z => uN_inj (z.trans rfl)⟩
theorem uN_or {x y : Int64} (hy : uN y < 2) : uN ((x <<< ((1 : Int32).toInt64 &&& 63)) ||| y) = (2 * uN x) % 18446744073709551616 + uN y := by
  have h1 : uN ((x <<< ((1 : Int32).toInt64 &&& 63)) ||| y) = uN (x <<< ((1 : Int32).toInt64 &&& 63)) ||| uN y := UInt64.toNat_or _ _
  have h2 : (2 * uN x) % 18446744073709551616 = 2 ^ 1 * (uN x % 9223372036854775808) := by omega
  rw [h1, uN_shl, h2]
  exact (Nat.two_pow_add_eq_or_of_lt (i := 1) hy _).symm
theorem nat_xor {a : Nat} (h : a < 18446744073709551616) : a ^^^ 2 ^ 63 = (a + 9223372036854775808) % 18446744073709551616 := by
  have h1 : (a ^^^ 2 ^ 63) % 2 ^ 63 = a % 2 ^ 63 := by rw [Nat.xor_mod_two_pow, Nat.mod_self, Nat.xor_zero]
  have h2 : (a ^^^ 2 ^ 63) / 2 ^ 63 = (a / 2 ^ 63) ^^^ 1 := by rw [Nat.xor_div_two_pow, Nat.div_self (Nat.two_pow_pos 63)]
  have h3 : a / 2 ^ 63 = 0 ∨ a / 2 ^ 63 = 1 := by omega
  generalize a ^^^ 2 ^ 63 = t at h1 h2
  rcases h3 with h3 | h3
  · rw [h3] at h2
    have h2 : t / 2 ^ 63 = 1 := h2
    omega
  · rw [h3] at h2
    have h2 : t / 2 ^ 63 = 0 := h2
    omega
theorem uN_xor (x : Int64) : uN (x ^^^ (-9223372036854775808)) = (uN x + 9223372036854775808) % 18446744073709551616 := by
  rw [← nat_xor (uN_lt x)]
  exact UInt64.toNat_xor _ _
theorem uN_int (x : Int64) : x.toInt = if 2 * uN x < 18446744073709551616 then (uN x : Int) else (uN x : Int) - 18446744073709551616 := BitVec.toInt_eq_toNat_cond _
theorem uN_le (x y : Int64) : (x ^^^ (-9223372036854775808)) ≤ (y ^^^ (-9223372036854775808)) ↔ uN x ≤ uN y := by
  have hx := uN_lt x
  have hy := uN_lt y
  rw [Int64.le_iff_toInt_le, uN_int, uN_int, uN_xor, uN_xor]
  omega
theorem uN_sk (x : Int64) {k : Nat} (hk : k < 64) : uN (x.toUInt64 >>> ((nI k).toInt64.toUInt64 &&& Int64.toUInt64 63)).toInt64 = uN x / 2 ^ k := by
  have h : ((nI k).toInt64.toUInt64 &&& Int64.toUInt64 63).toNat % 64 = k := by
    rw [nI_l (by omega), UInt64.toNat_and]
    have e : (lN k).toUInt64.toNat = k % 2 ^ 64 := rfl
    have e2 : (Int64.toUInt64 63).toNat = 2 ^ 6 - 1 := by decide
    rw [e, e2, Nat.and_two_pow_sub_one_eq_mod]
    omega
  rw [uN_shr, h]
/-! ===== unsigned comparison by xor with the least ===== -/
theorem lN_bv (n : Nat) : (lN n).toBitVec = BitVec.ofNat 64 n := rfl
theorem lN_nat {n : Nat} (h : n < 2 ^ 64) : (lN n).toBitVec.toNat = n := by rw [lN_bv, BitVec.toNat_ofNat]; exact Nat.mod_eq_of_lt h
theorem lN_xor (a b : Nat) : lN a ^^^ lN b = lN (a ^^^ b) := by
  apply Int64.toBitVec_inj.mp; rw [Int64.toBitVec_xor, lN_bv, lN_bv, lN_bv]; apply BitVec.eq_of_getLsbD_eq; intro i hi; simp [BitVec.getLsbD_ofNat, Nat.testBit_xor, hi]
theorem lN_ti {m : Nat} (h : m < 2 ^ 64) : (lN m).toInt = if m < 2 ^ 63 then (m : Int) else (m : Int) - 2 ^ 64 := by
  have c := BitVec.toInt_eq_toNat_cond (lN m).toBitVec
  rw [lN_nat h] at c
  show (lN m).toBitVec.toInt = _
  rw [c]
  split <;> split <;> omega
theorem xor63 {x : Nat} (h : x < 2 ^ 63) : x ^^^ 2 ^ 63 = 2 ^ 63 + x := by
  apply Nat.eq_of_testBit_eq
  intro i
  rw [Nat.testBit_xor, Nat.testBit_two_pow]
  rcases Nat.lt_trichotomy i 63 with z | z | z
  · rw [Nat.testBit_two_pow_add_gt z, decide_eq_false (by omega)]; simp
  · subst z; rw [Nat.testBit_two_pow_add_eq]; simp
  · have hp : 2 ^ 64 ≤ 2 ^ i := Nat.pow_le_pow_right (by decide) z
    rw [Nat.testBit_lt_two_pow (show x < 2 ^ i by omega), Nat.testBit_lt_two_pow (show 2 ^ 63 + x < 2 ^ i by omega), decide_eq_false (by omega)]; rfl
theorem xorS {a : Nat} (h : a < 2 ^ 64) : (lN a ^^^ (-9223372036854775808)).toInt = (a : Int) - 2 ^ 63 := by
  rw [show (-9223372036854775808 : Int64) = lN (2 ^ 63) from by decide +kernel, lN_xor]
  rcases Nat.lt_or_ge a (2 ^ 63) with z | z
  · rw [xor63 z, lN_ti (by omega), if_neg (by omega)]; omega
  · obtain ⟨x, rfl⟩ : ∃ x, a = 2 ^ 63 + x := ⟨a - 2 ^ 63, by omega⟩
    rw [← xor63 (by omega), Nat.xor_assoc, Nat.xor_self, Nat.xor_zero, lN_ti (by omega), if_pos (by omega), xor63 (by omega)]; omega
theorem ultL {a b : Nat} (ha : a < 2 ^ 64) (hb : b < 2 ^ 64) : ((lN b ^^^ (-9223372036854775808)) ≤ (lN a ^^^ (-9223372036854775808))) ↔ b ≤ a := by
  rw [Int64.le_iff_toInt_le, xorS ha, xorS hb]; omega
/-! ===== Int64 masks of n low bits ===== -/
theorem cr_bits (W U M : BitVec 64) : ((W &&& U) &&& (U &&& (M ^^^ BitVec.allOnes 64))) = 0#64 ↔ (W &&& U) &&& M = W &&& U := by
  constructor
  · intro h
    apply BitVec.eq_of_getLsbD_eq
    intro i hi
    have e := congrArg (fun x => BitVec.getLsbD x i) h
    simp only [BitVec.getLsbD_and, BitVec.getLsbD_xor, BitVec.getLsbD_allOnes, BitVec.getLsbD_zero, hi, decide_true] at e ⊢
    revert e
    cases W.getLsbD i <;> cases U.getLsbD i <;> cases M.getLsbD i <;> decide
  · intro h
    apply BitVec.eq_of_getLsbD_eq
    intro i hi
    have e := congrArg (fun x => BitVec.getLsbD x i) h
    simp only [BitVec.getLsbD_and, BitVec.getLsbD_xor, BitVec.getLsbD_allOnes, BitVec.getLsbD_zero, hi, decide_true] at e ⊢
    revert e
    cases W.getLsbD i <;> cases U.getLsbD i <;> cases M.getLsbD i <;> decide
theorem cr_mask (w U m : Int64) (n : Nat) (hm : m.toBitVec.toNat = 2 ^ n - 1) : ((w &&& U) &&& (U &&& (m ^^^ (-1)))) = 0 ↔ (w &&& U).toBitVec.toNat < 2 ^ n := by
  have e0 : (-1 : Int64).toBitVec = BitVec.allOnes 64 := by decide
  have z0 : (0 : Int64).toBitVec = 0#64 := by decide
  rw [← Int64.toBitVec_inj, z0, Int64.toBitVec_and, Int64.toBitVec_and, Int64.toBitVec_and, Int64.toBitVec_xor, e0, cr_bits]
  generalize w.toBitVec &&& U.toBitVec = T
  rw [← BitVec.toNat_inj, BitVec.toNat_and, hm, Nat.and_two_pow_sub_one_eq_mod]
  constructor
  · intro h
    have t := Nat.mod_lt T.toNat (Nat.two_pow_pos n)
    rw [h] at t
    exact t
  · exact Nat.mod_eq_of_lt
theorem cr_shr (t : Int64) (x : UInt64) (n : Nat) (hx : x.toNat % 64 = n) : (t.toUInt64 >>> x).toInt64 = 0 ↔ t.toBitVec.toNat < 2 ^ n := by
  rw [← Int64.toBitVec_inj, ← BitVec.toNat_inj]
  show (t.toUInt64 >>> x).toNat = 0 ↔ t.toUInt64.toNat < 2 ^ n
  rw [UInt64.toNat_shiftRight, hx, Nat.shiftRight_eq_div_pow]
  constructor
  · intro h
    have d : t.toUInt64.toNat / 2 ^ n < 1 := by
      rw [h]
      decide
    have e := (Nat.div_lt_iff_lt_mul (Nat.two_pow_pos n)).mp d
    rw [Nat.one_mul] at e
    exact e
  · exact Nat.div_eq_of_lt
theorem cr_amt (s : Int64) : ∃ n, n < 64 ∧ s &&& 63 = lN n ∧ (s.toUInt64 &&& Int64.toUInt64 63).toNat % 64 = n := by
  have e : (s.toUInt64 &&& Int64.toUInt64 63).toNat = s.toUInt64.toNat % 2 ^ 6 := by
    rw [UInt64.toNat_and, show (Int64.toUInt64 63).toNat = 2 ^ 6 - 1 from by decide, Nat.and_two_pow_sub_one_eq_mod]
  refine ⟨s.toUInt64.toNat % 2 ^ 6, by omega, ?_, by omega⟩
  rw [← Int64.toBitVec_inj, ← BitVec.toNat_inj]
  show (s.toUInt64 &&& Int64.toUInt64 63).toNat = (BitVec.ofNat 64 (s.toUInt64.toNat % 2 ^ 6)).toNat
  rw [e, BitVec.toNat_ofNat]
  omega
end
section
/-! pure definitions: what both sides keep, and the arithmetic of words, counts and the digest -/
def uf_one (st da : Nat → Int32) (j : Nat) : Nat := if da j = 0 ∧ (st j = 1 ∨ st j = 2) then 1 else 0
def uf_ct (st da : Nat → Int32) : Nat → Nat
  | 0 => 0
  | j + 1 => uf_ct st da j + uf_one st da j
/-- how many threads live that are no daemons -/
def uf_on (st da : Nat → Int32) : Nat := uf_ct st da 4
/-- the word of a thread that ended the run by an exit -/
def uf_h3 (w : Int64) : Prop := ((w.toUInt64 >>> ((32 : Int32).toInt64.toUInt64 &&& Int64.toUInt64 63)).toInt64) = 3
def uf_nx (fa : Nat → Int64) : Prop := ∀ j, j < 4 → ¬ uf_h3 (fa j)
def uf_w (x : Int32) : Int64 := 12884901888 ||| (x.toInt64 &&& 4294967295)
def uf_b3 (x : Int32) : Nat := if x = 3 then 1 else 0
/-- how many threads have ended -/
def uf_c3 (st : Nat → Int32) : Nat := uf_b3 (st 0) + uf_b3 (st 1) + uf_b3 (st 2) + uf_b3 (st 3)
def uf_e1 (x : Int32) : Nat := if x = 0 then 0 else 1
/-- how many groups there are -/
def uf_ce (ge : Nat → Int32) : Nat := uf_e1 (ge 0) + uf_e1 (ge 1) + uf_e1 (ge 2) + uf_e1 (ge 3)
def uf_dg (lt lc : Nat → Int32) : Nat → Int64
  | 0 => 0
  | m + 1 => ((uf_dg lt lc m * 1000003) + ((((lt m).toInt64) <<< ((16 : Int32).toInt64 &&& 63)) ||| ((lc m).toInt64))) + 1
/-- the digest is that of the log, which holds at most b rows -/
def uf_D (dg : Int64) (ln : Int32) (lt lc : Nat → Int32) (b : Nat) : Prop := ∃ m, m ≤ b ∧ ln = nI m ∧ dg = uf_dg lt lc m
/-- the main thread -/
def uf_M (md : Int32) (st da : Nat → Int32) (fa : Nat → Int64) : Prop := st 0 ≠ 0 ∧ da 0 = 0 ∧ (st 0 = 1 → md = 0 ∧ fa 0 = 0) ∧ (st 0 = 2 → md ≠ 0) ∧ (st 0 ≠ 1 → st 0 ≠ 2 → (md = 0 ↔ fa 0 = 0))
/-- each thread: its group, its own handler, the chosen handler -/
def uf_T (st gr ow ch ge cu : Nat → Int32) : Prop := ∀ j, j < 4 → (st j = 1 → ∃ g, g < 4 ∧ gr j = nI g ∧ ge g ≠ 0) ∧ (∃ h, h < 5 ∧ ow j = nI h) ∧ (st j = 2 → ∃ h, 1 ≤ h ∧ h < 5 ∧ ch j = nI h ∧ cu j = nI h)
/-- the tree of groups, by a rank -/
def uf_K (rk : Nat → Nat) (ge gp pa : Nat → Int32) : Prop := (∀ j, j < 4 → ge j ≠ 0 → rk j < uf_ce ge) ∧ ∀ j, j < 4 → 1 ≤ j → ge j ≠ 0 → ∃ p, p < 4 ∧ pa j = nI p ∧ gp j = nI p ∧ ge p ≠ 0 ∧ rk p < rk j
def uf_G (ge gp go pa : Nat → Int32) : Prop := pa 0 = -1 ∧ go 0 = 0 ∧ (∀ j, j < 4 → (ge j = 0 ↔ pa j = -2)) ∧ (∀ j, j < 4 → ge j = 0 → go j = 0) ∧ (∀ j, j < 4 → ∃ h, h < 5 ∧ go j = nI h) ∧ ∃ rk, uf_K rk ge gp pa
def uf_Hw (b x : Int32) (w : Int64) : Prop := (b = 0 ∧ w = 4294967296) ∨ (b = 1 ∧ w = 8589934592) ∨ (b ≠ 0 ∧ b ≠ 1 ∧ w = uf_w x)
/-- what the handlers do -/
def uf_H (hb hx : Nat → Int32) (be : Nat → Int64) : Prop := be 0 = 4294967296 ∧ ∀ h, 1 ≤ h → h < 5 → uf_Hw (hb h) (hx h) (be h)
def uf_C (dh : Int32) (dg : Int64) (md : Int32) (st da gr ow ch ge gp go hb hx : Nat → Int32) (ln : Int32) (pa cu : Nat → Int32) (be fa : Nat → Int64) (lt lc : Nat → Int32) : Prop :=
  uf_nx fa ∧ uf_M md st da fa ∧ uf_T st gr ow ch ge cu ∧ uf_G ge gp go pa ∧ uf_H hb hx be ∧ (∃ d, d < 5 ∧ dh = nI d) ∧ uf_D dg ln lt lc (uf_c3 st)
/-- the run is over: no thread lives, or an exit -/
def uf_off (st da : Nat → Int32) (fa : Nat → Int64) : Prop := uf_on st da = 0 ∨ ∃ t, t < 4 ∧ uf_h3 (fa t) ∧ ∀ j, j < t → ¬ uf_h3 (fa j)
def uf_E (ec xc md : Int32) (st da : Nat → Int32) (fa : Nat → Int64) : Prop := (ec = 0 ∧ uf_on st da = 0 ∧ uf_nx fa ∧ (md = 0 ↔ fa 0 = 0)) ∨ (ec ≠ 0 ∧ ∃ t, t < 4 ∧ uf_h3 (fa t) ∧ (∀ j, j < t → ¬ uf_h3 (fa j)) ∧ fa t &&& 4294967295 = xc.toInt64 &&& 4294967295)
theorem uf_E_off {ec xc md : Int32} {st da : Nat → Int32} {fa : Nat → Int64} (h : uf_E ec xc md st da fa) : uf_off st da fa := by
  rcases h with ⟨_, h, _⟩ | ⟨_, t, h1, h2, h3, _⟩
  · exact Or.inl h
  · exact Or.inr ⟨t, h1, h2, h3⟩
/-! small numbers -/
theorem uf_4 {t : Nat} (h : t < 4) : t = 0 ∨ t = 1 ∨ t = 2 ∨ t = 3 := by omega
theorem uf_byte : ∀ t, t < 8 → vp_nar .byte (nI t).toInt8.toInt32 = nI t := by decide +kernel
theorem uf_short : ∀ t, t < 8 → vp_nar .short (nI t).toInt16.toInt32 = nI t := by decide +kernel
theorem uf_i16 : ∀ t, t < 8 → (nI t).toInt16.toInt32 = nI t := by decide +kernel
theorem uf_a3 : ∀ t, t < 4 → nI t &&& 3 = nI t := by decide +kernel
theorem uf_a7 : ∀ t, t < 8 → nI t &&& 7 = nI t := by decide +kernel
theorem uf_s1 : ∀ t, t < 8 → nI t >>> ((1 : Int32) &&& 31) = nI (t / 2) := by decide +kernel
theorem uf_m1 : ∀ t, t < 8 → nI t &&& 1 = nI (t % 2) := by decide +kernel
theorem uf_nb0 : vp_nar .boolean 0 = 0 := by decide +kernel
theorem uf_nb1 : vp_nar .boolean 1 = 1 := by decide +kernel
theorem uf_ny1 : vp_nar .byte 1 = 1 := by decide +kernel
theorem uf_ny3 : vp_nar .byte 3 = 3 := by decide +kernel
theorem uf_nym1 : vp_nar .byte (-1) = -1 := by decide +kernel
theorem uf_nym2 : vp_nar .byte (-2) = -2 := by decide +kernel
theorem uf_ny2 : vp_nar .byte (((1 : Int32) + 1).toInt8.toInt32) = 2 := by decide +kernel
theorem uf_rg (x M : Int32) (n : Nat) (hM : M.toInt = n) : x < 0 ∨ (¬ x < 0 ∧ ¬ x ≤ M) ∨ ∃ j, j ≤ n ∧ x = nI j ∧ ¬ x < 0 ∧ x ≤ M := by
  by_cases h0 : x < 0
  · exact Or.inl h0
  · by_cases h1 : x ≤ M
    · obtain ⟨j, hj, e⟩ := nI_of2 hM h0 h1
      exact Or.inr (Or.inr ⟨j, hj, e, h0, h1⟩)
    · exact Or.inr (Or.inl ⟨h0, h1⟩)
theorem uf_uu (f : Nat → Int32) (t : Nat) (a b : Int32) : upd (upd f t a) t b = upd f t b := by
  funext j
  by_cases h : j = t
  · subst h; rw [pk_us, pk_us]
  · rw [pk_un h, pk_un h, pk_un h]
theorem uf_us (f : Nat → Int32) (t : Nat) (a : Int32) (h : f t = a) : upd f t a = f := by
  funext j
  by_cases e : j = t
  · subst e; rw [pk_us, h]
  · rw [pk_un e]
/-! words -/
theorem uf_wN (x : Int32) : ∃ m, m < 2 ^ 32 ∧ x.toInt64 &&& 4294967295 = lN m ∧ uf_w x = lN (3 * 4294967296 + m) := by
  obtain ⟨m, hm, e⟩ := pf_andw x.toInt64
  refine ⟨m, hm, e, ?_⟩
  show (12884901888 : Int64) ||| (x.toInt64 &&& 4294967295) = _
  rw [e, show (12884901888 : Int64) = lN (3 * 4294967296) from by decide +kernel]
  exact g_or (k := 32) (by decide) (by omega) (by omega)
theorem uf_w3 (x : Int32) : uf_h3 (uf_w x) := by
  obtain ⟨m, hm, _, e⟩ := uf_wN x
  show (((uf_w x).toUInt64 >>> ((nI 32).toInt64.toUInt64 &&& Int64.toUInt64 63)).toInt64) = 3
  rw [e, wb_shr (k := 32) (by omega) (by decide), show (3 * 4294967296 + m) / 2 ^ 32 = 3 from by omega]
  rfl
theorem uf_wm (x : Int32) : uf_w x &&& 4294967295 = x.toInt64 &&& 4294967295 := by
  obtain ⟨m, hm, e1, e⟩ := uf_wN x
  rw [e1, e, show (4294967295 : Int64) = lN (2 ^ 32 - 1) from by decide +kernel, wb_mask (k := 32) (by omega) (by decide)]
  exact congrArg lN (by omega)
theorem uf_n3a : ¬ uf_h3 4294967296 := by unfold uf_h3; decide +kernel
theorem uf_n3b : ¬ uf_h3 8589934592 := by unfold uf_h3; decide +kernel
theorem uf_n30 : ¬ uf_h3 0 := by unfold uf_h3; decide +kernel
/-! counts -/
theorem uf_one_le (st da : Nat → Int32) (j : Nat) : uf_one st da j ≤ 1 := by
  unfold uf_one; split <;> omega
theorem uf_ct_le (st da : Nat → Int32) : ∀ m, uf_ct st da m ≤ m := by
  intro m
  induction m with
  | zero => exact Nat.le_refl 0
  | succ m ih =>
    have h := uf_one_le st da m
    show uf_ct st da m + uf_one st da m ≤ m + 1
    omega
theorem uf_onz {st da : Nat → Int32} : nI (uf_on st da) = 0 ↔ uf_on st da = 0 := by
  have h : uf_on st da ≤ 4 := uf_ct_le st da 4
  exact nI_eq (a := uf_on st da) (b := 0) (by omega) (by decide)
theorem uf_ct_mono {st da st' da' : Nat → Int32} (h : ∀ j, uf_one st da j ≤ uf_one st' da' j) : ∀ m, uf_ct st da m ≤ uf_ct st' da' m := by
  intro m
  induction m with
  | zero => exact Nat.le_refl 0
  | succ m ih =>
    have h1 := h m
    show uf_ct st da m + uf_one st da m ≤ uf_ct st' da' m + uf_one st' da' m
    omega
/-- a handler was chosen: nothing changes in the count -/
theorem uf_on2 {st da : Nat → Int32} {t : Nat} (h : st t = 1) : uf_on (upd st t 2) da = uf_on st da := by
  have e : ∀ j, uf_one (upd st t 2) da j = uf_one st da j := by
    intro j
    by_cases hj : j = t
    · subst hj
      unfold uf_one
      rw [pk_us, h]
      by_cases hd : da j = 0
      · rw [if_pos ⟨hd, Or.inr rfl⟩, if_pos ⟨hd, Or.inl rfl⟩]
      · rw [if_neg (fun z => hd z.1), if_neg (fun z => hd z.1)]
    · unfold uf_one
      rw [pk_un hj]
  exact Nat.le_antisymm (uf_ct_mono (fun j => Nat.le_of_eq (e j)) 4) (uf_ct_mono (fun j => Nat.le_of_eq (e j).symm) 4)
/-- a thread was begun -/
theorem uf_on1 {st da : Nat → Int32} {t : Nat} {x : Int32} (h : st t = 0) (hn : uf_on st da ≠ 0) : uf_on (upd st t 1) (upd da t x) ≠ 0 := by
  have e : ∀ j, uf_one st da j ≤ uf_one (upd st t 1) (upd da t x) j := by
    intro j
    by_cases hj : j = t
    · subst hj
      have : uf_one st da j = 0 := by
        unfold uf_one
        rw [h]
        exact if_neg (fun z => z.2.elim (by decide) (by decide))
      omega
    · unfold uf_one
      rw [pk_un hj, pk_un hj]
      exact Nat.le_refl _
  have := uf_ct_mono e 4
  unfold uf_on at *
  omega
theorem uf_on0 {st da : Nat → Int32} (h : uf_on st da = 0) (hd : da 0 = 0) : st 0 ≠ 1 ∧ st 0 ≠ 2 := by
  have h1 : uf_one st da 0 = 0 := by
    have e : uf_on st da = (((0 + uf_one st da 0) + uf_one st da 1) + uf_one st da 2) + uf_one st da 3 := rfl
    omega
  unfold uf_one at h1
  refine ⟨fun z => ?_, fun z => ?_⟩
  · rw [if_pos ⟨hd, Or.inl z⟩] at h1; omega
  · rw [if_pos ⟨hd, Or.inr z⟩] at h1; omega
theorem uf_b3_le (x : Int32) : uf_b3 x ≤ 1 := by unfold uf_b3; split <;> omega
theorem uf_b33 : uf_b3 3 = 1 := by decide
theorem uf_b3n {x : Int32} (h : x ≠ 3) : uf_b3 x = 0 := if_neg h
theorem uf_c3_le (st : Nat → Int32) : uf_c3 st ≤ 4 := by
  have h0 := uf_b3_le (st 0)
  have h1 := uf_b3_le (st 1)
  have h2 := uf_b3_le (st 2)
  have h3 := uf_b3_le (st 3)
  unfold uf_c3
  omega
theorem uf_c3u {st : Nat → Int32} {t : Nat} (ht : t < 4) (x : Int32) : uf_c3 (upd st t x) + uf_b3 (st t) = uf_c3 st + uf_b3 x := by
  unfold uf_c3
  rcases uf_4 ht with rfl | rfl | rfl | rfl
  · rw [pk_us, pk_un (by decide), pk_un (by decide), pk_un (by decide)]; omega
  · rw [pk_us, pk_un (by decide), pk_un (by decide), pk_un (by decide)]; omega
  · rw [pk_us, pk_un (by decide), pk_un (by decide), pk_un (by decide)]; omega
  · rw [pk_us, pk_un (by decide), pk_un (by decide), pk_un (by decide)]; omega
theorem uf_c33 {st : Nat → Int32} {t : Nat} (ht : t < 4) (h : st t ≠ 3) : uf_c3 (upd st t 3) = uf_c3 st + 1 := by
  have e := uf_c3u (st := st) ht 3
  rw [uf_b33, uf_b3n h] at e
  omega
theorem uf_c3n {st : Nat → Int32} {t : Nat} {x : Int32} (ht : t < 4) (h : st t ≠ 3) (hx : x ≠ 3) : uf_c3 (upd st t x) = uf_c3 st := by
  have e := uf_c3u (st := st) ht x
  rw [uf_b3n hx, uf_b3n h] at e
  omega
theorem uf_c3lt {st : Nat → Int32} {t : Nat} (ht : t < 4) (h : st t ≠ 3) : uf_c3 st < 4 := by
  have e := uf_c33 ht h
  have := uf_c3_le (upd st t 3)
  omega
theorem uf_e1_le (x : Int32) : uf_e1 x ≤ 1 := by unfold uf_e1; split <;> omega
theorem uf_ce_le (ge : Nat → Int32) : uf_ce ge ≤ 4 := by
  have h0 := uf_e1_le (ge 0)
  have h1 := uf_e1_le (ge 1)
  have h2 := uf_e1_le (ge 2)
  have h3 := uf_e1_le (ge 3)
  unfold uf_ce
  omega
theorem uf_ce1 {ge : Nat → Int32} {a : Nat} (ha : a < 4) (h : ge a = 0) : uf_ce (upd ge a 1) = uf_ce ge + 1 := by
  have h0 : uf_e1 0 = 0 := by decide
  have h1 : uf_e1 1 = 1 := by decide
  unfold uf_ce
  rcases uf_4 ha with rfl | rfl | rfl | rfl
  · rw [pk_us, pk_un (by decide), pk_un (by decide), pk_un (by decide), h, h0, h1] <;> omega
  · rw [pk_us, pk_un (by decide), pk_un (by decide), pk_un (by decide), h, h0, h1] <;> omega
  · rw [pk_us, pk_un (by decide), pk_un (by decide), pk_un (by decide), h, h0, h1] <;> omega
  · rw [pk_us, pk_un (by decide), pk_un (by decide), pk_un (by decide), h, h0, h1] <;> omega
/-! the digest -/
theorem uf_dg_ext {lt lc lt' lc' : Nat → Int32} : ∀ m, (∀ j, j < m → lt j = lt' j ∧ lc j = lc' j) → uf_dg lt lc m = uf_dg lt' lc' m := by
  intro m
  induction m with
  | zero => intro _; rfl
  | succ m ih =>
    intro h
    have h1 := h m (Nat.lt_succ_self m)
    unfold uf_dg
    rw [ih (fun j hj => h j (by omega)), h1.1, h1.2]
theorem uf_dg_put {lt lc : Nat → Int32} {m t : Nat} (ht : t < 4) (c : Int32) : uf_dg (upd lt m (vp_nar .byte (nI t).toInt8.toInt32)) (upd lc m (vp_nar .char ((c.toUInt32 % 65536).toInt32))) (m + 1) = (((uf_dg lt lc m * 1000003) + ((nI t * 65536).toInt64)) + ((c &&& 65535).toInt64)) + 1 := by
  obtain ⟨w, hw, e1, e2⟩ := em_w c
  have e3 : nI t * 65536 = nI (t * 65536) := pk_mul t 65536
  have e4 : lN t <<< ((16 : Int32).toInt64 &&& 63) = lN (t * 65536) := wb_shl t (k := 16) (by decide)
  have e5 : lN (t * 65536) ||| lN w = lN (t * 65536 + w) := g_or (k := 16) (by decide) hw (by omega)
  rw [pk_vc, e1, e2, uf_byte t (by omega), e3, nI_l (by omega), nI_l (by omega)]
  show ((uf_dg _ _ m * 1000003) + ((((upd lt m (nI t) m).toInt64) <<< ((16 : Int32).toInt64 &&& 63)) ||| ((upd lc m (nI w) m).toInt64))) + 1 = _
  rw [pk_us, pk_us, nI_l (by omega), nI_l (by omega), e4, e5, uf_dg_ext (lt' := lt) (lc' := lc) m (fun j hj => ⟨pk_un (by omega), pk_un (by omega)⟩), ← lN_add]
  simp only [Int64.add_assoc]
end
section
/-! the walks of the helpers, each at a general post -/
section
variable {D dh ha ec xc md ln df : Int32} {dg : Int64} {st da gr ow ch ge gp go hb hx pa ov cu lt lc : Nat → Int32} {be fa : Nat → Int64}
theorem uf_ct1 {j : Nat} (hd : da j = 0) (hs : st j = 1 ∨ st j = 2) : nI (uf_ct st da j) + 1 = nI (uf_ct st da (j + 1)) := by
  have e : uf_ct st da (j + 1) = uf_ct st da j + 1 := by
    show uf_ct st da j + uf_one st da j = _
    unfold uf_one
    rw [if_pos ⟨hd, hs⟩]
  rw [e, nI_1]
theorem uf_ct0 {j : Nat} (h : ¬ (da j = 0 ∧ (st j = 1 ∨ st j = 2))) : uf_ct st da j = uf_ct st da (j + 1) := by
  show _ = uf_ct st da j + uf_one st da j
  unfold uf_one
  rw [if_neg h]
  rfl
theorem uf_xl4 {post : Int32 → Prop} (hp : post (nI (uf_on st da))) : ∀ d j, j + d = 4 → wX_liveNonDaemon_4 post D dh dg ha ec xc md st da gr ow ch ge gp go hb hx (d + 1) (nI (uf_ct st da j)) (nI j) := by
  intro d
  induction d with
  | zero =>
    intro j hj
    have ej : j = 4 := by omega
    subst ej
    exact br_t (by decide +kernel) hp
  | succ d ih =>
    intro j hj
    have hi : vp_in (nI j) 4 := vp_in_nI (by omega) (by decide)
    have hc : (nI j).toNatClampNeg = j := nI_clamp (by omega)
    have h4 : ¬ (4 : Int32) ≤ nI j := nI_ge (b := 4) (by omega) (by decide)
    have ih' := ih (j + 1) (by omega)
    have hin : (st j = 1 ∨ st j = 2) → wX_liveNonDaemon_29 post (wX_liveNonDaemon_4 post D dh dg ha ec xc md st da gr ow ch ge gp go hb hx (d + 1)) (nI (uf_ct st da j)) (nI j) D dh dg ha ec xc md st da gr ow ch ge gp go hb hx := by
      intro hs
      unfold wX_liveNonDaemon_29
      rw [hc]
      by_cases hd : da j = 0
      · exact ⟨hi, br_t hd (nm_r (uf_ct1 hd hs) (nm_r (nI_1 j) ih'))⟩
      · refine ⟨hi, br_f hd (nm_r (nI_1 j) ?_)⟩
        rw [uf_ct0 (fun z => hd z.1)]
        exact ih'
    unfold wX_liveNonDaemon_4
    rw [hc]
    by_cases h1 : st j = 1
    · exact br_f h4 ⟨hi, br_t h1 (hin (Or.inl h1))⟩
    · by_cases h2 : st j = 2
      · exact br_f h4 ⟨hi, br_f h1 ⟨hi, br_t h2 (hin (Or.inr h2))⟩⟩
      · refine br_f h4 ⟨hi, br_f h1 ⟨hi, br_f h2 (nm_r (nI_1 j) ?_)⟩⟩
        rw [uf_ct0 (fun z => z.2.elim h1 h2)]
        exact ih'
theorem uf_xl {post : Int32 → Prop} (hp : post (nI (uf_on st da))) : wpX_liveNonDaemon post (D, dh, dg, ha, ec, xc, md, st, da, gr, ow, ch, ge, gp, go, hb, hx) := ⟨5, uf_xl4 hp 4 0 rfl⟩
theorem uf_xt {post : SX → Prop} {t : Nat} (ht : t < 4) (h0 : uf_on (upd st t 3) da = 0 → post (D, dh, dg, 1, ec, xc, md, upd st t 3, da, gr, ow, ch, ge, gp, go, hb, hx)) (h1 : uf_on (upd st t 3) da ≠ 0 → post (D, dh, dg, ha, ec, xc, md, upd st t 3, da, gr, ow, ch, ge, gp, go, hb, hx)) : wpX_terminate post (D, dh, dg, ha, ec, xc, md, st, da, gr, ow, ch, ge, gp, go, hb, hx) (nI t) := by
  unfold wpX_terminate
  refine ⟨vp_in_nI ht (by decide), nm_r (e' := upd st t 3) (by rw [nI_clamp (by omega)]) ?_⟩
  refine uf_xl ?_
  exact br_c (fun h => h0 (uf_onz.mp h)) (fun h => h1 (fun e => h (uf_onz.mpr e)))
theorem uf_yl4 {post : Int32 → Prop} (hp : post (nI (uf_on st da))) : ∀ d j, j + d = 4 → wY_live_4 post D ln df st da gr pa ow ov cu be fa lt lc (d + 1) (nI (uf_ct st da j)) (nI j) := by
  intro d
  induction d with
  | zero =>
    intro j hj
    have ej : j = 4 := by omega
    subst ej
    exact br_t (by decide +kernel) hp
  | succ d ih =>
    intro j hj
    have hi : vp_in (nI j) 4 := vp_in_nI (by omega) (by decide)
    have hc : (nI j).toNatClampNeg = j := nI_clamp (by omega)
    have h4 : ¬ (4 : Int32) ≤ nI j := nI_ge (b := 4) (by omega) (by decide)
    have ih' := ih (j + 1) (by omega)
    unfold wY_live_4
    rw [hc]
    by_cases hd : da j = 0
    · by_cases h1 : st j = 1
      · exact br_f h4 ⟨hi, br_t hd ⟨hi, br_t h1 (nm_r (uf_ct1 hd (Or.inl h1)) (nm_r (nI_1 j) ih'))⟩⟩
      · by_cases h2 : st j = 2
        · exact br_f h4 ⟨hi, br_t hd ⟨hi, br_f h1 ⟨hi, br_t h2 (nm_r (uf_ct1 hd (Or.inr h2)) (nm_r (nI_1 j) ih'))⟩⟩⟩
        · refine br_f h4 ⟨hi, br_t hd ⟨hi, br_f h1 ⟨hi, br_f h2 (nm_r (nI_1 j) ?_)⟩⟩⟩
          rw [uf_ct0 (fun z => z.2.elim h1 h2)]
          exact ih'
    · refine br_f h4 ⟨hi, br_f hd (nm_r (nI_1 j) ?_)⟩
      rw [uf_ct0 (fun z => hd z.1)]
      exact ih'
theorem uf_yl {post : Int32 → Prop} (hp : post (nI (uf_on st da))) : wpY_live post (D, ln, df, st, da, gr, pa, ow, ov, cu, be, fa, lt, lc) := ⟨5, uf_yl4 hp 4 0 rfl⟩
theorem uf_yx0' {post : Int32 → Prop} (hn : uf_nx fa) (hp : post (-1)) : ∀ d j, j + d = 4 → wY_exiter_2 post D ln df st da gr pa ow ov cu be fa lt lc (d + 1) (nI j) := by
  intro d
  induction d with
  | zero =>
    intro j hj
    have ej : j = 4 := by omega
    subst ej
    exact br_t (by decide +kernel) hp
  | succ d ih =>
    intro j hj
    have hi : vp_in (nI j) 4 := vp_in_nI (by omega) (by decide)
    have hc : (nI j).toNatClampNeg = j := nI_clamp (by omega)
    have h4 : ¬ (4 : Int32) ≤ nI j := nI_ge (b := 4) (by omega) (by decide)
    have ih' := ih (j + 1) (by omega)
    unfold wY_exiter_2
    rw [hc]
    exact br_f h4 ⟨hi, br_f (hn j (by omega)) (nm_r (nI_1 j) ih')⟩
theorem uf_yx0 {post : Int32 → Prop} (hn : uf_nx fa) (hp : post (-1)) : wpY_exiter post (D, ln, df, st, da, gr, pa, ow, ov, cu, be, fa, lt, lc) := ⟨5, uf_yx0' hn hp 4 0 rfl⟩
theorem uf_yx1' {post : Int32 → Prop} {t : Nat} (ht : t < 4) (h3 : uf_h3 (fa t)) (hn : ∀ j, j < t → ¬ uf_h3 (fa j)) (hp : post (nI t)) : ∀ d j, j + d = t → wY_exiter_2 post D ln df st da gr pa ow ov cu be fa lt lc (d + 1) (nI j) := by
  intro d
  induction d with
  | zero =>
    intro j hj
    have ej : j = t := by omega
    subst ej
    have hi : vp_in (nI j) 4 := vp_in_nI (by omega) (by decide)
    have hc : (nI j).toNatClampNeg = j := nI_clamp (by omega)
    have h4 : ¬ (4 : Int32) ≤ nI j := nI_ge (b := 4) (by omega) (by decide)
    unfold wY_exiter_2
    rw [hc]
    exact br_f h4 ⟨hi, br_t h3 hp⟩
  | succ d ih =>
    intro j hj
    have hi : vp_in (nI j) 4 := vp_in_nI (by omega) (by decide)
    have hc : (nI j).toNatClampNeg = j := nI_clamp (by omega)
    have h4 : ¬ (4 : Int32) ≤ nI j := nI_ge (b := 4) (by omega) (by decide)
    have ih' := ih (j + 1) (by omega)
    unfold wY_exiter_2
    rw [hc]
    exact br_f h4 ⟨hi, br_f (hn j (by omega)) (nm_r (nI_1 j) ih')⟩
theorem uf_yx1 {post : Int32 → Prop} {t : Nat} (ht : t < 4) (h3 : uf_h3 (fa t)) (hn : ∀ j, j < t → ¬ uf_h3 (fa j)) (hp : post (nI t)) : wpY_exiter post (D, ln, df, st, da, gr, pa, ow, ov, cu, be, fa, lt, lc) := ⟨t + 1, uf_yx1' ht h3 hn hp t 0 (by omega)⟩
theorem uf_yo0 {post : Int32 → Prop} {x M : Int32} (h0 : ¬ x < 0) (h1 : x ≤ M) (hp : post 0) : wpY_out post x M := br_f h0 (br_t h1 hp)
theorem uf_yo1 {post : Int32 → Prop} {x M : Int32} (h : x < 0 ∨ ¬ x ≤ M) (hp : post 1) : wpY_out post x M := br_c (fun _ => hp) (fun h0 => br_f (h.resolve_left h0) hp)
theorem uf_m1n : (-1 : Int32) < 0 := by decide +kernel
theorem uf_1n : ¬ (1 : Int32) = 0 := by decide +kernel
/-- the run is over -/
theorem uf_yg9 {post : Int32 → Prop} {p0 p1 : Int32} (h : uf_off st da fa) (hp : post (-9)) : wpY_gate post (D, ln, df, st, da, gr, pa, ow, ov, cu, be, fa, lt, lc) p0 p1 := by
  unfold wpY_gate
  refine uf_yl ?_
  by_cases h0 : uf_on st da = 0
  · exact br_t (uf_onz.mpr h0) hp
  · rcases h with h | ⟨t, ht, h3, hn⟩
    · exact absurd h h0
    · refine br_f (fun z => h0 (uf_onz.mp z)) ?_
      refine uf_yx1 ht h3 hn ?_
      exact br_f (nI_pos (by omega)) hp
theorem uf_yg1 {post : Int32 → Prop} {p0 p1 : Int32} (h0 : uf_on st da ≠ 0) (hn : uf_nx fa) (ho : p0 < 0 ∨ ¬ p0 ≤ 3) (hp : post (-1)) : wpY_gate post (D, ln, df, st, da, gr, pa, ow, ov, cu, be, fa, lt, lc) p0 p1 := by
  unfold wpY_gate
  refine uf_yl (br_f (fun z => h0 (uf_onz.mp z)) ?_)
  refine uf_yx0 hn (br_t uf_m1n ?_)
  exact uf_yo1 ho (br_f uf_1n hp)
theorem uf_yg0 {post : Int32 → Prop} {t : Nat} {p1 : Int32} (h0 : uf_on st da ≠ 0) (hn : uf_nx fa) (ht : t < 4) (hs : st t = p1) (hp : post 0) : wpY_gate post (D, ln, df, st, da, gr, pa, ow, ov, cu, be, fa, lt, lc) (nI t) p1 := by
  unfold wpY_gate
  refine uf_yl (br_f (fun z => h0 (uf_onz.mp z)) ?_)
  refine uf_yx0 hn (br_t uf_m1n ?_)
  refine uf_yo0 (nI_pos (by omega)) (nI_le (b := 3) (by omega) (by decide)) (br_t rfl ⟨vp_in_nI ht (by decide), br_t ?_ hp⟩)
  rw [nI_clamp (by omega)]
  exact hs
theorem uf_yg2 {post : Int32 → Prop} {t : Nat} {p1 : Int32} (h0 : uf_on st da ≠ 0) (hn : uf_nx fa) (ht : t < 4) (hs : st t ≠ p1) (hp : post (-2)) : wpY_gate post (D, ln, df, st, da, gr, pa, ow, ov, cu, be, fa, lt, lc) (nI t) p1 := by
  unfold wpY_gate
  refine uf_yl (br_f (fun z => h0 (uf_onz.mp z)) ?_)
  refine uf_yx0 hn (br_t uf_m1n ?_)
  refine uf_yo0 (nI_pos (by omega)) (nI_le (b := 3) (by omega) (by decide)) (br_t rfl ⟨vp_in_nI ht (by decide), br_f ?_ hp⟩)
  rw [nI_clamp (by omega)]
  exact hs
/-! the methods of the reference at a run that is over -/
theorem uf_off_se {post : Int32 → SY → Prop} {p0 p1 p2 : Int32} (h : uf_off st da fa) (hp : post (-9) (D, ln, df, st, da, gr, pa, ow, ov, cu, be, fa, lt, lc)) : wpY_setup post (D, ln, df, st, da, gr, pa, ow, ov, cu, be, fa, lt, lc) p0 p1 p2 := by
  unfold wpY_setup
  refine uf_yl ?_
  by_cases h0 : uf_on st da = 0
  · exact br_t (uf_onz.mpr h0) hp
  · rcases h with h | ⟨t, ht, h3, hn⟩
    · exact absurd h h0
    · refine br_f (fun z => h0 (uf_onz.mp z)) ?_
      refine uf_yx1 ht h3 hn ?_
      exact br_f (nI_pos (by omega)) hp
theorem uf_off_di {post : Int32 → SY → Prop} {p0 p1 : Int32} (h : uf_off st da fa) (hp : post (-9) (D, ln, df, st, da, gr, pa, ow, ov, cu, be, fa, lt, lc)) : wpY_die post (D, ln, df, st, da, gr, pa, ow, ov, cu, be, fa, lt, lc) p0 p1 := by
  unfold wpY_die
  refine uf_yg9 h ?_
  exact br_f (by decide +kernel) hp
theorem uf_off_ha {post : Int64 → SY → Prop} {p0 : Int32} (h : uf_off st da fa) (hp : post (-9) (D, ln, df, st, da, gr, pa, ow, ov, cu, be, fa, lt, lc)) : wpY_handlerEnds post (D, ln, df, st, da, gr, pa, ow, ov, cu, be, fa, lt, lc) p0 := by
  unfold wpY_handlerEnds
  refine uf_yg9 h ?_
  refine br_f (by decide +kernel) ?_
  exact hp
theorem uf_off_en {post : Int32 → SY → Prop} {p0 : Int32} (h : uf_off st da fa) (hp : post (-9) (D, ln, df, st, da, gr, pa, ow, ov, cu, be, fa, lt, lc)) : wpY_end post (D, ln, df, st, da, gr, pa, ow, ov, cu, be, fa, lt, lc) p0 := by
  unfold wpY_end
  refine uf_yg9 h ?_
  exact br_f (by decide +kernel) hp
/-! the reference's handlerEnds and end at a live run -/
theorem uf_yha1 {post : Int64 → SY → Prop} {p0 : Int32} (h0 : uf_on st da ≠ 0) (hn : uf_nx fa) (ho : p0 < 0 ∨ ¬ p0 ≤ 3) (hp : post (-1) (D, ln, df, st, da, gr, pa, ow, ov, cu, be, fa, lt, lc)) : wpY_handlerEnds post (D, ln, df, st, da, gr, pa, ow, ov, cu, be, fa, lt, lc) p0 := by
  unfold wpY_handlerEnds
  refine uf_yg1 h0 hn ho ?_
  refine br_f (by decide +kernel) ?_
  exact hp
theorem uf_yha2 {post : Int64 → SY → Prop} {t : Nat} (h0 : uf_on st da ≠ 0) (hn : uf_nx fa) (ht : t < 4) (hs : st t ≠ 2) (hp : post (-2) (D, ln, df, st, da, gr, pa, ow, ov, cu, be, fa, lt, lc)) : wpY_handlerEnds post (D, ln, df, st, da, gr, pa, ow, ov, cu, be, fa, lt, lc) (nI t) := by
  unfold wpY_handlerEnds
  refine uf_yg2 h0 hn ht hs ?_
  refine br_f (by decide +kernel) ?_
  exact hp
theorem uf_yha0 {post : Int64 → SY → Prop} {t h : Nat} (h0 : uf_on st da ≠ 0) (hn : uf_nx fa) (ht : t < 4) (hs : st t = 2) (hh : h < 8) (hcu : cu t = nI h) (hp : post (be h) (D, ln, df, upd st t 3, da, gr, pa, ow, ov, cu, be, vp_updL fa t (be h), lt, lc)) : wpY_handlerEnds post (D, ln, df, st, da, gr, pa, ow, ov, cu, be, fa, lt, lc) (nI t) := by
  have hc : (nI t).toNatClampNeg = t := nI_clamp (by omega)
  have hi : vp_in (nI t) 4 := vp_in_nI ht (by decide)
  have hk : cu (nI t).toNatClampNeg &&& 7 = nI h := by rw [hc, hcu, uf_a7 h hh]
  have hkc : (nI h).toNatClampNeg = h := nI_clamp (by omega)
  unfold wpY_handlerEnds
  refine uf_yg0 h0 hn ht hs (br_t rfl ?_)
  rw [hk, hkc, hc, uf_ny3]
  exact ⟨hi, nm_e ⟨hi, vp_in_nI hh (by decide), hi, nm_e hp⟩⟩
theorem uf_yen1 {post : Int32 → SY → Prop} {p0 : Int32} (h0 : uf_on st da ≠ 0) (hn : uf_nx fa) (ho : p0 < 0 ∨ ¬ p0 ≤ 3) (hp : post (-1) (D, ln, df, st, da, gr, pa, ow, ov, cu, be, fa, lt, lc)) : wpY_end post (D, ln, df, st, da, gr, pa, ow, ov, cu, be, fa, lt, lc) p0 := by
  unfold wpY_end
  refine uf_yg1 h0 hn ho ?_
  exact br_f (by decide +kernel) hp
theorem uf_yen2 {post : Int32 → SY → Prop} {t : Nat} (h0 : uf_on st da ≠ 0) (hn : uf_nx fa) (ht : t < 4) (hs : st t ≠ 1) (hp : post (-2) (D, ln, df, st, da, gr, pa, ow, ov, cu, be, fa, lt, lc)) : wpY_end post (D, ln, df, st, da, gr, pa, ow, ov, cu, be, fa, lt, lc) (nI t) := by
  unfold wpY_end
  refine uf_yg2 h0 hn ht hs ?_
  exact br_f (by decide +kernel) hp
theorem uf_yen0 {post : Int32 → SY → Prop} {t : Nat} (h0 : uf_on st da ≠ 0) (hn : uf_nx fa) (ht : t < 4) (hs : st t = 1) (hp : post 0 (D, ln, df, upd st t 3, da, gr, pa, ow, ov, cu, be, fa, lt, lc)) : wpY_end post (D, ln, df, st, da, gr, pa, ow, ov, cu, be, fa, lt, lc) (nI t) := by
  have hc : (nI t).toNatClampNeg = t := nI_clamp (by omega)
  have hi : vp_in (nI t) 4 := vp_in_nI ht (by decide)
  unfold wpY_end
  refine uf_yg0 h0 hn ht hs (br_t rfl ?_)
  rw [hc, uf_ny3]
  exact ⟨hi, nm_e hp⟩
end
end
section
/-! what every call keeps: pure rows -/
section
variable {dh md md' ln ln' : Int32} {dg dg' : Int64} {st da gr ow ch ge gp go hb hx pa cu cu' lt lc lt' lc' : Nat → Int32} {be fa : Nat → Int64}
theorem uf_M_h {t : Nat} (M : uf_M md st da fa) (h0 : t = 0 → md' ≠ 0) (h1 : t ≠ 0 → md' = md) : uf_M md' (upd st t 2) da fa := by
  obtain ⟨a, b, c, d, e⟩ := M
  by_cases h : t = 0
  · subst h
    refine ⟨?_, b, ?_, ?_, ?_⟩
    · rw [pk_us]; decide
    · rw [pk_us]; exact fun z => absurd z (by decide)
    · exact fun _ => h0 rfl
    · rw [pk_us]; exact fun _ z => absurd rfl z
  · rw [h1 h]
    have e0 : upd st t 2 0 = st 0 := pk_un (fun z => h z.symm)
    unfold uf_M
    rw [e0]
    exact ⟨a, b, c, d, e⟩
theorem uf_M_n {t : Nat} {w : Int64} (M : uf_M md st da fa) (h0 : t = 0 → md' ≠ 0) (h1 : t ≠ 0 → md' = md) (hw : w ≠ 0) : uf_M md' (upd st t 3) da (vp_updL fa t w) := by
  obtain ⟨a, b, c, d, e⟩ := M
  by_cases h : t = 0
  · subst h
    refine ⟨?_, b, ?_, ?_, ?_⟩
    · rw [pk_us]; decide
    · rw [pk_us]; exact fun z => absurd z (by decide)
    · rw [pk_us]; exact fun z => absurd z (by decide)
    · rw [pk_uLs]; exact fun _ _ => ⟨fun z => absurd z (h0 rfl), fun z => absurd z hw⟩
  · rw [h1 h]
    have e0 : upd st t 3 0 = st 0 := pk_un (fun z => h z.symm)
    have e1 : vp_updL fa t w 0 = fa 0 := pk_uLn (fun z => h z.symm)
    unfold uf_M
    rw [e0, e1]
    exact ⟨a, b, c, d, e⟩
theorem uf_M_e {t : Nat} (M : uf_M md st da fa) (hs : st t = 1) : uf_M md (upd st t 3) da fa := by
  obtain ⟨a, b, c, d, e⟩ := M
  by_cases h : t = 0
  · subst h
    have hc := c hs
    refine ⟨?_, b, ?_, ?_, ?_⟩
    · rw [pk_us]; decide
    · rw [pk_us]; exact fun z => absurd z (by decide)
    · rw [pk_us]; exact fun z => absurd z (by decide)
    · exact fun _ _ => ⟨fun _ => hc.2, fun _ => hc.1⟩
  · have e0 : upd st t 3 0 = st 0 := pk_un (fun z => h z.symm)
    unfold uf_M
    rw [e0]
    exact ⟨a, b, c, d, e⟩
theorem uf_M_4 {t : Nat} {x y : Int32} (M : uf_M md st da fa) (hs : st t = 0) : uf_M md (upd st t x) (upd da t y) fa := by
  obtain ⟨a, b, c, d, e⟩ := M
  have h : 0 ≠ t := by
    intro z
    subst z
    exact a hs
  have e0 : upd st t x 0 = st 0 := pk_un h
  have e1 : upd da t y 0 = da 0 := pk_un h
  unfold uf_M
  rw [e0, e1]
  exact ⟨a, b, c, d, e⟩
theorem uf_T_h {t h : Nat} (T : uf_T st gr ow ch ge cu) (h1 : 1 ≤ h) (h5 : h < 5) : uf_T (upd st t 2) gr ow (upd ch t (nI h)) ge (upd cu t (nI h)) := by
  intro j hj
  obtain ⟨a, b, c⟩ := T j hj
  by_cases e : j = t
  · subst e
    rw [pk_us, pk_us, pk_us]
    exact ⟨fun z => absurd z (by decide), b, fun _ => ⟨h, h1, h5, rfl, rfl⟩⟩
  · rw [pk_un e, pk_un e, pk_un e]
    exact ⟨a, b, c⟩
theorem uf_T_3 {t : Nat} (T : uf_T st gr ow ch ge cu) (hc : ∀ j, j ≠ t → cu' j = cu j) : uf_T (upd st t 3) gr ow ch ge cu' := by
  intro j hj
  obtain ⟨a, b, c⟩ := T j hj
  by_cases e : j = t
  · subst e
    rw [pk_us]
    exact ⟨fun z => absurd z (by decide), b, fun z => absurd z (by decide)⟩
  · rw [pk_un e, hc j e]
    exact ⟨a, b, c⟩
theorem uf_T_1 {t : Nat} (T : uf_T st gr ow ch ge cu) : uf_T st gr ow ch (upd ge t 1) cu := by
  intro j hj
  obtain ⟨a, b, c⟩ := T j hj
  refine ⟨fun z => ?_, b, c⟩
  obtain ⟨g, hg, e, hn⟩ := a z
  refine ⟨g, hg, e, ?_⟩
  by_cases eg : g = t
  · subst eg; rw [pk_us]; decide
  · rw [pk_un eg]; exact hn
theorem uf_T_4 {t g : Nat} (T : uf_T st gr ow ch ge cu) (hg : g < 4) (hn : ge g ≠ 0) : uf_T (upd st t 1) (upd gr t (nI g)) ow ch ge cu := by
  intro j hj
  obtain ⟨a, b, c⟩ := T j hj
  by_cases e : j = t
  · subst e
    rw [pk_us, pk_us]
    exact ⟨fun _ => ⟨g, hg, rfl, hn⟩, b, fun z => absurd z (by decide)⟩
  · rw [pk_un e, pk_un e]
    exact ⟨a, b, c⟩
theorem uf_T_8 {t h : Nat} (T : uf_T st gr ow ch ge cu) (h5 : h < 5) : uf_T st gr (upd ow t (nI h)) ch ge cu := by
  intro j hj
  obtain ⟨a, b, c⟩ := T j hj
  by_cases e : j = t
  · subst e
    rw [pk_us]
    exact ⟨a, ⟨h, h5, rfl⟩, c⟩
  · rw [pk_un e]
    exact ⟨a, b, c⟩
theorem uf_G_e0 (G : uf_G ge gp go pa) : ge 0 ≠ 0 := by
  obtain ⟨a, b, c, _⟩ := G
  intro z
  rw [c 0 (by decide), a] at z
  exact absurd z (by decide)
theorem uf_np : ∀ b, b < 4 → nI b ≠ -2 := by decide +kernel
theorem uf_G_1 {a b : Nat} (G : uf_G ge gp go pa) (ha : a < 4) (hb : b < 4) (h0 : ge a = 0) (h1 : ge b ≠ 0) : uf_G (upd ge a 1) (upd gp a (nI b)) go (upd pa a (nI b)) := by
  have n0 := uf_G_e0 G
  obtain ⟨g1, g2, g3, g4, g5, rk, k1, k2⟩ := G
  have a0 : 0 ≠ a := by
    intro z
    subst z
    exact n0 h0
  have ba : b ≠ a := by
    intro z
    subst z
    exact h1 h0
  have he : ∀ j, ge j ≠ 0 → upd ge a 1 j ≠ 0 := by
    intro j hj
    by_cases e : j = a
    · subst e; exact absurd h0 hj
    · rw [pk_un e]; exact hj
  refine ⟨?_, g2, ?_, ?_, g5, fun j => if j = a then rk b + 1 else rk j, ?_, ?_⟩
  · rw [pk_un a0]; exact g1
  · intro j hj
    by_cases e : j = a
    · subst e
      rw [pk_us, pk_us]
      exact ⟨fun z => absurd z (by decide), fun z => absurd z (uf_np b hb)⟩
    · rw [pk_un e, pk_un e]; exact g3 j hj
  · intro j hj
    by_cases e : j = a
    · subst e
      rw [pk_us]
      exact fun z => absurd z (by decide)
    · rw [pk_un e]; exact g4 j hj
  · intro j hj
    rw [uf_ce1 ha h0]
    have hb' := k1 b hb h1
    by_cases e : j = a
    · subst e
      intro _
      dsimp only
      rw [if_pos rfl]
      omega
    · rw [pk_un e]
      intro z
      have := k1 j hj z
      dsimp only
      rw [if_neg e]
      omega
  · intro j hj hj1
    by_cases e : j = a
    · subst e
      intro _
      refine ⟨b, hb, pk_us, pk_us, he b h1, ?_⟩
      dsimp only
      rw [if_pos rfl, if_neg ba]
      omega
    · rw [pk_un e]
      intro z
      obtain ⟨p, p1, p2, p3, p4, p5⟩ := k2 j hj hj1 z
      have pa' : p ≠ a := by
        intro y
        subst y
        exact p4 h0
      refine ⟨p, p1, (pk_un e).trans p2, (pk_un e).trans p3, he p p4, ?_⟩
      dsimp only
      rw [if_neg e, if_neg pa']
      exact p5
theorem uf_G_2 {a b : Nat} (G : uf_G ge gp go pa) (ha : a ≠ 0) (hb : b < 5) (h0 : ge a ≠ 0) : uf_G ge gp (upd go a (nI b)) pa := by
  obtain ⟨g1, g2, g3, g4, g5, k⟩ := G
  refine ⟨g1, ?_, g3, ?_, ?_, k⟩
  · rw [pk_un (fun z => ha z.symm)]; exact g2
  · intro j hj z
    by_cases e : j = a
    · subst e; exact absurd z h0
    · rw [pk_un e]; exact g4 j hj z
  · intro j hj
    by_cases e : j = a
    · subst e; exact ⟨b, hb, pk_us⟩
    · rw [pk_un e]; exact g5 j hj
theorem uf_H_u {a : Nat} {w : Int64} {hb' hx' : Nat → Int32} (H : uf_H hb hx be) (ha : a ≠ 0) (hw : uf_Hw (hb' a) (hx' a) w) (e1 : ∀ j, j ≠ a → hb' j = hb j) (e2 : ∀ j, j ≠ a → hx' j = hx j) : uf_H hb' hx' (vp_updL be a w) := by
  obtain ⟨h0, h1⟩ := H
  refine ⟨?_, ?_⟩
  · rw [pk_uLn (fun z => ha z.symm)]; exact h0
  · intro h l u
    by_cases e : h = a
    · subst e; rw [pk_uLs]; exact hw
    · rw [pk_uLn e, e1 h e, e2 h e]; exact h1 h l u
theorem uf_nx_u {t : Nat} {w : Int64} (h : uf_nx fa) (hw : ¬ uf_h3 w) : uf_nx (vp_updL fa t w) := by
  intro j hj
  by_cases e : j = t
  · subst e; rw [pk_uLs]; exact hw
  · rw [pk_uLn e]; exact h j hj
theorem uf_D_le {b c : Nat} (h : uf_D dg ln lt lc b) (hb : b ≤ c) : uf_D dg ln lt lc c := by
  obtain ⟨m, hm, e⟩ := h
  exact ⟨m, by omega, e⟩
/-! the whole -/
theorem uf_C_h {t h : Nat} (C : uf_C dh dg md st da gr ow ch ge gp go hb hx ln pa cu be fa lt lc) (ht : t < 4) (hs : st t = 1) (hh : 1 ≤ h) (h5 : h < 5) (h0 : t = 0 → md' ≠ 0) (h1 : t ≠ 0 → md' = md) : uf_C dh dg md' (upd st t 2) da gr ow (upd ch t (nI h)) ge gp go hb hx ln pa (upd cu t (nI h)) be fa lt lc := by
  obtain ⟨x, M, T, G, H, d, L⟩ := C
  refine ⟨x, uf_M_h M h0 h1, uf_T_h T hh h5, G, H, d, ?_⟩
  rw [uf_c3n ht (by rw [hs]; decide) (by decide)]
  exact L
theorem uf_C_n {t : Nat} (C : uf_C dh dg md st da gr ow ch ge gp go hb hx ln pa cu be fa lt lc) (ht : t < 4) (hs : st t = 1) (h0 : t = 0 → md' ≠ 0) (h1 : t ≠ 0 → md' = md) (L' : uf_D dg' ln' lt' lc' (uf_c3 st + 1)) : uf_C dh dg' md' (upd st t 3) da gr ow ch ge gp go hb hx ln' pa (upd cu t 0) be (vp_updL fa t (be 0)) lt' lc' := by
  obtain ⟨x, M, T, G, H, d, L⟩ := C
  rw [H.1]
  refine ⟨uf_nx_u x uf_n3a, uf_M_n M h0 h1 (by decide +kernel), uf_T_3 T (fun j hj => pk_un hj), G, H, d, ?_⟩
  rw [uf_c33 ht (by rw [hs]; decide)]
  exact L'
theorem uf_C_e {t : Nat} (C : uf_C dh dg md st da gr ow ch ge gp go hb hx ln pa cu be fa lt lc) (ht : t < 4) (hs : st t = 1) : uf_C dh dg md (upd st t 3) da gr ow ch ge gp go hb hx ln pa cu be fa lt lc := by
  obtain ⟨x, M, T, G, H, d, L⟩ := C
  refine ⟨x, uf_M_e M hs, uf_T_3 T (fun _ _ => rfl), G, H, d, ?_⟩
  rw [uf_c33 ht (by rw [hs]; decide)]
  exact uf_D_le L (by omega)
theorem uf_C_f {t : Nat} {w : Int64} (C : uf_C dh dg md st da gr ow ch ge gp go hb hx ln pa cu be fa lt lc) (ht : t < 4) (hs : st t = 2) (hw : ¬ uf_h3 w) (hz : w ≠ 0) : uf_C dh dg md (upd st t 3) da gr ow ch ge gp go hb hx ln pa cu be (vp_updL fa t w) lt lc := by
  obtain ⟨x, M, T, G, H, d, L⟩ := C
  refine ⟨uf_nx_u x hw, uf_M_n M (fun e => M.2.2.2.1 (by rw [← e]; exact hs)) (fun _ => rfl) hz, uf_T_3 T (fun _ _ => rfl), G, H, d, ?_⟩
  rw [uf_c33 ht (by rw [hs]; decide)]
  exact uf_D_le L (by omega)
theorem uf_C_1 {a b : Nat} (C : uf_C dh dg md st da gr ow ch ge gp go hb hx ln pa cu be fa lt lc) (ha : a < 4) (hb' : b < 4) (h0 : ge a = 0) (h1 : ge b ≠ 0) : uf_C dh dg md st da gr ow ch (upd ge a 1) (upd gp a (nI b)) go hb hx ln (upd pa a (nI b)) cu be fa lt lc := by
  obtain ⟨x, M, T, G, H, d, L⟩ := C
  exact ⟨x, M, uf_T_1 T, uf_G_1 G ha hb' h0 h1, H, d, L⟩
theorem uf_C_2 {a b : Nat} (C : uf_C dh dg md st da gr ow ch ge gp go hb hx ln pa cu be fa lt lc) (ha : a ≠ 0) (hb' : b < 5) (h0 : ge a ≠ 0) : uf_C dh dg md st da gr ow ch ge gp (upd go a (nI b)) hb hx ln pa cu be fa lt lc := by
  obtain ⟨x, M, T, G, H, d, L⟩ := C
  exact ⟨x, M, T, uf_G_2 G ha hb' h0, H, d, L⟩
theorem uf_C_4 {a g : Nat} {y : Int32} (C : uf_C dh dg md st da gr ow ch ge gp go hb hx ln pa cu be fa lt lc) (ha : a < 4) (hs : st a = 0) (hg : g < 4) (hn : ge g ≠ 0) : uf_C dh dg md (upd st a 1) (upd da a y) (upd gr a (nI g)) ow ch ge gp go hb hx ln pa cu be fa lt lc := by
  obtain ⟨x, M, T, G, H, d, L⟩ := C
  refine ⟨x, uf_M_4 M hs, uf_T_4 T hg hn, G, H, d, ?_⟩
  rw [uf_c3n ha (by rw [hs]; decide) (by decide)]
  exact L
theorem uf_C_8 {a b : Nat} (C : uf_C dh dg md st da gr ow ch ge gp go hb hx ln pa cu be fa lt lc) (hb' : b < 5) : uf_C dh dg md st da gr (upd ow a (nI b)) ch ge gp go hb hx ln pa cu be fa lt lc := by
  obtain ⟨x, M, T, G, H, d, L⟩ := C
  exact ⟨x, M, uf_T_8 T hb', G, H, d, L⟩
theorem uf_C_16 {a : Nat} (C : uf_C dh dg md st da gr ow ch ge gp go hb hx ln pa cu be fa lt lc) (ha : a < 5) : uf_C (nI a) dg md st da gr ow ch ge gp go hb hx ln pa cu be fa lt lc := by
  obtain ⟨x, M, T, G, H, d, L⟩ := C
  exact ⟨x, M, T, G, H, ⟨a, ha, rfl⟩, L⟩
theorem uf_C_H {hb' hx' : Nat → Int32} {be' : Nat → Int64} (C : uf_C dh dg md st da gr ow ch ge gp go hb hx ln pa cu be fa lt lc) (H' : uf_H hb hx be → uf_H hb' hx' be') : uf_C dh dg md st da gr ow ch ge gp go hb' hx' ln pa cu be' fa lt lc := by
  obtain ⟨x, M, T, G, H, d, L⟩ := C
  exact ⟨x, M, T, G, H' H, d, L⟩
end
end
section
/-! the relation, and how it is opened and closed -/
def i_Rel (_ : Nat) (u : SX) (v : SY) : Prop := match u, v with
  | (D, dh, dg, ha, ec, xc, md, st, da, gr, ow, ch, ge, gp, go, hb, hx), (D', ln, df, st', da', gr', pa, ow', ov, cu, be, fa, lt, lc) =>
    (ha = 0 ∧ ec = 0 ∧ D' = D ∧ df = dh ∧ st' = st ∧ da' = da ∧ gr' = gr ∧ ow' = ow ∧ ov = go ∧ uf_on st da ≠ 0 ∧ uf_C dh dg md st da gr ow ch ge gp go hb hx ln pa cu be fa lt lc)
    ∨ (ha ≠ 0 ∧ uf_D dg ln lt lc 4 ∧ uf_E ec xc md st' da' fa)
theorem i_up {k : Nat} {u : SX} {v : SY} (h : i_Rel k u v) : i_Rel (k + 4) u v := h
section
variable {k : Nat} {D D' dh ha ec xc md ln df : Int32} {dg : Int64} {st st' da da' gr gr' ow ow' ch ge gp go hb hx pa ov cu lt lc : Nat → Int32} {be fa : Nat → Int64}
theorem uf_RL (h : uf_on st da ≠ 0) (C : uf_C dh dg md st da gr ow ch ge gp go hb hx ln pa cu be fa lt lc) : i_Rel k (D, dh, dg, 0, 0, xc, md, st, da, gr, ow, ch, ge, gp, go, hb, hx) (D, ln, dh, st, da, gr, pa, ow, go, cu, be, fa, lt, lc) := Or.inl ⟨rfl, rfl, rfl, rfl, rfl, rfl, rfl, rfl, rfl, h, C⟩
theorem uf_RD (h : ha ≠ 0) (L : uf_D dg ln lt lc 4) (E : uf_E ec xc md st' da' fa) : i_Rel k (D, dh, dg, ha, ec, xc, md, st, da, gr, ow, ch, ge, gp, go, hb, hx) (D', ln, df, st', da', gr', pa, ow', ov, cu, be, fa, lt, lc) := Or.inr ⟨h, L, E⟩
/-- the last thread has ended -/
theorem uf_RH (h : uf_on st da = 0) (C : uf_C dh dg md st da gr ow ch ge gp go hb hx ln pa cu be fa lt lc) : i_Rel k (D, dh, dg, 1, 0, xc, md, st, da, gr, ow, ch, ge, gp, go, hb, hx) (D, ln, dh, st, da, gr, pa, ow, go, cu, be, fa, lt, lc) := by
  obtain ⟨x, M, T, G, H, d, L⟩ := C
  have z := uf_on0 h M.2.1
  exact uf_RD (by decide) (uf_D_le L (uf_c3_le st)) (Or.inl ⟨rfl, h, x, M.2.2.2.2 z.1 z.2⟩)
end
theorem uf_el {P : SX → SY → Prop} {k : Nat} {u : SX} {v : SY}
    (hL : ∀ (D dh : Int32) (dg : Int64) (xc md : Int32) (st da gr ow ch ge gp go hb hx : Nat → Int32) (ln : Int32) (pa cu : Nat → Int32) (be fa : Nat → Int64) (lt lc : Nat → Int32), uf_on st da ≠ 0 → uf_C dh dg md st da gr ow ch ge gp go hb hx ln pa cu be fa lt lc → P (D, dh, dg, 0, 0, xc, md, st, da, gr, ow, ch, ge, gp, go, hb, hx) (D, ln, dh, st, da, gr, pa, ow, go, cu, be, fa, lt, lc))
    (hD : ∀ (D dh : Int32) (dg : Int64) (ha ec xc md : Int32) (st da gr ow ch ge gp go hb hx : Nat → Int32) (D' ln df : Int32) (st' da' gr' pa ow' ov cu : Nat → Int32) (be fa : Nat → Int64) (lt lc : Nat → Int32), ha ≠ 0 → uf_D dg ln lt lc 4 → uf_E ec xc md st' da' fa → P (D, dh, dg, ha, ec, xc, md, st, da, gr, ow, ch, ge, gp, go, hb, hx) (D', ln, df, st', da', gr', pa, ow', ov, cu, be, fa, lt, lc))
    (I : i_Rel k u v) : P u v := by
  obtain ⟨D, dh, dg, ha, ec, xc, md, st, da, gr, ow, ch, ge, gp, go, hb, hx⟩ := u
  obtain ⟨D', ln, df, st', da', gr', pa, ow', ov, cu, be, fa, lt, lc⟩ := v
  rcases I with ⟨e1, e2, e3, e4, e5, e6, e7, e8, e9, h, C⟩ | ⟨h, L, E⟩
  · subst e1 e2 e3 e4 e5 e6 e7 e8 e9
    exact hL _ _ _ _ _ _ _ _ _ _ _ _ _ _ _ _ _ _ _ _ _ _ h C
  · exact hD _ _ _ _ _ _ _ _ _ _ _ _ _ _ _ _ _ _ _ _ _ _ _ _ _ _ _ _ _ _ _ h L E
/-! the constructors -/
theorem uf_yi {post : SY → Prop} {D : Int32} (hp : ∀ be : Nat → Int64, be 0 = 4294967296 → (∀ j, j < 8 → be j = 4294967296) → post (D, 0, 0, upd (fun _ => 0) 0 1, (fun _ => 0), upd (fun _ => 0) 0 1, upd (upd (upd (fun _ => 0) 0 (-1)) 2 (-2)) 3 (-2), (fun _ => 0), (fun _ => 0), (fun _ => 0), be, (fun _ => 0), (fun _ => 0), (fun _ => 0))) : ∀ d j, j + d = 8 → ∀ be : Nat → Int64, (∀ i, i < j → be i = 4294967296) → wY_init_90 post D 0 0 (d + 1) (nI j) (fun _ => 0) (fun _ => 0) (fun _ => 0) (fun _ => 0) (fun _ => 0) (fun _ => 0) (fun _ => 0) be (fun _ => 0) (fun _ => 0) (fun _ => 0) := by
  intro d
  induction d with
  | zero =>
    intro j hj be hbe
    have ej : j = 8 := by omega
    subst ej
    unfold wY_init_90
    rw [uf_nym1, uf_nym2, uf_ny1]
    exact br_t (by decide +kernel) (nm_e (nm_e (nm_e (nm_e (nm_e (hp be (hbe 0 (by decide)) hbe))))))
  | succ d ih =>
    intro j hj be hbe
    have hi : vp_in (nI j) 8 := vp_in_nI (by omega) (by decide)
    have hc : (nI j).toNatClampNeg = j := nI_clamp (by omega)
    have h8 : ¬ (8 : Int32) ≤ nI j := nI_ge (b := 8) (by omega) (by decide)
    unfold wY_init_90
    rw [hc]
    refine br_f h8 ⟨hi, nm_e (nm_r (nI_1 j) (ih (j + 1) (by omega) _ ?_))⟩
    intro i hij
    by_cases e : i = j
    · subst e; exact pk_uLs
    · rw [pk_uLn e]; exact hbe i (by omega)
theorem uf_C_0 {be : Nat → Int64} (h0 : be 0 = 4294967296) (hb : ∀ j, j < 8 → be j = 4294967296) : uf_C 0 0 0 (upd (fun _ => 0) 0 1) (fun _ => 0) (upd (fun _ => 0) 0 1) (fun _ => 0) (fun _ => 0) (upd (upd (fun _ => 0) 0 1) 1 1) (fun _ => 0) (fun _ => 0) (fun _ => 0) (fun _ => 0) 0 (upd (upd (upd (fun _ => 0) 0 (-1)) 2 (-2)) 3 (-2)) (fun _ => 0) be (fun _ => 0) (fun _ => 0) (fun _ => 0) := by
  refine ⟨fun j _ => uf_n30, ⟨by decide, rfl, fun _ => ⟨rfl, rfl⟩, ?_, ?_⟩, ?_, ⟨by decide, rfl, ?_, ?_, ?_, fun j => j, ?_, ?_⟩, ⟨h0, ?_⟩, ⟨0, by decide, rfl⟩, ⟨0, Nat.zero_le _, rfl, rfl⟩⟩
  · exact fun z => absurd z (by decide)
  · exact fun z => absurd rfl z
  · intro j hj
    refine ⟨fun z => ⟨1, by decide, ?_, by decide⟩, ⟨0, by decide, rfl⟩, fun z => ?_⟩
    · by_cases e : j = 0
      · subst e; rfl
      · rw [pk_un e] at z; exact absurd z (by decide)
    · by_cases e : j = 0
      · subst e; exact absurd z (by decide)
      · rw [pk_un e] at z; exact absurd z (by decide)
  · intro j hj
    rcases uf_4 hj with rfl | rfl | rfl | rfl <;> decide
  · exact fun _ _ _ => rfl
  · exact fun _ _ => ⟨0, by decide, rfl⟩
  · intro j hj
    rcases uf_4 hj with rfl | rfl | rfl | rfl <;> decide
  · intro j hj h1
    rcases uf_4 hj with rfl | rfl | rfl | rfl
    · omega
    · exact fun _ => ⟨0, by decide, by decide, by decide, by decide, by decide⟩
    · exact fun z => absurd rfl z
    · exact fun z => absurd rfl z
  · intro h _ h5
    exact Or.inl ⟨rfl, hb h (by omega)⟩
theorem i_vc0 (k0 : Int32) : wpX_init (fun u => wpY_init (fun v => i_Rel 1 u v) k0) k0 := by
  unfold wpX_init
  rw [uf_nb1, uf_nb0, uf_us (fun _ => 0) 1 0 rfl, uf_us (fun _ => 0) 0 0 rfl]
  refine ⟨pk_ns k0, pk_fs k0, nm_e (nm_e (nm_e (nm_e (nm_e (nm_e ?_)))))⟩
  unfold wpY_init
  refine ⟨pk_ns k0, pk_fs k0, 9, ?_⟩
  refine uf_yi ?_ 8 0 rfl _ (fun i h => absurd h (Nat.not_lt_zero i))
  intro be h0 hb
  exact uf_RL (by decide) (uf_C_0 h0 hb)
end
section
/-! setup: the reference, a kind at a time -/
section
variable {D dh xc md ln df : Int32} {dg : Int64} {st da gr ow ch ge gp go hb hx pa ov cu lt lc : Nat → Int32} {be fa : Nat → Int64}
theorem uf_y60a {post : Int32 → SY → Prop} {x1 x2 x3 : Int32} (h : x2 = 0 ∨ x2 < 0 ∨ ¬ x2 ≤ 4) (hp : post (-1) (D, ln, df, st, da, gr, pa, ow, ov, cu, be, fa, lt, lc)) : wY_setup_60 post x1 x2 x3 D ln df st da gr pa ow ov cu be fa lt lc := by
  unfold wY_setup_60
  refine br_c (fun _ => hp) (fun h0 => ?_)
  exact uf_yo1 (h.resolve_left h0) (br_f uf_1n hp)
theorem uf_y60b {post : Int32 → SY → Prop} {a : Nat} {x3 : Int32} (h1 : a ≠ 0) (h5 : a < 5) (hp : post 0 (D, ln, df, st, da, gr, pa, ow, ov, cu, vp_updL be a (uf_w x3), fa, lt, lc)) : wY_setup_60 post 128 (nI a) x3 D ln df st da gr pa ow ov cu be fa lt lc := by
  unfold wY_setup_60
  refine br_f (nI_ne0 (by omega) (by omega)) ?_
  refine uf_yo0 (nI_pos (by omega)) (nI_le (b := 4) (by omega) (by decide)) (br_t rfl (br_t rfl ⟨vp_in_nI (by omega) (by decide), ?_⟩))
  rw [nI_clamp (by omega)]
  exact nm_e hp
theorem uf_y60c {post : Int32 → SY → Prop} {a : Nat} {x1 x3 : Int32} {w : Int64} (h1 : a ≠ 0) (h5 : a < 5) (hx : ¬ x1 = 128) (hw : (((x1 >>> ((5 : Int32) &&& 31)).toInt64) <<< ((32 : Int32).toInt64 &&& 63)) = w) (hp : post 0 (D, ln, df, st, da, gr, pa, ow, ov, cu, vp_updL be a w, fa, lt, lc)) : wY_setup_60 post x1 (nI a) x3 D ln df st da gr pa ow ov cu be fa lt lc := by
  unfold wY_setup_60
  refine br_f (nI_ne0 (by omega) (by omega)) ?_
  refine uf_yo0 (nI_pos (by omega)) (nI_le (b := 4) (by omega) (by decide)) (br_t rfl (br_f hx ⟨vp_in_nI (by omega) (by decide), ?_⟩))
  rw [nI_clamp (by omega), hw]
  exact nm_e hp
theorem uf_y16a {post : Int32 → SY → Prop} {p1 p2 : Int32} (h0 : uf_on st da ≠ 0) (hn : uf_nx fa) (h : p1 < 0 ∨ ¬ p1 ≤ 4) (hp : post (-1) (D, ln, df, st, da, gr, pa, ow, ov, cu, be, fa, lt, lc)) : wpY_setup post (D, ln, df, st, da, gr, pa, ow, ov, cu, be, fa, lt, lc) 16 p1 p2 := by
  unfold wpY_setup
  refine uf_yl (br_f (fun z => h0 (uf_onz.mp z)) (uf_yx0 hn (br_t uf_m1n (br_t rfl ?_))))
  exact uf_yo1 h (br_f uf_1n hp)
theorem uf_y16b {post : Int32 → SY → Prop} {p1 p2 : Int32} (h0 : uf_on st da ≠ 0) (hn : uf_nx fa) (h1 : ¬ p1 < 0) (h2 : p1 ≤ 4) (hp : post 0 (D, ln, p1, st, da, gr, pa, ow, ov, cu, be, fa, lt, lc)) : wpY_setup post (D, ln, df, st, da, gr, pa, ow, ov, cu, be, fa, lt, lc) 16 p1 p2 := by
  unfold wpY_setup
  refine uf_yl (br_f (fun z => h0 (uf_onz.mp z)) (uf_yx0 hn (br_t uf_m1n (br_t rfl ?_))))
  exact uf_yo0 h1 h2 (br_t rfl hp)
theorem uf_y32 {post : Int32 → SY → Prop} {p1 p2 : Int32} (h0 : uf_on st da ≠ 0) (hn : uf_nx fa) (hp : wY_setup_60 post 32 p1 p2 D ln df st da gr pa ow ov cu be fa lt lc) : wpY_setup post (D, ln, df, st, da, gr, pa, ow, ov, cu, be, fa, lt, lc) 32 p1 p2 := by
  unfold wpY_setup
  refine uf_yl (br_f (fun z => h0 (uf_onz.mp z)) (uf_yx0 hn (br_t uf_m1n (br_f (by decide +kernel) (br_t rfl hp)))))
theorem uf_y64 {post : Int32 → SY → Prop} {p1 p2 : Int32} (h0 : uf_on st da ≠ 0) (hn : uf_nx fa) (hp : wY_setup_60 post 64 p1 p2 D ln df st da gr pa ow ov cu be fa lt lc) : wpY_setup post (D, ln, df, st, da, gr, pa, ow, ov, cu, be, fa, lt, lc) 64 p1 p2 := by
  unfold wpY_setup
  refine uf_yl (br_f (fun z => h0 (uf_onz.mp z)) (uf_yx0 hn (br_t uf_m1n (br_f (by decide +kernel) (br_f (by decide +kernel) (br_t rfl hp))))))
theorem uf_y128 {post : Int32 → SY → Prop} {p1 p2 : Int32} (h0 : uf_on st da ≠ 0) (hn : uf_nx fa) (hp : wY_setup_60 post 128 p1 p2 D ln df st da gr pa ow ov cu be fa lt lc) : wpY_setup post (D, ln, df, st, da, gr, pa, ow, ov, cu, be, fa, lt, lc) 128 p1 p2 := by
  unfold wpY_setup
  refine uf_yl (br_f (fun z => h0 (uf_onz.mp z)) (uf_yx0 hn (br_t uf_m1n (br_f (by decide +kernel) (br_f (by decide +kernel) (br_f (by decide +kernel) (br_t rfl hp)))))))
theorem uf_y1a {post : Int32 → SY → Prop} {p1 p2 : Int32} (h0 : uf_on st da ≠ 0) (hn : uf_nx fa) (h : p1 < 0 ∨ ¬ p1 ≤ 3) (hp : post (-1) (D, ln, df, st, da, gr, pa, ow, ov, cu, be, fa, lt, lc)) : wpY_setup post (D, ln, df, st, da, gr, pa, ow, ov, cu, be, fa, lt, lc) 1 p1 p2 := by
  unfold wpY_setup
  refine uf_yl (br_f (fun z => h0 (uf_onz.mp z)) (uf_yx0 hn (br_t uf_m1n (br_f (by decide +kernel) (br_f (by decide +kernel) (br_f (by decide +kernel) (br_f (by decide +kernel) (br_t rfl ?_))))))))
  exact uf_yo1 h (br_f uf_1n hp)
theorem uf_y1b {post : Int32 → SY → Prop} {p1 p2 : Int32} (h0 : uf_on st da ≠ 0) (hn : uf_nx fa) (h1 : ¬ p1 < 0) (h2 : p1 ≤ 3) (h : p2 < 0 ∨ ¬ p2 ≤ 3) (hp : post (-1) (D, ln, df, st, da, gr, pa, ow, ov, cu, be, fa, lt, lc)) : wpY_setup post (D, ln, df, st, da, gr, pa, ow, ov, cu, be, fa, lt, lc) 1 p1 p2 := by
  unfold wpY_setup
  refine uf_yl (br_f (fun z => h0 (uf_onz.mp z)) (uf_yx0 hn (br_t uf_m1n (br_f (by decide +kernel) (br_f (by decide +kernel) (br_f (by decide +kernel) (br_f (by decide +kernel) (br_t rfl ?_))))))))
  refine uf_yo0 h1 h2 (br_t rfl ?_)
  exact uf_yo1 h (br_f uf_1n hp)
theorem uf_y1c {post : Int32 → SY → Prop} {a b : Nat} (h0 : uf_on st da ≠ 0) (hn : uf_nx fa) (ha : a < 4) (hb : b < 4) (h1 : pa a ≠ -2 ∨ pa b = -2) (hp : post (-2) (D, ln, df, st, da, gr, pa, ow, ov, cu, be, fa, lt, lc)) : wpY_setup post (D, ln, df, st, da, gr, pa, ow, ov, cu, be, fa, lt, lc) 1 (nI a) (nI b) := by
  unfold wpY_setup
  refine uf_yl (br_f (fun z => h0 (uf_onz.mp z)) (uf_yx0 hn (br_t uf_m1n (br_f (by decide +kernel) (br_f (by decide +kernel) (br_f (by decide +kernel) (br_f (by decide +kernel) (br_t rfl ?_))))))))
  refine uf_yo0 (nI_pos (by omega)) (nI_le (b := 3) (by omega) (by decide)) (br_t rfl ?_)
  refine uf_yo0 (nI_pos (by omega)) (nI_le (b := 3) (by omega) (by decide)) (br_t rfl ?_)
  rw [nI_clamp (by omega), nI_clamp (by omega)]
  exact ⟨vp_in_nI ha (by decide), br_c (fun e => ⟨vp_in_nI hb (by decide), br_t (h1.resolve_left (fun z => z e)) hp⟩) (fun _ => hp)⟩
theorem uf_y1d {post : Int32 → SY → Prop} {a b : Nat} (h0 : uf_on st da ≠ 0) (hn : uf_nx fa) (ha : a < 4) (hb : b < 4) (h1 : pa a = -2) (h2 : pa b ≠ -2) (hp : post 0 (D, ln, df, st, da, gr, upd pa a (nI b), ow, ov, cu, be, fa, lt, lc)) : wpY_setup post (D, ln, df, st, da, gr, pa, ow, ov, cu, be, fa, lt, lc) 1 (nI a) (nI b) := by
  unfold wpY_setup
  refine uf_yl (br_f (fun z => h0 (uf_onz.mp z)) (uf_yx0 hn (br_t uf_m1n (br_f (by decide +kernel) (br_f (by decide +kernel) (br_f (by decide +kernel) (br_f (by decide +kernel) (br_t rfl ?_))))))))
  refine uf_yo0 (nI_pos (by omega)) (nI_le (b := 3) (by omega) (by decide)) (br_t rfl ?_)
  refine uf_yo0 (nI_pos (by omega)) (nI_le (b := 3) (by omega) (by decide)) (br_t rfl ?_)
  rw [nI_clamp (by omega), nI_clamp (by omega), uf_byte b (by omega)]
  exact ⟨vp_in_nI ha (by decide), br_t h1 ⟨vp_in_nI hb (by decide), br_f h2 ⟨vp_in_nI ha (by decide), nm_e hp⟩⟩⟩
theorem uf_y2a {post : Int32 → SY → Prop} {p1 p2 : Int32} (h0 : uf_on st da ≠ 0) (hn : uf_nx fa) (h : p1 = 0 ∨ p1 < 0 ∨ ¬ p1 ≤ 3) (hp : post (-1) (D, ln, df, st, da, gr, pa, ow, ov, cu, be, fa, lt, lc)) : wpY_setup post (D, ln, df, st, da, gr, pa, ow, ov, cu, be, fa, lt, lc) 2 p1 p2 := by
  unfold wpY_setup
  refine uf_yl (br_f (fun z => h0 (uf_onz.mp z)) (uf_yx0 hn (br_t uf_m1n (br_f (by decide +kernel) (br_f (by decide +kernel) (br_f (by decide +kernel) (br_f (by decide +kernel) (br_f (by decide +kernel) (br_t rfl ?_)))))))))
  refine br_c (fun _ => hp) (fun z => ?_)
  exact uf_yo1 (h.resolve_left z) (br_f uf_1n hp)
theorem uf_y2b {post : Int32 → SY → Prop} {p1 p2 : Int32} (h0 : uf_on st da ≠ 0) (hn : uf_nx fa) (hz : ¬ p1 = 0) (h1 : ¬ p1 < 0) (h2 : p1 ≤ 3) (h : p2 < 0 ∨ ¬ p2 ≤ 4) (hp : post (-1) (D, ln, df, st, da, gr, pa, ow, ov, cu, be, fa, lt, lc)) : wpY_setup post (D, ln, df, st, da, gr, pa, ow, ov, cu, be, fa, lt, lc) 2 p1 p2 := by
  unfold wpY_setup
  refine uf_yl (br_f (fun z => h0 (uf_onz.mp z)) (uf_yx0 hn (br_t uf_m1n (br_f (by decide +kernel) (br_f (by decide +kernel) (br_f (by decide +kernel) (br_f (by decide +kernel) (br_f (by decide +kernel) (br_t rfl ?_)))))))))
  refine br_f hz (uf_yo0 h1 h2 (br_t rfl ?_))
  exact uf_yo1 h (br_f uf_1n hp)
theorem uf_y2c {post : Int32 → SY → Prop} {a b : Nat} (h0 : uf_on st da ≠ 0) (hn : uf_nx fa) (hz : a ≠ 0) (ha : a < 4) (hb : b < 5) (h1 : pa a = -2) (hp : post (-2) (D, ln, df, st, da, gr, pa, ow, ov, cu, be, fa, lt, lc)) : wpY_setup post (D, ln, df, st, da, gr, pa, ow, ov, cu, be, fa, lt, lc) 2 (nI a) (nI b) := by
  unfold wpY_setup
  refine uf_yl (br_f (fun z => h0 (uf_onz.mp z)) (uf_yx0 hn (br_t uf_m1n (br_f (by decide +kernel) (br_f (by decide +kernel) (br_f (by decide +kernel) (br_f (by decide +kernel) (br_f (by decide +kernel) (br_t rfl ?_)))))))))
  refine br_f (nI_ne0 (by omega) (by omega)) ?_
  refine uf_yo0 (nI_pos (by omega)) (nI_le (b := 3) (by omega) (by decide)) (br_t rfl ?_)
  refine uf_yo0 (nI_pos (by omega)) (nI_le (b := 4) (by omega) (by decide)) (br_t rfl ?_)
  rw [nI_clamp (by omega)]
  exact ⟨vp_in_nI ha (by decide), br_t h1 hp⟩
theorem uf_y2d {post : Int32 → SY → Prop} {a b : Nat} (h0 : uf_on st da ≠ 0) (hn : uf_nx fa) (hz : a ≠ 0) (ha : a < 4) (hb : b < 5) (h1 : pa a ≠ -2) (hp : post 0 (D, ln, df, st, da, gr, pa, ow, upd ov a (nI b), cu, be, fa, lt, lc)) : wpY_setup post (D, ln, df, st, da, gr, pa, ow, ov, cu, be, fa, lt, lc) 2 (nI a) (nI b) := by
  unfold wpY_setup
  refine uf_yl (br_f (fun z => h0 (uf_onz.mp z)) (uf_yx0 hn (br_t uf_m1n (br_f (by decide +kernel) (br_f (by decide +kernel) (br_f (by decide +kernel) (br_f (by decide +kernel) (br_f (by decide +kernel) (br_t rfl ?_)))))))))
  refine br_f (nI_ne0 (by omega) (by omega)) ?_
  refine uf_yo0 (nI_pos (by omega)) (nI_le (b := 3) (by omega) (by decide)) (br_t rfl ?_)
  refine uf_yo0 (nI_pos (by omega)) (nI_le (b := 4) (by omega) (by decide)) (br_t rfl ?_)
  rw [nI_clamp (by omega), uf_short b (by omega)]
  exact ⟨vp_in_nI ha (by decide), br_f h1 ⟨vp_in_nI ha (by decide), nm_e hp⟩⟩
theorem uf_y4a {post : Int32 → SY → Prop} {p1 p2 : Int32} (h0 : uf_on st da ≠ 0) (hn : uf_nx fa) (h : p1 < 0 ∨ ¬ p1 ≤ 3) (hp : post (-1) (D, ln, df, st, da, gr, pa, ow, ov, cu, be, fa, lt, lc)) : wpY_setup post (D, ln, df, st, da, gr, pa, ow, ov, cu, be, fa, lt, lc) 4 p1 p2 := by
  unfold wpY_setup
  refine uf_yl (br_f (fun z => h0 (uf_onz.mp z)) (uf_yx0 hn (br_t uf_m1n (br_f (by decide +kernel) (br_f (by decide +kernel) (br_f (by decide +kernel) (br_f (by decide +kernel) (br_f (by decide +kernel) (br_f (by decide +kernel) (br_t rfl ?_))))))))))
  exact uf_yo1 h (br_f uf_1n hp)
theorem uf_y4b {post : Int32 → SY → Prop} {p1 p2 : Int32} (h0 : uf_on st da ≠ 0) (hn : uf_nx fa) (h1 : ¬ p1 < 0) (h2 : p1 ≤ 3) (h : p2 < 0 ∨ ¬ p2 ≤ 7) (hp : post (-1) (D, ln, df, st, da, gr, pa, ow, ov, cu, be, fa, lt, lc)) : wpY_setup post (D, ln, df, st, da, gr, pa, ow, ov, cu, be, fa, lt, lc) 4 p1 p2 := by
  unfold wpY_setup
  refine uf_yl (br_f (fun z => h0 (uf_onz.mp z)) (uf_yx0 hn (br_t uf_m1n (br_f (by decide +kernel) (br_f (by decide +kernel) (br_f (by decide +kernel) (br_f (by decide +kernel) (br_f (by decide +kernel) (br_f (by decide +kernel) (br_t rfl ?_))))))))))
  refine uf_yo0 h1 h2 (br_t rfl ?_)
  exact uf_yo1 h (br_f uf_1n hp)
theorem uf_y4c {post : Int32 → SY → Prop} {a b : Nat} (h0 : uf_on st da ≠ 0) (hn : uf_nx fa) (ha : a < 4) (hb : b < 8) (h1 : st a ≠ 0 ∨ pa (b / 2) = -2) (hp : post (-2) (D, ln, df, st, da, gr, pa, ow, ov, cu, be, fa, lt, lc)) : wpY_setup post (D, ln, df, st, da, gr, pa, ow, ov, cu, be, fa, lt, lc) 4 (nI a) (nI b) := by
  unfold wpY_setup
  refine uf_yl (br_f (fun z => h0 (uf_onz.mp z)) (uf_yx0 hn (br_t uf_m1n (br_f (by decide +kernel) (br_f (by decide +kernel) (br_f (by decide +kernel) (br_f (by decide +kernel) (br_f (by decide +kernel) (br_f (by decide +kernel) (br_t rfl ?_))))))))))
  refine uf_yo0 (nI_pos (by omega)) (nI_le (b := 3) (by omega) (by decide)) (br_t rfl ?_)
  refine uf_yo0 (nI_pos (by omega)) (nI_le (b := 7) (by omega) (by decide)) (br_t rfl ?_)
  rw [uf_s1 b hb, nI_clamp (n := a) (by omega), nI_clamp (n := b / 2) (by omega)]
  exact ⟨vp_in_nI ha (by decide), br_c (fun e => ⟨vp_in_nI (by omega) (by decide), br_t (h1.resolve_left (fun z => z e)) hp⟩) (fun _ => hp)⟩
theorem uf_y4d {post : Int32 → SY → Prop} {a b : Nat} (h0 : uf_on st da ≠ 0) (hn : uf_nx fa) (ha : a < 4) (hb : b < 8) (h1 : st a = 0) (h2 : pa (b / 2) ≠ -2) (hp : post 0 (D, ln, df, upd st a 1, upd da a (nI (b % 2)), upd gr a (nI (b / 2)), pa, ow, ov, cu, be, fa, lt, lc)) : wpY_setup post (D, ln, df, st, da, gr, pa, ow, ov, cu, be, fa, lt, lc) 4 (nI a) (nI b) := by
  have hi : vp_in (nI a) 4 := vp_in_nI ha (by decide)
  have hs : ∀ z0 : Int32, vp_nar .boolean z0 = nI (b % 2) → wY_setup_293 post (nI a) (nI b) z0 (nI a) D ln df (upd st a 1) da gr pa ow ov cu be fa lt lc := by
    intro z0 ez
    unfold wY_setup_293
    rw [uf_s1 b hb, uf_byte (b / 2) (by omega), nI_clamp (by omega), ez]
    exact ⟨hi, nm_e ⟨hi, nm_e hp⟩⟩
  unfold wpY_setup
  refine uf_yl (br_f (fun z => h0 (uf_onz.mp z)) (uf_yx0 hn (br_t uf_m1n (br_f (by decide +kernel) (br_f (by decide +kernel) (br_f (by decide +kernel) (br_f (by decide +kernel) (br_f (by decide +kernel) (br_f (by decide +kernel) (br_t rfl ?_))))))))))
  refine uf_yo0 (nI_pos (by omega)) (nI_le (b := 3) (by omega) (by decide)) (br_t rfl ?_)
  refine uf_yo0 (nI_pos (by omega)) (nI_le (b := 7) (by omega) (by decide)) (br_t rfl ?_)
  rw [uf_s1 b hb, uf_m1 b hb, nI_clamp (n := a) (by omega), nI_clamp (n := b / 2) (by omega), uf_ny1]
  refine ⟨hi, br_t h1 ⟨vp_in_nI (by omega) (by decide), br_f h2 ⟨hi, nm_e ?_⟩⟩⟩
  by_cases hm : b % 2 = 0
  · rw [hm] at hs ⊢
    exact br_t rfl (hs 0 uf_nb0)
  · have e1 : b % 2 = 1 := by omega
    rw [e1] at hs ⊢
    exact br_f (by decide +kernel) (hs 1 uf_nb1)
theorem uf_y8a {post : Int32 → SY → Prop} {p1 p2 : Int32} (h0 : uf_on st da ≠ 0) (hn : uf_nx fa) (h : p1 < 0 ∨ ¬ p1 ≤ 3) (hp : post (-1) (D, ln, df, st, da, gr, pa, ow, ov, cu, be, fa, lt, lc)) : wpY_setup post (D, ln, df, st, da, gr, pa, ow, ov, cu, be, fa, lt, lc) 8 p1 p2 := by
  unfold wpY_setup
  refine uf_yl (br_f (fun z => h0 (uf_onz.mp z)) (uf_yx0 hn (br_t uf_m1n (br_f (by decide +kernel) (br_f (by decide +kernel) (br_f (by decide +kernel) (br_f (by decide +kernel) (br_f (by decide +kernel) (br_f (by decide +kernel) (br_f (by decide +kernel) (br_t rfl ?_)))))))))))
  exact uf_yo1 h (br_f uf_1n hp)
theorem uf_y8b {post : Int32 → SY → Prop} {p1 p2 : Int32} (h0 : uf_on st da ≠ 0) (hn : uf_nx fa) (h1 : ¬ p1 < 0) (h2 : p1 ≤ 3) (h : p2 < 0 ∨ ¬ p2 ≤ 4) (hp : post (-1) (D, ln, df, st, da, gr, pa, ow, ov, cu, be, fa, lt, lc)) : wpY_setup post (D, ln, df, st, da, gr, pa, ow, ov, cu, be, fa, lt, lc) 8 p1 p2 := by
  unfold wpY_setup
  refine uf_yl (br_f (fun z => h0 (uf_onz.mp z)) (uf_yx0 hn (br_t uf_m1n (br_f (by decide +kernel) (br_f (by decide +kernel) (br_f (by decide +kernel) (br_f (by decide +kernel) (br_f (by decide +kernel) (br_f (by decide +kernel) (br_f (by decide +kernel) (br_t rfl ?_)))))))))))
  refine uf_yo0 h1 h2 (br_t rfl ?_)
  exact uf_yo1 h (br_f uf_1n hp)
theorem uf_y8c {post : Int32 → SY → Prop} {a b : Nat} (h0 : uf_on st da ≠ 0) (hn : uf_nx fa) (ha : a < 4) (hb : b < 5) (hp : post 0 (D, ln, df, st, da, gr, pa, upd ow a (nI b), ov, cu, be, fa, lt, lc)) : wpY_setup post (D, ln, df, st, da, gr, pa, ow, ov, cu, be, fa, lt, lc) 8 (nI a) (nI b) := by
  unfold wpY_setup
  refine uf_yl (br_f (fun z => h0 (uf_onz.mp z)) (uf_yx0 hn (br_t uf_m1n (br_f (by decide +kernel) (br_f (by decide +kernel) (br_f (by decide +kernel) (br_f (by decide +kernel) (br_f (by decide +kernel) (br_f (by decide +kernel) (br_f (by decide +kernel) (br_t rfl ?_)))))))))))
  refine uf_yo0 (nI_pos (by omega)) (nI_le (b := 3) (by omega) (by decide)) (br_t rfl ?_)
  refine uf_yo0 (nI_pos (by omega)) (nI_le (b := 4) (by omega) (by decide)) (br_t rfl ?_)
  rw [nI_clamp (by omega), uf_short b (by omega)]
  exact ⟨vp_in_nI ha (by decide), nm_e hp⟩
theorem uf_yno {post : Int32 → SY → Prop} {p0 p1 p2 : Int32} (h0 : uf_on st da ≠ 0) (hn : uf_nx fa) (a1 : ¬ p0 = 1) (a2 : ¬ p0 = 2) (a4 : ¬ p0 = 4) (a8 : ¬ p0 = 8) (a16 : ¬ p0 = 16) (a32 : ¬ p0 = 32) (a64 : ¬ p0 = 64) (a128 : ¬ p0 = 128) (hp : post (-3) (D, ln, df, st, da, gr, pa, ow, ov, cu, be, fa, lt, lc)) : wpY_setup post (D, ln, df, st, da, gr, pa, ow, ov, cu, be, fa, lt, lc) p0 p1 p2 := by
  unfold wpY_setup
  exact uf_yl (br_f (fun z => h0 (uf_onz.mp z)) (uf_yx0 hn (br_t uf_m1n (br_f a16 (br_f a32 (br_f a64 (br_f a128 (br_f a1 (br_f a2 (br_f a4 (br_f a8 hp)))))))))))
end
end
section
/-! setup: both sides, a kind at a time, at a live run -/
section
variable {k : Nat} {D dh xc md ln : Int32} {dg : Int64} {st da gr ow ch ge gp go hb hx pa cu lt lc : Nat → Int32} {be fa : Nat → Int64}
theorem uf_se1 (h0 : uf_on st da ≠ 0) (C : uf_C dh dg md st da gr ow ch ge gp go hb hx ln pa cu be fa lt lc) (p1 p2 : Int32) : wpX_setup (fun r u' => wpY_setup (fun r' v' => r' = r ∧ i_Rel (k + 4) u' v') (D, ln, dh, st, da, gr, pa, ow, go, cu, be, fa, lt, lc) 1 p1 p2) (D, dh, dg, 0, 0, xc, md, st, da, gr, ow, ch, ge, gp, go, hb, hx) 1 p1 p2 := by
  have hn := C.1
  have G3 := C.2.2.2.1.2.2.1
  have G4 := C.2.2.2.1.2.2.2.1
  have R : i_Rel (k + 4) (D, dh, dg, 0, 0, xc, md, st, da, gr, ow, ch, ge, gp, go, hb, hx) (D, ln, dh, st, da, gr, pa, ow, go, cu, be, fa, lt, lc) := uf_RL h0 C
  unfold wpX_setup
  refine br_t rfl (br_t rfl ?_)
  rcases uf_rg p1 3 3 (by decide) with l | ⟨l, u⟩ | ⟨a, ha, rfl, l, u⟩
  · exact br_t l (uf_y1a h0 hn (Or.inl l) ⟨rfl, R⟩)
  · exact br_f l (br_t (Int32.not_le.mp u) (uf_y1a h0 hn (Or.inr u) ⟨rfl, R⟩))
  · refine br_f l (br_f (Int32.not_lt.mpr u) ?_)
    rcases uf_rg p2 3 3 (by decide) with l2 | ⟨l2, u2⟩ | ⟨b, hb', rfl, l2, u2⟩
    · exact br_t l2 (uf_y1b h0 hn l u (Or.inl l2) ⟨rfl, R⟩)
    · exact br_f l2 (br_f u2 (uf_y1b h0 hn l u (Or.inr u2) ⟨rfl, R⟩))
    · refine br_f l2 (br_t u2 ?_)
      have ha4 : a < 4 := by omega
      have hb4 : b < 4 := by omega
      have hi : vp_in (nI a) 4 := vp_in_nI ha4 (by decide)
      have hj : vp_in (nI b) 4 := vp_in_nI hb4 (by decide)
      rw [nI_clamp (n := a) (by omega), nI_clamp (n := b) (by omega), uf_nb1]
      by_cases ga : ge a = 0
      · by_cases gb : ge b = 0
        · exact ⟨hi, br_t ga ⟨hj, br_t gb (uf_y1c h0 hn ha4 hb4 (Or.inr ((G3 b hb4).mp gb)) ⟨rfl, R⟩)⟩⟩
        · refine ⟨hi, br_t ga ⟨hj, br_f gb ⟨hi, nm_e ⟨hi, nm_e ⟨hi, nm_r (uf_us go a 0 (G4 a ha4 ga)) ?_⟩⟩⟩⟩⟩
          exact uf_y1d h0 hn ha4 hb4 ((G3 a ha4).mp ga) (fun z => gb ((G3 b hb4).mpr z)) ⟨rfl, uf_RL h0 (uf_C_1 C ha4 hb4 ga gb)⟩
      · exact ⟨hi, br_f ga (uf_y1c h0 hn ha4 hb4 (Or.inl (fun z => ga ((G3 a ha4).mpr z))) ⟨rfl, R⟩)⟩
theorem uf_lt1 {p : Int32} (h : p < 0) : p < 1 := Int32.lt_trans h (by decide)
theorem uf_0lt1 : (nI 0) < 1 := by decide
theorem uf_nlt1 {a : Nat} (h : a ≠ 0) (ha : a < 2 ^ 31) : ¬ nI a < 1 := nI_nlt (b := 1) (by omega) ha
theorem uf_gt1 {p M : Int32} (hM : (1 : Int32) ≤ M) (h : ¬ p ≤ M) : ¬ p < 1 := fun z => h (Int32.le_of_lt (Int32.lt_of_lt_of_le z hM))
theorem uf_se2 (h0 : uf_on st da ≠ 0) (C : uf_C dh dg md st da gr ow ch ge gp go hb hx ln pa cu be fa lt lc) (p1 p2 : Int32) : wpX_setup (fun r u' => wpY_setup (fun r' v' => r' = r ∧ i_Rel (k + 4) u' v') (D, ln, dh, st, da, gr, pa, ow, go, cu, be, fa, lt, lc) 2 p1 p2) (D, dh, dg, 0, 0, xc, md, st, da, gr, ow, ch, ge, gp, go, hb, hx) 2 p1 p2 := by
  have hn := C.1
  have G3 := C.2.2.2.1.2.2.1
  have R : i_Rel (k + 4) (D, dh, dg, 0, 0, xc, md, st, da, gr, ow, ch, ge, gp, go, hb, hx) (D, ln, dh, st, da, gr, pa, ow, go, cu, be, fa, lt, lc) := uf_RL h0 C
  unfold wpX_setup
  refine br_t rfl (br_f (by decide +kernel) (br_t rfl ?_))
  rcases uf_rg p1 3 3 (by decide) with l | ⟨l, u⟩ | ⟨a, ha, rfl, l, u⟩
  · exact br_t (uf_lt1 l) (uf_y2a h0 hn (Or.inr (Or.inl l)) ⟨rfl, R⟩)
  · exact br_f (uf_gt1 (by decide) u) (br_t (Int32.not_le.mp u) (uf_y2a h0 hn (Or.inr (Or.inr u)) ⟨rfl, R⟩))
  · by_cases az : a = 0
    · subst az
      exact br_t uf_0lt1 (uf_y2a h0 hn (Or.inl rfl) ⟨rfl, R⟩)
    · refine br_f (uf_nlt1 az (by omega)) (br_f (Int32.not_lt.mpr u) ?_)
      have ha4 : a < 4 := by omega
      have hi : vp_in (nI a) 4 := vp_in_nI ha4 (by decide)
      rcases uf_rg p2 4 4 (by decide) with l2 | ⟨l2, u2⟩ | ⟨b, hb', rfl, l2, u2⟩
      · exact br_t l2 (uf_y2b h0 hn (nI_ne0 (by omega) (by omega)) l u (Or.inl l2) ⟨rfl, R⟩)
      · exact br_f l2 (br_f u2 (uf_y2b h0 hn (nI_ne0 (by omega) (by omega)) l u (Or.inr u2) ⟨rfl, R⟩))
      · refine br_f l2 (br_t u2 ?_)
        have hb5 : b < 5 := by omega
        rw [nI_clamp (n := a) (by omega)]
        by_cases ga : ge a = 0
        · exact ⟨hi, br_t ga (uf_y2c h0 hn az ha4 hb5 ((G3 a ha4).mp ga) ⟨rfl, R⟩)⟩
        · exact ⟨hi, br_f ga ⟨hi, nm_e (uf_y2d h0 hn az ha4 hb5 (fun z => ga ((G3 a ha4).mpr z)) ⟨rfl, uf_RL h0 (uf_C_2 C az hb5 ga)⟩)⟩⟩
theorem uf_se4 (h0 : uf_on st da ≠ 0) (C : uf_C dh dg md st da gr ow ch ge gp go hb hx ln pa cu be fa lt lc) (p1 p2 : Int32) : wpX_setup (fun r u' => wpY_setup (fun r' v' => r' = r ∧ i_Rel (k + 4) u' v') (D, ln, dh, st, da, gr, pa, ow, go, cu, be, fa, lt, lc) 4 p1 p2) (D, dh, dg, 0, 0, xc, md, st, da, gr, ow, ch, ge, gp, go, hb, hx) 4 p1 p2 := by
  have hn := C.1
  have G3 := C.2.2.2.1.2.2.1
  have R : i_Rel (k + 4) (D, dh, dg, 0, 0, xc, md, st, da, gr, ow, ch, ge, gp, go, hb, hx) (D, ln, dh, st, da, gr, pa, ow, go, cu, be, fa, lt, lc) := uf_RL h0 C
  unfold wpX_setup
  refine br_t rfl (br_f (by decide +kernel) (br_f (by decide +kernel) (br_t rfl ?_)))
  rcases uf_rg p1 3 3 (by decide) with l | ⟨l, u⟩ | ⟨a, ha, rfl, l, u⟩
  · exact br_t l (uf_y4a h0 hn (Or.inl l) ⟨rfl, R⟩)
  · exact br_f l (br_t (Int32.not_le.mp u) (uf_y4a h0 hn (Or.inr u) ⟨rfl, R⟩))
  · refine br_f l (br_f (Int32.not_lt.mpr u) ?_)
    have ha4 : a < 4 := by omega
    have hi : vp_in (nI a) 4 := vp_in_nI ha4 (by decide)
    rcases uf_rg p2 7 7 (by decide) with l2 | ⟨l2, u2⟩ | ⟨b, hb', rfl, l2, u2⟩
    · exact br_t l2 (uf_y4b h0 hn l u (Or.inl l2) ⟨rfl, R⟩)
    · exact br_f l2 (br_f u2 (uf_y4b h0 hn l u (Or.inr u2) ⟨rfl, R⟩))
    · refine br_f l2 (br_t u2 ?_)
      have hb8 : b < 8 := by omega
      have hg4 : b / 2 < 4 := by omega
      have hj : vp_in (nI (b / 2)) 4 := vp_in_nI hg4 (by decide)
      rw [uf_s1 b hb8, uf_m1 b hb8, nI_clamp (n := a) (by omega), nI_clamp (n := b / 2) (by omega), uf_nb1, uf_nb0]
      by_cases sa : st a = 0
      · by_cases gb : ge (b / 2) = 0
        · exact ⟨hi, br_t sa ⟨hj, br_t gb (uf_y4c h0 hn ha4 hb8 (Or.inr ((G3 _ hg4).mp gb)) ⟨rfl, R⟩)⟩⟩
        · refine ⟨hi, br_t sa ⟨hj, br_f gb ⟨hi, nm_e ⟨hi, nm_e ?_⟩⟩⟩⟩
          have Y : ∀ post : Int32 → SY → Prop, post 0 (D, ln, dh, upd st a 1, upd da a (nI (b % 2)), upd gr a (nI (b / 2)), pa, ow, go, cu, be, fa, lt, lc) → wpY_setup post (D, ln, dh, st, da, gr, pa, ow, go, cu, be, fa, lt, lc) 4 (nI a) (nI b) := fun post hp => uf_y4d h0 hn ha4 hb8 sa (fun z => gb ((G3 _ hg4).mpr z)) hp
          have C' : uf_C dh dg md (upd st a 1) (upd da a (nI (b % 2))) (upd gr a (nI (b / 2))) ow ch ge gp go hb hx ln pa cu be fa lt lc := uf_C_4 C ha4 sa hg4 gb
          have R' : i_Rel (k + 4) (D, dh, dg, 0, 0, xc, md, upd st a 1, upd da a (nI (b % 2)), upd gr a (nI (b / 2)), ow, ch, ge, gp, go, hb, hx) (D, ln, dh, upd st a 1, upd da a (nI (b % 2)), upd gr a (nI (b / 2)), pa, ow, go, cu, be, fa, lt, lc) := uf_RL (uf_on1 sa h0) C'
          by_cases hm : b % 2 = 0
          · rw [hm] at R' Y ⊢
            exact br_f (by decide +kernel) ⟨hi, nm_e (Y _ ⟨rfl, R'⟩)⟩
          · have e1 : b % 2 = 1 := by omega
            rw [e1] at R' Y ⊢
            exact br_t rfl ⟨hi, nm_e (Y _ ⟨rfl, R'⟩)⟩
      · exact ⟨hi, br_f sa (uf_y4c h0 hn ha4 hb8 (Or.inl sa) ⟨rfl, R⟩)⟩
theorem uf_se8 (h0 : uf_on st da ≠ 0) (C : uf_C dh dg md st da gr ow ch ge gp go hb hx ln pa cu be fa lt lc) (p1 p2 : Int32) : wpX_setup (fun r u' => wpY_setup (fun r' v' => r' = r ∧ i_Rel (k + 4) u' v') (D, ln, dh, st, da, gr, pa, ow, go, cu, be, fa, lt, lc) 8 p1 p2) (D, dh, dg, 0, 0, xc, md, st, da, gr, ow, ch, ge, gp, go, hb, hx) 8 p1 p2 := by
  have hn := C.1
  have R : i_Rel (k + 4) (D, dh, dg, 0, 0, xc, md, st, da, gr, ow, ch, ge, gp, go, hb, hx) (D, ln, dh, st, da, gr, pa, ow, go, cu, be, fa, lt, lc) := uf_RL h0 C
  unfold wpX_setup
  refine br_t rfl (br_f (by decide +kernel) (br_f (by decide +kernel) (br_f (by decide +kernel) (br_t rfl ?_))))
  rcases uf_rg p1 3 3 (by decide) with l | ⟨l, u⟩ | ⟨a, ha, rfl, l, u⟩
  · exact br_t l (uf_y8a h0 hn (Or.inl l) ⟨rfl, R⟩)
  · exact br_f l (br_t (Int32.not_le.mp u) (uf_y8a h0 hn (Or.inr u) ⟨rfl, R⟩))
  · refine br_f l (br_f (Int32.not_lt.mpr u) ?_)
    have ha4 : a < 4 := by omega
    have hi : vp_in (nI a) 4 := vp_in_nI ha4 (by decide)
    rcases uf_rg p2 4 4 (by decide) with l2 | ⟨l2, u2⟩ | ⟨b, hb', rfl, l2, u2⟩
    · exact br_t l2 (uf_y8b h0 hn l u (Or.inl l2) ⟨rfl, R⟩)
    · exact br_f l2 (br_f u2 (uf_y8b h0 hn l u (Or.inr u2) ⟨rfl, R⟩))
    · refine br_f l2 (br_t u2 ?_)
      have hb5 : b < 5 := by omega
      rw [nI_clamp (n := a) (by omega)]
      exact ⟨hi, nm_e (uf_y8c h0 hn ha4 hb5 ⟨rfl, uf_RL h0 (uf_C_8 C hb5)⟩)⟩
theorem uf_se16 (h0 : uf_on st da ≠ 0) (C : uf_C dh dg md st da gr ow ch ge gp go hb hx ln pa cu be fa lt lc) (p1 p2 : Int32) : wpX_setup (fun r u' => wpY_setup (fun r' v' => r' = r ∧ i_Rel (k + 4) u' v') (D, ln, dh, st, da, gr, pa, ow, go, cu, be, fa, lt, lc) 16 p1 p2) (D, dh, dg, 0, 0, xc, md, st, da, gr, ow, ch, ge, gp, go, hb, hx) 16 p1 p2 := by
  have hn := C.1
  have R : i_Rel (k + 4) (D, dh, dg, 0, 0, xc, md, st, da, gr, ow, ch, ge, gp, go, hb, hx) (D, ln, dh, st, da, gr, pa, ow, go, cu, be, fa, lt, lc) := uf_RL h0 C
  unfold wpX_setup
  refine br_t rfl (br_f (by decide +kernel) (br_f (by decide +kernel) (br_f (by decide +kernel) (br_f (by decide +kernel) (br_t rfl ?_)))))
  rcases uf_rg p1 4 4 (by decide) with l | ⟨l, u⟩ | ⟨a, ha, rfl, l, u⟩
  · exact br_t l (uf_y16a h0 hn (Or.inl l) ⟨rfl, R⟩)
  · exact br_f l (br_f u (uf_y16a h0 hn (Or.inr u) ⟨rfl, R⟩))
  · exact br_f l (br_t u (uf_y16b h0 hn l u ⟨rfl, uf_RL h0 (uf_C_16 C (by omega))⟩))
theorem uf_se32 (h0 : uf_on st da ≠ 0) (C : uf_C dh dg md st da gr ow ch ge gp go hb hx ln pa cu be fa lt lc) (p1 p2 : Int32) : wpX_setup (fun r u' => wpY_setup (fun r' v' => r' = r ∧ i_Rel (k + 4) u' v') (D, ln, dh, st, da, gr, pa, ow, go, cu, be, fa, lt, lc) 32 p1 p2) (D, dh, dg, 0, 0, xc, md, st, da, gr, ow, ch, ge, gp, go, hb, hx) 32 p1 p2 := by
  have hn := C.1
  have R : i_Rel (k + 4) (D, dh, dg, 0, 0, xc, md, st, da, gr, ow, ch, ge, gp, go, hb, hx) (D, ln, dh, st, da, gr, pa, ow, go, cu, be, fa, lt, lc) := uf_RL h0 C
  unfold wpX_setup
  refine br_t rfl (br_f (by decide +kernel) (br_f (by decide +kernel) (br_f (by decide +kernel) (br_f (by decide +kernel) (br_f (by decide +kernel) (br_t rfl ?_))))))
  rcases uf_rg p1 4 4 (by decide) with l | ⟨l, u⟩ | ⟨a, ha, rfl, l, u⟩
  · exact br_t (uf_lt1 l) (uf_y32 h0 hn (uf_y60a (Or.inr (Or.inl l)) ⟨rfl, R⟩))
  · exact br_f (uf_gt1 (by decide) u) (br_f u (uf_y32 h0 hn (uf_y60a (Or.inr (Or.inr u)) ⟨rfl, R⟩)))
  · by_cases az : a = 0
    · subst az
      exact br_t uf_0lt1 (uf_y32 h0 hn (uf_y60a (Or.inl rfl) ⟨rfl, R⟩))
    · rw [nI_clamp (n := a) (by omega)]
      refine br_f (uf_nlt1 az (by omega)) (br_t u ⟨vp_in_nI (by omega) (by decide), nm_e ?_⟩)
      refine uf_y32 h0 hn (uf_y60c (w := 4294967296) az (by omega) (by decide +kernel) (by decide +kernel) ⟨rfl, uf_RL h0 (uf_C_H C (fun H => ?_))⟩)
      exact uf_H_u H az (Or.inl ⟨pk_us, rfl⟩) (fun j hj => pk_un hj) (fun j _ => rfl)
theorem uf_se64 (h0 : uf_on st da ≠ 0) (C : uf_C dh dg md st da gr ow ch ge gp go hb hx ln pa cu be fa lt lc) (p1 p2 : Int32) : wpX_setup (fun r u' => wpY_setup (fun r' v' => r' = r ∧ i_Rel (k + 4) u' v') (D, ln, dh, st, da, gr, pa, ow, go, cu, be, fa, lt, lc) 64 p1 p2) (D, dh, dg, 0, 0, xc, md, st, da, gr, ow, ch, ge, gp, go, hb, hx) 64 p1 p2 := by
  have hn := C.1
  have R : i_Rel (k + 4) (D, dh, dg, 0, 0, xc, md, st, da, gr, ow, ch, ge, gp, go, hb, hx) (D, ln, dh, st, da, gr, pa, ow, go, cu, be, fa, lt, lc) := uf_RL h0 C
  unfold wpX_setup
  refine br_t rfl (br_f (by decide +kernel) (br_f (by decide +kernel) (br_f (by decide +kernel) (br_f (by decide +kernel) (br_f (by decide +kernel) (br_f (by decide +kernel) (br_t rfl ?_)))))))
  rcases uf_rg p1 4 4 (by decide) with l | ⟨l, u⟩ | ⟨a, ha, rfl, l, u⟩
  · exact br_t (uf_lt1 l) (uf_y64 h0 hn (uf_y60a (Or.inr (Or.inl l)) ⟨rfl, R⟩))
  · exact br_f (uf_gt1 (by decide) u) (br_f u (uf_y64 h0 hn (uf_y60a (Or.inr (Or.inr u)) ⟨rfl, R⟩)))
  · by_cases az : a = 0
    · subst az
      exact br_t uf_0lt1 (uf_y64 h0 hn (uf_y60a (Or.inl rfl) ⟨rfl, R⟩))
    · rw [nI_clamp (n := a) (by omega)]
      refine br_f (uf_nlt1 az (by omega)) (br_t u ⟨vp_in_nI (by omega) (by decide), nm_e ?_⟩)
      refine uf_y64 h0 hn (uf_y60c (w := 8589934592) az (by omega) (by decide +kernel) (by decide +kernel) ⟨rfl, uf_RL h0 (uf_C_H C (fun H => ?_))⟩)
      exact uf_H_u H az (Or.inr (Or.inl ⟨pk_us, rfl⟩)) (fun j hj => pk_un hj) (fun j _ => rfl)
theorem uf_se128 (h0 : uf_on st da ≠ 0) (C : uf_C dh dg md st da gr ow ch ge gp go hb hx ln pa cu be fa lt lc) (p1 p2 : Int32) : wpX_setup (fun r u' => wpY_setup (fun r' v' => r' = r ∧ i_Rel (k + 4) u' v') (D, ln, dh, st, da, gr, pa, ow, go, cu, be, fa, lt, lc) 128 p1 p2) (D, dh, dg, 0, 0, xc, md, st, da, gr, ow, ch, ge, gp, go, hb, hx) 128 p1 p2 := by
  have hn := C.1
  have R : i_Rel (k + 4) (D, dh, dg, 0, 0, xc, md, st, da, gr, ow, ch, ge, gp, go, hb, hx) (D, ln, dh, st, da, gr, pa, ow, go, cu, be, fa, lt, lc) := uf_RL h0 C
  unfold wpX_setup
  refine br_t rfl (br_f (by decide +kernel) (br_f (by decide +kernel) (br_f (by decide +kernel) (br_f (by decide +kernel) (br_f (by decide +kernel) (br_f (by decide +kernel) (br_f (by decide +kernel) (br_t rfl ?_))))))))
  rcases uf_rg p1 4 4 (by decide) with l | ⟨l, u⟩ | ⟨a, ha, rfl, l, u⟩
  · exact br_t (uf_lt1 l) (uf_y128 h0 hn (uf_y60a (Or.inr (Or.inl l)) ⟨rfl, R⟩))
  · exact br_f (uf_gt1 (by decide) u) (br_f u (uf_y128 h0 hn (uf_y60a (Or.inr (Or.inr u)) ⟨rfl, R⟩)))
  · by_cases az : a = 0
    · subst az
      exact br_t uf_0lt1 (uf_y128 h0 hn (uf_y60a (Or.inl rfl) ⟨rfl, R⟩))
    · rw [nI_clamp (n := a) (by omega)]
      have hi : vp_in (nI a) 5 := vp_in_nI (by omega) (by decide)
      refine br_f (uf_nlt1 az (by omega)) (br_t u ⟨hi, nm_e ⟨hi, nm_e ?_⟩⟩)
      refine uf_y128 h0 hn (uf_y60b az (by omega) ⟨rfl, uf_RL h0 (uf_C_H C (fun H => ?_))⟩)
      exact uf_H_u H az (Or.inr (Or.inr ⟨by rw [pk_us]; decide, by rw [pk_us]; decide, by rw [pk_us]⟩)) (fun j hj => pk_un hj) (fun j hj => pk_un hj)
end
theorem i_vc_setup {k : Nat} {u : SX} {v : SY} (I : i_Rel k u v) (hk : k + 4 ≤ 2049) (v1 : Int32) (v2 : Int32) (v3 : Int32) : wpX_setup (fun r u' => wpY_setup (fun r' v' => r' = r ∧ i_Rel (k + 4) u' v') v v1 v2 v3) u v1 v2 v3 := by
  refine uf_el (P := fun u v => wpX_setup (fun r u' => wpY_setup (fun r' v' => r' = r ∧ i_Rel (k + 4) u' v') v v1 v2 v3) u v1 v2 v3) ?_ ?_ I
  · intro D dh dg xc md st da gr ow ch ge gp go hb hx ln pa cu be fa lt lc h0 C
    by_cases a1 : v1 = 1
    · subst a1; exact uf_se1 h0 C v2 v3
    by_cases a2 : v1 = 2
    · subst a2; exact uf_se2 h0 C v2 v3
    by_cases a4 : v1 = 4
    · subst a4; exact uf_se4 h0 C v2 v3
    by_cases a8 : v1 = 8
    · subst a8; exact uf_se8 h0 C v2 v3
    by_cases a16 : v1 = 16
    · subst a16; exact uf_se16 h0 C v2 v3
    by_cases a32 : v1 = 32
    · subst a32; exact uf_se32 h0 C v2 v3
    by_cases a64 : v1 = 64
    · subst a64; exact uf_se64 h0 C v2 v3
    by_cases a128 : v1 = 128
    · subst a128; exact uf_se128 h0 C v2 v3
    exact br_t rfl (br_f a1 (br_f a2 (br_f a4 (br_f a8 (br_f a16 (br_f a32 (br_f a64 (br_f a128 (uf_yno h0 C.1 a1 a2 a4 a8 a16 a32 a64 a128 ⟨rfl, uf_RL h0 C⟩)))))))))
  · intro D dh dg ha ec xc md st da gr ow ch ge gp go hb hx D' ln df st' da' gr' pa ow' ov cu be fa lt lc h L E
    exact br_f h (uf_off_se (uf_E_off E) ⟨rfl, uf_RD h L E⟩)
end
section
/-! die -/
section
variable {k : Nat} {D dh ha ec xc md md' ln df : Int32} {dg : Int64} {st da gr ow ch ge gp go hb hx pa ov cu lt lc : Nat → Int32} {be fa : Nat → Int64} {t : Nat} {c : Int32}
/-! the reference -/
theorem uf_y121h {post : Int32 → SY → Prop} {h : Nat} {x4 : Int32} (ht : t < 4) (hs : st t = 1) (h1 : h ≠ 0) (h5 : h < 5) (hp : post x4 (D, ln, df, upd st t 2, da, gr, pa, ow, ov, upd cu t (nI h), be, fa, lt, lc)) : wY_die_121 post (nI t) c (nI h) x4 D ln df st da gr pa ow ov cu be fa lt lc := by
  have hi : vp_in (nI t) 4 := vp_in_nI ht (by decide)
  unfold wY_die_121
  rw [nI_clamp (n := t) (by omega), hs, uf_ny2, uf_short h (by omega), uf_i16 h (by omega)]
  exact ⟨hi, hi, nm_e ⟨hi, nm_e (br_f (nI_ne0 (by omega) (by omega)) hp)⟩⟩
theorem uf_y195 {post : Int32 → SY → Prop} {x4 : Int32} (h0 : uf_on st da ≠ 0) (hn : uf_nx fa) (ht : t < 4) (hs : st t = 1) (hp : post x4 (D, ln, df, upd st t 3, da, gr, pa, ow, ov, upd cu t 0, be, vp_updL fa t (be 0), lt, lc)) : wY_die_195 post (nI t) x4 D ln df (upd st t 2) da gr pa ow ov (upd cu t 0) be fa lt lc := by
  unfold wY_die_195
  refine uf_yha0 (h := 0) (by rw [uf_on2 hs]; exact h0) hn ht pk_us (by decide) pk_us ?_
  show post x4 (D, ln, df, upd (upd st t 2) t 3, da, gr, pa, ow, ov, upd cu t 0, be, vp_updL fa t (be 0), lt, lc)
  rw [uf_uu]
  exact hp
theorem uf_y121d {post : Int32 → SY → Prop} {x4 : Int32} (h0 : uf_on st da ≠ 0) (hn : uf_nx fa) (ht : t < 4) (hs : st t = 1) (hd : c.toInt16.toInt32 = D) (hp : post 2 (D, ln, df, upd st t 3, da, gr, pa, ow, ov, upd cu t 0, be, vp_updL fa t (be 0), lt, lc)) : wY_die_121 post (nI t) c (nI 0) x4 D ln df st da gr pa ow ov cu be fa lt lc := by
  have hi : vp_in (nI t) 4 := vp_in_nI ht (by decide)
  unfold wY_die_121
  rw [nI_clamp (n := t) (by omega), hs, uf_ny2, uf_short 0 (by decide), uf_i16 0 (by decide)]
  exact ⟨hi, hi, nm_e ⟨hi, nm_e (br_t rfl (br_t hd (uf_y195 h0 hn ht hs hp)))⟩⟩
theorem uf_y121l {post : Int32 → SY → Prop} {x4 : Int32} {m : Nat} (h0 : uf_on st da ≠ 0) (hn : uf_nx fa) (ht : t < 4) (hs : st t = 1) (hm : m < 4) (hd : ¬ c.toInt16.toInt32 = D) (hp : post 1 (D, nI (m + 1), df, upd st t 3, da, gr, pa, ow, ov, upd cu t 0, be, vp_updL fa t (be 0), upd lt m (vp_nar .byte (nI t).toInt8.toInt32), upd lc m (vp_nar .char ((c.toUInt32 % 65536).toInt32)))) : wY_die_121 post (nI t) c (nI 0) x4 D (nI m) df st da gr pa ow ov cu be fa lt lc := by
  have hi : vp_in (nI t) 4 := vp_in_nI ht (by decide)
  have hj : vp_in (nI m) 4 := vp_in_nI hm (by decide)
  unfold wY_die_121
  rw [uf_a3 m hm, nI_clamp (n := t) (by omega), nI_clamp (n := m) (by omega), hs, uf_ny2, uf_short 0 (by decide), uf_i16 0 (by decide), nI_1 m]
  exact ⟨hi, hi, nm_e ⟨hi, nm_e (br_t rfl (br_f hd ⟨hj, nm_e (nm_e ⟨hj, nm_e (uf_y195 h0 hn ht hs hp)⟩)⟩))⟩⟩
theorem uf_y86 {post : Int32 → SY → Prop} {g : Nat} (hg : g < 4) (h : ov g = 0 → wY_die_121 post (nI t) c df (64 + df) D ln df st da gr pa ow ov cu be fa lt lc) (h' : ov g ≠ 0 → wY_die_121 post (nI t) c (ov g) ((32 + (8 * nI g)) + ov g) D ln df st da gr pa ow ov cu be fa lt lc) : wY_die_86 post (nI t) c (nI g) D ln df st da gr pa ow ov cu be fa lt lc := by
  unfold wY_die_86
  rw [nI_clamp (n := g) (by omega)]
  exact ⟨vp_in_nI hg (by decide), nm_e (nm_e (br_c (fun e => nm_e (h e)) (fun e => h' e)))⟩
theorem uf_ydi1 {post : Int32 → SY → Prop} {p0 : Int32} (h0 : uf_on st da ≠ 0) (hn : uf_nx fa) (ho : p0 < 0 ∨ ¬ p0 ≤ 3) (hp : post (-1) (D, ln, df, st, da, gr, pa, ow, ov, cu, be, fa, lt, lc)) : wpY_die post (D, ln, df, st, da, gr, pa, ow, ov, cu, be, fa, lt, lc) p0 c := by
  unfold wpY_die
  refine uf_yg1 h0 hn ho ?_
  exact br_f (by decide +kernel) hp
theorem uf_ydi2 {post : Int32 → SY → Prop} (h0 : uf_on st da ≠ 0) (hn : uf_nx fa) (ht : t < 4) (hs : st t ≠ 1) (hp : post (-2) (D, ln, df, st, da, gr, pa, ow, ov, cu, be, fa, lt, lc)) : wpY_die post (D, ln, df, st, da, gr, pa, ow, ov, cu, be, fa, lt, lc) (nI t) c := by
  unfold wpY_die
  refine uf_yg2 h0 hn ht hs ?_
  exact br_f (by decide +kernel) hp
theorem uf_ydio {post : Int32 → SY → Prop} {h : Nat} (h0 : uf_on st da ≠ 0) (hn : uf_nx fa) (ht : t < 4) (hs : st t = 1) (ho : ow t = nI h) (h1 : h ≠ 0) (h5 : h < 5) (hp : wY_die_121 post (nI t) c (nI h) (16 + nI h) D ln df st da gr pa ow ov cu be fa lt lc) : wpY_die post (D, ln, df, st, da, gr, pa, ow, ov, cu, be, fa, lt, lc) (nI t) c := by
  unfold wpY_die
  refine uf_yg0 h0 hn ht hs (br_t rfl ?_)
  rw [nI_clamp (n := t) (by omega), ho]
  exact ⟨vp_in_nI ht (by decide), nm_e (nm_e (br_f (nI_ne0 (by omega) (by omega)) hp))⟩
theorem uf_ydig {post : Int32 → SY → Prop} {g n : Nat} (h0 : uf_on st da ≠ 0) (hn : uf_nx fa) (ht : t < 4) (hs : st t = 1) (ho : ow t = 0) (hg : g < 4) (eg : gr t = nI g) (hp : wY_die_43 post (nI t) c D ln df st da gr pa ow ov cu be fa lt lc n (nI g) (nI 0)) : wpY_die post (D, ln, df, st, da, gr, pa, ow, ov, cu, be, fa, lt, lc) (nI t) c := by
  unfold wpY_die
  refine uf_yg0 h0 hn ht hs (br_t rfl ?_)
  rw [nI_clamp (n := t) (by omega), ho, eg, uf_a3 g hg]
  exact ⟨vp_in_nI ht (by decide), nm_e (nm_e (br_t rfl ⟨vp_in_nI ht (by decide), nm_e ⟨n, hp⟩⟩))⟩
/-! the component -/
theorem uf_x147h {post : Int32 → SX → Prop} (ht : t < 4) (hd : dh ≠ 0) (hp : post (64 + dh) (D, dh, dg, ha, ec, xc, md, upd st t 2, da, gr, ow, upd ch t dh, ge, gp, go, hb, hx)) : wX_die_147 post (nI t) c D dh dg ha ec xc md st da gr ow ch ge gp go hb hx := by
  have hi : vp_in (nI t) 4 := vp_in_nI ht (by decide)
  unfold wX_die_147
  rw [nI_clamp (n := t) (by omega)]
  exact br_f hd ⟨hi, nm_e ⟨hi, nm_e hp⟩⟩
theorem uf_x147d {post : Int32 → SX → Prop} (ht : t < 4) (hd : dh = 0) (hc : c.toInt16.toInt32 = D) (hp : uf_on (upd st t 3) da = 0 → post 2 (D, dh, dg, 1, ec, xc, md, upd st t 3, da, gr, ow, ch, ge, gp, go, hb, hx)) (hq : uf_on (upd st t 3) da ≠ 0 → post 2 (D, dh, dg, ha, ec, xc, md, upd st t 3, da, gr, ow, ch, ge, gp, go, hb, hx)) : wX_die_147 post (nI t) c D dh dg ha ec xc md st da gr ow ch ge gp go hb hx := by
  unfold wX_die_147
  refine br_t hd (br_t hc ?_)
  exact uf_xt ht (fun e => hp e) (fun e => hq e)
theorem uf_x147l {post : Int32 → SX → Prop} (ht : t < 4) (hd : dh = 0) (hc : ¬ c.toInt16.toInt32 = D) (hp : uf_on (upd st t 3) da = 0 → post 1 (D, dh, (((dg * 1000003) + ((nI t * 65536).toInt64)) + ((c &&& 65535).toInt64)) + 1, 1, ec, xc, md, upd st t 3, da, gr, ow, ch, ge, gp, go, hb, hx)) (hq : uf_on (upd st t 3) da ≠ 0 → post 1 (D, dh, (((dg * 1000003) + ((nI t * 65536).toInt64)) + ((c &&& 65535).toInt64)) + 1, ha, ec, xc, md, upd st t 3, da, gr, ow, ch, ge, gp, go, hb, hx)) : wX_die_147 post (nI t) c D dh dg ha ec xc md st da gr ow ch ge gp go hb hx := by
  unfold wX_die_147
  refine br_t hd (br_f hc (nm_e ?_))
  exact uf_xt ht (fun e => hp e) (fun e => hq e)
theorem uf_x43o {post : Int32 → SX → Prop} {h : Nat} (ht : t < 4) (ho : ow t = nI h) (h1 : h ≠ 0) (h5 : h < 5) (hp : post (16 + nI h) (D, dh, dg, ha, ec, xc, md, upd st t 2, da, gr, ow, upd ch t (nI h), ge, gp, go, hb, hx)) : wX_die_43 post (nI t) c D dh dg ha ec xc md st da gr ow ch ge gp go hb hx := by
  have hi : vp_in (nI t) 4 := vp_in_nI ht (by decide)
  unfold wX_die_43
  rw [nI_clamp (n := t) (by omega), ho]
  exact ⟨hi, nm_e (br_f (nI_ne0 (by omega) (by omega)) ⟨hi, nm_e ⟨hi, nm_e hp⟩⟩)⟩
theorem uf_x43g {post : Int32 → SX → Prop} {g n : Nat} (ht : t < 4) (ho : ow t = 0) (eg : gr t = nI g) (hp : wX_die_84 post (nI t) c D dh dg ha ec xc md st da gr ow ch ge gp go hb hx n (nI g) (nI 0)) : wX_die_43 post (nI t) c D dh dg ha ec xc md st da gr ow ch ge gp go hb hx := by
  have hi : vp_in (nI t) 4 := vp_in_nI ht (by decide)
  unfold wX_die_43
  rw [nI_clamp (n := t) (by omega), ho, eg]
  exact ⟨hi, nm_e (br_t rfl ⟨hi, nm_e ⟨n, hp⟩⟩)⟩
/-! up the groups, both sides at one outcome -/
theorem uf_walk0 (g0 : go 0 = 0) (p0 : pa 0 = -1) : (∀ (post : Int32 → SX → Prop) (i n : Nat), i ≤ 3 → 0 < n → wX_die_147 post (nI t) c D dh dg ha ec xc md st da gr ow ch ge gp go hb hx → wX_die_84 post (nI t) c D dh dg ha ec xc md st da gr ow ch ge gp go hb hx n (nI 0) (nI i)) ∧ (∀ (post : Int32 → SY → Prop) (i n : Nat), i ≤ 3 → 0 < n → wY_die_86 post (nI t) c (nI 0) D ln df st da gr pa ow go cu be fa lt lc → wY_die_43 post (nI t) c D ln df st da gr pa ow go cu be fa lt lc n (nI 0) (nI i)) := by
  have hc0 : (nI 0).toNatClampNeg = 0 := nI_clamp (by omega)
  have hi : vp_in (nI 0) 4 := vp_in_nI (by decide) (by decide)
  refine ⟨?_, ?_⟩
  · intro post i n h3 h0 hp
    obtain ⟨n, rfl⟩ : ∃ q, n = q + 1 := ⟨n - 1, by omega⟩
    exact br_f (nI_ge (b := 4) (by omega) (by decide)) (br_t rfl hp)
  · intro post i n h3 h0 hp
    obtain ⟨n, rfl⟩ : ∃ q, n = q + 1 := ⟨n - 1, by omega⟩
    unfold wY_die_43
    rw [hc0, g0, p0]
    by_cases e : i = 3
    · subst e
      exact br_t (by decide +kernel) hp
    · exact br_f (nI_ge (b := 3) (by omega) (by decide)) ⟨hi, br_t rfl ⟨hi, br_t (by decide +kernel) hp⟩⟩
theorem uf_walk {rk : Nat → Nat} (ht : t < 4) (g0 : go 0 = 0) (p0 : pa 0 = -1) (K : uf_K rk ge gp pa) : ∀ r g, g < 4 → ge g ≠ 0 → rk g ≤ r → ∃ g', g' < 4 ∧ (∀ (post : Int32 → SX → Prop) (i n : Nat), i + rk g ≤ 3 → rk g < n → (go g' = 0 → wX_die_147 post (nI t) c D dh dg ha ec xc md st da gr ow ch ge gp go hb hx) → (go g' ≠ 0 → post ((32 + (8 * nI g')) + go g') (D, dh, dg, ha, ec, xc, md, upd st t 2, da, gr, ow, upd ch t (go g'), ge, gp, go, hb, hx)) → wX_die_84 post (nI t) c D dh dg ha ec xc md st da gr ow ch ge gp go hb hx n (nI g) (nI i)) ∧ (∀ (post : Int32 → SY → Prop) (i n : Nat), i + rk g ≤ 3 → rk g < n → wY_die_86 post (nI t) c (nI g') D ln df st da gr pa ow go cu be fa lt lc → wY_die_43 post (nI t) c D ln df st da gr pa ow go cu be fa lt lc n (nI g) (nI i)) := by
  have hti : vp_in (nI t) 4 := vp_in_nI ht (by decide)
  have htc : (nI t).toNatClampNeg = t := nI_clamp (by omega)
  have W0 : ∃ g', g' < 4 ∧ (∀ (post : Int32 → SX → Prop) (i n : Nat), i + rk 0 ≤ 3 → rk 0 < n → (go g' = 0 → wX_die_147 post (nI t) c D dh dg ha ec xc md st da gr ow ch ge gp go hb hx) → (go g' ≠ 0 → post ((32 + (8 * nI g')) + go g') (D, dh, dg, ha, ec, xc, md, upd st t 2, da, gr, ow, upd ch t (go g'), ge, gp, go, hb, hx)) → wX_die_84 post (nI t) c D dh dg ha ec xc md st da gr ow ch ge gp go hb hx n (nI 0) (nI i)) ∧ (∀ (post : Int32 → SY → Prop) (i n : Nat), i + rk 0 ≤ 3 → rk 0 < n → wY_die_86 post (nI t) c (nI g') D ln df st da gr pa ow go cu be fa lt lc → wY_die_43 post (nI t) c D ln df st da gr pa ow go cu be fa lt lc n (nI 0) (nI i)) := by
    refine ⟨0, by decide, ?_, ?_⟩
    · intro post i n h1 h2 hp _
      exact (uf_walk0 (ln := 0) (df := 0) (da := da) (ow := ow) (cu := lt) (lt := lt) (lc := lt) (be := fun _ => 0) (fa := fun _ => 0) (gr := gr) (st := st) g0 p0).1 post i n (by omega) (by omega) (hp g0)
    · intro post i n h1 h2 hp
      exact (uf_walk0 (dh := 0) (dg := 0) (ha := 0) (ec := 0) (xc := 0) (md := 0) (ch := lt) (ge := lt) (gp := lt) (hb := lt) (hx := lt) g0 p0).2 post i n (by omega) (by omega) hp
  intro r
  induction r with
  | zero =>
    intro g hg hge hr
    by_cases z : g = 0
    · subst z; exact W0
    · obtain ⟨p, _, _, _, _, h⟩ := K.2 g hg (by omega) hge
      omega
  | succ r ih =>
    intro g hg hge hr
    by_cases z : g = 0
    · subst z; exact W0
    · obtain ⟨p, hp4, e1, e2, hpe, hlt⟩ := K.2 g hg (by omega) hge
      have hgc : (nI g).toNatClampNeg = g := nI_clamp (by omega)
      have hgi : vp_in (nI g) 4 := vp_in_nI hg (by decide)
      have hgz : ¬ nI g = 0 := nI_ne0 (by omega) (by omega)
      by_cases o : go g = 0
      · obtain ⟨g', hg', WX, WY⟩ := ih p hp4 hpe (by omega)
        refine ⟨g', hg', ?_, ?_⟩
        · intro post i n h1 h2 ha' hb'
          obtain ⟨n, rfl⟩ : ∃ q, n = q + 1 := ⟨n - 1, by omega⟩
          unfold wX_die_84
          rw [hgc, o, e2]
          refine br_f (nI_ge (b := 4) (by omega) (by decide)) (br_f hgz ⟨hgi, nm_e (br_t rfl ⟨hgi, nm_e (nm_r (nI_1 i) ?_)⟩)⟩)
          exact WX post (i + 1) n (by omega) (by omega) ha' hb'
        · intro post i n h1 h2 hp
          obtain ⟨n, rfl⟩ : ∃ q, n = q + 1 := ⟨n - 1, by omega⟩
          unfold wY_die_43
          rw [hgc, o, e1, uf_a3 p hp4]
          refine br_f (nI_ge (b := 3) (by omega) (by decide)) ⟨hgi, br_t rfl ⟨hgi, br_f (nI_pos (by omega)) ⟨hgi, nm_e (nm_r (nI_1 i) ?_)⟩⟩⟩
          exact WY post (i + 1) n (by omega) (by omega) hp
      · refine ⟨g, hg, ?_, ?_⟩
        · intro post i n h1 h2 _ hb'
          obtain ⟨n, rfl⟩ : ∃ q, n = q + 1 := ⟨n - 1, by omega⟩
          unfold wX_die_84
          rw [hgc, htc]
          exact br_f (nI_ge (b := 4) (by omega) (by decide)) (br_f hgz ⟨hgi, nm_e (br_f o ⟨hti, nm_e ⟨hti, nm_e (hb' o)⟩⟩)⟩)
        · intro post i n h1 h2 hp
          obtain ⟨n, rfl⟩ : ∃ q, n = q + 1 := ⟨n - 1, by omega⟩
          unfold wY_die_43
          rw [hgc]
          exact br_f (nI_ge (b := 3) (by omega) (by decide)) ⟨hgi, br_f o hp⟩
/-! both -/
theorem uf_die (h0 : uf_on st da ≠ 0) (C : uf_C dh dg md st da gr ow ch ge gp go hb hx ln pa cu be fa lt lc) (ht : t < 4) (hs : st t = 1) (m0 : t = 0 → md' ≠ 0) (m1 : t ≠ 0 → md' = md) : wX_die_43 (fun r u' => wpY_die (fun r' v' => r' = r ∧ i_Rel (k + 4) u' v') (D, ln, dh, st, da, gr, pa, ow, go, cu, be, fa, lt, lc) (nI t) c) (nI t) c D dh dg 0 0 xc md' st da gr ow ch ge gp go hb hx := by
  have hn := C.1
  have T := C.2.2.1 t ht
  have G := C.2.2.2.1
  obtain ⟨d, hd, ed⟩ := C.2.2.2.2.2.1
  obtain ⟨m, hm, em, eg⟩ := C.2.2.2.2.2.2
  obtain ⟨h, h5, eh⟩ := T.2.1
  obtain ⟨g, hg, egr, hge⟩ := T.1 hs
  have hst : uf_on (upd st t 2) da ≠ 0 := by rw [uf_on2 hs]; exact h0
  by_cases hz : h = 0
  · subst hz
    obtain ⟨rk, K⟩ := G.2.2.2.2.2
    have K1 : rk g ≤ 3 := by
      have a1 := K.1 g hg hge
      have a2 := uf_ce_le ge
      omega
    obtain ⟨g', hg', WX, WY⟩ := uf_walk (D := D) (dh := dh) (dg := dg) (ha := 0) (ec := 0) (xc := xc) (md := md') (ln := ln) (df := dh) (st := st) (da := da) (gr := gr) (ow := ow) (ch := ch) (hb := hb) (hx := hx) (cu := cu) (be := be) (fa := fa) (lt := lt) (lc := lc) (c := c) ht G.2.1 G.1 K 3 g hg hge K1
    obtain ⟨o, ho5, eo⟩ := G.2.2.2.2.1 g' hg'
    have Y : ∀ post : Int32 → SY → Prop, (go g' = 0 → wY_die_121 post (nI t) c dh (64 + dh) D ln dh st da gr pa ow go cu be fa lt lc) → (go g' ≠ 0 → wY_die_121 post (nI t) c (go g') ((32 + (8 * nI g')) + go g') D ln dh st da gr pa ow go cu be fa lt lc) → wpY_die post (D, ln, dh, st, da, gr, pa, ow, go, cu, be, fa, lt, lc) (nI t) c := fun post a b => uf_ydig h0 hn ht hs eh hg egr (WY post 0 4 (by omega) (by omega) (uf_y86 hg' a b))
    refine uf_x43g ht eh egr (WX _ 0 4 (by omega) (by omega) ?_ ?_)
    · intro oz
      subst ed em
      by_cases dz : d = 0
      · subst dz
        by_cases hc : c.toInt16.toInt32 = D
        · have C' := uf_C_n (md' := md') C ht hs m0 m1 ⟨m, Nat.le_succ_of_le hm, rfl, eg⟩
          have Y2 : ∀ post : Int32 → SY → Prop, post 2 (D, nI m, nI 0, upd st t 3, da, gr, pa, ow, go, upd cu t 0, be, vp_updL fa t (be 0), lt, lc) → wpY_die post (D, nI m, nI 0, st, da, gr, pa, ow, go, cu, be, fa, lt, lc) (nI t) c := fun post hp => Y post (fun _ => uf_y121d h0 hn ht hs hc hp) (fun z => absurd oz z)
          exact uf_x147d ht rfl hc (fun e => Y2 _ ⟨rfl, uf_RH e C'⟩) (fun e => Y2 _ ⟨rfl, uf_RL e C'⟩)
        · have hm4 : m < 4 := Nat.lt_of_le_of_lt hm (uf_c3lt ht (by rw [hs]; decide))
          have C' := uf_C_n (md' := md') (dg' := (((dg * 1000003) + ((nI t * 65536).toInt64)) + ((c &&& 65535).toInt64)) + 1) (ln' := nI (m + 1)) (lt' := upd lt m (vp_nar .byte (nI t).toInt8.toInt32)) (lc' := upd lc m (vp_nar .char ((c.toUInt32 % 65536).toInt32))) C ht hs m0 m1 ⟨m + 1, Nat.succ_le_succ hm, rfl, by rw [uf_dg_put ht c, eg]⟩
          have Y2 : ∀ post : Int32 → SY → Prop, post 1 (D, nI (m + 1), nI 0, upd st t 3, da, gr, pa, ow, go, upd cu t 0, be, vp_updL fa t (be 0), upd lt m (vp_nar .byte (nI t).toInt8.toInt32), upd lc m (vp_nar .char ((c.toUInt32 % 65536).toInt32))) → wpY_die post (D, nI m, nI 0, st, da, gr, pa, ow, go, cu, be, fa, lt, lc) (nI t) c := fun post hp => Y post (fun _ => uf_y121l h0 hn ht hs hm4 hc hp) (fun z => absurd oz z)
          exact uf_x147l ht rfl hc (fun e => Y2 _ ⟨rfl, uf_RH e C'⟩) (fun e => Y2 _ ⟨rfl, uf_RL e C'⟩)
      · have C' := uf_C_h (h := d) (md' := md') C ht hs (by omega) hd m0 m1
        refine uf_x147h ht (nI_ne0 (by omega) (by omega)) ?_
        exact Y _ (fun _ => uf_y121h ht hs dz hd ⟨rfl, uf_RL hst C'⟩) (fun z => absurd oz z)
    · intro on
      have oz : o ≠ 0 := by
        intro z
        subst z
        exact on eo
      have C' := uf_C_h (h := o) (md' := md') C ht hs (by omega) ho5 m0 m1
      rw [eo] at Y on ⊢
      exact Y _ (fun z => absurd z on) (fun _ => uf_y121h ht hs oz ho5 ⟨rfl, uf_RL hst C'⟩)
  · have C' := uf_C_h (h := h) (md' := md') C ht hs (by omega) h5 m0 m1
    refine uf_x43o ht eh hz h5 ?_
    exact uf_ydio h0 hn ht hs eh hz h5 (uf_y121h ht hs hz h5 ⟨rfl, uf_RL hst C'⟩)
end
theorem i_vc_die {k : Nat} {u : SX} {v : SY} (I : i_Rel k u v) (hk : k + 4 ≤ 2049) (v1 : Int32) (v2 : Int32) : wpX_die (fun r u' => wpY_die (fun r' v' => r' = r ∧ i_Rel (k + 4) u' v') v v1 v2) u v1 v2 := by
  refine uf_el (P := fun u v => wpX_die (fun r u' => wpY_die (fun r' v' => r' = r ∧ i_Rel (k + 4) u' v') v v1 v2) u v1 v2) ?_ ?_ I
  · intro D dh dg xc md st da gr ow ch ge gp go hb hx ln pa cu be fa lt lc h0 C
    have hn := C.1
    have R : i_Rel (k + 4) (D, dh, dg, 0, 0, xc, md, st, da, gr, ow, ch, ge, gp, go, hb, hx) (D, ln, dh, st, da, gr, pa, ow, go, cu, be, fa, lt, lc) := uf_RL h0 C
    unfold wpX_die
    rcases uf_rg v1 3 3 (by decide) with l | ⟨l, u⟩ | ⟨t, ht, rfl, l, u⟩
    · exact br_t rfl (br_t l (uf_ydi1 h0 hn (Or.inl l) ⟨rfl, R⟩))
    · exact br_t rfl (br_f l (br_f u (uf_ydi1 h0 hn (Or.inr u) ⟨rfl, R⟩)))
    · have ht4 : t < 4 := by omega
      rw [nI_clamp (n := t) (by omega)]
      refine br_t rfl (br_f l (br_t u ⟨vp_in_nI ht4 (by decide), ?_⟩))
      by_cases hs : st t = 1
      · refine br_t hs ?_
        by_cases tz : t = 0
        · subst tz
          exact br_t rfl (uf_die h0 C ht4 hs (fun _ => by decide) (fun z => absurd rfl z))
        · exact br_f (nI_ne0 (by omega) (by omega)) (uf_die h0 C ht4 hs (fun z => absurd z tz) (fun _ => rfl))
      · exact br_f hs (uf_ydi2 h0 hn ht4 hs ⟨rfl, R⟩)
  · intro D dh dg ha ec xc md st da gr ow ch ge gp go hb hx D' ln df st' da' gr' pa ow' ov cu be fa lt lc h L E
    exact br_f h (uf_off_di (uf_E_off E) ⟨rfl, uf_RD h L E⟩)
end
section
/-! handlerEnds, end, status, printed -/
section
variable {D ln df : Int32} {st da gr ow pa ov cu lt lc : Nat → Int32} {be fa : Nat → Int64}
theorem uf_ypr4 {post : Int64 → Prop} {m : Nat} (hm : m ≤ 4) (hp : post (uf_dg lt lc m)) : ∀ d i, i + d = m → wY_printed_4 post D (nI m) df st da gr pa ow ov cu be fa lt lc (d + 1) (uf_dg lt lc i) (nI i) := by
  intro d
  induction d with
  | zero =>
    intro i hi
    have e : i = m := by omega
    subst e
    exact br_t (nI_le (Nat.le_refl i) (by omega)) hp
  | succ d ih =>
    intro i hi
    have hv : vp_in (nI i) 4 := vp_in_nI (by omega) (by decide)
    have hc : (nI i).toNatClampNeg = i := nI_clamp (by omega)
    unfold wY_printed_4
    rw [hc]
    refine br_f (nI_ge (b := m) (by omega) (by omega)) (br_f (nI_ge (b := 4) (by omega) (by decide)) ⟨hv, hv, nm_r (e' := uf_dg lt lc (i + 1)) rfl (nm_r (nI_1 i) ?_)⟩)
    exact ih (i + 1) (by omega)
theorem uf_ypr {post : Int64 → Prop} {dg : Int64} (L : uf_D dg ln lt lc 4) (hp : post dg) : wpY_printed post (D, ln, df, st, da, gr, pa, ow, ov, cu, be, fa, lt, lc) := by
  obtain ⟨m, hm, rfl, rfl⟩ := L
  exact ⟨m + 1, uf_ypr4 hm hp m 0 (by omega)⟩
end
theorem i_vc_handlerEnds {k : Nat} {u : SX} {v : SY} (I : i_Rel k u v) (hk : k + 4 ≤ 2049) (v1 : Int32) : wpX_handlerEnds (fun r u' => wpY_handlerEnds (fun r' v' => r' = r ∧ i_Rel (k + 4) u' v') v v1) u v1 := by
  refine uf_el (P := fun u v => wpX_handlerEnds (fun r u' => wpY_handlerEnds (fun r' v' => r' = r ∧ i_Rel (k + 4) u' v') v v1) u v1) ?_ ?_ I
  · intro D dh dg xc md st da gr ow ch ge gp go hb hx ln pa cu be fa lt lc h0 C
    have hn := C.1
    have R : i_Rel (k + 4) (D, dh, dg, 0, 0, xc, md, st, da, gr, ow, ch, ge, gp, go, hb, hx) (D, ln, dh, st, da, gr, pa, ow, go, cu, be, fa, lt, lc) := uf_RL h0 C
    unfold wpX_handlerEnds
    rcases uf_rg v1 3 3 (by decide) with l | ⟨l, u⟩ | ⟨t, ht, rfl, l, u⟩
    · exact br_t rfl (br_t l (uf_yha1 h0 hn (Or.inl l) ⟨rfl, R⟩))
    · exact br_t rfl (br_f l (br_f u (uf_yha1 h0 hn (Or.inr u) ⟨rfl, R⟩)))
    · have ht4 : t < 4 := by omega
      have hi : vp_in (nI t) 4 := vp_in_nI ht4 (by decide)
      rw [nI_clamp (n := t) (by omega)]
      refine br_t rfl (br_f l (br_t u ⟨hi, ?_⟩))
      by_cases hs : st t = 2
      · obtain ⟨h, h1, h5, ec, eu⟩ := (C.2.2.1 t ht4).2.2 hs
        have hj : vp_in (nI h) 5 := vp_in_nI h5 (by decide)
        have Y : ∀ post : Int64 → SY → Prop, post (be h) (D, ln, dh, upd st t 3, da, gr, pa, ow, go, cu, be, vp_updL fa t (be h), lt, lc) → wpY_handlerEnds post (D, ln, dh, st, da, gr, pa, ow, go, cu, be, fa, lt, lc) (nI t) := fun post hp => uf_yha0 h0 hn ht4 hs (by omega) eu hp
        rw [ec]
        refine br_t hs ⟨hi, nm_e ⟨hj, nm_e ?_⟩⟩
        rw [nI_clamp (n := h) (by omega)]
        rcases C.2.2.2.2.1.2 h h1 h5 with ⟨b0, w⟩ | ⟨b0, w⟩ | ⟨b0, b1, w⟩
        · rw [w] at Y
          have C' := uf_C_f C ht4 hs uf_n3a (by decide +kernel)
          rw [b0]
          exact br_t rfl (uf_xt ht4 (fun e => Y _ ⟨rfl, uf_RH e C'⟩) (fun e => Y _ ⟨rfl, uf_RL e C'⟩))
        · rw [w] at Y
          have C' := uf_C_f C ht4 hs uf_n3b (by decide +kernel)
          rw [b0]
          exact br_f (by decide +kernel) (br_t rfl (uf_xt ht4 (fun e => Y _ ⟨rfl, uf_RH e C'⟩) (fun e => Y _ ⟨rfl, uf_RL e C'⟩)))
        · rw [w] at Y
          refine br_f b0 (br_f b1 ⟨hj, nm_e (Y _ ⟨rfl, uf_RD (by decide) (uf_D_le C.2.2.2.2.2.2 (uf_c3_le st)) (Or.inr ⟨by decide, t, ht4, ?_, ?_, ?_⟩)⟩)⟩)
          · rw [pk_uLs]; exact uf_w3 _
          · intro j hj'
            rw [pk_uLn (by omega)]
            exact hn j (by omega)
          · rw [pk_uLs]; exact uf_wm _
      · exact br_f hs (uf_yha2 h0 hn ht4 hs ⟨rfl, R⟩)
  · intro D dh dg ha ec xc md st da gr ow ch ge gp go hb hx D' ln df st' da' gr' pa ow' ov cu be fa lt lc h L E
    exact br_f h (uf_off_ha (uf_E_off E) ⟨rfl, uf_RD h L E⟩)
theorem i_vc_end {k : Nat} {u : SX} {v : SY} (I : i_Rel k u v) (hk : k + 4 ≤ 2049) (v1 : Int32) : wpX_end (fun r u' => wpY_end (fun r' v' => r' = r ∧ i_Rel (k + 4) u' v') v v1) u v1 := by
  refine uf_el (P := fun u v => wpX_end (fun r u' => wpY_end (fun r' v' => r' = r ∧ i_Rel (k + 4) u' v') v v1) u v1) ?_ ?_ I
  · intro D dh dg xc md st da gr ow ch ge gp go hb hx ln pa cu be fa lt lc h0 C
    have hn := C.1
    have R : i_Rel (k + 4) (D, dh, dg, 0, 0, xc, md, st, da, gr, ow, ch, ge, gp, go, hb, hx) (D, ln, dh, st, da, gr, pa, ow, go, cu, be, fa, lt, lc) := uf_RL h0 C
    unfold wpX_end
    rcases uf_rg v1 3 3 (by decide) with l | ⟨l, u⟩ | ⟨t, ht, rfl, l, u⟩
    · exact br_t rfl (br_t l (uf_yen1 h0 hn (Or.inl l) ⟨rfl, R⟩))
    · exact br_t rfl (br_f l (br_f u (uf_yen1 h0 hn (Or.inr u) ⟨rfl, R⟩)))
    · have ht4 : t < 4 := by omega
      rw [nI_clamp (n := t) (by omega)]
      refine br_t rfl (br_f l (br_t u ⟨vp_in_nI ht4 (by decide), ?_⟩))
      by_cases hs : st t = 1
      · have C' := uf_C_e C ht4 hs
        exact br_t hs (uf_xt ht4 (fun e => uf_yen0 h0 hn ht4 hs ⟨rfl, uf_RH e C'⟩) (fun e => uf_yen0 h0 hn ht4 hs ⟨rfl, uf_RL e C'⟩))
      · exact br_f hs (uf_yen2 h0 hn ht4 hs ⟨rfl, R⟩)
  · intro D dh dg ha ec xc md st da gr ow ch ge gp go hb hx D' ln df st' da' gr' pa ow' ov cu be fa lt lc h L E
    exact br_f h (uf_off_en (uf_E_off E) ⟨rfl, uf_RD h L E⟩)
theorem i_vc_status {k : Nat} {u : SX} {v : SY} (I : i_Rel k u v) (hk : k + 4 ≤ 2049) : wpX_status (fun r => wpY_status (fun r' => r' = r ∧ i_Rel (k + 4) u v) v) u := by
  refine uf_el (P := fun u v => wpX_status (fun r => wpY_status (fun r' => r' = r ∧ i_Rel (k + 4) u v) v) u) ?_ ?_ I
  · intro D dh dg xc md st da gr ow ch ge gp go hb hx ln pa cu be fa lt lc h0 C
    have hn := C.1
    have R : i_Rel (k + 4) (D, dh, dg, 0, 0, xc, md, st, da, gr, ow, ch, ge, gp, go, hb, hx) (D, ln, dh, st, da, gr, pa, ow, go, cu, be, fa, lt, lc) := uf_RL h0 C
    have hz : ¬ nI (uf_on st da) = 0 := fun z => h0 (uf_onz.mp z)
    unfold wpX_status
    refine br_t rfl (uf_xl ?_)
    by_cases s3 : st 0 = 3
    · refine br_t s3 ?_
      unfold wpY_status
      refine uf_yx0 hn (br_t uf_m1n (uf_yl (br_f hz (br_t s3 ⟨rfl, R⟩))))
    · refine br_f s3 ?_
      unfold wpY_status
      refine uf_yx0 hn (br_t uf_m1n (uf_yl (br_f hz (br_f s3 ⟨Int64.zero_or, R⟩))))
  · intro D dh dg ha ec xc md st da gr ow ch ge gp go hb hx D' ln df st' da' gr' pa ow' ov cu be fa lt lc h L E
    have R : i_Rel (k + 4) (D, dh, dg, ha, ec, xc, md, st, da, gr, ow, ch, ge, gp, go, hb, hx) (D', ln, df, st', da', gr', pa, ow', ov, cu, be, fa, lt, lc) := uf_RD h L E
    unfold wpX_status
    rcases E with ⟨e0, on, hn, hm⟩ | ⟨e1, t, ht, h3, hj, hw⟩
    · refine br_f h (br_t e0 ?_)
      have hz : nI (uf_on st' da') = 0 := uf_onz.mpr on
      by_cases mz : md = 0
      · refine br_t mz ?_
        unfold wpY_status
        exact uf_yx0 hn (br_t uf_m1n (uf_yl (br_t hz (br_t (hm.mp mz) ⟨rfl, R⟩))))
      · refine br_f mz ?_
        unfold wpY_status
        exact uf_yx0 hn (br_t uf_m1n (uf_yl (br_t hz (br_f (fun z => mz (hm.mpr z)) ⟨rfl, R⟩))))
    · refine br_f h (br_f e1 (nm_e ?_))
      unfold wpY_status
      refine uf_yx1 ht h3 hj (br_f (nI_pos (by omega)) ⟨vp_in_nI ht (by decide), ?_, R⟩)
      rw [nI_clamp (by omega), hw]
theorem i_vc_printed {k : Nat} {u : SX} {v : SY} (I : i_Rel k u v) (hk : k + 4 ≤ 2049) : wpX_printed (fun r => wpY_printed (fun r' => r' = r ∧ i_Rel (k + 4) u v) v) u := by
  refine uf_el (P := fun u v => wpX_printed (fun r => wpY_printed (fun r' => r' = r ∧ i_Rel (k + 4) u v) v) u) ?_ ?_ I
  · intro D dh dg xc md st da gr ow ch ge gp go hb hx ln pa cu be fa lt lc h0 C
    unfold wpX_printed
    exact uf_ypr (uf_D_le C.2.2.2.2.2.2 (uf_c3_le st)) ⟨rfl, uf_RL h0 C⟩
  · intro D dh dg ha ec xc md st da gr ow ch ge gp go hb hx D' ln df st' da' gr' pa ow' ov cu be fa lt lc h L E
    unfold wpX_printed
    exact uf_ypr L ⟨rfl, uf_RD h L E⟩
end
