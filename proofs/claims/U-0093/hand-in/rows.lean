section
section TA
/-! pure rows to paste: stores, nI and lN arithmetic, masks, shifts, narrowing, branches by naturals (pk_le, pk_lt, pk_eq), loops (lp1 .. lp16: the measure of the state; rp1 ..: recursion), negatives. Take what you need -/
theorem pk_us {f : Nat → Int32} {k : Nat} {x : Int32} : upd f k x k = x := if_pos rfl
theorem pk_un {f : Nat → Int32} {k j : Nat} {x : Int32} (h : j ≠ k) : upd f k x j = f j := if_neg h
theorem pk_sub {a b : Nat} (h : b ≤ a) : nI a - nI b = nI (a - b) := by
  obtain ⟨c, rfl⟩ : ∃ c, a = c + b := ⟨a - b, by omega⟩
  rw [← nI_add, Int32.add_sub_cancel, Nat.add_sub_cancel]
theorem pk_m1 (n : Nat) : nI (n + 1) + (-1) = nI n := by
  rw [← nI_1, Int32.add_assoc, show (1 : Int32) + (-1) = 0 from rfl, Int32.add_zero]
theorem pk_mul (a b : Nat) : nI a * nI b = nI (a * b) := (Int32.ofNat_mul a b).symm
theorem pk_div {a d : Nat} (ha : a < 2 ^ 31) (h0 : 0 < d) (hd : d < 2 ^ 31) : nI a / nI d = nI (a / d) := by
  apply Int32.toInt_inj.mp
  rw [lg_idiv_nonneg (by rw [nI_toInt ha]; omega) (by rw [nI_toInt hd]; omega), nI_toInt ha, nI_toInt hd, nI_toInt (Nat.lt_of_le_of_lt (Nat.div_le_self a d) ha)]
  first | rfl | exact (Int.natCast_ediv _ _).symm
theorem pk_rem {a d : Nat} (ha : a < 2 ^ 31) (h0 : 0 < d) (hd : d < 2 ^ 31) : nI a - nI a / nI d * nI d = nI (a % d) := by
  rw [pk_div ha h0 hd, pk_mul, pk_sub (Nat.div_mul_le_self a d)]
  exact congrArg nI (by have := Nat.div_add_mod' a d; omega)
theorem pk_sub_toInt {a b : Nat} (ha : a < 2 ^ 30) (hb : b < 2 ^ 30) : (nI a - nI b).toInt = (a : Int) - b := by
  rw [Int32.toInt_sub, nI_toInt (by omega), nI_toInt (by omega)]
  exact Int.bmod_eq_of_le (by omega) (by omega)
theorem pk_sneg {a b : Nat} (hb : b < 2 ^ 30) (h : a < b) : nI a - nI b < 0 := by
  rw [Int32.lt_iff_toInt_lt, pk_sub_toInt (by omega) hb, show (0 : Int32).toInt = 0 from by decide]
  omega
theorem pk_ix (x : Int32) {n : Nat} (hn : n < 2 ^ 31) : x < 0 ∨ nI n ≤ x ∨ ∃ j : Nat, j < n ∧ x = nI j := by
  by_cases h : x < 0
  · exact Or.inl h
  · obtain ⟨j, hj, rfl⟩ := nI_of h
    by_cases h2 : j < n
    · exact Or.inr (Or.inr ⟨j, h2, rfl⟩)
    · exact Or.inr (Or.inl (nI_le (by omega) hj))
theorem pk_le {x y : Int32} {A B : Prop} (a b : Nat) (f : a ≤ b → A) (g : b < a → B) (hx : x = nI a := by rfl) (hy : y = nI b := by rfl) (ha : a < 2 ^ 31 := by omega) (hb : b < 2 ^ 31 := by omega) : (x ≤ y → A) ∧ (¬ x ≤ y → B) := by
  subst hx hy
  rw [nI_leI ha hb]
  exact ⟨f, fun z => g (by omega)⟩
theorem pk_lt {x y : Int32} {A B : Prop} (a b : Nat) (f : a < b → A) (g : b ≤ a → B) (hx : x = nI a := by rfl) (hy : y = nI b := by rfl) (ha : a < 2 ^ 31 := by omega) (hb : b < 2 ^ 31 := by omega) : (x < y → A) ∧ (¬ x < y → B) := by
  subst hx hy
  rw [nI_ltI ha hb]
  exact ⟨f, fun z => g (by omega)⟩
theorem pk_eq {x y : Int32} {A B : Prop} (a b : Nat) (f : a = b → A) (g : a ≠ b → B) (hx : x = nI a := by rfl) (hy : y = nI b := by rfl) (ha : a < 2 ^ 31 := by omega) (hb : b < 2 ^ 31 := by omega) : (x = y → A) ∧ (¬ x = y → B) := by
  subst hx hy
  rw [nI_eq ha hb]
  exact ⟨f, g⟩
theorem pk_in {x : Int32} (n N : Nat) (h : n < N) (hx : x = nI n := by rfl) (hN : N < 2 ^ 31 := by omega) : vp_in x N := by
  subst hx
  exact vp_in_nI h hN
theorem pk_cl {x : Int32} (n : Nat) (hx : x = nI n := by rfl) (h : n < 2 ^ 31 := by omega) : x.toNatClampNeg = n := by
  subst hx
  exact nI_clamp h
theorem pk_tn {n : Nat} (h : n < 2 ^ 32) : (nI n).toBitVec.toNat = n := Nat.mod_eq_of_lt h
theorem pk_and (x : Int32) {m : Int32} (k : Nat) (hm : m.toBitVec.toNat = 2 ^ k - 1) : x &&& m = nI (x.toBitVec.toNat % 2 ^ k) := by
  apply Int32.toBitVec_inj.mp
  apply BitVec.eq_of_toNat_eq
  rw [Int32.toBitVec_and, BitVec.toNat_and, hm, Nat.and_two_pow_sub_one_eq_mod]
  show _ = (BitVec.ofNat 32 _).toNat
  rw [BitVec.toNat_ofNat]
  exact (Nat.mod_eq_of_lt (Nat.lt_of_le_of_lt (Nat.mod_le _ _) x.toBitVec.isLt)).symm
theorem pk_andN {n : Nat} (h : n < 2 ^ 32) {m : Int32} (k : Nat) (hm : m.toBitVec.toNat = 2 ^ k - 1) : nI n &&& m = nI (n % 2 ^ k) := by
  rw [pk_and _ k hm, pk_tn h]
theorem pk_andE (x : Int32) {m : Int32} (k : Nat) (hm : m.toBitVec.toNat = 2 ^ k - 1) : ∃ j : Nat, j < 2 ^ k ∧ x &&& m = nI j := ⟨_, Nat.mod_lt _ (Nat.two_pow_pos k), pk_and x k hm⟩
theorem pk_andIn (x : Int32) {m : Int32} (k : Nat) (hm : m.toBitVec.toNat = 2 ^ k - 1) (hk : k ≤ 30) : vp_in (x &&& m) (2 ^ k) := by
  obtain ⟨j, hj, e⟩ := pk_andE x k hm
  rw [e]
  exact vp_in_nI hj (Nat.lt_of_le_of_lt (Nat.pow_le_pow_right (by decide) hk) (by decide))
theorem pk_shl (a s : Int32) (k : Nat) (hs : (s.toBitVec.smod 32).toNat = k) : (a <<< s).toBitVec.toNat = a.toBitVec.toNat * 2 ^ k % 2 ^ 32 := by
  show (a.toBitVec <<< (s.toBitVec.smod 32).toNat).toNat = _
  rw [hs, BitVec.toNat_shiftLeft, Nat.shiftLeft_eq]
theorem pk_shlN {n : Nat} (s : Int32) (k : Nat) (hs : (s.toBitVec.smod 32).toNat = k) (h : n * 2 ^ k < 2 ^ 32) : nI n <<< s = nI (n * 2 ^ k) := by
  apply Int32.toBitVec_inj.mp
  apply BitVec.eq_of_toNat_eq
  have hn : n < 2 ^ 32 := Nat.lt_of_le_of_lt (Nat.le_mul_of_pos_right n (Nat.two_pow_pos k)) h
  rw [pk_shl _ _ k hs, pk_tn hn, pk_tn h, Nat.mod_eq_of_lt h]
theorem pk_shr (a s : Int32) (k : Nat) (hs : (s.toBitVec.smod 32).toNat = k) : (a >>> s).toInt = a.toInt >>> k := by
  show (a.toBitVec.sshiftRight (s.toBitVec.smod 32).toNat).toInt = _
  rw [hs, BitVec.toInt_sshiftRight]
  rfl
theorem pk_shrN {n : Nat} (h : n < 2 ^ 31) (s : Int32) (k : Nat) (hs : (s.toBitVec.smod 32).toNat = k) : nI n >>> s = nI (n / 2 ^ k) := by
  apply Int32.toInt_inj.mp
  have h2 : n / 2 ^ k ≤ n := Nat.div_le_self _ _
  rw [pk_shr _ _ k hs, nI_toInt h, nI_toInt (by omega), Int.shiftRight_eq_div_pow]
  rfl
theorem pk_ushr (x s : Int32) (k : Nat) (hs : ((s.toUInt32 &&& Int32.toUInt32 31).toBitVec % 32).toNat = k) : (x.toUInt32 >>> (s.toUInt32 &&& Int32.toUInt32 31)).toInt32.toBitVec.toNat = x.toBitVec.toNat / 2 ^ k := by
  have e : (x.toUInt32 >>> (s.toUInt32 &&& Int32.toUInt32 31)).toInt32.toBitVec = x.toBitVec >>> k := by
    rw [← hs]
    exact UInt32.toBitVec_shiftRight _ _
  rw [e, BitVec.toNat_ushiftRight, Nat.shiftRight_eq_div_pow]
theorem pk_ushrN {n : Nat} (hn : n < 2 ^ 32) (s : Int32) (k : Nat) (hs : ((s.toUInt32 &&& Int32.toUInt32 31).toBitVec % 32).toNat = k) : ((nI n).toUInt32 >>> (s.toUInt32 &&& Int32.toUInt32 31)).toInt32 = nI (n / 2 ^ k) := by
  apply Int32.toBitVec_inj.mp
  apply BitVec.eq_of_toNat_eq
  rw [pk_ushr _ s k hs, pk_tn hn, pk_tn (Nat.lt_of_le_of_lt (Nat.div_le_self _ _) hn)]
theorem pk_loop {σ : Type} (W : Nat → Nat → σ → Prop) (I : Nat → σ → Prop) (e i0 : Nat) (s : σ) (hi : i0 ≤ e) (h0 : I i0 s) (hx : ∀ n s, I e s → W (n + 1) e s)
    (hs : ∀ n i s, i < e → I i s → (∀ s', I (i + 1) s' → W n (i + 1) s') → W (n + 1) i s) : ∃ n, W n i0 s :=
  ⟨e + 1, loop_i W I e hx hs (e + 1) i0 s hi (by omega) h0⟩
theorem pk_loopD {σ : Type} (W : Nat → Nat → σ → Prop) (I : Nat → σ → Prop) (hx : ∀ n s, I 0 s → W (n + 1) 0 s)
    (hs : ∀ n i s, I (i + 1) s → (∀ s', I i s' → W n i s') → W (n + 1) (i + 1) s) : ∀ (e : Nat) (s : σ), I e s → W (e + 1) e s := by
  intro e
  induction e with
  | zero => exact fun s h => hx 0 s h
  | succ e ih => exact fun s h => hs (e + 1) e s h (fun s' h' => ih s' h')
theorem pk_least (P : Nat → Prop) (h : ∃ k, P k) : ∃ k, P k ∧ ∀ j, j < k → ¬ P j := by
  obtain ⟨k, hk⟩ := h
  induction k using Nat.strongRecOn with
  | ind k ih =>
    by_cases e : ∃ j, j < k ∧ P j
    · obtain ⟨j, hj, pj⟩ := e
      exact ih j hj pj
    · exact ⟨k, hk, fun j hj pj => e ⟨j, hj, pj⟩⟩
def bt (x : Int32) (i : Nat) : Bool := x.toBitVec.getLsbD i
theorem b_ext {x y : Int32} (h : ∀ i, i < 32 → bt x i = bt y i) : x = y := Int32.toBitVec_inj.mp (BitVec.eq_of_getLsbD_eq (fun i hi => h i hi))
theorem b_or (x y : Int32) (i : Nat) : bt (x ||| y) i = (bt x i || bt y i) := by unfold bt; rw [Int32.toBitVec_or, BitVec.getLsbD_or]
theorem b_and (x y : Int32) (i : Nat) : bt (x &&& y) i = (bt x i && bt y i) := by unfold bt; rw [Int32.toBitVec_and, BitVec.getLsbD_and]
theorem b_xor (x y : Int32) (i : Nat) : bt (x ^^^ y) i = (bt x i ^^ bt y i) := by unfold bt; rw [Int32.toBitVec_xor, BitVec.getLsbD_xor]
theorem b_big {x : Int32} {i : Nat} (h : 32 ≤ i) : bt x i = false := BitVec.getLsbD_of_ge _ _ h
theorem b_255 (i : Nat) : bt 255 i = decide (i < 8) := by
  rcases Nat.lt_or_ge i 32 with h | h
  · exact (by decide +kernel : ∀ i, i < 32 → bt 255 i = decide (i < 8)) i h
  · rw [b_big h, decide_eq_false (by omega)]
theorem b_65535 (i : Nat) : bt 65535 i = decide (i < 16) := by
  rcases Nat.lt_or_ge i 32 with h | h
  · exact (by decide +kernel : ∀ i, i < 32 → bt 65535 i = decide (i < 16)) i h
  · rw [b_big h, decide_eq_false (by omega)]
theorem b_m1 : ∀ i, i < 32 → bt (-1) i = true := by decide +kernel
theorem b_0 (i : Nat) : bt 0 i = false := BitVec.getLsbD_zero
theorem s_l : ∀ n, n < 32 → ((nI n &&& 31).toBitVec.smod 32).toNat = n := by decide +kernel
theorem s_u : ∀ n, n < 32 → (((nI n).toUInt32 &&& Int32.toUInt32 31).toBitVec % 32).toNat = n := by decide +kernel
theorem b_shl (n : Nat) (hn : n < 32) (x : Int32) {i : Nat} (hi : i < 32) : bt (x <<< (nI n &&& 31)) i = (decide (n ≤ i) && bt x (i - n)) := by
  unfold bt
  rw [Int32.toBitVec_shiftLeft]
  show (x.toBitVec <<< ((nI n &&& 31).toBitVec.smod 32).toNat).getLsbD i = _
  rw [s_l n hn, BitVec.getLsbD_shiftLeft]
  rcases Nat.lt_or_ge i n with h | h
  · simp [h, Nat.not_le.mpr h]
  · simp [hi, h, Nat.not_lt.mpr h]
theorem b_ushr (n : Nat) (hn : n < 32) (x : Int32) (i : Nat) : bt ((x.toUInt32 >>> ((nI n).toUInt32 &&& Int32.toUInt32 31)).toInt32) i = bt x (n + i) := by
  show (x.toUInt32 >>> ((nI n).toUInt32 &&& Int32.toUInt32 31)).toBitVec.getLsbD i = x.toUInt32.toBitVec.getLsbD (n + i)
  rw [UInt32.toBitVec_shiftRight]
  show (x.toUInt32.toBitVec >>> (((nI n).toUInt32 &&& Int32.toUInt32 31).toBitVec % 32).toNat).getLsbD i = _
  rw [s_u n hn, BitVec.getLsbD_ushiftRight]
theorem b_sshr (n : Nat) (hn : n < 32) (x : Int32) {i : Nat} (hi : i < 32) : bt (x >>> (nI n &&& 31)) i = if n + i < 32 then bt x (n + i) else bt x 31 := by
  unfold bt
  rw [Int32.toBitVec_shiftRight]
  show (x.toBitVec.sshiftRight ((nI n &&& 31).toBitVec.smod 32).toNat).getLsbD i = _
  rw [s_l n hn, BitVec.getLsbD_sshiftRight, BitVec.msb_eq_getLsbD_last]
  simp [hi]
theorem nx_and (a b : Nat) : nI a &&& nI b = nI (a &&& b) := by
  apply Int32.toBitVec_inj.1
  show BitVec.ofNat 32 a &&& BitVec.ofNat 32 b = BitVec.ofNat 32 (a &&& b)
  apply BitVec.eq_of_getLsbD_eq
  intro i hi
  simp [hi]
end TA
end
section
section TB
/-! numbers, arrays of naturals -/
def ar_N (f : Nat → Nat) : Nat → Int32 := fun j => nI (f j)
def ar_iv (x : Nat) : Int32 := if x < 66 then nI x else 1000
def ar_V (f : Nat → Nat) : Nat → Int32 := fun j => ar_iv (f j)
def ar_cv (x : Nat) : Int32 := if x = 0 then -5 else nI (x - 1)
def ar_C (f : Nat → Nat) : Nat → Int32 := fun j => ar_cv (f j)
def ar_ov (x : Nat) : Int32 := if x = 0 then -1 else nI (x - 1)
def ar_O (f : Nat → Nat) : Nat → Int32 := fun j => ar_ov (f j)
def ar_u (f : Nat → Nat) (k v : Nat) : Nat → Nat := fun j => if j = k then v else f j
theorem ar_us {f : Nat → Nat} {k v : Nat} : ar_u f k v k = v := if_pos rfl
theorem ar_un {f : Nat → Nat} {k v j : Nat} (h : j ≠ k) : ar_u f k v j = f j := if_neg h
theorem ar_ud (f : Nat → Nat) (k v j : Nat) : ar_u f k v j = if j = k then v else f j := rfl
theorem ar_Nu (f : Nat → Nat) (k v : Nat) : upd (ar_N f) k (nI v) = ar_N (ar_u f k v) := by
  funext j
  show (if j = k then nI v else nI (f j)) = nI (if j = k then v else f j)
  split <;> rfl
theorem ar_Vu (f : Nat → Nat) (k v : Nat) : upd (ar_V f) k (ar_iv v) = ar_V (ar_u f k v) := by
  funext j
  show (if j = k then ar_iv v else ar_iv (f j)) = ar_iv (if j = k then v else f j)
  split <;> rfl
theorem ar_Cu (f : Nat → Nat) (k v : Nat) : upd (ar_C f) k (ar_cv v) = ar_C (ar_u f k v) := by
  funext j
  show (if j = k then ar_cv v else ar_cv (f j)) = ar_cv (if j = k then v else f j)
  split <;> rfl
theorem ar_Ou (f : Nat → Nat) (k v : Nat) : upd (ar_O f) k (ar_ov v) = ar_O (ar_u f k v) := by
  funext j
  show (if j = k then ar_ov v else ar_ov (f j)) = ar_ov (if j = k then v else f j)
  split <;> rfl
theorem ar_Nr (f : Nat → Nat) {k : Nat} (h : k < 2 ^ 31) : ar_N f (nI k).toNatClampNeg = nI (f k) := by rw [nI_clamp h]; rfl
theorem ar_Vr (f : Nat → Nat) {k : Nat} (h : k < 2 ^ 31) : ar_V f (nI k).toNatClampNeg = ar_iv (f k) := by rw [nI_clamp h]; rfl
theorem ar_Cr (f : Nat → Nat) {k : Nat} (h : k < 2 ^ 31) : ar_C f (nI k).toNatClampNeg = ar_cv (f k) := by rw [nI_clamp h]; rfl
theorem ar_Or (f : Nat → Nat) {k : Nat} (h : k < 2 ^ 31) : ar_O f (nI k).toNatClampNeg = ar_ov (f k) := by rw [nI_clamp h]; rfl
theorem ar_N0 : (fun _ : Nat => (0 : Int32)) = ar_N (fun _ => 0) := rfl
theorem ar_V0 : (fun _ : Nat => (0 : Int32)) = ar_V (fun _ => 0) := rfl
theorem ar_C0 : (fun _ : Nat => (0 : Int32)) = ar_C (fun _ => 1) := rfl
theorem ar_O0 : (fun _ : Nat => (0 : Int32)) = ar_O (fun _ => 1) := rfl
theorem ar_m1 : (-1 : Int32) = ar_ov 0 := rfl
theorem ar_ovs (t : Nat) : ar_ov (t + 1) = nI t := rfl
theorem ar_cvs (t : Nat) : ar_cv (t + 1) = nI t := rfl
theorem ar_cv0 : ar_cv 0 = -5 := rfl
theorem ar_ov_neg : ar_ov 0 < 0 := by decide
theorem ar_ov_pos {t : Nat} (h : t < 2 ^ 31) : ¬ ar_ov (t + 1) < 0 := nI_pos h
theorem ar_iv_lt {x : Nat} (h : x < 66) : ar_iv x = nI x := if_pos h
theorem ar_iv_ge {x : Nat} (h : 66 ≤ x) : ar_iv x = 1000 := if_neg (by omega)
theorem ar_iv66 : (1000 : Int32) = ar_iv 66 := rfl
/-! indices -/
theorem ix_16 (n : Nat) : 16 * nI n = nI (16 * n) := pk_mul 16 n
theorem ix_4 (n : Nat) : 4 * nI n = nI (4 * n) := pk_mul 4 n
theorem ix_64 (n : Nat) : 64 * nI n = nI (64 * n) := pk_mul 64 n
theorem ix_16r (n : Nat) : nI n * 16 = nI (16 * n) := (pk_mul n 16).trans (congrArg nI (by omega))
theorem ix_4r (n : Nat) : nI n * 4 = nI (4 * n) := (pk_mul n 4).trans (congrArg nI (by omega))
theorem ix_64r (n : Nat) : nI n * 64 = nI (64 * n) := (pk_mul n 64).trans (congrArg nI (by omega))
theorem ix_256 (n : Nat) : 256 + nI n = nI (256 + n) := nI_add 256 n
theorem ix_2 (n : Nat) : nI n + 2 = nI (n + 2) := nI_add n 2
theorem ix_lv (n a d : Nat) : 16 * nI n + 4 * nI a + nI d = nI (16 * n + 4 * a + d) := by rw [ix_16, ix_4, nI_add, nI_add]
theorem ix_lv2 (n a d : Nat) : 16 * nI n + nI (4 * a) + nI d = nI (16 * n + 4 * a + d) := by rw [ix_16, nI_add, nI_add]
theorem ix_lvr (n a d : Nat) : nI n * 16 + nI a * 4 + nI d = nI (16 * n + 4 * a + d) := by rw [ix_16r, ix_4r, nI_add, nI_add]
theorem ix_op (p a : Nat) : 256 + 4 * nI p + nI a = nI (256 + 4 * p + a) := by rw [ix_4, ix_256, nI_add]
theorem ix_al (n d : Nat) : 4 * nI n + nI d = nI (4 * n + d) := by rw [ix_4, nI_add]
theorem ix_alr (n d : Nat) : nI n * 4 + nI d = nI (4 * n + d) := by rw [ix_4r, nI_add]
theorem ix_cd (k c : Nat) : 64 * nI k + 16 * nI c = nI (64 * k + 16 * c) := by rw [ix_64, ix_16, nI_add]
theorem ct_12 : ∀ t, t < 288 → nI t &&& 12 = nI (4 * (t / 4 % 4)) := by decide +kernel
theorem ct_3 {t : Nat} (h : t < 2 ^ 31) : nI t &&& 3 = nI (t % 4) := pk_andN (by omega) 2 (by decide)
theorem ct_15 {t : Nat} (h : t < 2 ^ 31) : nI t &&& 15 = nI (t % 16) := pk_andN (by omega) 4 (by decide)
theorem ct_s2 {t : Nat} (h : t < 2 ^ 31) : nI t >>> ((2 : Int32) &&& 31) = nI (t / 4) := pk_shrN h _ 2 (by decide)
theorem ct_s4 {t : Nat} (h : t < 2 ^ 31) : nI t >>> ((4 : Int32) &&& 31) = nI (t / 16) := pk_shrN h _ 4 (by decide)
theorem ct_s6 {t : Nat} (h : t < 2 ^ 31) : nI t >>> ((6 : Int32) &&& 31) = nI (t / 64) := pk_shrN h _ 6 (by decide)
/-! one bit of a relation -/
def hs_b (m c d : Nat) : Prop := m / 2 ^ (4 * c + d) % 2 = 1
theorem hs_x {m c d : Nat} (hm : m < 65536) (hc : c < 4) (hd : d < 4) : ((nI m >>> ((4 * nI c + nI d) &&& 31)) &&& 1) = 0 ↔ ¬ hs_b m c d := by
  have e : nI m >>> ((nI (4 * c + d)) &&& 31) = nI (m / 2 ^ (4 * c + d)) := pk_shrN (by omega) _ _ (s_l _ (by omega))
  have l : m / 2 ^ (4 * c + d) ≤ m := Nat.div_le_self _ _
  have e2 : nI (m / 2 ^ (4 * c + d)) &&& 1 = nI (m / 2 ^ (4 * c + d) % 2) := pk_andN (by omega) 1 (by decide)
  rw [ix_al, e, e2, ← nI_0]
  unfold hs_b
  generalize m / 2 ^ (4 * c + d) = z at *
  rw [nI_eq (by omega) (by omega)]
  omega
theorem hs_y {m c d : Nat} (hm : m < 65536) (hc : c < 4) (hd : d < 4) : ((((nI m).toUInt32 >>> ((4 * nI c + nI d).toUInt32 &&& Int32.toUInt32 31)).toInt32) &&& 1) = 1 ↔ hs_b m c d := by
  have e : ((nI m).toUInt32 >>> ((nI (4 * c + d)).toUInt32 &&& Int32.toUInt32 31)).toInt32 = nI (m / 2 ^ (4 * c + d)) := pk_ushrN (by omega) _ _ (s_u _ (by omega))
  have l : m / 2 ^ (4 * c + d) ≤ m := Nat.div_le_self _ _
  have e2 : nI (m / 2 ^ (4 * c + d)) &&& 1 = nI (m / 2 ^ (4 * c + d) % 2) := pk_andN (by omega) 1 (by decide)
  rw [ix_al, e, e2, show (1 : Int32) = nI 1 from rfl]
  unfold hs_b
  generalize m / 2 ^ (4 * c + d) = z at *
  rw [nI_eq (by omega) (by omega)]
/-! capped lengths -/
def sv_m (v : Nat) : Nat := if v ≤ 65 then v else 65
def sv_p (x y : Nat) : Nat := if 66 ≤ x then 66 else if 66 ≤ y then 66 else if 65 ≤ x + y then 65 else x + y
theorem sv_m_le (v : Nat) : sv_m v ≤ 65 := by unfold sv_m; split <;> omega
theorem sv_p_f {x y : Nat} (hx : x < 66) (hy : y < 66) : sv_p x y = sv_m (x + y) := by unfold sv_p sv_m; repeat (split <;> try omega)
theorem sv_mm (a b : Nat) : sv_m (sv_m a + b) = sv_m (a + b) := by unfold sv_m; repeat (split <;> try omega)
theorem sv_m_mono {a b : Nat} (h : a ≤ b) : sv_m a ≤ sv_m b := by unfold sv_m; repeat (split <;> try omega)
theorem sv_p_mono {a b c d : Nat} (h : a ≤ c) (k : b ≤ d) (hc : c ≤ 66) (hd : d ≤ 66) : sv_p a b ≤ sv_p c d := by unfold sv_p; repeat (split <;> try omega)
theorem sv_p_le (a b : Nat) : sv_p a b ≤ 66 := by unfold sv_p; repeat (split <;> try omega)
theorem sv_p_lt {a b : Nat} (h : sv_p a b < 66) : a < 66 ∧ b < 66 ∧ sv_p a b = sv_m (a + b) := by
  unfold sv_p sv_m at *
  refine ⟨?_, ?_, ?_⟩ <;> (repeat (split at h <;> try omega))
  repeat (split <;> try omega)
/-! lexicographic order -/
def lx_l (v w x y : Nat) : Prop := v < x ∨ (v = x ∧ w ≤ y)
theorem lx_r (v w : Nat) : lx_l v w v w := Or.inr ⟨rfl, Nat.le_refl _⟩
theorem lx_t {a b c d e f : Nat} (h : lx_l a b c d) (k : lx_l c d e f) : lx_l a b e f := by unfold lx_l at *; omega
theorem lx_1 {a b c d : Nat} (h : lx_l a b c d) : a ≤ c := by unfold lx_l at *; omega
end TB
end
section
section TC
/-! the program -/
abbrev pg_T : Type := (Nat × Nat × Nat × Nat) × (Nat → Nat) × (Nat → Nat) × (Nat → Nat) × (Nat → Nat) × (Nat → Nat) × (Nat → Nat) × (Nat → Nat) × (Nat → Nat) × (Nat → Nat)
def pg_F (g : pg_T) : Nat := g.1.1
def pg_P (g : pg_T) : Nat := g.1.2.1
def pg_N (g : pg_T) : Nat := g.1.2.2.1
def pg_L (g : pg_T) : Nat := g.1.2.2.2
def pg_en (g : pg_T) : Nat → Nat := g.2.1
def pg_ex (g : pg_T) : Nat → Nat := g.2.2.1
def pg_ow (g : pg_T) : Nat → Nat := g.2.2.2.1
def pg_kd (g : pg_T) : Nat → Nat := g.2.2.2.2.1
def pg_sr (g : pg_T) : Nat → Nat := g.2.2.2.2.2.1
def pg_tg (g : pg_T) : Nat → Nat := g.2.2.2.2.2.2.1
def pg_ca (g : pg_T) : Nat → Nat := g.2.2.2.2.2.2.2.1
def pg_pa (g : pg_T) : Nat → Nat := g.2.2.2.2.2.2.2.2.1
def pg_ba (g : pg_T) : Nat → Nat := g.2.2.2.2.2.2.2.2.2
def pg_cl (g : pg_T) (k : Nat) : Nat := pg_ca g k - 1
def pg_ok (g : pg_T) : Prop :=
  (2 ≤ pg_F g ∧ pg_F g ≤ 4 ∧ pg_P g ≤ 8 ∧ pg_N g ≤ 16 ∧ pg_L g ≤ 24) ∧
  (∀ p, p < pg_P g → pg_en g p ≤ pg_ex g p ∧ pg_ex g p < pg_N g ∧ ∀ n, pg_en g p ≤ n → n ≤ pg_ex g p → pg_ow g n = p) ∧
  (∀ n, n < pg_N g → pg_ow g n < pg_P g ∧ pg_en g (pg_ow g n) ≤ n ∧ n ≤ pg_ex g (pg_ow g n)) ∧
  (∀ k, k < pg_L g → pg_sr g k < pg_N g ∧ pg_tg g k < pg_N g ∧ pg_pa g k < 65536 ∧ pg_ba g k < 65536 ∧
    ((pg_kd g k = 0 ∧ pg_ca g k = 0) ∨ (pg_kd g k = 1 ∧ pg_cl g k < pg_P g ∧ pg_ca g k = pg_cl g k + 1)))
section
variable {g : pg_T}
theorem pg_F2 (h : pg_ok g) : 2 ≤ pg_F g := h.1.1
theorem pg_F4 (h : pg_ok g) : pg_F g ≤ 4 := h.1.2.1
theorem pg_P8 (h : pg_ok g) : pg_P g ≤ 8 := h.1.2.2.1
theorem pg_N16 (h : pg_ok g) : pg_N g ≤ 16 := h.1.2.2.2.1
theorem pg_L24 (h : pg_ok g) : pg_L g ≤ 24 := h.1.2.2.2.2
theorem pg_srN (h : pg_ok g) {k : Nat} (hk : k < pg_L g) : pg_sr g k < pg_N g := (h.2.2.2 k hk).1
theorem pg_tgN (h : pg_ok g) {k : Nat} (hk : k < pg_L g) : pg_tg g k < pg_N g := (h.2.2.2 k hk).2.1
theorem pg_paB (h : pg_ok g) {k : Nat} (hk : k < pg_L g) : pg_pa g k < 65536 := (h.2.2.2 k hk).2.2.1
theorem pg_baB (h : pg_ok g) {k : Nat} (hk : k < pg_L g) : pg_ba g k < 65536 := (h.2.2.2 k hk).2.2.2.1
theorem pg_kd2 (h : pg_ok g) {k : Nat} (hk : k < pg_L g) : pg_kd g k = 0 ∨ pg_kd g k = 1 := by
  rcases (h.2.2.2 k hk).2.2.2.2 with a | a
  · exact Or.inl a.1
  · exact Or.inr a.1
theorem pg_clP (h : pg_ok g) {k : Nat} (hk : k < pg_L g) (h1 : pg_kd g k = 1) : pg_cl g k < pg_P g ∧ pg_ca g k = pg_cl g k + 1 := by
  rcases (h.2.2.2 k hk).2.2.2.2 with a | a
  · omega
  · exact a.2
theorem pg_ca0 (h : pg_ok g) {k : Nat} (hk : k < pg_L g) (h1 : pg_kd g k = 0) : pg_ca g k = 0 := by
  rcases (h.2.2.2 k hk).2.2.2.2 with a | a
  · exact a.2
  · omega
theorem pg_exN (h : pg_ok g) {p : Nat} (hp : p < pg_P g) : pg_ex g p < pg_N g := (h.2.1 p hp).2.1
theorem pg_enex (h : pg_ok g) {p : Nat} (hp : p < pg_P g) : pg_en g p ≤ pg_ex g p := (h.2.1 p hp).1
theorem pg_owex (h : pg_ok g) {p : Nat} (hp : p < pg_P g) : pg_ow g (pg_ex g p) = p := (h.2.1 p hp).2.2 _ (h.2.1 p hp).1 (Nat.le_refl _)
theorem pg_owen (h : pg_ok g) {p : Nat} (hp : p < pg_P g) : pg_ow g (pg_en g p) = p := (h.2.1 p hp).2.2 _ (Nat.le_refl _) (h.2.1 p hp).1
theorem pg_enN (h : pg_ok g) {p : Nat} (hp : p < pg_P g) : pg_en g p < pg_N g := Nat.lt_of_le_of_lt (pg_enex h hp) (pg_exN h hp)
theorem pg_owP (h : pg_ok g) {n : Nat} (hn : n < pg_N g) : pg_ow g n < pg_P g := (h.2.2.1 n hn).1
theorem pg_owI (h : pg_ok g) {n : Nat} (hn : n < pg_N g) : pg_en g (pg_ow g n) ≤ n ∧ n ≤ pg_ex g (pg_ow g n) := (h.2.2.1 n hn).2
theorem pg_ow1 (h : pg_ok g) {p n : Nat} (hp : p < pg_P g) (h1 : pg_en g p ≤ n) (h2 : n ≤ pg_ex g p) : pg_ow g n = p := (h.2.1 p hp).2.2 n h1 h2
end
/-! candidates: target t, code w, kind y, premises p and q -/
def cd_0 (g : pg_T) (t w p q : Nat) : Prop := ∃ k c a d, k < pg_L g ∧ c < 4 ∧ a < pg_F g ∧ d < pg_F g ∧ pg_kd g k = 0 ∧ hs_b (pg_pa g k) c d ∧ t = 16 * pg_tg g k + 4 * a + d ∧ p = 16 * pg_sr g k + 4 * a + c ∧ q = p ∧ w = 64 * k + 16 * c
def cd_1 (g : pg_T) (t w p q : Nat) : Prop := ∃ k c a d b e, k < pg_L g ∧ c < 4 ∧ a < pg_F g ∧ d < pg_F g ∧ b < 4 ∧ e < 4 ∧ pg_kd g k = 1 ∧ hs_b (pg_pa g k) c b ∧ hs_b (pg_ba g k) e d ∧ t = 16 * pg_tg g k + 4 * a + d ∧ p = 16 * pg_sr g k + 4 * a + c ∧ q = 16 * pg_ex g (pg_cl g k) + 4 * b + e ∧ w = 64 * k + 16 * c + 4 * b + e
def cd_2 (g : pg_T) (t w p q : Nat) : Prop := ∃ k c b a, k < pg_L g ∧ c < 4 ∧ b < pg_F g ∧ a < 4 ∧ pg_kd g k = 1 ∧ hs_b (pg_pa g k) c b ∧ t = 256 + 4 * pg_cl g k + b ∧ p = 256 + 4 * pg_ow g (pg_sr g k) + a ∧ q = 16 * pg_sr g k + 4 * a + c ∧ w = 64 * k + 16 * c
def cd_A (g : pg_T) (t w y p q : Nat) : Prop := (y = 0 ∧ cd_0 g t w p q) ∨ (y = 1 ∧ cd_1 g t w p q) ∨ (y = 2 ∧ cd_2 g t w p q)
def cd_x (D : Nat → Nat) (y p q : Nat) : Nat := if y = 0 then D p + 1 else if y = 1 then D p + D q + 2 else D p + D q + 1
def cd_v (D : Nat → Nat) (y p q : Nat) : Nat := sv_m (cd_x D y p q)
def cd_i (g : pg_T) (t : Nat) : Prop := (∃ p a, p < pg_P g ∧ a < pg_F g ∧ t = 16 * pg_en g p + 4 * a + a) ∨ t = 256
theorem cd_v_c {D D' : Nat → Nat} {y p q : Nat} (hp : D' p = D p) (hq : D' q = D q) : cd_v D' y p q = cd_v D y p q := by unfold cd_v cd_x; rw [hp, hq]
theorem cd_v_le (D : Nat → Nat) (y p q : Nat) : cd_v D y p q ≤ 65 := sv_m_le _
theorem cd_v_p (D : Nat → Nat) {y p q : Nat} (h : D p ≤ 65) : D p ≤ cd_v D y p q := by unfold cd_v cd_x sv_m; repeat (split <;> try omega)
theorem cd_v_q (D : Nat → Nat) {y p q : Nat} (h : D q ≤ 65) (hy : y ≠ 0) : D q ≤ cd_v D y p q := by unfold cd_v cd_x sv_m; repeat (split <;> try omega)
theorem cd_v_pos (D : Nat → Nat) {y p q : Nat} : 1 ≤ cd_v D y p q := by unfold cd_v cd_x sv_m; repeat (split <;> try omega)
/-- where the cells lie -/
def cd_r (g : pg_T) (t : Nat) : Prop := (t < 256 ∧ t / 16 < pg_N g ∧ t / 4 % 4 < pg_F g ∧ t % 4 < pg_F g) ∨ (256 ≤ t ∧ t < 288 ∧ (t - 256) / 4 < pg_P g ∧ t % 4 < pg_F g)
theorem cd_rl {g : pg_T} (h : pg_ok g) {n a d : Nat} (hn : n < pg_N g) (ha : a < pg_F g) (hd : d < pg_F g) : cd_r g (16 * n + 4 * a + d) := by
  have := pg_F4 h
  have := pg_N16 h
  exact Or.inl ⟨by omega, by rw [show (16 * n + 4 * a + d) / 16 = n by omega]; exact hn, by rw [show (16 * n + 4 * a + d) / 4 % 4 = a by omega]; exact ha, by rw [show (16 * n + 4 * a + d) % 4 = d by omega]; exact hd⟩
theorem cd_ro {g : pg_T} (h : pg_ok g) {p a : Nat} (hp : p < pg_P g) (ha : a < pg_F g) : cd_r g (256 + 4 * p + a) := by
  have := pg_F4 h
  have := pg_P8 h
  exact Or.inr ⟨by omega, by omega, by rw [show (256 + 4 * p + a - 256) / 4 = p by omega]; exact hp, by rw [show (256 + 4 * p + a) % 4 = a by omega]; exact ha⟩
theorem cd_rt {g : pg_T} (h : pg_ok g) {t w y p q : Nat} (hc : cd_A g t w y p q) : cd_r g t := by
  rcases hc with ⟨_, k, c, a, d, hk, _, ha, hd, _, _, rfl, _⟩ | ⟨_, k, c, a, d, b, e, hk, _, ha, hd, _, _, _, _, _, rfl, _⟩ | ⟨_, k, c, b, a, hk, _, hb, _, h1, _, rfl, _⟩
  · exact cd_rl h (pg_tgN h hk) ha hd
  · exact cd_rl h (pg_tgN h hk) ha hd
  · exact cd_ro h (pg_clP h hk h1).1 hb
theorem cd_ri {g : pg_T} (h : pg_ok g) (hP : 0 < pg_P g) {t : Nat} (hc : cd_i g t) : cd_r g t := by
  rcases hc with ⟨p, a, hp, ha, rfl⟩ | rfl
  · exact cd_rl h (pg_enN h hp) ha ha
  · exact cd_ro h (p := 0) (a := 0) hP (by have := pg_F2 h; omega)
theorem cd_r288 {g : pg_T} {t : Nat} (h : cd_r g t) : t < 288 := by
  rcases h with h | h <;> omega
/-- premises lie within -/
theorem cd_pq {g : pg_T} (h : pg_ok g) {t w y p q : Nat} (hc : cd_A g t w y p q) : p < 288 ∧ q < 288 ∧ t < 288 := by
  have hF := pg_F4 h
  have hN := pg_N16 h
  have hP := pg_P8 h
  refine ⟨?_, ?_, cd_r288 (cd_rt h hc)⟩
  · rcases hc with ⟨_, k, c, a, d, hk, hc, ha, hd, _, _, _, rfl, _⟩ | ⟨_, k, c, a, d, b, e, hk, hc, ha, hd, _, _, _, _, _, _, rfl, _⟩ | ⟨_, k, c, b, a, hk, hc, hb, ha, h1, _, _, rfl, _⟩
    · have := pg_srN h hk; omega
    · have := pg_srN h hk; omega
    · have := pg_owP h (pg_srN h hk); omega
  · rcases hc with ⟨_, k, c, a, d, hk, hc, ha, hd, _, _, _, e1, rfl, _⟩ | ⟨_, k, c, a, d, b, e, hk, hc, ha, hd, hb, he, h1, _, _, _, _, rfl, _⟩ | ⟨_, k, c, b, a, hk, hc, hb, ha, h1, _, _, _, rfl, _⟩
    · have := pg_srN h hk; omega
    · have := pg_exN h (pg_clP h hk h1).1; omega
    · have := pg_srN h hk; omega
/-! the invariant of the tabulation -/
def si_S (g : pg_T) (T : Nat → Nat) (dn D : Nat → Nat) (t : Nat) : Prop :=
  (cd_i g t ∧ D t = 0) ∨ ∃ w y p q, cd_A g t w y p q ∧ dn p = 1 ∧ dn q = 1 ∧ D t = cd_v D y p q ∧ (dn t = 1 → T p < T t ∧ T q < T t)
def si_O (g : pg_T) (dn D O : Nat → Nat) (t : Nat) : Prop :=
  (cd_i g t ∧ D t = 0 ∧ O t = 0) ∨ ∃ y p q, cd_A g t (O t) y p q ∧ dn p = 1 ∧ dn q = 1 ∧ D t = cd_v D y p q
def si_A (g : pg_T) (dn D A B : Nat → Nat) (j : Nat) : Prop :=
  ∃ n d a, j = 4 * n + d ∧ n < pg_N g ∧ d < 4 ∧ a < 4 ∧ B j = a ∧ dn (256 + 4 * pg_ow g n + a) = 1 ∧ dn (16 * n + 4 * a + d) = 1 ∧ A j = sv_m (D (256 + 4 * pg_ow g n + a) + D (16 * n + 4 * a + d))
def si_I (g : pg_T) (T : Nat → Nat) (n lo hi L : Nat) (dn D O A B : Nat → Nat) : Prop :=
  (∀ t, t < 288 → D t ≤ 66 ∧ dn t ≤ 1) ∧
  (∀ t, t < 288 → dn t = 1 → D t < 66 ∧ T t < n) ∧
  (∀ t, t < 288 → dn t = 0 → D t < 66 → lo ≤ t ∧ t < hi ∧ L ≤ D t) ∧
  (∀ t, lo ≤ t → t < hi → dn t = 1 → D t ≤ L) ∧
  (∀ t, t < 288 → D t < 66 → si_S g T dn D t) ∧
  (∀ t, t < 288 → D t < 66 → si_O g dn D O t) ∧
  (∀ j, j < 64 → A j ≤ 66 ∧ (A j < 66 → si_A g dn D A B j)) ∧
  (∀ t, hi ≤ t → t < 288 → dn t = 0)
/-- an offer -/
def lx_U (D O : Nat → Nat) (t v w : Nat) (D' O' : Nat → Nat) : Prop :=
  (∀ j, j ≠ t → D' j = D j ∧ O' j = O j) ∧
  ((D' t = v ∧ O' t = w ∧ lx_l v w (D t) (O t)) ∨ (D' t = D t ∧ O' t = O t ∧ lx_l (D t) (O t) v w))
theorem lx_Ul {D O D' O' : Nat → Nat} {t v w : Nat} (h : lx_U D O t v w D' O') : ∀ j, lx_l (D' j) (O' j) (D j) (O j) := by
  intro j
  by_cases e : j = t
  · subst e
    rcases h.2 with ⟨a, b, c⟩ | ⟨a, b, _⟩
    · rw [a, b]; exact c
    · rw [a, b]; exact lx_r _ _
  · rw [(h.1 j e).1, (h.1 j e).2]; exact lx_r _ _
theorem lx_Uo {D O D' O' : Nat → Nat} {t v w : Nat} (h : lx_U D O t v w D' O') : lx_l (D' t) (O' t) v w := by
  rcases h.2 with ⟨a, b, _⟩ | ⟨a, b, c⟩
  · rw [a, b]; exact lx_r _ _
  · rw [a, b]; exact c
/-- a settled cell keeps its length -/
theorem si_keep {g : pg_T} {T : Nat → Nat} {n lo hi L : Nat} {dn D O A B D' O' : Nat → Nat} {t v w : Nat} (h : si_I g T n lo hi L dn D O A B) (ht : lo ≤ t ∧ t < hi) (hL : L ≤ v) (hu : lx_U D O t v w D' O') : ∀ s, dn s = 1 → D' s = D s := by
  intro s hs
  by_cases e : s = t
  · subst e
    have h4 := h.2.2.2.1 s ht.1 ht.2 hs
    rcases hu.2 with ⟨a, b, c⟩ | ⟨a, _⟩
    · unfold lx_l at c; omega
    · exact a
  · exact (hu.1 s e).1
theorem si_off {g : pg_T} {T : Nat → Nat} {n lo hi L : Nat} {dn D O A B D' O' : Nat → Nat} {t v w : Nat} (h : si_I g T n lo hi L dn D O A B) (ht : lo ≤ t ∧ t < hi) (hL : L ≤ v) (hv : v ≤ 65) (hu : lx_U D O t v w D' O')
    (hc : (cd_i g t ∧ v = 0 ∧ w = 0) ∨ ∃ y p q, cd_A g t w y p q ∧ dn p = 1 ∧ dn q = 1 ∧ v = cd_v D y p q) : si_I g T n lo hi L dn D' O' A B := by
  have hk := si_keep h ht hL hu
  obtain ⟨h1, h2, h3, h4, h5, h6, h7, h8⟩ := h
  refine ⟨fun s hs => ⟨?_, (h1 s hs).2⟩, fun s hs ds => ?_, fun s hs ds f => ?_, fun s l1 l2 ds => ?_, fun s hs f => ?_, fun s hs f => ?_, fun j hj => ⟨(h7 j hj).1, fun f => ?_⟩, h8⟩
  · have := (h1 s hs).1
    have := lx_1 (lx_Ul hu s)
    omega
  · rw [hk s ds]; exact h2 s hs ds
  · by_cases e : s = t
    · subst e
      refine ⟨ht.1, ht.2, ?_⟩
      rcases hu.2 with ⟨a, _⟩ | ⟨a, _⟩
      · rw [a]; exact hL
      · rw [a] at f ⊢; exact (h3 s hs ds f).2.2
    · rw [(hu.1 s e).1] at f ⊢; exact h3 s hs ds f
  · rw [hk s ds]; exact h4 s l1 l2 ds
  · have old : D' s = D s → si_S g T dn D' s := by
      intro q
      rw [q] at f
      rcases h5 s hs f with ⟨a, b⟩ | ⟨w', y, p, q', a, b, c, d, e⟩
      · exact Or.inl ⟨a, by rw [q]; exact b⟩
      · exact Or.inr ⟨w', y, p, q', a, b, c, by rw [q, cd_v_c (hk p b) (hk q' c)]; exact d, e⟩
    by_cases ds : dn s = 1
    · exact old (hk s ds)
    · by_cases e : s = t
      · subst e
        rcases hu.2 with ⟨a, _⟩ | ⟨a, _⟩
        · rcases hc with ⟨c1, c2, _⟩ | ⟨y, p, q, c1, c2, c3, c4⟩
          · exact Or.inl ⟨c1, by rw [a, c2]⟩
          · exact Or.inr ⟨w, y, p, q, c1, c2, c3, by rw [a, cd_v_c (hk p c2) (hk q c3)]; exact c4, fun z => absurd z ds⟩
        · exact old a
      · exact old (hu.1 s e).1
  · have old : D' s = D s → O' s = O s → si_O g dn D' O' s := by
      intro q q2
      rw [q] at f
      rcases h6 s hs f with ⟨a, b, c⟩ | ⟨y, p, q', a, b, c, d⟩
      · exact Or.inl ⟨a, by rw [q]; exact b, by rw [q2]; exact c⟩
      · exact Or.inr ⟨y, p, q', by rw [q2]; exact a, b, c, by rw [q, cd_v_c (hk p b) (hk q' c)]; exact d⟩
    by_cases e : s = t
    · subst e
      rcases hu.2 with ⟨a, b, _⟩ | ⟨a, b, _⟩
      · rcases hc with ⟨c1, c2, c3⟩ | ⟨y, p, q, c1, c2, c3, c4⟩
        · exact Or.inl ⟨c1, by rw [a, c2], by rw [b, c3]⟩
        · exact Or.inr ⟨y, p, q, by rw [b]; exact c1, c2, c3, by rw [a, cd_v_c (hk p c2) (hk q c3)]; exact c4⟩
      · exact old a b
    · exact old (hu.1 s e).1 (hu.1 s e).2
  · obtain ⟨n', d, a, e1, e2, e3, e4, e5, e6, e7, e8⟩ := (h7 j hj).2 f
    exact ⟨n', d, a, e1, e2, e3, e4, e5, e6, e7, by rw [hk _ e6, hk _ e7]; exact e8⟩
theorem si_take {g : pg_T} (hg : pg_ok g) {T : Nat → Nat} {n lo hi L v x : Nat} {dn D O A B : Nat → Nat} (h : si_I g T n lo hi L dn D O A B) (hx : lo ≤ x ∧ x < hi) (hx2 : x < 288) (hd : dn x = 0) (hv : D x = v) (hv5 : v ≤ 65) (hL : L ≤ v) (hm : ∀ s, s < 288 → dn s = 0 → D s < 66 → v ≤ D s) : si_I g (ar_u T x n) (n + 1) lo hi v (ar_u dn x 1) D O A B := by
  obtain ⟨h1, h2, h3, h4, h5, h6, h7, h8⟩ := h
  have dm : ∀ s, dn s = 1 → ar_u dn x 1 s = 1 := by
    intro s hs
    by_cases e : s = x
    · rw [e]; exact ar_us
    · rw [ar_un e]; exact hs
  refine ⟨fun s hs => ⟨(h1 s hs).1, ?_⟩, fun s hs ds => ?_, fun s hs ds f => ?_, fun s l1 l2 ds => ?_, fun s hs f => ?_, fun s hs f => ?_, fun j hj => ⟨(h7 j hj).1, fun f => ?_⟩, fun s l1 l2 => ?_⟩
  · by_cases e : s = x
    · rw [e, ar_us]; omega
    · rw [ar_un e]; exact (h1 s hs).2
  · by_cases e : s = x
    · subst e; rw [ar_us]; omega
    · rw [ar_un e] at ds ⊢
      have := h2 s hs ds
      omega
  · by_cases e : s = x
    · subst e; rw [ar_us] at ds; omega
    · rw [ar_un e] at ds
      have := h3 s hs ds f
      exact ⟨this.1, this.2.1, hm s hs ds f⟩
  · by_cases e : s = x
    · subst e; omega
    · rw [ar_un e] at ds
      have := h4 s l1 l2 ds
      omega
  · rcases h5 s hs f with a | ⟨w, y, p, q, a, b, c, d, e⟩
    · exact Or.inl a
    · have hpq := cd_pq hg a
      have px : p ≠ x := by intro z; subst z; omega
      have qx : q ≠ x := by intro z; subst z; omega
      refine Or.inr ⟨w, y, p, q, a, dm p b, dm q c, d, fun z => ?_⟩
      rw [ar_un px, ar_un qx]
      by_cases sx : s = x
      · subst sx
        rw [ar_us]
        exact ⟨(h2 p hpq.1 b).2, (h2 q hpq.2.1 c).2⟩
      · rw [ar_un sx] at z ⊢
        exact e z
  · rcases h6 s hs f with a | ⟨y, p, q, a, b, c, d⟩
    · exact Or.inl a
    · exact Or.inr ⟨y, p, q, a, dm p b, dm q c, d⟩
  · obtain ⟨n', d, a, e1, e2, e3, e4, e5, e6, e7, e8⟩ := (h7 j hj).2 f
    exact ⟨n', d, a, e1, e2, e3, e4, e5, dm _ e6, dm _ e7, e8⟩
  · rw [ar_un (by omega)]; exact h8 s l1 l2
/-- finite cells lie within -/
theorem si_rng {g : pg_T} (hg : pg_ok g) (hP : 0 < pg_P g) {T : Nat → Nat} {n lo hi L : Nat} {dn D O A B : Nat → Nat} (h : si_I g T n lo hi L dn D O A B) {t : Nat} (ht : t < 288) (f : D t < 66) : cd_r g t := by
  rcases h.2.2.2.2.1 t ht f with ⟨a, _⟩ | ⟨w, y, p, q, a, _⟩
  · exact cd_ri hg hP a
  · exact cd_rt hg a
end TC
end
section
section TD
/-! the worklist: code 0: none, t + 1: cell t -/
def wl_I (W : Nat → Nat → Prop) (hd nx pv : Nat → Nat) : Prop :=
  ∃ (r : Nat → Nat) (M : Nat),
   (∀ t b, W t b → t < 288 ∧ b ≤ 65) ∧
   (∀ t b c, W t b → W t c → b = c) ∧
   (∀ b, b ≤ 65 → hd b = 0 ∨ ∃ t, hd b = t + 1 ∧ W t b ∧ pv t = 0) ∧
   (∀ t b, W t b → r t < M) ∧
   (∀ t b, W t b → (pv t = 0 ∧ hd b = t + 1) ∨ ∃ s, pv t = s + 1 ∧ W s b ∧ nx s = t + 1 ∧ r t < r s) ∧
   (∀ t b, W t b → nx t = 0 ∨ ∃ s, nx t = s + 1 ∧ W s b ∧ pv s = t + 1)
theorem wl_c {W W' : Nat → Nat → Prop} {hd nx pv : Nat → Nat} (h : wl_I W hd nx pv) (e : ∀ t b, W' t b ↔ W t b) : wl_I W' hd nx pv := by
  have : W' = W := by funext t b; exact propext (e t b)
  rw [this]; exact h
theorem wl_0 {hd nx pv : Nat → Nat} (h : ∀ b, b ≤ 65 → hd b = 0) : wl_I (fun _ _ => False) hd nx pv :=
  ⟨fun _ => 0, 0, fun _ _ z => z.elim, fun _ _ _ z => z.elim, fun b hb => Or.inl (h b hb), fun _ _ z => z.elim, fun _ _ z => z.elim, fun _ _ z => z.elim⟩
/-- a bucket with a cell has a head -/
theorem wl_ne {W : Nat → Nat → Prop} {hd nx pv : Nat → Nat} (h : wl_I W hd nx pv) {b : Nat} (hb : hd b = 0) : ∀ t, ¬ W t b := by
  obtain ⟨r, M, h1, h2, h3, h4, h5, h6⟩ := h
  have : ∀ m t, M - r t = m → ¬ W t b := by
    intro m
    induction m using Nat.strongRecOn with
    | ind m ih =>
      intro t e w
      rcases h5 t b w with ⟨_, a⟩ | ⟨s, a1, a2, a3, a4⟩
      · omega
      · have := h4 t b w
        have := h4 s b a2
        exact ih (M - r s) (by omega) s rfl a2
  exact fun t => this _ t rfl
theorem wl_hd {W : Nat → Nat → Prop} {hd nx pv : Nat → Nat} (h : wl_I W hd nx pv) {b t : Nat} (hb : b ≤ 65) (e : hd b = t + 1) : W t b := by
  obtain ⟨r, M, h1, h2, h3, h4, h5, h6⟩ := h
  rcases h3 b hb with a | ⟨s, a1, a2, a3⟩
  · omega
  · have : s = t := by omega
    exact this ▸ a2
def wl_uh (hd nx pv : Nat → Nat) (t b : Nat) : Nat → Nat := if pv t = 0 then ar_u hd b (nx t) else hd
def wl_un (hd nx pv : Nat → Nat) (t b : Nat) : Nat → Nat := if pv t = 0 then nx else ar_u nx (pv t - 1) (nx t)
def wl_up (hd nx pv : Nat → Nat) (t b : Nat) : Nat → Nat := if nx t = 0 then pv else ar_u pv (nx t - 1) (pv t)
theorem wl_un1 {W : Nat → Nat → Prop} {hd nx pv : Nat → Nat} (h : wl_I W hd nx pv) {t b : Nat} (w : W t b) : wl_I (fun s c => W s c ∧ s ≠ t) (wl_uh hd nx pv t b) (wl_un hd nx pv t b) (wl_up hd nx pv t b) := by
  obtain ⟨r, M, h1, h2, h3, h4, h5, h6⟩ := h
  have hb : ∀ s c, W s c → c ≠ b → s ≠ t := by
    intro s c z e q
    subst q
    exact e (h2 _ _ _ z w)
  refine ⟨r, M, fun s c z => h1 s c z.1, fun s c d z z' => h2 s c d z.1 z'.1, ?_, fun s c z => h4 s c z.1, ?_, ?_⟩
  · intro c hc
    unfold wl_uh wl_up
    rcases h5 t b w with ⟨pz, hz⟩ | ⟨s1, p1, w1, n1, r1⟩
    · rw [if_pos pz]
      by_cases e : c = b
      · subst e
        rw [ar_us]
        rcases h6 t c w with nz | ⟨s2, n2, w2, p2⟩
        · exact Or.inl nz
        · refine Or.inr ⟨s2, n2, ⟨w2, fun q => ?_⟩, ?_⟩
          · subst q; omega
          · rw [if_neg (by omega), n2, Nat.add_sub_cancel, ar_us, pz]
      · rw [ar_un e]
        rcases h3 c hc with a | ⟨s, a1, a2, a3⟩
        · exact Or.inl a
        · refine Or.inr ⟨s, a1, ⟨a2, hb s c a2 e⟩, ?_⟩
          rcases h6 t b w with nz | ⟨s2, n2, w2, p2⟩
          · rw [if_pos nz]; exact a3
          · rw [if_neg (by omega), n2, Nat.add_sub_cancel, ar_un (fun q => by subst q; exact e (h2 _ _ _ a2 w2))]
            exact a3
    · rw [if_neg (by omega)]
      rcases h3 c hc with a | ⟨s, a1, a2, a3⟩
      · exact Or.inl a
      · refine Or.inr ⟨s, a1, ⟨a2, fun q => by subst q; omega⟩, ?_⟩
        rcases h6 t b w with nz | ⟨s2, n2, w2, p2⟩
        · rw [if_pos nz]; exact a3
        · rw [if_neg (by omega), n2, Nat.add_sub_cancel, ar_un (fun q => by subst q; omega)]
          exact a3
  · intro s c ⟨z, st⟩
    unfold wl_uh wl_up wl_un
    rcases h5 t b w with ⟨pz, hz⟩ | ⟨s1, p1, w1, n1, r1⟩
    · rw [if_pos pz, if_pos pz]
      rcases h6 t b w with nz | ⟨s2, n2, w2, p2⟩
      · rw [if_pos nz]
        rcases h5 s c z with ⟨a1, a2⟩ | ⟨y, a1, a2, a3, a4⟩
        · refine Or.inl ⟨a1, ?_⟩
          rw [ar_un (fun q => by subst q; omega)]
          exact a2
        · exact Or.inr ⟨y, a1, ⟨a2, fun q => by subst q; omega⟩, a3, a4⟩
      · rw [if_neg (by omega), n2, Nat.add_sub_cancel]
        by_cases e : s = s2
        · subst e
          have : c = b := h2 _ _ _ z w2
          subst this
          exact Or.inl ⟨by rw [ar_us, pz], ar_us⟩
        · rw [ar_un e]
          rcases h5 s c z with ⟨a1, a2⟩ | ⟨y, a1, a2, a3, a4⟩
          · refine Or.inl ⟨a1, ?_⟩
            rw [ar_un (fun q => by subst q; omega)]
            exact a2
          · exact Or.inr ⟨y, a1, ⟨a2, fun q => by subst q; omega⟩, a3, a4⟩
    · have pn : ¬ pv t = 0 := by omega
      rw [if_neg pn, if_neg pn, p1, Nat.add_sub_cancel]
      rcases h6 t b w with nz | ⟨s2, n2, w2, p2⟩
      · rw [if_pos nz]
        rcases h5 s c z with ⟨a1, a2⟩ | ⟨y, a1, a2, a3, a4⟩
        · exact Or.inl ⟨a1, a2⟩
        · refine Or.inr ⟨y, a1, ⟨a2, fun q => by subst q; omega⟩, ?_, a4⟩
          rw [ar_un (fun q => by subst q; omega)]
          exact a3
      · rw [if_neg (by omega), n2, Nat.add_sub_cancel]
        by_cases e : s = s2
        · subst e
          have : c = b := h2 _ _ _ z w2
          subst this
          refine Or.inr ⟨s1, ar_us, ⟨w1, fun q => by subst q; omega⟩, ar_us, ?_⟩
          rcases h5 s c w2 with ⟨a1, a2⟩ | ⟨y, a1, a2, a3, a4⟩
          · omega
          · have : y = t := by omega
            subst this
            omega
        · rw [ar_un e]
          rcases h5 s c z with ⟨a1, a2⟩ | ⟨y, a1, a2, a3, a4⟩
          · exact Or.inl ⟨a1, a2⟩
          · refine Or.inr ⟨y, a1, ⟨a2, fun q => by subst q; omega⟩, ?_, a4⟩
            rw [ar_un (fun q => by subst q; omega)]
            exact a3
  · intro s c ⟨z, st⟩
    unfold wl_up wl_un
    rcases h5 t b w with ⟨pz, hz⟩ | ⟨s1, p1, w1, n1, r1⟩
    · rw [if_pos pz]
      rcases h6 s c z with a | ⟨y, a1, a2, a3⟩
      · exact Or.inl a
      · refine Or.inr ⟨y, a1, ⟨a2, fun q => by subst q; omega⟩, ?_⟩
        rcases h6 t b w with nz | ⟨s2, n2, w2, p2⟩
        · rw [if_pos nz]; exact a3
        · rw [if_neg (by omega), n2, Nat.add_sub_cancel, ar_un (fun q => by subst q; omega)]
          exact a3
    · rw [if_neg (by omega), p1, Nat.add_sub_cancel]
      by_cases e : s = s1
      · subst e
        have : c = b := h2 _ _ _ z w1
        subst this
        rw [ar_us]
        rcases h6 t c w with nz | ⟨s2, n2, w2, p2⟩
        · exact Or.inl nz
        · refine Or.inr ⟨s2, n2, ⟨w2, fun q => ?_⟩, ?_⟩
          · subst q
            omega
          · rw [if_neg (by omega), n2, Nat.add_sub_cancel, ar_us]
      · rw [ar_un e]
        rcases h6 s c z with a | ⟨y, a1, a2, a3⟩
        · exact Or.inl a
        · refine Or.inr ⟨y, a1, ⟨a2, fun q => by subst q; omega⟩, ?_⟩
          rcases h6 t b w with nz | ⟨s2, n2, w2, p2⟩
          · rw [if_pos nz]; exact a3
          · rw [if_neg (by omega), n2, Nat.add_sub_cancel, ar_un (fun q => by subst q; omega)]
            exact a3
theorem wl_eq1 {W : Nat → Nat → Prop} {hd nx pv : Nat → Nat} (h : wl_I W hd nx pv) {t b : Nat} (ht : t < 288) (hb : b ≤ 65) (w : ∀ c, ¬ W t c) :
    wl_I (fun s c => W s c ∨ (s = t ∧ c = b)) (ar_u hd b (t + 1)) (ar_u nx t (hd b)) (if hd b = 0 then ar_u pv t 0 else ar_u (ar_u pv t 0) (hd b - 1) (t + 1)) := by
  obtain ⟨r, M, h1, h2, h3, h4, h5, h6⟩ := h
  have ne : ∀ s c, W s c → s ≠ t := fun s c z q => w c (q ▸ z)
  refine ⟨ar_u r t M, M + 1, ?_, ?_, ?_, ?_, ?_, ?_⟩
  · intro s c z
    rcases z with z | ⟨rfl, rfl⟩
    · exact h1 s c z
    · exact ⟨ht, hb⟩
  · intro s c d z z'
    rcases z with z | ⟨z, z2⟩ <;> rcases z' with z' | ⟨z', z2'⟩
    · exact h2 s c d z z'
    · exact absurd z' (ne s c z)
    · exact absurd z (ne s d z')
    · omega
  · intro c hc
    by_cases e : c = b
    · subst e
      refine Or.inr ⟨t, ar_us, Or.inr ⟨rfl, rfl⟩, ?_⟩
      rcases h3 c hc with a | ⟨s, a1, a2, a3⟩
      · rw [if_pos a, ar_us]
      · have := ne s c a2
        rw [if_neg (by omega), ar_un (by omega), ar_us]
    · rw [ar_un e]
      rcases h3 c hc with a | ⟨s, a1, a2, a3⟩
      · exact Or.inl a
      · refine Or.inr ⟨s, a1, Or.inl a2, ?_⟩
        have n1 := ne s c a2
        rcases h3 b hb with a | ⟨s', b1, b2, b3⟩
        · rw [if_pos a, ar_un n1]; exact a3
        · rw [if_neg (by omega), ar_un (fun q => ?_), ar_un n1]
          · exact a3
          · have : s = s' := by omega
            subst this
            exact e (h2 _ _ _ a2 b2)
  · intro s c z
    rcases z with z | ⟨rfl, rfl⟩
    · rw [ar_un (ne s c z)]
      have := h4 s c z
      omega
    · rw [ar_us]; omega
  · intro s c z
    rcases z with z | ⟨rfl, rfl⟩
    · have n1 := ne s c z
      rcases h5 s c z with ⟨a1, a2⟩ | ⟨y, a1, a2, a3, a4⟩
      · by_cases e : c = b
        · subst e
          refine Or.inr ⟨t, ?_, Or.inr ⟨rfl, rfl⟩, ?_, ?_⟩
          · rw [if_neg (by omega), a2, Nat.add_sub_cancel, ar_us]
          · rw [ar_us, a2]
          · rw [ar_us, ar_un n1]
            exact h4 s c z
        · refine Or.inl ⟨?_, by rw [ar_un e]; exact a2⟩
          rcases h3 b hb with a | ⟨s', b1, b2, b3⟩
          · rw [if_pos a, ar_un n1]; exact a1
          · rw [if_neg (by omega), ar_un (fun q => ?_), ar_un n1]
            · exact a1
            · have : s = s' := by omega
              subst this
              exact e (h2 _ _ _ z b2)
      · have n2 := ne y c a2
        refine Or.inr ⟨y, ?_, Or.inl a2, ?_, ?_⟩
        · rcases h3 b hb with a | ⟨s', b1, b2, b3⟩
          · rw [if_pos a, ar_un n1]; exact a1
          · rw [if_neg (by omega), ar_un (fun q => ?_), ar_un n1]
            · exact a1
            · have : s = s' := by omega
              subst this
              omega
        · rw [ar_un n2]; exact a3
        · rw [ar_un n1, ar_un n2]; exact a4
    · refine Or.inl ⟨?_, ar_us⟩
      rcases h3 c hb with a | ⟨s', b1, b2, b3⟩
      · rw [if_pos a, ar_us]
      · have := ne s' c b2
        rw [if_neg (by omega), ar_un (by omega), ar_us]
  · intro s c z
    rcases z with z | ⟨rfl, rfl⟩
    · have n1 := ne s c z
      rw [ar_un n1]
      rcases h6 s c z with a | ⟨y, a1, a2, a3⟩
      · exact Or.inl a
      · have n2 := ne y c a2
        refine Or.inr ⟨y, a1, Or.inl a2, ?_⟩
        rcases h3 b hb with a | ⟨s', b1, b2, b3⟩
        · rw [if_pos a, ar_un n2]; exact a3
        · rw [if_neg (by omega), ar_un (fun q => ?_), ar_un n2]
          · exact a3
          · have : y = s' := by omega
            subst this
            omega
    · rw [ar_us]
      rcases h3 c hb with a | ⟨s', b1, b2, b3⟩
      · exact Or.inl a
      · refine Or.inr ⟨s', b1, Or.inl b2, ?_⟩
        rw [if_neg (by omega), b1, Nat.add_sub_cancel, ar_us]
end TD
section TE
/-! states of the tabulation: D O A B, and the lists -/
abbrev xt_T : Type := (Nat → Nat) × (Nat → Nat) × (Nat → Nat) × (Nat → Nat) × (Nat → Nat) × (Nat → Nat) × (Nat → Nat)
abbrev xt_D (s : xt_T) : Nat → Nat := s.1
abbrev xt_O (s : xt_T) : Nat → Nat := s.2.1
abbrev xt_A (s : xt_T) : Nat → Nat := s.2.2.1
abbrev xt_B (s : xt_T) : Nat → Nat := s.2.2.2.1
abbrev xt_h (s : xt_T) : Nat → Nat := s.2.2.2.2.1
abbrev xt_n (s : xt_T) : Nat → Nat := s.2.2.2.2.2.1
abbrev xt_p (s : xt_T) : Nat → Nat := s.2.2.2.2.2.2
def wt_W (dn D : Nat → Nat) (t b : Nat) : Prop := t < 288 ∧ D t = b ∧ b ≤ 65 ∧ dn t = 0
/-- closure over the settled cells but x -/
def cl_D (g : pg_T) (x : Nat) (dn D O : Nat → Nat) : Prop := ∀ t w y p q, cd_A g t w y p q → dn p = 1 → dn q = 1 → p ≠ x → q ≠ x → lx_l (D t) (O t) (cd_v D y p q) w
def cl_A (g : pg_T) (x : Nat) (dn D A B : Nat → Nat) : Prop := ∀ n d a, n < pg_N g → d < 4 → a < 4 → dn (256 + 4 * pg_ow g n + a) = 1 → dn (16 * n + 4 * a + d) = 1 → 256 + 4 * pg_ow g n + a ≠ x → lx_l (A (4 * n + d)) (B (4 * n + d)) (sv_m (D (256 + 4 * pg_ow g n + a) + D (16 * n + 4 * a + d))) a
def xt_le (dn : Nat → Nat) (s s' : xt_T) : Prop := (∀ t, lx_l (xt_D s' t) (xt_O s' t) (xt_D s t) (xt_O s t)) ∧ (∀ j, lx_l (xt_A s' j) (xt_B s' j) (xt_A s j) (xt_B s j)) ∧ ∀ t, dn t = 1 → xt_D s' t = xt_D s t
theorem xt_le_r (dn : Nat → Nat) (s : xt_T) : xt_le dn s s := ⟨fun _ => lx_r _ _, fun _ => lx_r _ _, fun _ _ => rfl⟩
theorem xt_le_t {dn : Nat → Nat} {a b c : xt_T} (h : xt_le dn a b) (k : xt_le dn b c) : xt_le dn a c :=
  ⟨fun t => lx_t (k.1 t) (h.1 t), fun t => lx_t (k.2.1 t) (h.2.1 t), fun t z => (k.2.2 t z).trans (h.2.2 t z)⟩
def xt_G (g : pg_T) (T : Nat → Nat) (n lo hi L x : Nat) (dn : Nat → Nat) (s : xt_T) : Prop :=
  si_I g T n lo hi L dn (xt_D s) (xt_O s) (xt_A s) (xt_B s) ∧ wl_I (wt_W dn (xt_D s)) (xt_h s) (xt_n s) (xt_p s) ∧ cl_D g x dn (xt_D s) (xt_O s) ∧ cl_A g x dn (xt_D s) (xt_A s) (xt_B s)
theorem cl_Dle {g : pg_T} {x : Nat} {dn : Nat → Nat} {s s' : xt_T} (h : cl_D g x dn (xt_D s) (xt_O s)) (k : xt_le dn s s') : cl_D g x dn (xt_D s') (xt_O s') := by
  intro t w y p q c hp hq px qx
  rw [cd_v_c (k.2.2 p hp) (k.2.2 q hq)]
  exact lx_t (k.1 t) (h t w y p q c hp hq px qx)
theorem cl_Ale {g : pg_T} {x : Nat} {dn : Nat → Nat} {s s' : xt_T} (h : cl_A g x dn (xt_D s) (xt_A s) (xt_B s)) (k : xt_le dn s s') : cl_A g x dn (xt_D s') (xt_A s') (xt_B s') := by
  intro n d a hn hd ha h1 h2 h3
  rw [k.2.2 _ h1, k.2.2 _ h2]
  exact lx_t (k.2.1 _) (h n d a hn hd ha h1 h2 h3)
/-- a loop over what only grows -/
theorem lp_for {σ : Type} (G : σ → Prop) (Le : σ → σ → Prop) (W : Nat → Nat → σ → Prop) (P : Nat → σ → Prop) (Q : σ → Prop) (e : Nat)
    (rf : ∀ s, Le s s) (tr : ∀ a b c, Le a b → Le b c → Le a c) (mo : ∀ i s s', P i s → Le s s' → P i s')
    (hx : ∀ n s, Q s → W (n + 1) e s)
    (hs : ∀ n i s, i < e → G s → (∀ s', G s' → Le s s' → P i s' → W n (i + 1) s') → W (n + 1) i s)
    (s0 : σ) (h0 : G s0) (hQ : ∀ s', G s' → Le s0 s' → (∀ i, i < e → P i s') → Q s') (n : Nat) (hn : e < n) : W n 0 s0 := by
  have key : ∀ m i n s, i + m = e → m < n → G s → Le s0 s → (∀ j, j < i → P j s) → W n i s := by
    intro m
    induction m with
    | zero =>
      intro i n s h1 h2 h3 h4 h5
      obtain ⟨n, rfl⟩ : ∃ k, n = k + 1 := ⟨n - 1, by omega⟩
      have : i = e := by omega
      subst this
      exact hx n s (hQ s h3 h4 h5)
    | succ m ih =>
      intro i n s h1 h2 h3 h4 h5
      obtain ⟨n, rfl⟩ : ∃ k, n = k + 1 := ⟨n - 1, by omega⟩
      refine hs n i s (by omega) h3 (fun s' g' l' p' => ih (i + 1) n s' (by omega) (by omega) g' (tr _ _ _ h4 l') ?_)
      intro j hj
      rcases Nat.lt_or_ge j i with a | a
      · exact mo j s s' (h5 j a) l'
      · have : j = i := by omega
        subst this
        exact p'
  exact key e 0 n s0 (by omega) hn h0 (rf s0) (fun j hj => by omega)
end TE
end
section
section TF
abbrev fx_T : Type := Int32 × Int32 × Int32 × Int32 × Int32 × Int32 × Int32 × Int32 × (Nat → Int32) × (Nat → Int32) × (Nat → Int32) × (Nat → Int32) × (Nat → Int32) × (Nat → Int32)
abbrev fy_T : Type := Int32 × Int32 × Int32 × Int32 × Int32 × (Nat → Int32) × (Nat → Int32) × (Nat → Int32) × (Nat → Int32) × (Nat → Int32) × (Nat → Int32)
abbrev fx_maxProcs (f : fx_T) : Int32 := f.1
abbrev fx_maxNodes (f : fx_T) : Int32 := f.2.1
abbrev fx_maxLinks (f : fx_T) : Int32 := f.2.2.1
abbrev fx_cleanMask (f : fx_T) : Int32 := f.2.2.2.1
abbrev fx_solved (f : fx_T) : Int32 := f.2.2.2.2.1
abbrev fx_reachedCount (f : fx_T) : Int32 := f.2.2.2.2.2.1
abbrev fx_traceLen (f : fx_T) : Int32 := f.2.2.2.2.2.2.1
abbrev fx_waitingCount (f : fx_T) : Int32 := f.2.2.2.2.2.2.2.1
abbrev fx_traceCell (f : fx_T) : (Nat → Int32) := f.2.2.2.2.2.2.2.2.1
abbrev fx_traceDepth (f : fx_T) : (Nat → Int32) := f.2.2.2.2.2.2.2.2.2.1
abbrev fx_stepKind (f : fx_T) : (Nat → Int32) := f.2.2.2.2.2.2.2.2.2.2.1
abbrev fx_stepLink (f : fx_T) : (Nat → Int32) := f.2.2.2.2.2.2.2.2.2.2.2.1
abbrev fx_stepMate (f : fx_T) : (Nat → Int32) := f.2.2.2.2.2.2.2.2.2.2.2.2.1
abbrev fx_waiting (f : fx_T) : (Nat → Int32) := f.2.2.2.2.2.2.2.2.2.2.2.2.2
abbrev fy_maxProcs (f : fy_T) : Int32 := f.1
abbrev fy_maxNodes (f : fy_T) : Int32 := f.2.1
abbrev fy_maxLinks (f : fy_T) : Int32 := f.2.2.1
abbrev fy_solved (f : fy_T) : Int32 := f.2.2.2.1
abbrev fy_kept (f : fy_T) : Int32 := f.2.2.2.2.1
abbrev fy_pathNode (f : fy_T) : (Nat → Int32) := f.2.2.2.2.2.1
abbrev fy_pathFact (f : fy_T) : (Nat → Int32) := f.2.2.2.2.2.2.1
abbrev fy_pathDepth (f : fy_T) : (Nat → Int32) := f.2.2.2.2.2.2.2.1
abbrev fy_stepKind (f : fy_T) : (Nat → Int32) := f.2.2.2.2.2.2.2.2.1
abbrev fy_stepLink (f : fy_T) : (Nat → Int32) := f.2.2.2.2.2.2.2.2.2.1
abbrev fy_openCalls (f : fy_T) : (Nat → Int32) := f.2.2.2.2.2.2.2.2.2.2
def sx_m (f : fx_T) (g : pg_T) (L : Nat) (dn : Nat → Nat) (s : xt_T) : SX := (66, 256, 288, f.1, f.2.1, f.2.2.1, nI (pg_F g), f.2.2.2.1, nI (pg_P g), nI (pg_N g), nI (pg_L g), f.2.2.2.2.1, f.2.2.2.2.2.1, nI L, f.2.2.2.2.2.2.1, f.2.2.2.2.2.2.2.1, ar_N (pg_en g), ar_N (pg_ex g), ar_N (pg_ow g), ar_N (pg_kd g), ar_N (pg_sr g), ar_N (pg_tg g), ar_C (pg_ca g), ar_N (pg_pa g), ar_N (pg_ba g), ar_N (xt_D s), ar_N (xt_O s), ar_N dn, ar_N (xt_A s), ar_N (xt_B s), ar_O (xt_h s), ar_O (xt_n s), ar_O (xt_p s), f.2.2.2.2.2.2.2.2.1, f.2.2.2.2.2.2.2.2.2.1, f.2.2.2.2.2.2.2.2.2.2.1, f.2.2.2.2.2.2.2.2.2.2.2.1, f.2.2.2.2.2.2.2.2.2.2.2.2.1, f.2.2.2.2.2.2.2.2.2.2.2.2.2)
abbrev yt_T : Type := (Nat → Nat) × (Nat → Nat) × (Nat → Nat)
abbrev yt_V (s : yt_T) : Nat → Nat := s.1
abbrev yt_O (s : yt_T) : Nat → Nat := s.2.1
abbrev yt_A (s : yt_T) : Nat → Nat := s.2.2
def sy_m (f : fy_T) (g : pg_T) (s : yt_T) : SY := (f.1, f.2.1, nI (pg_F g), f.2.2.1, nI (pg_P g), nI (pg_N g), nI (pg_L g), f.2.2.2.1, f.2.2.2.2.1, ar_N (pg_en g), ar_N (pg_ex g), ar_N (pg_ow g), ar_N (pg_sr g), ar_N (pg_tg g), ar_C (pg_ca g), ar_N (pg_pa g), ar_N (pg_ba g), ar_V (yt_V s), ar_V (yt_O s), ar_V (yt_A s), f.2.2.2.2.2.1, f.2.2.2.2.2.2.1, f.2.2.2.2.2.2.2.1, f.2.2.2.2.2.2.2.2.1, f.2.2.2.2.2.2.2.2.2.1, f.2.2.2.2.2.2.2.2.2.2)
abbrev kx_T : Type := Int32 → Int32 → Int32 → Int32 → Int32 → Int32 → Int32 → Int32 → Int32 → Int32 → Int32 → Int32 → Int32 → Int32 → Int32 → Int32 → (Nat → Int32) → (Nat → Int32) → (Nat → Int32) → (Nat → Int32) → (Nat → Int32) → (Nat → Int32) → (Nat → Int32) → (Nat → Int32) → (Nat → Int32) → (Nat → Int32) → (Nat → Int32) → (Nat → Int32) → (Nat → Int32) → (Nat → Int32) → (Nat → Int32) → (Nat → Int32) → (Nat → Int32) → (Nat → Int32) → (Nat → Int32) → (Nat → Int32) → (Nat → Int32) → (Nat → Int32) → (Nat → Int32) → Prop
abbrev ky_T : Type := Int32 → Int32 → Int32 → Int32 → Int32 → Int32 → Int32 → Int32 → Int32 → (Nat → Int32) → (Nat → Int32) → (Nat → Int32) → (Nat → Int32) → (Nat → Int32) → (Nat → Int32) → (Nat → Int32) → (Nat → Int32) → (Nat → Int32) → (Nat → Int32) → (Nat → Int32) → (Nat → Int32) → (Nat → Int32) → (Nat → Int32) → (Nat → Int32) → (Nat → Int32) → (Nat → Int32) → Prop
abbrev sx_u (K : kx_T) (v : SX) : Prop := K v.1 v.2.1 v.2.2.1 v.2.2.2.1 v.2.2.2.2.1 v.2.2.2.2.2.1 v.2.2.2.2.2.2.1 v.2.2.2.2.2.2.2.1 v.2.2.2.2.2.2.2.2.1 v.2.2.2.2.2.2.2.2.2.1 v.2.2.2.2.2.2.2.2.2.2.1 v.2.2.2.2.2.2.2.2.2.2.2.1 v.2.2.2.2.2.2.2.2.2.2.2.2.1 v.2.2.2.2.2.2.2.2.2.2.2.2.2.1 v.2.2.2.2.2.2.2.2.2.2.2.2.2.2.1 v.2.2.2.2.2.2.2.2.2.2.2.2.2.2.2.1 v.2.2.2.2.2.2.2.2.2.2.2.2.2.2.2.2.1 v.2.2.2.2.2.2.2.2.2.2.2.2.2.2.2.2.2.1 v.2.2.2.2.2.2.2.2.2.2.2.2.2.2.2.2.2.2.1 v.2.2.2.2.2.2.2.2.2.2.2.2.2.2.2.2.2.2.2.1 v.2.2.2.2.2.2.2.2.2.2.2.2.2.2.2.2.2.2.2.2.1 v.2.2.2.2.2.2.2.2.2.2.2.2.2.2.2.2.2.2.2.2.2.1 v.2.2.2.2.2.2.2.2.2.2.2.2.2.2.2.2.2.2.2.2.2.2.1 v.2.2.2.2.2.2.2.2.2.2.2.2.2.2.2.2.2.2.2.2.2.2.2.1 v.2.2.2.2.2.2.2.2.2.2.2.2.2.2.2.2.2.2.2.2.2.2.2.2.1 v.2.2.2.2.2.2.2.2.2.2.2.2.2.2.2.2.2.2.2.2.2.2.2.2.2.1 v.2.2.2.2.2.2.2.2.2.2.2.2.2.2.2.2.2.2.2.2.2.2.2.2.2.2.1 v.2.2.2.2.2.2.2.2.2.2.2.2.2.2.2.2.2.2.2.2.2.2.2.2.2.2.2.1 v.2.2.2.2.2.2.2.2.2.2.2.2.2.2.2.2.2.2.2.2.2.2.2.2.2.2.2.2.1 v.2.2.2.2.2.2.2.2.2.2.2.2.2.2.2.2.2.2.2.2.2.2.2.2.2.2.2.2.2.1 v.2.2.2.2.2.2.2.2.2.2.2.2.2.2.2.2.2.2.2.2.2.2.2.2.2.2.2.2.2.2.1 v.2.2.2.2.2.2.2.2.2.2.2.2.2.2.2.2.2.2.2.2.2.2.2.2.2.2.2.2.2.2.2.1 v.2.2.2.2.2.2.2.2.2.2.2.2.2.2.2.2.2.2.2.2.2.2.2.2.2.2.2.2.2.2.2.2.1 v.2.2.2.2.2.2.2.2.2.2.2.2.2.2.2.2.2.2.2.2.2.2.2.2.2.2.2.2.2.2.2.2.2.1 v.2.2.2.2.2.2.2.2.2.2.2.2.2.2.2.2.2.2.2.2.2.2.2.2.2.2.2.2.2.2.2.2.2.2.1 v.2.2.2.2.2.2.2.2.2.2.2.2.2.2.2.2.2.2.2.2.2.2.2.2.2.2.2.2.2.2.2.2.2.2.2.1 v.2.2.2.2.2.2.2.2.2.2.2.2.2.2.2.2.2.2.2.2.2.2.2.2.2.2.2.2.2.2.2.2.2.2.2.2.1 v.2.2.2.2.2.2.2.2.2.2.2.2.2.2.2.2.2.2.2.2.2.2.2.2.2.2.2.2.2.2.2.2.2.2.2.2.2.1 v.2.2.2.2.2.2.2.2.2.2.2.2.2.2.2.2.2.2.2.2.2.2.2.2.2.2.2.2.2.2.2.2.2.2.2.2.2.2
abbrev sy_u (K : ky_T) (v : SY) : Prop := K v.1 v.2.1 v.2.2.1 v.2.2.2.1 v.2.2.2.2.1 v.2.2.2.2.2.1 v.2.2.2.2.2.2.1 v.2.2.2.2.2.2.2.1 v.2.2.2.2.2.2.2.2.1 v.2.2.2.2.2.2.2.2.2.1 v.2.2.2.2.2.2.2.2.2.2.1 v.2.2.2.2.2.2.2.2.2.2.2.1 v.2.2.2.2.2.2.2.2.2.2.2.2.1 v.2.2.2.2.2.2.2.2.2.2.2.2.2.1 v.2.2.2.2.2.2.2.2.2.2.2.2.2.2.1 v.2.2.2.2.2.2.2.2.2.2.2.2.2.2.2.1 v.2.2.2.2.2.2.2.2.2.2.2.2.2.2.2.2.1 v.2.2.2.2.2.2.2.2.2.2.2.2.2.2.2.2.2.1 v.2.2.2.2.2.2.2.2.2.2.2.2.2.2.2.2.2.2.1 v.2.2.2.2.2.2.2.2.2.2.2.2.2.2.2.2.2.2.2.1 v.2.2.2.2.2.2.2.2.2.2.2.2.2.2.2.2.2.2.2.2.1 v.2.2.2.2.2.2.2.2.2.2.2.2.2.2.2.2.2.2.2.2.2.1 v.2.2.2.2.2.2.2.2.2.2.2.2.2.2.2.2.2.2.2.2.2.2.1 v.2.2.2.2.2.2.2.2.2.2.2.2.2.2.2.2.2.2.2.2.2.2.2.1 v.2.2.2.2.2.2.2.2.2.2.2.2.2.2.2.2.2.2.2.2.2.2.2.2.1 v.2.2.2.2.2.2.2.2.2.2.2.2.2.2.2.2.2.2.2.2.2.2.2.2.2
abbrev sx_r {R : Sort _} (K : Int32 → Int32 → Int32 → Int32 → Int32 → Int32 → Int32 → Int32 → Int32 → Int32 → Int32 → Int32 → Int32 → Int32 → Int32 → Int32 → (Nat → Int32) → (Nat → Int32) → (Nat → Int32) → (Nat → Int32) → (Nat → Int32) → (Nat → Int32) → (Nat → Int32) → (Nat → Int32) → (Nat → Int32) → (Nat → Int32) → (Nat → Int32) → (Nat → Int32) → (Nat → Int32) → (Nat → Int32) → (Nat → Int32) → (Nat → Int32) → (Nat → Int32) → (Nat → Int32) → (Nat → Int32) → (Nat → Int32) → (Nat → Int32) → (Nat → Int32) → (Nat → Int32) → R) (v : SX) : R := K v.1 v.2.1 v.2.2.1 v.2.2.2.1 v.2.2.2.2.1 v.2.2.2.2.2.1 v.2.2.2.2.2.2.1 v.2.2.2.2.2.2.2.1 v.2.2.2.2.2.2.2.2.1 v.2.2.2.2.2.2.2.2.2.1 v.2.2.2.2.2.2.2.2.2.2.1 v.2.2.2.2.2.2.2.2.2.2.2.1 v.2.2.2.2.2.2.2.2.2.2.2.2.1 v.2.2.2.2.2.2.2.2.2.2.2.2.2.1 v.2.2.2.2.2.2.2.2.2.2.2.2.2.2.1 v.2.2.2.2.2.2.2.2.2.2.2.2.2.2.2.1 v.2.2.2.2.2.2.2.2.2.2.2.2.2.2.2.2.1 v.2.2.2.2.2.2.2.2.2.2.2.2.2.2.2.2.2.1 v.2.2.2.2.2.2.2.2.2.2.2.2.2.2.2.2.2.2.1 v.2.2.2.2.2.2.2.2.2.2.2.2.2.2.2.2.2.2.2.1 v.2.2.2.2.2.2.2.2.2.2.2.2.2.2.2.2.2.2.2.2.1 v.2.2.2.2.2.2.2.2.2.2.2.2.2.2.2.2.2.2.2.2.2.1 v.2.2.2.2.2.2.2.2.2.2.2.2.2.2.2.2.2.2.2.2.2.2.1 v.2.2.2.2.2.2.2.2.2.2.2.2.2.2.2.2.2.2.2.2.2.2.2.1 v.2.2.2.2.2.2.2.2.2.2.2.2.2.2.2.2.2.2.2.2.2.2.2.2.1 v.2.2.2.2.2.2.2.2.2.2.2.2.2.2.2.2.2.2.2.2.2.2.2.2.2.1 v.2.2.2.2.2.2.2.2.2.2.2.2.2.2.2.2.2.2.2.2.2.2.2.2.2.2.1 v.2.2.2.2.2.2.2.2.2.2.2.2.2.2.2.2.2.2.2.2.2.2.2.2.2.2.2.1 v.2.2.2.2.2.2.2.2.2.2.2.2.2.2.2.2.2.2.2.2.2.2.2.2.2.2.2.2.1 v.2.2.2.2.2.2.2.2.2.2.2.2.2.2.2.2.2.2.2.2.2.2.2.2.2.2.2.2.2.1 v.2.2.2.2.2.2.2.2.2.2.2.2.2.2.2.2.2.2.2.2.2.2.2.2.2.2.2.2.2.2.1 v.2.2.2.2.2.2.2.2.2.2.2.2.2.2.2.2.2.2.2.2.2.2.2.2.2.2.2.2.2.2.2.1 v.2.2.2.2.2.2.2.2.2.2.2.2.2.2.2.2.2.2.2.2.2.2.2.2.2.2.2.2.2.2.2.2.1 v.2.2.2.2.2.2.2.2.2.2.2.2.2.2.2.2.2.2.2.2.2.2.2.2.2.2.2.2.2.2.2.2.2.1 v.2.2.2.2.2.2.2.2.2.2.2.2.2.2.2.2.2.2.2.2.2.2.2.2.2.2.2.2.2.2.2.2.2.2.1 v.2.2.2.2.2.2.2.2.2.2.2.2.2.2.2.2.2.2.2.2.2.2.2.2.2.2.2.2.2.2.2.2.2.2.2.1 v.2.2.2.2.2.2.2.2.2.2.2.2.2.2.2.2.2.2.2.2.2.2.2.2.2.2.2.2.2.2.2.2.2.2.2.2.1 v.2.2.2.2.2.2.2.2.2.2.2.2.2.2.2.2.2.2.2.2.2.2.2.2.2.2.2.2.2.2.2.2.2.2.2.2.2.1 v.2.2.2.2.2.2.2.2.2.2.2.2.2.2.2.2.2.2.2.2.2.2.2.2.2.2.2.2.2.2.2.2.2.2.2.2.2.2
abbrev sy_r {R : Sort _} (K : Int32 → Int32 → Int32 → Int32 → Int32 → Int32 → Int32 → Int32 → Int32 → (Nat → Int32) → (Nat → Int32) → (Nat → Int32) → (Nat → Int32) → (Nat → Int32) → (Nat → Int32) → (Nat → Int32) → (Nat → Int32) → (Nat → Int32) → (Nat → Int32) → (Nat → Int32) → (Nat → Int32) → (Nat → Int32) → (Nat → Int32) → (Nat → Int32) → (Nat → Int32) → (Nat → Int32) → R) (v : SY) : R := K v.1 v.2.1 v.2.2.1 v.2.2.2.1 v.2.2.2.2.1 v.2.2.2.2.2.1 v.2.2.2.2.2.2.1 v.2.2.2.2.2.2.2.1 v.2.2.2.2.2.2.2.2.1 v.2.2.2.2.2.2.2.2.2.1 v.2.2.2.2.2.2.2.2.2.2.1 v.2.2.2.2.2.2.2.2.2.2.2.1 v.2.2.2.2.2.2.2.2.2.2.2.2.1 v.2.2.2.2.2.2.2.2.2.2.2.2.2.1 v.2.2.2.2.2.2.2.2.2.2.2.2.2.2.1 v.2.2.2.2.2.2.2.2.2.2.2.2.2.2.2.1 v.2.2.2.2.2.2.2.2.2.2.2.2.2.2.2.2.1 v.2.2.2.2.2.2.2.2.2.2.2.2.2.2.2.2.2.1 v.2.2.2.2.2.2.2.2.2.2.2.2.2.2.2.2.2.2.1 v.2.2.2.2.2.2.2.2.2.2.2.2.2.2.2.2.2.2.2.1 v.2.2.2.2.2.2.2.2.2.2.2.2.2.2.2.2.2.2.2.2.1 v.2.2.2.2.2.2.2.2.2.2.2.2.2.2.2.2.2.2.2.2.2.1 v.2.2.2.2.2.2.2.2.2.2.2.2.2.2.2.2.2.2.2.2.2.2.1 v.2.2.2.2.2.2.2.2.2.2.2.2.2.2.2.2.2.2.2.2.2.2.2.1 v.2.2.2.2.2.2.2.2.2.2.2.2.2.2.2.2.2.2.2.2.2.2.2.2.1 v.2.2.2.2.2.2.2.2.2.2.2.2.2.2.2.2.2.2.2.2.2.2.2.2.2
abbrev ka_T : Type := (Nat → Int32) → (Nat → Int32) → (Nat → Int32) → (Nat → Int32) → (Nat → Int32) → (Nat → Int32) → (Nat → Int32) → (Nat → Int32) → (Nat → Int32) → (Nat → Int32) → (Nat → Int32) → (Nat → Int32) → (Nat → Int32) → (Nat → Int32) → (Nat → Int32) → (Nat → Int32) → (Nat → Int32) → (Nat → Int32) → (Nat → Int32) → (Nat → Int32) → (Nat → Int32) → (Nat → Int32) → (Nat → Int32) → Prop
abbrev kb_T : Type := (Nat → Int32) → (Nat → Int32) → (Nat → Int32) → (Nat → Int32) → (Nat → Int32) → (Nat → Int32) → (Nat → Int32) → (Nat → Int32) → (Nat → Int32) → (Nat → Int32) → (Nat → Int32) → (Nat → Int32) → (Nat → Int32) → (Nat → Int32) → (Nat → Int32) → (Nat → Int32) → (Nat → Int32) → Prop
abbrev sx_a (K : ka_T) (v : SX) : Prop := K v.2.2.2.2.2.2.2.2.2.2.2.2.2.2.2.2.1 v.2.2.2.2.2.2.2.2.2.2.2.2.2.2.2.2.2.1 v.2.2.2.2.2.2.2.2.2.2.2.2.2.2.2.2.2.2.1 v.2.2.2.2.2.2.2.2.2.2.2.2.2.2.2.2.2.2.2.1 v.2.2.2.2.2.2.2.2.2.2.2.2.2.2.2.2.2.2.2.2.1 v.2.2.2.2.2.2.2.2.2.2.2.2.2.2.2.2.2.2.2.2.2.1 v.2.2.2.2.2.2.2.2.2.2.2.2.2.2.2.2.2.2.2.2.2.2.1 v.2.2.2.2.2.2.2.2.2.2.2.2.2.2.2.2.2.2.2.2.2.2.2.1 v.2.2.2.2.2.2.2.2.2.2.2.2.2.2.2.2.2.2.2.2.2.2.2.2.1 v.2.2.2.2.2.2.2.2.2.2.2.2.2.2.2.2.2.2.2.2.2.2.2.2.2.1 v.2.2.2.2.2.2.2.2.2.2.2.2.2.2.2.2.2.2.2.2.2.2.2.2.2.2.1 v.2.2.2.2.2.2.2.2.2.2.2.2.2.2.2.2.2.2.2.2.2.2.2.2.2.2.2.1 v.2.2.2.2.2.2.2.2.2.2.2.2.2.2.2.2.2.2.2.2.2.2.2.2.2.2.2.2.1 v.2.2.2.2.2.2.2.2.2.2.2.2.2.2.2.2.2.2.2.2.2.2.2.2.2.2.2.2.2.1 v.2.2.2.2.2.2.2.2.2.2.2.2.2.2.2.2.2.2.2.2.2.2.2.2.2.2.2.2.2.2.1 v.2.2.2.2.2.2.2.2.2.2.2.2.2.2.2.2.2.2.2.2.2.2.2.2.2.2.2.2.2.2.2.1 v.2.2.2.2.2.2.2.2.2.2.2.2.2.2.2.2.2.2.2.2.2.2.2.2.2.2.2.2.2.2.2.2.1 v.2.2.2.2.2.2.2.2.2.2.2.2.2.2.2.2.2.2.2.2.2.2.2.2.2.2.2.2.2.2.2.2.2.1 v.2.2.2.2.2.2.2.2.2.2.2.2.2.2.2.2.2.2.2.2.2.2.2.2.2.2.2.2.2.2.2.2.2.2.1 v.2.2.2.2.2.2.2.2.2.2.2.2.2.2.2.2.2.2.2.2.2.2.2.2.2.2.2.2.2.2.2.2.2.2.2.1 v.2.2.2.2.2.2.2.2.2.2.2.2.2.2.2.2.2.2.2.2.2.2.2.2.2.2.2.2.2.2.2.2.2.2.2.2.1 v.2.2.2.2.2.2.2.2.2.2.2.2.2.2.2.2.2.2.2.2.2.2.2.2.2.2.2.2.2.2.2.2.2.2.2.2.2.1 v.2.2.2.2.2.2.2.2.2.2.2.2.2.2.2.2.2.2.2.2.2.2.2.2.2.2.2.2.2.2.2.2.2.2.2.2.2.2
abbrev sy_a (K : kb_T) (v : SY) : Prop := K v.2.2.2.2.2.2.2.2.2.1 v.2.2.2.2.2.2.2.2.2.2.1 v.2.2.2.2.2.2.2.2.2.2.2.1 v.2.2.2.2.2.2.2.2.2.2.2.2.1 v.2.2.2.2.2.2.2.2.2.2.2.2.2.1 v.2.2.2.2.2.2.2.2.2.2.2.2.2.2.1 v.2.2.2.2.2.2.2.2.2.2.2.2.2.2.2.1 v.2.2.2.2.2.2.2.2.2.2.2.2.2.2.2.2.1 v.2.2.2.2.2.2.2.2.2.2.2.2.2.2.2.2.2.1 v.2.2.2.2.2.2.2.2.2.2.2.2.2.2.2.2.2.2.1 v.2.2.2.2.2.2.2.2.2.2.2.2.2.2.2.2.2.2.2.1 v.2.2.2.2.2.2.2.2.2.2.2.2.2.2.2.2.2.2.2.2.1 v.2.2.2.2.2.2.2.2.2.2.2.2.2.2.2.2.2.2.2.2.2.1 v.2.2.2.2.2.2.2.2.2.2.2.2.2.2.2.2.2.2.2.2.2.2.1 v.2.2.2.2.2.2.2.2.2.2.2.2.2.2.2.2.2.2.2.2.2.2.2.1 v.2.2.2.2.2.2.2.2.2.2.2.2.2.2.2.2.2.2.2.2.2.2.2.2.1 v.2.2.2.2.2.2.2.2.2.2.2.2.2.2.2.2.2.2.2.2.2.2.2.2.2
abbrev sx_f {R : Sort _} (K : Int32 → Int32 → Int32 → Int32 → Int32 → Int32 → Int32 → Int32 → Int32 → Int32 → Int32 → Int32 → Int32 → Int32 → Int32 → Int32 → R) (v : SX) : R := K v.1 v.2.1 v.2.2.1 v.2.2.2.1 v.2.2.2.2.1 v.2.2.2.2.2.1 v.2.2.2.2.2.2.1 v.2.2.2.2.2.2.2.1 v.2.2.2.2.2.2.2.2.1 v.2.2.2.2.2.2.2.2.2.1 v.2.2.2.2.2.2.2.2.2.2.1 v.2.2.2.2.2.2.2.2.2.2.2.1 v.2.2.2.2.2.2.2.2.2.2.2.2.1 v.2.2.2.2.2.2.2.2.2.2.2.2.2.1 v.2.2.2.2.2.2.2.2.2.2.2.2.2.2.1 v.2.2.2.2.2.2.2.2.2.2.2.2.2.2.2.1
abbrev sy_f {R : Sort _} (K : Int32 → Int32 → Int32 → Int32 → Int32 → Int32 → Int32 → Int32 → Int32 → R) (v : SY) : R := K v.1 v.2.1 v.2.2.1 v.2.2.2.1 v.2.2.2.2.1 v.2.2.2.2.2.1 v.2.2.2.2.2.2.1 v.2.2.2.2.2.2.2.1 v.2.2.2.2.2.2.2.2.1
/-! X: has, unlink, enqueue, offer -/
theorem xw_has {post : Int32 → Prop} {u : SX} {x y z : Int32} {m c d : Nat} (ex : x = nI m) (ey : y = nI c) (ez : z = nI d) (hm : m < 65536) (hc : c < 4) (hd : d < 4) (h1 : hs_b m c d → post 1) (h0 : ¬ hs_b m c d → post 0) : wpX_has post u x y z := by
  subst ex ey ez
  rcases u with ⟨a1, a2, a3, a4, a5, a6, a7, a8, a9, a10, a11, a12, a13, a14, a15, a16, a17, a18, a19, a20, a21, a22, a23, a24, a25, a26, a27, a28, a29, a30, a31, a32, a33, a34, a35, a36, a37, a38, a39⟩
  refine And.intro (fun e => h0 ((hs_x hm hc hd).mp e)) (fun e => h1 ?_)
  exact Classical.byContradiction (fun q => e ((hs_x hm hc hd).mpr q))
section
variable {f : fx_T} {g : pg_T} {L : Nat} {dn D O A B h n p : Nat → Nat} {post : SX → Prop}
theorem xw_unl40 {a b : Nat} (hb : b ≤ 288) (H : post (sx_m f g L dn (D, O, A, B, h, n, if b = 0 then p else ar_u p (b - 1) a))) : sx_u (wX_unlink_40 post (ar_ov a) (ar_ov b)) (sx_m f g L dn (D, O, A, B, h, n, p)) := by
  cases b with
  | zero => exact br_t ar_ov_neg H
  | succ b =>
    refine br_f (ar_ov_pos (by omega)) ⟨vp_in_nI (by omega) (by omega), nm_r (e' := ar_O (ar_u p b a)) ?_ H⟩
    rw [ar_ovs, nI_clamp (by omega)]
    exact ar_Ou p b a
theorem xw_unlink {t : Nat} (ht : t < 288) (hD : D t ≤ 65) (hp : p t ≤ 288) (hn : n t ≤ 288) (H : post (sx_m f g L dn (D, O, A, B, wl_uh h n p t (D t), wl_un h n p t (D t), wl_up h n p t (D t)))) : wpX_unlink post (sx_m f g L dn (D, O, A, B, h, n, p)) (nI t) := by
  have i1 : vp_in (nI t) 288 := vp_in_nI ht (by omega)
  have eD : ar_N D (nI t).toNatClampNeg = nI (D t) := ar_Nr D (by omega)
  have i2 : vp_in (ar_N D (nI t).toNatClampNeg) 66 := by rw [eD]; exact vp_in_nI (by omega) (by omega)
  refine And.intro i1 (nm_r (ar_Or p (by omega)) (And.intro i1 (nm_r (ar_Or n (by omega)) ?_)))
  unfold wl_uh wl_un wl_up at H
  by_cases e : p t = 0
  · rw [if_pos e, if_pos e] at H
    rw [e] at H ⊢
    refine br_t ar_ov_neg (And.intro i1 (And.intro i2 (nm_r (e' := ar_O (ar_u h (D t) (n t))) ?_ ?_)))
    · show upd (ar_O h) (ar_N D (nI t).toNatClampNeg).toNatClampNeg _ = _
      rw [eD, nI_clamp (by omega)]
      exact ar_Ou h (D t) (n t)
    · exact xw_unl40 (f := f) (g := g) (L := L) (dn := dn) (D := D) (O := O) (A := A) (B := B) (n := n) (p := p) hn H
  · rw [if_neg e, if_neg e] at H
    obtain ⟨q, eq⟩ : ∃ q, p t = q + 1 := ⟨p t - 1, by omega⟩
    rw [eq] at H ⊢
    refine br_f (ar_ov_pos (by omega)) (And.intro (vp_in_nI (by omega) (by omega)) (nm_r (e' := ar_O (ar_u n q (n t))) ?_ ?_))
    · rw [ar_ovs, nI_clamp (by omega)]
      exact ar_Ou n q (n t)
    · exact xw_unl40 (f := f) (g := g) (L := L) (dn := dn) (D := D) (O := O) (A := A) (B := B) (h := h) (p := p) hn H
theorem xw_enqueue {t : Nat} (ht : t < 288) (hD : D t ≤ 65) (hh : h (D t) ≤ 288) (H : post (sx_m f g L dn (D, O, A, B, ar_u h (D t) (t + 1), ar_u n t (h (D t)), if h (D t) = 0 then ar_u p t 0 else ar_u (ar_u p t 0) (h (D t) - 1) (t + 1)))) : wpX_enqueue post (sx_m f g L dn (D, O, A, B, h, n, p)) (nI t) := by
  have i1 : vp_in (nI t) 288 := vp_in_nI ht (by omega)
  have eD : ar_N D (nI t).toNatClampNeg = nI (D t) := ar_Nr D (by omega)
  have i2 : vp_in (ar_N D (nI t).toNatClampNeg) 66 := by rw [eD]; exact vp_in_nI (by omega) (by omega)
  have eh : ar_O h (ar_N D (nI t).toNatClampNeg).toNatClampNeg = ar_ov (h (D t)) := by rw [eD]; exact ar_Or h (by omega)
  have e37 : ∀ p', post (sx_m f g L dn (D, O, A, B, ar_u h (D t) (t + 1), ar_u n t (h (D t)), p')) → sx_u (wX_enqueue_37 post (nI t)) (sx_m f g L dn (D, O, A, B, h, ar_u n t (h (D t)), p')) := by
    intro p' H'
    refine And.intro i1 (And.intro i2 (nm_r (e' := ar_O (ar_u h (D t) (t + 1))) ?_ H'))
    show upd (ar_O h) (ar_N D (nI t).toNatClampNeg).toNatClampNeg _ = _
    rw [eD, nI_clamp (by omega)]
    exact ar_Ou h (D t) (t + 1)
  refine And.intro i1 (And.intro i2 (nm_r eh (And.intro i1 (nm_r (e' := ar_O (ar_u p t 0)) ?_ (And.intro i1 (nm_r (e' := ar_O (ar_u n t (h (D t)))) ?_ ?_))))))
  · rw [nI_clamp (by omega)]; exact ar_Ou p t 0
  · rw [nI_clamp (by omega)]; exact ar_Ou n t _
  · by_cases e : h (D t) = 0
    · rw [if_pos e] at H
      rw [e]
      rw [e] at e37 H
      exact br_t ar_ov_neg (e37 _ H)
    · rw [if_neg e] at H
      obtain ⟨q, eq⟩ : ∃ q, h (D t) = q + 1 := ⟨h (D t) - 1, by omega⟩
      rw [eq] at H e37 ⊢
      refine br_f (ar_ov_pos (by omega)) (And.intro (vp_in_nI (by omega) (by omega)) (nm_r (e' := ar_O (ar_u (ar_u p t 0) q (t + 1))) ?_ (e37 _ H)))
      rw [ar_ovs, nI_clamp (by omega)]
      exact ar_Ou (ar_u p t 0) q (t + 1)
theorem wl_le {W : Nat → Nat → Prop} {hd nx pv : Nat → Nat} (H : wl_I W hd nx pv) : (∀ b, b ≤ 65 → hd b ≤ 288) ∧ ∀ t b, W t b → nx t ≤ 288 ∧ pv t ≤ 288 := by
  obtain ⟨r, M, h1, h2, h3, h4, h5, h6⟩ := H
  refine ⟨fun b hb => ?_, fun t b w => ⟨?_, ?_⟩⟩
  · rcases h3 b hb with a | ⟨t, a, a2, _⟩
    · omega
    · have := (h1 t b a2).1; omega
  · rcases h6 t b w with a | ⟨s, a, a2, _⟩
    · omega
    · have := (h1 s b a2).1; omega
  · rcases h5 t b w with a | ⟨s, a, a2, _⟩
    · omega
    · have := (h1 s b a2).1; omega
/-- join 71 of offer: the cell waits nowhere; it is put into its bucket -/
theorem xw_off71 {W : Nat → Nat → Prop} {t v w : Nat} (hw : wl_I W h n p) (hW : ∀ c, ¬ W t c) (ht : t < 288) (hv : v ≤ 65)
    (H : ∀ h' n' p', wl_I (fun s c => W s c ∨ (s = t ∧ c = v)) h' n' p' → post (sx_m f g L dn (ar_u D t v, ar_u O t w, A, B, h', n', p'))) :
    sx_u (wX_offer_71 post (nI t) (nI w) (nI v)) (sx_m f g L dn (D, O, A, B, h, n, p)) := by
  have i1 : vp_in (nI t) 288 := vp_in_nI ht (by omega)
  refine And.intro i1 (nm_r (e' := ar_N (ar_u D t v)) ?_ (And.intro i1 (nm_r (e' := ar_N (ar_u O t w)) ?_ ?_)))
  · rw [nI_clamp (by omega)]; exact ar_Nu D t v
  · rw [nI_clamp (by omega)]; exact ar_Nu O t w
  · have e : ar_u D t v t = v := ar_us
    have k := wl_eq1 hw ht hv hW
    have hh := (wl_le hw).1 v hv
    have k2 := H _ _ _ k
    refine xw_enqueue (f := f) (g := g) (L := L) (dn := dn) (D := ar_u D t v) (O := ar_u O t w) (A := A) (B := B) (h := h) (n := n) (p := p) ht (by rw [e]; exact hv) (by rw [e]; exact hh) ?_
    rw [e]
    exact k2
theorem xw_off12 {t v w : Nat} (hw : wl_I (wt_W dn D) h n p) (ht : t < 288) (hv : v ≤ 65) (hD : D t ≤ 66) (hO : D t < 66 → O t < 2 ^ 31) (hw31 : w < 2 ^ 31) (hd : D t ≤ v ∨ dn t = 0)
    (H : ∀ D' O' h' n' p', lx_U D O t v w D' O' → wl_I (wt_W dn D') h' n' p' → post (sx_m f g L dn (D', O', A, B, h', n', p'))) :
    sx_u (wX_offer_12 post (nI t) (nI w) (nI v)) (sx_m f g L dn (D, O, A, B, h, n, p)) := by
  have i1 : vp_in (nI t) 288 := vp_in_nI ht (by omega)
  have eD : ar_N D (nI t).toNatClampNeg = nI (D t) := ar_Nr D (by omega)
  have eO : ar_N O (nI t).toNatClampNeg = nI (O t) := ar_Nr O (by omega)
  have old : lx_l (D t) (O t) v w → post (sx_m f g L dn (D, O, A, B, h, n, p)) := fun q => H D O h n p ⟨fun _ _ => ⟨rfl, rfl⟩, Or.inr ⟨rfl, rfl, q⟩⟩ hw
  have new : v < D t → lx_U D O t v w (ar_u D t v) (ar_u O t w) := fun q => ⟨fun j hj => ⟨ar_un hj, ar_un hj⟩, Or.inl ⟨ar_us, ar_us, Or.inl q⟩⟩
  refine And.intro i1 (pk_le v (D t) (fun q => And.intro i1 (pk_eq v (D t) (fun q2 => And.intro i1 (pk_le (O t) w (fun q3 => old (Or.inr ⟨q2.symm, q3⟩)) (fun q3 => And.intro i1 (nm_r (e' := ar_N (ar_u O t w)) ?_ ?_)) eO rfl (hO (by omega)) hw31)) (fun q2 => And.intro i1 (pk_le 66 (D t) (fun q3 => ?_) (fun q3 => ?_) rfl eD)) rfl eD)) (fun q => old (Or.inl q)) rfl eD)
  · rw [nI_clamp (by omega)]; exact ar_Nu O t w
  · refine H D (ar_u O t w) h n p ⟨fun j hj => ⟨rfl, ar_un hj⟩, Or.inl ⟨q2.symm, ar_us, Or.inr ⟨q2, by omega⟩⟩⟩ hw
  · refine xw_off71 hw (fun c z => ?_) ht hv (fun h' n' p' k => H _ _ h' n' p' (new (by omega)) (wl_c k (fun s c => ?_)))
    · unfold wt_W at z; omega
    · have := ar_ud D t v s
      unfold wt_W
      grind
  · have dt : dn t = 0 := by
      rcases hd with a | a
      · omega
      · exact a
    have wt : wt_W dn D t (D t) := ⟨ht, rfl, by omega, dt⟩
    have b := (wl_le hw).2 t _ wt
    refine xw_unlink (f := f) (g := g) (L := L) (dn := dn) (D := D) (O := O) (A := A) (B := B) (h := h) (n := n) (p := p) ht (by omega) b.2 b.1 ?_
    refine xw_off71 (wl_un1 hw wt) (fun c z => z.2 rfl) ht hv (fun h' n' p' k => H _ _ h' n' p' (new (by omega)) (wl_c k (fun s c => ?_)))
    have := ar_ud D t v s
    unfold wt_W
    grind
theorem xw_offer0 {x y z : Int32} {t l v w : Nat} (ex : x = nI t) (ey : y = nI l) (ez : z = nI w) (ev : v = sv_m l) (hl : l < 2 ^ 31) (hw : wl_I (wt_W dn D) h n p) (ht : t < 288) (hD : D t ≤ 66) (hO : D t < 66 → O t < 2 ^ 31) (hw31 : w < 2 ^ 31) (hd : D t ≤ v ∨ dn t = 0)
    (H : ∀ D' O' h' n' p', lx_U D O t v w D' O' → wl_I (wt_W dn D') h' n' p' → post (sx_m f g L dn (D', O', A, B, h', n', p'))) :
    wpX_offer post (sx_m f g L dn (D, O, A, B, h, n, p)) x y z := by
  subst ex ey ez
  refine pk_le l 65 (fun q => ?_) (fun q => ?_)
  · have : v = l := by rw [ev]; exact if_pos q
    subst this
    exact xw_off12 hw ht q hD hO hw31 hd H
  · have : v = 65 := by rw [ev]; exact if_neg (by omega)
    subst this
    exact xw_off12 hw ht (Nat.le_refl 65) hD hO hw31 hd H
theorem xw_take5 {post : Int32 → SX → Prop} (hw : wl_I (wt_W dn D) h n p)
    (H0 : (∀ s c, ¬ wt_W dn D s c) → post (-1) (sx_m f g L dn (D, O, A, B, h, n, p)))
    (H1 : ∀ x v, wt_W dn D x v → (∀ s c, wt_W dn D s c → v ≤ c) → ∀ h' n' p', wl_I (wt_W (ar_u dn x 1) D) h' n' p' → post (nI x) (sx_m f g v (ar_u dn x 1) (D, O, A, B, h', n', p'))) :
    ∀ m k v, v + m = 66 → m < k → (∀ s c, wt_W dn D s c → v ≤ c) → sx_r (wX_takeLeast_5 post) (sx_m f g L dn (D, O, A, B, h, n, p)) k (nI v) := by
  intro m
  induction m with
  | zero =>
    intro k v e hk lo
    obtain ⟨k, rfl⟩ : ∃ j, k = j + 1 := ⟨k - 1, by omega⟩
    have : v = 66 := by omega
    subst this
    exact br_t (by decide) (H0 (fun s c z => by have := lo s c z; unfold wt_W at z; omega))
  | succ m ih =>
    intro k v e hk lo
    obtain ⟨k, rfl⟩ : ∃ j, k = j + 1 := ⟨k - 1, by omega⟩
    refine br_f (nI_nlt (a := 65) (b := v) (by omega) (by omega)) (And.intro (vp_in_nI (by omega) (by omega)) (nm_r (ar_Or h (by omega)) ?_))
    rcases Nat.eq_zero_or_pos (h v) with z | z
    · show (ar_ov (h v) < 0 → _) ∧ (¬ ar_ov (h v) < 0 → _)
      rw [z]
      refine br_t ar_ov_neg (nm_r (nI_1 v) (ih k (v + 1) (by omega) (by omega) (fun s c w => ?_)))
      have := lo s c w
      rcases Nat.eq_or_lt_of_le this with q | q
      · subst q; exact absurd w (wl_ne hw z s)
      · omega
    · obtain ⟨x, ex⟩ : ∃ x, h v = x + 1 := ⟨h v - 1, by omega⟩
      have wx := wl_hd hw (by omega) ex
      have b := (wl_le hw).2 x v wx
      have hx : x < 288 := wx.1
      have hD : D x = v := wx.2.1
      show (ar_ov (h v) < 0 → _) ∧ (¬ ar_ov (h v) < 0 → _)
      rw [ex]
      refine br_f (ar_ov_pos (by omega)) ?_
      refine xw_unlink (f := f) (g := g) (L := v) (dn := dn) (D := D) (O := O) (A := A) (B := B) (h := h) (n := n) (p := p) (t := x) hx (by omega) b.2 b.1 ?_
      refine And.intro (vp_in_nI hx (by omega)) (nm_r (e' := ar_N (ar_u dn x 1)) ?_ ?_)
      · rw [ar_ovs, nI_clamp (by omega)]
        exact ar_Nu dn x 1
      · refine H1 x v wx lo _ _ _ ?_
        have k2 := wl_un1 hw wx
        rw [hD]
        refine wl_c k2 (fun s c => ?_)
        have := ar_ud dn x 1 s
        unfold wt_W
        grind
theorem xw_take {post : Int32 → SX → Prop} (hw : wl_I (wt_W dn D) h n p) (hL : L ≤ 66) (lo : ∀ s c, wt_W dn D s c → L ≤ c)
    (H0 : (∀ s c, ¬ wt_W dn D s c) → post (-1) (sx_m f g L dn (D, O, A, B, h, n, p)))
    (H1 : ∀ x v, wt_W dn D x v → (∀ s c, wt_W dn D s c → v ≤ c) → ∀ h' n' p', wl_I (wt_W (ar_u dn x 1) D) h' n' p' → post (nI x) (sx_m f g v (ar_u dn x 1) (D, O, A, B, h', n', p'))) :
    wpX_takeLeast post (sx_m f g L dn (D, O, A, B, h, n, p)) :=
  ⟨67, xw_take5 hw H0 H1 (66 - L) 67 L (by omega) (by omega) lo⟩
end
end TF
end
section
section TG
/-! the walk of extend, over the invariant -/
def xt_H (g : pg_T) (T : Nat → Nat) (n lo hi L x : Nat) (dn : Nat → Nat) (s : xt_T) : Prop :=
  xt_G g T n lo hi L x dn s ∧ dn x = 1 ∧ xt_D s x = L ∧ lo ≤ x ∧ x < hi ∧ hi ≤ 288 ∧ pg_ok g ∧ 0 < pg_P g
def xt_off (s : xt_T) (t w y p q : Nat) : Prop := lx_l (xt_D s t) (xt_O s t) (cd_v (xt_D s) y p q) w
theorem xt_off_le {dn : Nat → Nat} {s s' : xt_T} {t w y p q : Nat} (dp : dn p = 1) (dq : dn q = 1) (h : xt_off s t w y p q) (k : xt_le dn s s') : xt_off s' t w y p q := by
  unfold xt_off at *
  rw [cd_v_c (k.2.2 p dp) (k.2.2 q dq)]
  exact lx_t (k.1 t) h
theorem cd_w {g : pg_T} (hg : pg_ok g) {t w y p q : Nat} (h : cd_A g t w y p q) : w < 1536 := by
  have := pg_L24 hg
  rcases h with ⟨_, k, c, a, d, h⟩ | ⟨_, k, c, a, d, b, e, h⟩ | ⟨_, k, c, b, a, h⟩
  · obtain ⟨h1, h2, _, _, _, _, _, _, _, h3⟩ := h; omega
  · obtain ⟨h1, h2, _, _, h4, h5, _, _, _, _, _, _, h3⟩ := h; omega
  · obtain ⟨h1, h2, _, _, _, _, _, _, _, h3⟩ := h; omega
section
variable {f : fx_T} {g : pg_T} {T : Nat → Nat} {n lo hi L x : Nat} {dn : Nat → Nat} {s : xt_T} {post : SX → Prop}
theorem xh_D65 (h : xt_H g T n lo hi L x dn s) {t : Nat} (ht : t < 288) (dt : dn t = 1) : xt_D s t ≤ 65 := by
  have := (h.1.1.2.1 t ht dt).1
  omega
theorem xh_offer {a b c : Int32} {t l w y p q : Nat} (hH : xt_H g T n lo hi L x dn s) (ea : a = nI t) (eb : b = nI l) (ec : c = nI w) (hc : cd_A g t w y p q) (dp : dn p = 1) (dq : dn q = 1)
    (el : sv_m l = cd_v (xt_D s) y p q) (hl : l < 2 ^ 31) (px : p = x ∨ (q = x ∧ y ≠ 0)) (ht : lo ≤ t ∧ t < hi)
    (H : ∀ s', xt_H g T n lo hi L x dn s' → xt_le dn s s' → xt_off s' t w y p q → post (sx_m f g L dn s')) :
    wpX_offer post (sx_m f g L dn s) a b c := by
  have hpq := cd_pq hH.2.2.2.2.2.2.1 hc
  have hw := cd_w hH.2.2.2.2.2.2.1 hc
  have p5 := xh_D65 hH hpq.1 dp
  have q5 := xh_D65 hH hpq.2.1 dq
  obtain ⟨D, O, A, B, h, nn, pp⟩ := s
  obtain ⟨⟨hS, hW, hcD, hcA⟩, hx1, hx2, hx3, hx4, hx5, hg, hP⟩ := hH
  have p5' : D p ≤ 65 := p5
  have q5' : D q ≤ 65 := q5
  have hx2' : D x = L := hx2
  have hvL : L ≤ cd_v D y p q := by
    rw [← hx2']
    rcases px with e | ⟨e, e2⟩
    · rw [← e]; exact cd_v_p D p5
    · rw [← e]; exact cd_v_q D q5 e2
  have hO : D t < 66 → O t < 2 ^ 31 := by
    intro ft
    rcases hS.2.2.2.2.2.1 t hpq.2.2 ft with ⟨_, _, e⟩ | ⟨y', p', q', e, _⟩
    · have e' : O t = 0 := e
      omega
    · have := cd_w hg e
      have e' : O t < 1536 := this
      omega
  refine xw_offer0 (v := cd_v D y p q) ea eb ec el.symm hl hW hpq.2.2 (hS.1 t hpq.2.2).1 hO (by omega) ?_ ?_
  · have d1 := (hS.1 t hpq.2.2).2
    by_cases dt : dn t = 1
    · refine Or.inl ?_
      have : D t ≤ L := hS.2.2.2.1 t ht.1 ht.2 dt
      omega
    · exact Or.inr (by omega)
  · intro D' O' h' n' p' hu hW'
    have hk := si_keep hS ht hvL hu
    have le : xt_le dn (D, O, A, B, h, nn, pp) (D', O', A, B, h', n', p') := ⟨lx_Ul hu, fun _ => lx_r _ _, hk⟩
    refine H (D', O', A, B, h', n', p') ⟨⟨si_off hS ht hvL (cd_v_le _ _ _ _) hu (Or.inr ⟨y, p, q, hc, dp, dq, rfl⟩), hW', cl_Dle hcD le, cl_Ale hcA le⟩, hx1, (hk x hx1).trans hx2, hx3, hx4, hx5, hg, hP⟩ le ?_
    have ec : cd_v D' y p q = cd_v D y p q := cd_v_c (hk p dp) (hk q dq)
    show lx_l (D' t) (O' t) (cd_v D' y p q) w
    rw [ec]
    exact lx_Uo hu
theorem xh_rng (hH : xt_H g T n lo hi L x dn s) {t : Nat} (ht : t < 288) (dt : dn t = 1) : cd_r g t :=
  si_rng hH.2.2.2.2.2.2.1 hH.2.2.2.2.2.2.2 hH.1.1 ht (hH.1.1.2.1 t ht dt).1
theorem xh_rl (hH : xt_H g T n lo hi L x dn s) {t : Nat} (ht : t < 256) (dt : dn t = 1) : t / 16 < pg_N g ∧ t / 4 % 4 < pg_F g ∧ t % 4 < pg_F g := by
  rcases xh_rng hH (by omega) dt with a | a
  · exact a.2
  · omega
def fl_P (g : pg_T) (k x : Nat) (d : Nat) (s : xt_T) : Prop := hs_b (pg_pa g k) (x % 4) d → xt_off s (16 * pg_tg g k + 4 * (x / 4 % 4) + d) (64 * k + 16 * (x % 4)) 0 x x
theorem xh_followLocal {k : Nat} (hH : xt_H g T n 0 256 L x dn s) (hk : k < pg_L g) (k0 : pg_kd g k = 0) (ks : pg_sr g k = x / 16)
    (H : ∀ s', xt_H g T n 0 256 L x dn s' → xt_le dn s s' → (∀ d, d < pg_F g → fl_P g k x d s') → post (sx_m f g L dn s')) :
    wpX_followLocal post (sx_m f g L dn s) (nI k) (nI x) := by
  have hg : pg_ok g := hH.2.2.2.2.2.2.1
  have hx : x < 256 := hH.2.2.2.2.1
  have dx : dn x = 1 := hH.2.1
  have hF := pg_F4 hg
  have hL := pg_L24 hg
  have i24 : vp_in (nI k) 24 := vp_in_nI (by omega) (by omega)
  have i288 : vp_in (nI x) 288 := vp_in_nI (by omega) (by omega)
  have htg := pg_tgN hg hk
  have hN := pg_N16 hg
  have hr := xh_rl hH hx dx
  refine nm_r (ct_3 (by omega)) ⟨pg_F g + 1, ?_⟩
  refine lp_for (xt_H g T n 0 256 L x dn) (xt_le dn) (fun m i s => sx_u (wX_followLocal_7 post (nI k) (nI x) (nI (x % 4)) m (nI i)) (sx_m f g L dn s)) (fl_P g k x) (fun s => post (sx_m f g L dn s)) (pg_F g) (xt_le_r dn) (fun _ _ _ => xt_le_t) ?_ ?_ ?_ s hH H _ (by omega)
  · intro i s s' h l z
    exact xt_off_le dx dx (h z) l
  · intro m s q
    exact br_t (nI_le (Nat.le_refl _) (by omega)) q
  · intro m i s hi hH' K
    have et : 16 * ar_N (pg_tg g) (nI k).toNatClampNeg + (nI x &&& 12) + nI i = nI (16 * pg_tg g k + 4 * (x / 4 % 4) + i) := by
      rw [ar_Nr _ (by omega), ct_12 x (by omega), ix_lv2]
    have el : ar_N (xt_D s) (nI x).toNatClampNeg + 1 = nI (xt_D s x + 1) := by
      rw [ar_Nr _ (by omega), nI_1]
    refine br_f (nI_ge hi (by omega)) (And.intro i24 (xw_has (ar_Nr (pg_pa g) (by omega)) rfl rfl (pg_paB hg hk) (by omega) (by omega) (fun hb => br_f (by decide) (And.intro i24 (And.intro i288 ?_))) (fun hb => br_t rfl (nm_r (nI_1 i) (K s hH' (xt_le_r _ _) (fun z => absurd z hb))))))
    refine xh_offer (t := 16 * pg_tg g k + 4 * (x / 4 % 4) + i) (l := xt_D s x + 1) (w := 64 * k + 16 * (x % 4)) (y := 0) (p := x) (q := x) hH' et el (ix_cd k (x % 4)) ?_ dx dx rfl (by have := xh_D65 hH' (t := x) (by omega) dx; omega) (Or.inl rfl) (by omega) (fun s' h1 h2 h3 => nm_r (nI_1 i) (K s' h1 h2 (fun _ => h3)))
    refine Or.inl ⟨rfl, k, x % 4, x / 4 % 4, i, hk, by omega, hr.2.1, hi, k0, hb, rfl, ?_, rfl, rfl⟩
    rw [ks]
    omega
def jn_P (g : pg_T) (dn : Nat → Nat) (k c m : Nat) (s : xt_T) : Prop := dn c = 1 → dn m = 1 → ∀ d, d < pg_F g → hs_b (pg_ba g k) (m % 4) d → xt_off s (16 * pg_tg g k + 4 * (c / 4 % 4) + d) (64 * k + 16 * (c % 4) + m % 16) 1 c m
theorem jn_le {k c m : Nat} {s' : xt_T} (h : jn_P g dn k c m s) (l : xt_le dn s s') : jn_P g dn k c m s' := fun a b d hd z => xt_off_le a b (h a b d hd z) l
theorem xh_join {k c m : Nat} (hH : xt_H g T n 0 256 L x dn s) (hk : k < pg_L g) (k1 : pg_kd g k = 1) (hc : c < 256) (hm : m < 256) (cs : pg_sr g k = c / 16) (ms : pg_ex g (pg_cl g k) = m / 16) (hpb : hs_b (pg_pa g k) (c % 4) (m / 4 % 4)) (hx : c = x ∨ m = x)
    (H : ∀ s', xt_H g T n 0 256 L x dn s' → xt_le dn s s' → jn_P g dn k c m s' → post (sx_m f g L dn s')) :
    wpX_join post (sx_m f g L dn s) (nI k) (nI c) (nI m) := by
  have hg : pg_ok g := hH.2.2.2.2.2.2.1
  have hF := pg_F4 hg
  have hL := pg_L24 hg
  have i24 : vp_in (nI k) 24 := vp_in_nI (by omega) (by omega)
  have ic : vp_in (nI c) 288 := vp_in_nI (by omega) (by omega)
  have im : vp_in (nI m) 288 := vp_in_nI (by omega) (by omega)
  have htg := pg_tgN hg hk
  have hN := pg_N16 hg
  have ec : ar_N dn (nI c).toNatClampNeg = nI (dn c) := ar_Nr _ (by omega)
  have em : ar_N dn (nI m).toNatClampNeg = nI (dn m) := ar_Nr _ (by omega)
  have bc := (hH.1.1.1 c (by omega)).2
  have bm := (hH.1.1.1 m (by omega)).2
  refine And.intro ic (pk_eq (dn c) 0 (fun z => H s hH (xt_le_r _ _) (fun a => by omega)) (fun z => And.intro im (pk_eq (dn m) 0 (fun z2 => H s hH (xt_le_r _ _) (fun _ a => by omega)) (fun z2 => And.intro ic (And.intro im ?_)) em rfl)) ec rfl)
  have dc : dn c = 1 := by omega
  have dm : dn m = 1 := by omega
  have hr := xh_rl hH hc dc
  have e4 : ar_N (xt_D s) (nI c).toNatClampNeg + ar_N (xt_D s) (nI m).toNatClampNeg + 2 = nI (xt_D s c + xt_D s m + 2) := by
    rw [ar_Nr _ (by omega), ar_Nr _ (by omega), nI_add, ix_2]
  have e5 : 64 * nI k + 16 * (nI c &&& 3) + (nI m &&& 15) = nI (64 * k + 16 * (c % 4) + m % 16) := by
    rw [ct_3 (by omega), ct_15 (by omega), ix_cd, nI_add]
  refine nm_r e4 (nm_r e5 ⟨pg_F g + 1, ?_⟩)
  refine lp_for (fun s' => xt_H g T n 0 256 L x dn s' ∧ xt_le dn s s') (xt_le dn) (fun j i s' => sx_u (wX_join_57 post (nI k) (nI c) (nI m) (nI (xt_D s c + xt_D s m + 2)) (nI (64 * k + 16 * (c % 4) + m % 16)) j (nI i)) (sx_m f g L dn s')) (fun d s => hs_b (pg_ba g k) (m % 4) d → xt_off s (16 * pg_tg g k + 4 * (c / 4 % 4) + d) (64 * k + 16 * (c % 4) + m % 16) 1 c m) (fun s => post (sx_m f g L dn s)) (pg_F g) (xt_le_r dn) (fun _ _ _ => xt_le_t) ?_ ?_ ?_ s ⟨hH, xt_le_r _ _⟩ (fun s' h1 h2 h3 => H s' h1.1 h2 (fun _ _ => h3)) _ (by omega)
  · intro i s s' h l z
    exact xt_off_le dc dm (h z) l
  · intro j s' q
    exact br_t (nI_le (Nat.le_refl _) (by omega)) q
  · intro j i s' hi hH' K
    have et : 16 * ar_N (pg_tg g) (nI k).toNatClampNeg + (nI c &&& 12) + nI i = nI (16 * pg_tg g k + 4 * (c / 4 % 4) + i) := by
      rw [ar_Nr _ (by omega), ct_12 c (by omega), ix_lv2]
    refine br_f (nI_ge hi (by omega)) (And.intro i24 (xw_has (ar_Nr (pg_ba g) (by omega)) (ct_3 (by omega)) rfl (pg_baB hg hk) (by omega) (by omega) (fun hb => br_f (by decide) (And.intro i24 ?_)) (fun hb => br_t rfl (nm_r (nI_1 i) (K s' hH' (xt_le_r _ _) (fun z => absurd z hb))))))
    refine xh_offer (t := 16 * pg_tg g k + 4 * (c / 4 % 4) + i) (l := xt_D s c + xt_D s m + 2) (w := 64 * k + 16 * (c % 4) + m % 16) (y := 1) (p := c) (q := m) hH'.1 et rfl rfl ?_ dc dm ?_ (by have := xh_D65 hH (t := c) (by omega) dc; have := xh_D65 hH (t := m) (by omega) dm; omega) ?_ (by omega) (fun s'' h1 h2 h3 => nm_r (nI_1 i) (K s'' ⟨h1, xt_le_t hH'.2 h2⟩ h2 (fun _ => h3)))
    · refine Or.inr (Or.inl ⟨rfl, k, c % 4, c / 4 % 4, i, m / 4 % 4, m % 4, hk, by omega, hr.2.1, hi, by omega, by omega, k1, hpb, hb, rfl, ?_, ?_, ?_⟩)
      · rw [cs]; omega
      · rw [ms]; omega
      · omega
    · rw [cd_v_c (hH'.2.2.2 c dc) (hH'.2.2.2 m dm)]
      rfl
    · rcases hx with e | e
      · exact Or.inl e
      · exact Or.inr ⟨e, by omega⟩
def us_P (g : pg_T) (dn : Nat → Nat) (k x b : Nat) (s : xt_T) : Prop := hs_b (pg_pa g k) (x % 4) b → ∀ e, e < pg_F g → jn_P g dn k x (16 * pg_ex g (pg_cl g k) + 4 * b + e) s
theorem xh_useSummaries {k : Nat} (hH : xt_H g T n 0 256 L x dn s) (hk : k < pg_L g) (k1 : pg_kd g k = 1) (ks : pg_sr g k = x / 16)
    (H : ∀ s', xt_H g T n 0 256 L x dn s' → xt_le dn s s' → (∀ b, b < pg_F g → us_P g dn k x b s') → post (sx_m f g L dn s')) :
    wpX_useSummaries post (sx_m f g L dn s) (nI k) (nI x) := by
  have hg : pg_ok g := hH.2.2.2.2.2.2.1
  have hx : x < 256 := hH.2.2.2.2.1
  have hF := pg_F4 hg
  have hL := pg_L24 hg
  have hN := pg_N16 hg
  have hP8 := pg_P8 hg
  have i24 : vp_in (nI k) 24 := vp_in_nI (by omega) (by omega)
  have hcl := pg_clP hg hk k1
  have hex := pg_exN hg hcl.1
  have ec : ar_C (pg_ca g) (nI k).toNatClampNeg = nI (pg_cl g k) := by
    rw [ar_Cr _ (by omega), hcl.2, ar_cvs]
  have i8 : vp_in (ar_C (pg_ca g) (nI k).toNatClampNeg) 8 := by
    rw [ec]; exact vp_in_nI (by omega) (by omega)
  have ee : ar_N (pg_ex g) (ar_C (pg_ca g) (nI k).toNatClampNeg).toNatClampNeg = nI (pg_ex g (pg_cl g k)) := by
    rw [ec]; exact ar_Nr _ (by omega)
  refine And.intro i24 (And.intro i8 (nm_r ee ⟨pg_F g + 1, ?_⟩))
  refine lp_for (xt_H g T n 0 256 L x dn) (xt_le dn) (fun m i s => sx_u (wX_useSummaries_15 post (nI k) (nI x) (nI (pg_ex g (pg_cl g k))) m (nI i)) (sx_m f g L dn s)) (us_P g dn k x) (fun s => post (sx_m f g L dn s)) (pg_F g) (xt_le_r dn) (fun _ _ _ => xt_le_t) ?_ ?_ ?_ s hH H _ (by omega)
  · intro i s s' h l z e he
    exact jn_le (h z e he) l
  · intro m s q
    exact br_t (nI_le (Nat.le_refl _) (by omega)) q
  · intro m b s hb hH' K
    refine br_f (nI_ge hb (by omega)) (And.intro i24 (xw_has (ar_Nr (pg_pa g) (by omega)) (ct_3 (by omega)) rfl (pg_paB hg hk) (by omega) (by omega) (fun hpb => br_f (by decide) ⟨pg_F g + 1, ?_⟩) (fun hpb => br_t rfl (nm_r (nI_1 b) (K s hH' (xt_le_r _ _) (fun z => absurd z hpb))))))
    refine lp_for (xt_H g T n 0 256 L x dn) (xt_le dn) (fun j i s => sx_u (wX_useSummaries_45 post (wX_useSummaries_15 post (nI k) (nI x) (nI (pg_ex g (pg_cl g k))) m) (nI k) (nI x) (nI (pg_ex g (pg_cl g k))) (nI b) j (nI i)) (sx_m f g L dn s)) (fun e s => jn_P g dn k x (16 * pg_ex g (pg_cl g k) + 4 * b + e) s) (fun s => sx_u (wX_useSummaries_15 post (nI k) (nI x) (nI (pg_ex g (pg_cl g k))) m (nI (b + 1))) (sx_m f g L dn s)) (pg_F g) (xt_le_r dn) (fun _ _ _ => xt_le_t) ?_ ?_ ?_ s hH' (fun s' h1 h2 h3 => K s' h1 h2 (fun _ => h3)) _ (by omega)
    · intro i s s' h l
      exact jn_le h l
    · intro j s q
      exact br_t (nI_le (Nat.le_refl _) (by omega)) (nm_r (nI_1 b) q)
    · intro j e s he hH2 K2
      have em : 16 * nI (pg_ex g (pg_cl g k)) + 4 * nI b + nI e = nI (16 * pg_ex g (pg_cl g k) + 4 * b + e) := ix_lv _ _ _
      refine br_f (nI_ge he (by omega)) ?_
      show wpX_join _ (sx_m f g L dn s) (nI k) (nI x) (16 * nI (pg_ex g (pg_cl g k)) + 4 * nI b + nI e)
      rw [em]
      refine xh_join hH2 hk k1 hx (by omega) ks (by omega) ?_ (Or.inl rfl) (fun s' h1 h2 h3 => nm_r (nI_1 e) (K2 s' h1 h2 h3))
      rw [show (16 * pg_ex g (pg_cl g k) + 4 * b + e) / 4 % 4 = b by omega]
      exact hpb
def rc_P (g : pg_T) (dn : Nat → Nat) (k x c : Nat) (s : xt_T) : Prop := hs_b (pg_pa g k) c (x / 4 % 4) → ∀ a, a < pg_F g → jn_P g dn k (16 * pg_sr g k + 4 * a + c) x s
theorem xh_resumeCallers {k : Nat} (hH : xt_H g T n 0 256 L x dn s) (hk : k < pg_L g) (k1 : pg_kd g k = 1) (ks : pg_ex g (pg_cl g k) = x / 16)
    (H : ∀ s', xt_H g T n 0 256 L x dn s' → xt_le dn s s' → (∀ c, c < pg_F g → rc_P g dn k x c s') → post (sx_m f g L dn s')) :
    wpX_resumeCallers post (sx_m f g L dn s) (nI k) (nI x) := by
  have hg : pg_ok g := hH.2.2.2.2.2.2.1
  have hx : x < 256 := hH.2.2.2.2.1
  have hF := pg_F4 hg
  have hL := pg_L24 hg
  have hN := pg_N16 hg
  have hsr := pg_srN hg hk
  have i24 : vp_in (nI k) 24 := vp_in_nI (by omega) (by omega)
  have e3 : (nI x >>> ((2 : Int32) &&& 31)) &&& 3 = nI (x / 4 % 4) := by
    rw [ct_s2 (by omega), ct_3 (by omega)]
  refine nm_r e3 ⟨pg_F g + 1, ?_⟩
  refine lp_for (xt_H g T n 0 256 L x dn) (xt_le dn) (fun m i s => sx_u (wX_resumeCallers_9 post (nI k) (nI x) (nI (x / 4 % 4)) m (nI i)) (sx_m f g L dn s)) (rc_P g dn k x) (fun s => post (sx_m f g L dn s)) (pg_F g) (xt_le_r dn) (fun _ _ _ => xt_le_t) ?_ ?_ ?_ s hH H _ (by omega)
  · intro i s s' h l z e he
    exact jn_le (h z e he) l
  · intro m s q
    exact br_t (nI_le (Nat.le_refl _) (by omega)) q
  · intro m c s hc hH' K
    refine br_f (nI_ge hc (by omega)) (And.intro i24 (xw_has (ar_Nr (pg_pa g) (by omega)) rfl rfl (pg_paB hg hk) (by omega) (by omega) (fun hpb => br_f (by decide) ⟨pg_F g + 1, ?_⟩) (fun hpb => br_t rfl (nm_r (nI_1 c) (K s hH' (xt_le_r _ _) (fun z => absurd z hpb))))))
    refine lp_for (xt_H g T n 0 256 L x dn) (xt_le dn) (fun j i s => sx_u (wX_resumeCallers_37 post (wX_resumeCallers_9 post (nI k) (nI x) (nI (x / 4 % 4)) m) (nI k) (nI x) (nI (x / 4 % 4)) (nI c) j (nI i)) (sx_m f g L dn s)) (fun a s => jn_P g dn k (16 * pg_sr g k + 4 * a + c) x s) (fun s => sx_u (wX_resumeCallers_9 post (nI k) (nI x) (nI (x / 4 % 4)) m (nI (c + 1))) (sx_m f g L dn s)) (pg_F g) (xt_le_r dn) (fun _ _ _ => xt_le_t) ?_ ?_ ?_ s hH' (fun s' h1 h2 h3 => K s' h1 h2 (fun _ => h3)) _ (by omega)
    · intro i s s' h l
      exact jn_le h l
    · intro j s q
      exact br_t (nI_le (Nat.le_refl _) (by omega)) (nm_r (nI_1 c) q)
    · intro j a s ha hH2 K2
      have em : 16 * ar_N (pg_sr g) (nI k).toNatClampNeg + 4 * nI a + nI c = nI (16 * pg_sr g k + 4 * a + c) := by
        rw [ar_Nr _ (by omega), ix_lv]
      refine br_f (nI_ge ha (by omega)) (And.intro i24 ?_)
      show wpX_join _ (sx_m f g L dn s) (nI k) (16 * ar_N (pg_sr g) (nI k).toNatClampNeg + 4 * nI a + nI c) (nI x)
      rw [em]
      refine xh_join hH2 hk k1 (by omega) hx (by omega) ks ?_ (Or.inr rfl) (fun s' h1 h2 h3 => nm_r (nI_1 a) (K2 s' h1 h2 h3))
      rw [show (16 * pg_sr g k + 4 * a + c) % 4 = c by omega]
      exact hpb
end
end TG
end
section
section TH
section
variable {f : fx_T} {g : pg_T} {T : Nat → Nat} {n L x : Nat} {dn : Nat → Nat} {s : xt_T} {post : SX → Prop}
theorem fl_le {k d : Nat} {s' : xt_T} (dx : dn x = 1) (h : fl_P g k x d s) (l : xt_le dn s s') : fl_P g k x d s' := fun z => xt_off_le dx dx (h z) l
theorem us_le {k d : Nat} {s' : xt_T} (h : us_P g dn k x d s) (l : xt_le dn s s') : us_P g dn k x d s' := fun z e he => jn_le (h z e he) l
theorem rc_le {k d : Nat} {s' : xt_T} (h : rc_P g dn k x d s) (l : xt_le dn s s') : rc_P g dn k x d s' := fun z e he => jn_le (h z e he) l
def ex_0 (g : pg_T) (x k : Nat) (s : xt_T) : Prop := pg_kd g k = 0 → pg_sr g k = x / 16 → ∀ d, d < pg_F g → fl_P g k x d s
def ex_1 (g : pg_T) (dn : Nat → Nat) (x k : Nat) (s : xt_T) : Prop := pg_kd g k = 1 → pg_sr g k = x / 16 → ∀ b, b < pg_F g → us_P g dn k x b s
def ex_2 (g : pg_T) (dn : Nat → Nat) (x k : Nat) (s : xt_T) : Prop := pg_kd g k = 1 → pg_cl g k = pg_ow g (x / 16) → pg_ex g (pg_ow g (x / 16)) = x / 16 → ∀ c, c < pg_F g → rc_P g dn k x c s
def ex_P (g : pg_T) (dn : Nat → Nat) (x k : Nat) (s : xt_T) : Prop := ex_0 g x k s ∧ ex_1 g dn x k s ∧ ex_2 g dn x k s
theorem ex_0le {k : Nat} {s' : xt_T} (dx : dn x = 1) (h : ex_0 g x k s) (l : xt_le dn s s') : ex_0 g x k s' := fun a b d hd => fl_le dx (h a b d hd) l
theorem ex_1le {k : Nat} {s' : xt_T} (h : ex_1 g dn x k s) (l : xt_le dn s s') : ex_1 g dn x k s' := fun a b d hd => us_le (h a b d hd) l
theorem ex_2le {k : Nat} {s' : xt_T} (h : ex_2 g dn x k s) (l : xt_le dn s s') : ex_2 g dn x k s' := fun a b c d hd => rc_le (h a b c d hd) l
theorem ex_le {k : Nat} {s' : xt_T} (dx : dn x = 1) (h : ex_P g dn x k s) (l : xt_le dn s s') : ex_P g dn x k s' := ⟨ex_0le dx h.1 l, ex_1le h.2.1 l, ex_2le h.2.2 l⟩
theorem xh_e97 {k : Nat} {J : Int32 → kx_T} {z : Int32} (hH : xt_H g T n 0 256 L x dn s) (hk : k < pg_L g) (hz : (z = 1 ∧ pg_ex g (pg_ow g (x / 16)) = x / 16) ∨ (z = 0 ∧ ¬ pg_ex g (pg_ow g (x / 16)) = x / 16))
    (H : ∀ s', xt_H g T n 0 256 L x dn s' → xt_le dn s s' → ex_2 g dn x k s' → sx_u (J (nI (k + 1))) (sx_m f g L dn s')) :
    sx_u (wX_extend_97 post J (nI x) (nI (x / 16)) (nI (pg_ow g (x / 16))) z (nI k)) (sx_m f g L dn s) := by
  have hg : pg_ok g := hH.2.2.2.2.2.2.1
  have hx : x < 256 := hH.2.2.2.2.1
  have hr := xh_rl hH hx hH.2.1
  have how := pg_owP hg hr.1
  have hL := pg_L24 hg
  have hP8 := pg_P8 hg
  have i24 : vp_in (nI k) 24 := vp_in_nI (by omega) (by omega)
  have ek : ar_N (pg_kd g) (nI k).toNatClampNeg = nI (pg_kd g k) := ar_Nr _ (by omega)
  have hkd := pg_kd2 hg hk
  have stay : (ex_2 g dn x k s) → sx_u (J (nI (k + 1))) (sx_m f g L dn s) := fun q => H s hH (xt_le_r _ _) q
  rcases hz with ⟨rfl, hz⟩ | ⟨rfl, hz⟩
  · refine br_f (by decide) (And.intro i24 (pk_eq (pg_kd g k) 1 (fun q => And.intro i24 (pk_eq (pg_cl g k) (pg_ow g (x / 16)) (fun q2 => ?_) (fun q2 => nm_r (nI_1 k) (stay (fun _ z => absurd z q2))) ?_ rfl (by have := pg_clP hg hk q; omega) (by omega))) (fun q => nm_r (nI_1 k) (stay (fun z => absurd z q))) ek rfl))
    · refine xh_resumeCallers hH hk q (by rw [q2]; exact hz) (fun s' h1 h2 h3 => nm_r (nI_1 k) (H s' h1 h2 (fun _ _ _ => h3)))
    · have hcl := pg_clP hg hk q
      show ar_C (pg_ca g) (nI k).toNatClampNeg = _
      rw [ar_Cr _ (by omega), hcl.2, ar_cvs]
  · exact br_t rfl (nm_r (nI_1 k) (stay (fun _ _ q => absurd q hz)))
theorem xh_e68 {k : Nat} {J : Int32 → kx_T} {z : Int32} (hH : xt_H g T n 0 256 L x dn s) (hk : k < pg_L g) (hz : (z = 1 ∧ pg_ex g (pg_ow g (x / 16)) = x / 16) ∨ (z = 0 ∧ ¬ pg_ex g (pg_ow g (x / 16)) = x / 16))
    (H : ∀ s', xt_H g T n 0 256 L x dn s' → xt_le dn s s' → ex_1 g dn x k s' → ex_2 g dn x k s' → sx_u (J (nI (k + 1))) (sx_m f g L dn s')) :
    sx_u (wX_extend_68 post J (nI x) (nI (x / 16)) (nI (pg_ow g (x / 16))) z (nI k)) (sx_m f g L dn s) := by
  have hg : pg_ok g := hH.2.2.2.2.2.2.1
  have hx : x < 256 := hH.2.2.2.2.1
  have hL := pg_L24 hg
  have hN := pg_N16 hg
  have hsr := pg_srN hg hk
  have i24 : vp_in (nI k) 24 := vp_in_nI (by omega) (by omega)
  have ek : ar_N (pg_kd g) (nI k).toNatClampNeg = nI (pg_kd g k) := ar_Nr _ (by omega)
  have es : ar_N (pg_sr g) (nI k).toNatClampNeg = nI (pg_sr g k) := ar_Nr _ (by omega)
  have hkd := pg_kd2 hg hk
  have stay : (ex_1 g dn x k s) → sx_u (wX_extend_97 post J (nI x) (nI (x / 16)) (nI (pg_ow g (x / 16))) z (nI k)) (sx_m f g L dn s) := fun q => xh_e97 hH hk hz (fun s' h1 h2 h3 => H s' h1 h2 (ex_1le q h2) h3)
  refine And.intro i24 (pk_eq (pg_sr g k) (x / 16) (fun q => And.intro i24 (pk_eq (pg_kd g k) 1 (fun q2 => ?_) (fun q2 => stay (fun z => absurd z q2)) ek rfl)) (fun q => stay (fun _ z => absurd z q)) es rfl)
  refine xh_useSummaries hH hk q2 q (fun s' h1 h2 h3 => ?_)
  exact xh_e97 h1 hk hz (fun s'' j1 j2 j3 => H s'' j1 (xt_le_t h2 j2) (fun _ _ b hb => us_le (h3 b hb) j2) j3)
theorem xh_ext31 {z : Int32} (hH : xt_H g T n 0 256 L x dn s) (hz : (z = 1 ∧ pg_ex g (pg_ow g (x / 16)) = x / 16) ∨ (z = 0 ∧ ¬ pg_ex g (pg_ow g (x / 16)) = x / 16))
    (H : ∀ s', xt_H g T n 0 256 L x dn s' → xt_le dn s s' → (∀ k, k < pg_L g → ex_P g dn x k s') → post (sx_m f g L dn s')) (m : Nat) (hm : pg_L g < m) :
    sx_u (wX_extend_31 post (nI x) (nI (x / 16)) (nI (pg_ow g (x / 16))) z m (nI 0)) (sx_m f g L dn s) := by
  have hg : pg_ok g := hH.2.2.2.2.2.2.1
  have hx : x < 256 := hH.2.2.2.2.1
  have dx : dn x = 1 := hH.2.1
  have hL := pg_L24 hg
  have hN := pg_N16 hg
  refine lp_for (xt_H g T n 0 256 L x dn) (xt_le dn) (fun m i s => sx_u (wX_extend_31 post (nI x) (nI (x / 16)) (nI (pg_ow g (x / 16))) z m (nI i)) (sx_m f g L dn s)) (ex_P g dn x) (fun s => post (sx_m f g L dn s)) (pg_L g) (xt_le_r dn) (fun _ _ _ => xt_le_t) ?_ ?_ ?_ s hH H m hm
  · intro i s s' h l
    exact ex_le dx h l
  · intro m s q
    exact br_t (nI_le (Nat.le_refl _) (by omega)) q
  · intro m k s hk hH' K
    have hsr := pg_srN hg hk
    have i24 : vp_in (nI k) 24 := vp_in_nI (by omega) (by omega)
    have ek : ar_N (pg_kd g) (nI k).toNatClampNeg = nI (pg_kd g k) := ar_Nr _ (by omega)
    have es : ar_N (pg_sr g) (nI k).toNatClampNeg = nI (pg_sr g k) := ar_Nr _ (by omega)
    have hkd := pg_kd2 hg hk
    have stay : ex_0 g x k s → sx_u (wX_extend_68 post (wX_extend_31 post (nI x) (nI (x / 16)) (nI (pg_ow g (x / 16))) z m) (nI x) (nI (x / 16)) (nI (pg_ow g (x / 16))) z (nI k)) (sx_m f g L dn s) := fun q => xh_e68 hH' hk hz (fun s' h1 h2 h3 h4 => K s' h1 h2 ⟨ex_0le dx q h2, h3, h4⟩)
    refine br_f (nI_ge hk (by omega)) (And.intro i24 (pk_eq (pg_sr g k) (x / 16) (fun q => And.intro i24 (pk_eq (pg_kd g k) 0 (fun q2 => ?_) (fun q2 => stay (fun z => absurd z q2)) ek rfl)) (fun q => stay (fun _ z => absurd z q)) es rfl))
    refine xh_followLocal hH' hk q2 q (fun s' h1 h2 h3 => ?_)
    exact xh_e68 h1 hk hz (fun s'' j1 j2 j3 j4 => K s'' j1 (xt_le_t h2 j2) ⟨fun _ _ d hd => fl_le dx (h3 d hd) j2, j3, j4⟩)
theorem ex_cl (hH : xt_H g T n 0 256 L x dn s) (hE : ∀ k, k < pg_L g → ex_P g dn x k s) : cl_D g 288 dn (xt_D s) (xt_O s) := by
  intro t w y p q hc dp dq _ _
  have hg : pg_ok g := hH.2.2.2.2.2.2.1
  have hx : x < 256 := hH.2.2.2.2.1
  have hpq := cd_pq hg hc
  have hF := pg_F4 hg
  have h256 : ∀ t, t < 288 → dn t = 1 → t < 256 := by
    intro t ht dt
    rcases Nat.lt_or_ge t 256 with a | a
    · exact a
    · have := hH.1.1.2.2.2.2.2.2.2 t a ht
      omega
  by_cases px : p = x ∨ q = x
  · rcases hc with ⟨rfl, k, c, a, d, hk, hc, ha, hd, k0, hb, rfl, ep, rfl, rfl⟩ | ⟨rfl, k, c, a, d, b, e, hk, hc, ha, hd, hb, he, k1, hb1, hb2, rfl, ep, eq, rfl⟩ | ⟨rfl, k, c, b, a, hk, hc, hb, ha, k1, hb1, rfl, ep, eq, rfl⟩
    · have hqx : q = x := by rcases px with e | e <;> exact e
      subst hqx
      have e1 : q % 4 = c := by omega
      have e2 : q / 4 % 4 = a := by omega
      have e3 : pg_sr g k = q / 16 := by omega
      have h1 := (hE k hk).1 k0 e3 d hd
      unfold fl_P at h1
      rw [e1, e2] at h1
      exact h1 hb
    · have hrp := xh_rl hH (h256 p hpq.1 dp) dp
      have hrq := xh_rl hH (h256 q hpq.2.1 dq) dq
      have q1 : q / 4 % 4 = b := by omega
      have q2 : q % 4 = e := by omega
      have q3 : q % 16 = 4 * b + e := by omega
      have p1 : p / 4 % 4 = a := by omega
      have p2 : p % 4 = c := by omega
      rcases px with z | z
      · subst z
        have h1 := (hE k hk).2.1 k1 (by omega) b (by omega)
        unfold us_P at h1
        rw [p2] at h1
        have h2 := h1 hb1 e (by omega)
        rw [← eq] at h2
        have h3 := h2 dp dq d hd (by rw [q2]; exact hb2)
        rw [p1, p2, q3] at h3
        rw [show 64 * k + 16 * c + 4 * b + e = 64 * k + 16 * c + (4 * b + e) by omega]
        exact h3
      · subst z
        have hcl := pg_clP hg hk k1
        have e4 : pg_ex g (pg_cl g k) = q / 16 := by omega
        have e5 : pg_ow g (q / 16) = pg_cl g k := by rw [← e4]; exact pg_owex hg hcl.1
        have h1 := (hE k hk).2.2 k1 e5.symm (by rw [e5]; exact e4) c (by omega)
        unfold rc_P at h1
        rw [q1] at h1
        have h2 := h1 hb1 a ha
        rw [← ep] at h2
        have h3 := h2 dp dq d hd (by rw [q2]; exact hb2)
        rw [p1, p2, q3] at h3
        rw [show 64 * k + 16 * c + 4 * b + e = 64 * k + 16 * c + (4 * b + e) by omega]
        exact h3
    · have := h256 p hpq.1 dp
      omega
  · exact hH.1.2.2.1 t w y p q hc dp dq (fun z => px (Or.inl z)) (fun z => px (Or.inr z))
theorem xh_extend (hH : xt_H g T n 0 256 L x dn s) (H : ∀ s', xt_G g T n 0 256 L 288 dn s' → xt_le dn s s' → post (sx_m f g L dn s')) :
    wpX_extend post (sx_m f g L dn s) (nI x) := by
  have hg : pg_ok g := hH.2.2.2.2.2.2.1
  have hx : x < 256 := hH.2.2.2.2.1
  have hr := xh_rl hH hx hH.2.1
  have how := pg_owP hg hr.1
  have hL := pg_L24 hg
  have hN := pg_N16 hg
  have hP8 := pg_P8 hg
  have hex := pg_exN hg how
  have H' : ∀ s', xt_H g T n 0 256 L x dn s' → xt_le dn s s' → (∀ k, k < pg_L g → ex_P g dn x k s') → post (sx_m f g L dn s') := by
    intro s' h1 h2 h3
    refine H s' ⟨h1.1.1, h1.1.2.1, ex_cl h1 h3, ?_⟩ h2
    intro n d a q1 q2 q3 q4 q5 q6
    exact h1.1.2.2.2 n d a q1 q2 q3 q4 q5 (by omega)
  refine nm_r (ct_s4 (by omega)) (And.intro (vp_in_nI (by omega) (by omega)) (nm_r (ar_Nr _ (by omega)) (And.intro (vp_in_nI (by omega) (by omega)) (pk_eq (pg_ex g (pg_ow g (x / 16))) (x / 16) (fun q => ⟨pg_L g + 1, ?_⟩) (fun q => ⟨pg_L g + 1, ?_⟩) (ar_Nr _ (by omega)) rfl))))
  · exact xh_ext31 hH (Or.inl ⟨rfl, q⟩) H' _ (by omega)
  · exact xh_ext31 hH (Or.inr ⟨rfl, q⟩) H' _ (by omega)
end
/-! counting -/
def cn_z (f : Nat → Nat) : Nat → Nat
  | 0 => 0
  | n + 1 => cn_z f n + (if f n = 0 then 1 else 0)
theorem cn_ge {f : Nat → Nat} {x v : Nat} : ∀ {N : Nat}, N ≤ x → cn_z (ar_u f x v) N = cn_z f N := by
  intro N
  induction N with
  | zero => intro _; rfl
  | succ N ih =>
    intro h
    show cn_z (ar_u f x v) N + (if ar_u f x v N = 0 then 1 else 0) = cn_z f N + (if f N = 0 then 1 else 0)
    rw [ih (by omega), ar_un (by omega)]
theorem cn_set {f : Nat → Nat} {x : Nat} (h0 : f x = 0) : ∀ {N : Nat}, x < N → cn_z (ar_u f x 1) N + 1 = cn_z f N := by
  intro N
  induction N with
  | zero => intro h; omega
  | succ N ih =>
    intro h
    show cn_z (ar_u f x 1) N + (if ar_u f x 1 N = 0 then 1 else 0) + 1 = cn_z f N + (if f N = 0 then 1 else 0)
    by_cases e : x = N
    · subst e
      rw [cn_ge (Nat.le_refl _), ar_us, h0]
      rfl
    · have := ih (by omega)
      rw [ar_un (by omega)]
      omega
theorem cn_0 {f : Nat → Nat} : ∀ {N : Nat}, cn_z f N = 0 → ∀ x, x < N → f x ≠ 0 := by
  intro N
  induction N with
  | zero => intro _ x hx; omega
  | succ N ih =>
    intro h x hx
    have h' : cn_z f N + (if f N = 0 then 1 else 0) = 0 := h
    by_cases e : x = N
    · subst e
      intro z
      rw [if_pos z] at h'
      omega
    · exact ih (by omega) x (by omega)
theorem cn_all {f : Nat → Nat} : ∀ {N : Nat}, (∀ x, x < N → f x = 0) → cn_z f N = N := by
  intro N
  induction N with
  | zero => intro _; rfl
  | succ N ih =>
    intro h
    show cn_z f N + (if f N = 0 then 1 else 0) = N + 1
    rw [ih (fun x hx => h x (by omega)), if_pos (h N (by omega))]
end TH
end
section
section TI
section
variable {f : fx_T} {g : pg_T} {T : Nat → Nat} {n lo hi L x : Nat} {dn : Nat → Nat} {s : xt_T} {post : SX → Prop}
theorem si_O31 {D O A B : Nat → Nat} (hg : pg_ok g) (hS : si_I g T n lo hi L dn D O A B) {t : Nat} (ht : t < 288) (ft : D t < 66) : O t < 2 ^ 31 := by
  rcases hS.2.2.2.2.2.1 t ht ft with ⟨_, _, e⟩ | ⟨y', p', q', e, _⟩
  · omega
  · have := cd_w hg e
    omega
theorem xg_ini {a b c : Int32} {t : Nat} (hg : pg_ok g) (hG : xt_G g T n lo hi 0 288 dn s) (ea : a = nI t) (eb : b = nI 0) (ec : c = nI 0) (hc : cd_i g t) (ht : lo ≤ t ∧ t < hi) (ht2 : t < 288) (d0 : dn t = 0)
    (H : ∀ s', xt_G g T n lo hi 0 288 dn s' → xt_le dn s s' → xt_D s' t = 0 → post (sx_m f g 0 dn s')) : wpX_offer post (sx_m f g 0 dn s) a b c := by
  obtain ⟨D, O, A, B, h, nn, pp⟩ := s
  obtain ⟨hS, hW, hcD, hcA⟩ := hG
  refine xw_offer0 (v := 0) (l := 0) (w := 0) ea eb ec rfl (by omega) hW ht2 (hS.1 t ht2).1 (si_O31 hg hS ht2) (by omega) (Or.inr d0) ?_
  intro D' O' h' n' p' hu hW'
  have hk := si_keep hS ht (Nat.le_refl 0) hu
  have le : xt_le dn (D, O, A, B, h, nn, pp) (D', O', A, B, h', n', p') := ⟨lx_Ul hu, fun _ => lx_r _ _, hk⟩
  refine H (D', O', A, B, h', n', p') ⟨si_off hS ht (Nat.le_refl 0) (by omega) hu (Or.inl ⟨hc, rfl, rfl⟩), hW', cl_Dle hcD le, cl_Ale hcA le⟩ le ?_
  have := lx_1 (lx_Uo hu)
  show D' t = 0
  omega
theorem cl_tD {D O : Nat → Nat} (hg : pg_ok g) (h : cl_D g 288 dn D O) : cl_D g x (ar_u dn x 1) D O := by
  intro t w y p q hc dp dq px qx
  have hpq := cd_pq hg hc
  rw [ar_un px] at dp
  rw [ar_un qx] at dq
  exact h t w y p q hc dp dq (by omega) (by omega)
def lv_I (g : pg_T) (r : Nat) (T : Nat → Nat) (L : Nat) (dn : Nat → Nat) (s : xt_T) : Prop :=
  xt_G g T r 0 256 L 288 dn s ∧ L ≤ 65 ∧ (∀ p a, p < pg_P g → a < pg_F g → xt_D s (16 * pg_en g p + 4 * a + a) = 0) ∧ cn_z dn 256 + r = 256
theorem xh_lv60 (hg : pg_ok g) (hP : 0 < pg_P g) (H : ∀ r T L dn s, lv_I g r T L dn s → (∀ t, t < 288 → xt_D s t < 66 → dn t = 1) → post (sx_m f g L dn s)) :
    ∀ m r k T L dn s, r + m = 256 → m < k → lv_I g r T L dn s → sx_u (wX_tabulateLevels_60 post k (nI r)) (sx_m f g L dn s) := by
  intro m
  induction m with
  | zero =>
    intro r k T L dn s e hk hI
    obtain ⟨k, rfl⟩ : ∃ j, k = j + 1 := ⟨k - 1, by omega⟩
    have : r = 256 := by omega
    subst this
    refine br_t (nI_le (a := 256) (b := 256) (by omega) (by omega)) (H _ _ _ _ _ hI ?_)
    intro t ht ft
    have b := (hI.1.1.1 t ht).2
    rcases Nat.lt_or_ge t 256 with c | c
    · have := cn_0 (f := dn) (N := 256) (by have := hI.2.2.2; omega) t c
      omega
    · by_cases d : dn t = 0
      · have := hI.1.1.2.2.1 t ht d ft
        omega
      · omega
  | succ m ih =>
    intro r k T L dn s e hk hI
    obtain ⟨k, rfl⟩ : ∃ j, k = j + 1 := ⟨k - 1, by omega⟩
    have hI0 := hI
    obtain ⟨D, O, A, B, h, nn, pp⟩ := s
    obtain ⟨⟨hS, hW, hcD, hcA⟩, hL, hi0, hcn⟩ := hI
    refine br_f (nI_ge (a := r) (b := 256) (by omega) (by omega)) ?_
    refine xw_take (f := f) (g := g) (L := L) (dn := dn) (D := D) (O := O) (A := A) (B := B) (h := h) (n := nn) (p := pp) hW (by omega) ?_ ?_ ?_
    · intro t c w
      have := (hS.2.2.1 t w.1 w.2.2.2 (by have := w.2.1; have := w.2.2.1; show D t < 66; omega)).2.2
      have e2 : D t = c := w.2.1
      have e3 : L ≤ D t := this
      omega
    · intro none
      refine br_f (by decide) (H r T L dn _ hI0 ?_)
      intro t ht ft
      have b := (hS.1 t ht).2
      by_cases d : dn t = 0
      · exact absurd ⟨ht, rfl, by have : D t < 66 := ft; omega, d⟩ (none t (D t))
      · omega
    · intro x v wx mn h' n' p' wl'
      have hx := wx.1
      have hD : D x = v := wx.2.1
      have hv := wx.2.2.1
      have d0 := wx.2.2.2
      have rg := hS.2.2.1 x hx d0 (by show D x < 66; omega)
      have rg3 : L ≤ D x := rg.2.2
      refine br_t (nI_pos' (by omega)) ?_
      have hH : xt_H g (ar_u T x r) (r + 1) 0 256 v x (ar_u dn x 1) (D, O, A, B, h', n', p') := by
        refine ⟨⟨si_take hg hS ⟨rg.1, rg.2.1⟩ hx d0 hD hv (by omega) ?_, wl', cl_tD hg hcD, ?_⟩, ar_us, hD, by omega, rg.2.1, by omega, hg, hP⟩
        · intro t ht dt ft
          exact mn t (D t) ⟨ht, rfl, by have : D t < 66 := ft; omega, dt⟩
        · intro n d a q1 q2 q3 q4 q5 q6
          have := pg_owP hg q1
          have := pg_P8 hg
          rw [ar_un q6] at q4
          have := hS.2.2.2.2.2.2.2 (256 + 4 * pg_ow g n + a) (by omega) (by omega)
          omega
      refine xh_extend hH (fun s' hG' le' => nm_r (nI_1 r) (ih (r + 1) k (ar_u T x r) v (ar_u dn x 1) s' (by omega) (by omega) ⟨hG', hv, ?_, ?_⟩))
      · intro p a hp ha
        have h1 : D (16 * pg_en g p + 4 * a + a) = 0 := hi0 p a hp ha
        have := lx_1 (le'.1 (16 * pg_en g p + 4 * a + a))
        have h2 : xt_D s' (16 * pg_en g p + 4 * a + a) ≤ D (16 * pg_en g p + 4 * a + a) := this
        omega
      · have := cn_set (f := dn) (N := 256) d0 rg.2.1
        omega
theorem xh_levels (hg : pg_ok g) (hP : 0 < pg_P g) (hG : xt_G g T 0 0 256 0 288 dn s) (d0 : ∀ t, t < 288 → dn t = 0)
    (H : ∀ r T L dn s, lv_I g r T L dn s → (∀ t, t < 288 → xt_D s t < 66 → dn t = 1) → post (sx_m f g L dn s)) : wpX_tabulateLevels post (sx_m f g L dn s) := by
  have hF := pg_F4 hg
  have hP8 := pg_P8 hg
  have hN := pg_N16 hg
  refine ⟨pg_P g + 1, ?_⟩
  refine lp_for (xt_G g T 0 0 256 0 288 dn) (xt_le dn) (fun m i s => sx_u (wX_tabulateLevels_7 post m (nI i)) (sx_m f g 0 dn s)) (fun p s => ∀ a, a < pg_F g → xt_D s (16 * pg_en g p + 4 * a + a) = 0) (fun s => sx_u (wX_tabulateLevels_60 post 257 (nI 0)) (sx_m f g 0 dn s)) (pg_P g) (xt_le_r dn) (fun _ _ _ => xt_le_t) ?_ ?_ ?_ s hG ?_ _ (by omega)
  · intro i s s' h l a ha
    have := lx_1 (l.1 (16 * pg_en g i + 4 * a + a))
    have := h a ha
    omega
  · intro m s q
    exact br_t (nI_le (Nat.le_refl _) (by omega)) ⟨257, q⟩
  · intro m p s hp hG' K
    have hen := pg_enN hg hp
    refine br_f (nI_ge hp (by omega)) ⟨pg_F g + 1, ?_⟩
    refine lp_for (xt_G g T 0 0 256 0 288 dn) (xt_le dn) (fun j i s => sx_u (wX_tabulateLevels_17 post (wX_tabulateLevels_7 post m) (nI p) j (nI i)) (sx_m f g 0 dn s)) (fun a s => xt_D s (16 * pg_en g p + 4 * a + a) = 0) (fun s => sx_u (wX_tabulateLevels_7 post m (nI (p + 1))) (sx_m f g 0 dn s)) (pg_F g) (xt_le_r dn) (fun _ _ _ => xt_le_t) ?_ ?_ ?_ s hG' (fun s' h1 h2 h3 => K s' h1 h2 h3) _ (by omega)
    · intro a s s' h l
      have := lx_1 (l.1 (16 * pg_en g p + 4 * a + a))
      omega
    · intro j s q
      exact br_t (nI_le (Nat.le_refl _) (by omega)) (nm_r (nI_1 p) q)
    · intro j a s ha hG2 K2
      have et : 16 * ar_N (pg_en g) (nI p).toNatClampNeg + 4 * nI a + nI a = nI (16 * pg_en g p + 4 * a + a) := by
        rw [ar_Nr _ (by omega), ix_lv]
      refine br_f (nI_ge ha (by omega)) (And.intro (vp_in_nI (by omega) (by omega)) ?_)
      exact xg_ini hg hG2 et rfl rfl (Or.inl ⟨p, a, hp, ha, rfl⟩) (by omega) (by omega) (d0 _ (by omega)) (fun s' h1 h2 h3 => nm_r (nI_1 a) (K2 s' h1 h2 h3))
  · intro s' h1 h2 h3
    refine xh_lv60 hg hP H 256 0 257 T 0 dn s' (by omega) (by omega) ⟨h1, by omega, fun p a hp ha => h3 p hp a ha, ?_⟩
    rw [cn_all (fun t ht => d0 t (by omega))]
end
end TI
end
section
section TJ
section
variable {f : fx_T} {g : pg_T} {T : Nat → Nat} {n L x : Nat} {dn : Nat → Nat} {s : xt_T} {post : SX → Prop}
def oc_P (g : pg_T) (x k c q b : Nat) (s : xt_T) : Prop := hs_b (pg_pa g k) c b → xt_off s (256 + 4 * pg_cl g k + b) (64 * k + 16 * c) 2 x q
theorem oc_le {k c q b : Nat} {s' : xt_T} (dx : dn x = 1) (dq : dn q = 1) (h : oc_P g x k c q b s) (l : xt_le dn s s') : oc_P g x k c q b s' := fun z => xt_off_le dx dq (h z) l
theorem xh_openCallee {k c l q : Nat} (hH : xt_H g T n 256 288 L x dn s) (hk : k < pg_L g) (k1 : pg_kd g k = 1) (hc : c < 4) (eq : q = 16 * pg_sr g k + 4 * (x % 4) + c) (dq : dn q = 1) (ex : x = 256 + 4 * pg_ow g (pg_sr g k) + x % 4) (el : sv_m l = cd_v (xt_D s) 2 x q) (hl : l < 2 ^ 31)
    (H : ∀ s', xt_H g T n 256 288 L x dn s' → xt_le dn s s' → (∀ b, b < pg_F g → oc_P g x k c q b s') → post (sx_m f g L dn s')) :
    wpX_openCallee post (sx_m f g L dn s) (nI k) (nI c) (nI l) := by
  have hg : pg_ok g := hH.2.2.2.2.2.2.1
  have dx : dn x = 1 := hH.2.1
  have hF := pg_F4 hg
  have hL := pg_L24 hg
  have hP8 := pg_P8 hg
  have hcl := pg_clP hg hk k1
  have i24 : vp_in (nI k) 24 := vp_in_nI (by omega) (by omega)
  refine ⟨pg_F g + 1, ?_⟩
  refine lp_for (fun s' => xt_H g T n 256 288 L x dn s' ∧ xt_le dn s s') (xt_le dn) (fun j i s' => sx_u (wX_openCallee_3 post (nI k) (nI c) (nI l) j (nI i)) (sx_m f g L dn s')) (oc_P g x k c q) (fun s => post (sx_m f g L dn s)) (pg_F g) (xt_le_r dn) (fun _ _ _ => xt_le_t) ?_ ?_ ?_ s ⟨hH, xt_le_r _ _⟩ (fun s' h1 h2 h3 => H s' h1.1 h2 h3) _ (by omega)
  · intro i s s' h l
    exact oc_le dx dq h l
  · intro j s' q
    exact br_t (nI_le (Nat.le_refl _) (by omega)) q
  · intro j b s' hb hH' K
    have et : 256 + 4 * ar_C (pg_ca g) (nI k).toNatClampNeg + nI b = nI (256 + 4 * pg_cl g k + b) := by
      rw [ar_Cr _ (by omega), hcl.2, ar_cvs, ix_op]
    refine br_f (nI_ge hb (by omega)) (And.intro i24 (xw_has (ar_Nr (pg_pa g) (by omega)) rfl rfl (pg_paB hg hk) hc (by omega) (fun hb1 => br_f (by decide) (And.intro i24 ?_)) (fun hb1 => br_t rfl (nm_r (nI_1 b) (K s' hH' (xt_le_r _ _) (fun z => absurd z hb1))))))
    refine xh_offer (t := 256 + 4 * pg_cl g k + b) (l := l) (w := 64 * k + 16 * c) (y := 2) (p := x) (q := q) hH'.1 et rfl (ix_cd k c) ?_ dx dq ?_ hl (Or.inl rfl) (by omega) (fun s'' h1 h2 h3 => nm_r (nI_1 b) (K s'' ⟨h1, xt_le_t hH'.2 h2⟩ h2 (fun _ => h3)))
    · exact Or.inr (Or.inr ⟨rfl, k, c, b, x % 4, hk, hc, hb, by omega, k1, hb1, rfl, ex, eq, rfl⟩)
    · rw [cd_v_c (hH'.2.2.2 x dx) (hH'.2.2.2 q dq)]
      exact el
def rp_L (g : pg_T) (x m d k : Nat) (s : xt_T) : Prop := pg_kd g k = 1 → pg_sr g k = m → ∀ b, b < pg_F g → oc_P g x k d (16 * m + 4 * (x % 4) + d) b s
def rp_A (x m d : Nat) (s : xt_T) : Prop := lx_l (xt_A s (4 * m + d)) (xt_B s (4 * m + d)) (sv_m (xt_D s x + xt_D s (16 * m + 4 * (x % 4) + d))) (x % 4)
def rp_P (g : pg_T) (x m d : Nat) (s : xt_T) : Prop := rp_A x m d s ∧ ∀ k, k < pg_L g → rp_L g x m d k s
theorem rp_Ll {m d k : Nat} {s' : xt_T} (dx : dn x = 1) (dq : dn (16 * m + 4 * (x % 4) + d) = 1) (h : rp_L g x m d k s) (l : xt_le dn s s') : rp_L g x m d k s' := fun a b c hc => oc_le dx dq (h a b c hc) l
theorem rp_Al {m d : Nat} {s' : xt_T} (dx : dn x = 1) (dq : dn (16 * m + 4 * (x % 4) + d) = 1) (h : rp_A x m d s) (l : xt_le dn s s') : rp_A x m d s' := by
  unfold rp_A at *
  rw [l.2.2 x dx, l.2.2 _ dq]
  exact lx_t (l.2.1 _) h
theorem rp_l {m d : Nat} {s' : xt_T} (dx : dn x = 1) (dq : dn (16 * m + 4 * (x % 4) + d) = 1) (h : rp_P g x m d s) (l : xt_le dn s s') : rp_P g x m d s' := ⟨rp_Al dx dq h.1 l, fun k hk => rp_Ll dx dq (h.2 k hk) l⟩
theorem cd_v2 (D : Nat → Nat) (p q : Nat) : sv_m (sv_m (D p + D q) + 1) = cd_v D 2 p q := sv_mm (D p + D q) 1
theorem xh_r78 {m d : Nat} (hH : xt_H g T n 256 288 L x dn s) (hm : m < pg_N g) (hd : d < 4) (ex : x = 256 + 4 * pg_ow g m + x % 4) (dq : dn (16 * m + 4 * (x % 4) + d) = 1)
    (H : ∀ s', xt_H g T n 256 288 L x dn s' → xt_le dn s s' → (∀ k, k < pg_L g → rp_L g x m d k s') → post (sx_m f g L dn s')) (j : Nat) (hj : pg_L g < j) :
    sx_u (wX_reach_78 post (nI m) (nI d) (nI (sv_m (xt_D s x + xt_D s (16 * m + 4 * (x % 4) + d)))) j (nI 0)) (sx_m f g L dn s) := by
  have hg : pg_ok g := hH.2.2.2.2.2.2.1
  have dx : dn x = 1 := hH.2.1
  have hL := pg_L24 hg
  have hN := pg_N16 hg
  have hv5 := sv_m_le (xt_D s x + xt_D s (16 * m + 4 * (x % 4) + d))
  have hv : sv_m (sv_m (xt_D s x + xt_D s (16 * m + 4 * (x % 4) + d)) + 1) = cd_v (xt_D s) 2 x (16 * m + 4 * (x % 4) + d) := cd_v2 (xt_D s) x (16 * m + 4 * (x % 4) + d)
  generalize sv_m (xt_D s x + xt_D s (16 * m + 4 * (x % 4) + d)) = v at hv hv5 ⊢
  refine lp_for (fun s' => xt_H g T n 256 288 L x dn s' ∧ xt_le dn s s') (xt_le dn) (fun j i s' => sx_u (wX_reach_78 post (nI m) (nI d) (nI v) j (nI i)) (sx_m f g L dn s')) (rp_L g x m d) (fun s => post (sx_m f g L dn s)) (pg_L g) (xt_le_r dn) (fun _ _ _ => xt_le_t) ?_ ?_ ?_ s ⟨hH, xt_le_r _ _⟩ (fun s' h1 h2 h3 => H s' h1.1 h2 h3) j hj
  · intro i s s' h l
    exact rp_Ll dx dq h l
  · intro j s' q
    exact br_t (nI_le (Nat.le_refl _) (by omega)) q
  · intro j k s' hk hH' K
    have hsr := pg_srN hg hk
    have i24 : vp_in (nI k) 24 := vp_in_nI (by omega) (by omega)
    have ek : ar_N (pg_kd g) (nI k).toNatClampNeg = nI (pg_kd g k) := ar_Nr _ (by omega)
    have es : ar_N (pg_sr g) (nI k).toNatClampNeg = nI (pg_sr g k) := ar_Nr _ (by omega)
    have hkd := pg_kd2 hg hk
    have stay : rp_L g x m d k s' → sx_u (wX_reach_78 post (nI m) (nI d) (nI v) j (nI (k + 1))) (sx_m f g L dn s') := fun q => K s' hH' (xt_le_r _ _) q
    refine br_f (nI_ge hk (by omega)) (And.intro i24 (pk_eq (pg_kd g k) 1 (fun q => And.intro i24 (pk_eq (pg_sr g k) m (fun q2 => ?_) (fun q2 => nm_r (nI_1 k) (stay (fun _ z => absurd z q2))) es rfl)) (fun q => nm_r (nI_1 k) (stay (fun z => absurd z q))) ek rfl))
    show wpX_openCallee _ (sx_m f g L dn s') (nI k) (nI d) (nI v + 1)
    rw [nI_1 v]
    refine xh_openCallee (q := 16 * m + 4 * (x % 4) + d) hH'.1 hk q hd (by rw [q2]) dq (by rw [q2]; exact ex) ?_ (by omega) (fun s'' h1 h2 h3 => nm_r (nI_1 k) (K s'' ⟨h1, xt_le_t hH'.2 h2⟩ h2 (fun _ _ => h3)))
    rw [cd_v_c (hH'.2.2.2 x dx) (hH'.2.2.2 _ dq)]
    exact hv
/-- an entry of al is lowered -/
theorem si_uA {lo hi : Nat} {D O A B A' B' : Nat → Nat} {j v a : Nat} (h : si_I g T n lo hi L dn D O A B) (hu : lx_U A B j v a A' B')
    (hc : v ≤ 65 ∧ ∃ m d, j = 4 * m + d ∧ m < pg_N g ∧ d < 4 ∧ a < 4 ∧ dn (256 + 4 * pg_ow g m + a) = 1 ∧ dn (16 * m + 4 * a + d) = 1 ∧ v = sv_m (D (256 + 4 * pg_ow g m + a) + D (16 * m + 4 * a + d))) : si_I g T n lo hi L dn D O A' B' := by
  obtain ⟨h1, h2, h3, h4, h5, h6, h7, h8⟩ := h
  refine ⟨h1, h2, h3, h4, h5, h6, fun i hi => ?_, h8⟩
  by_cases e : i = j
  · subst e
    rcases hu.2 with ⟨e1, e2, _⟩ | ⟨e1, e2, _⟩
    · refine ⟨by omega, fun _ => ?_⟩
      obtain ⟨_, m, d, c1, c2, c3, c4, c5, c6, c7⟩ := hc
      exact ⟨m, d, a, c1, c2, c3, c4, e2, c5, c6, e1.trans c7⟩
    · have := h7 i hi
      refine ⟨by omega, fun q => ?_⟩
      obtain ⟨m, d, a', c1, c2, c3, c4, c5, c6, c7, c8⟩ := this.2 (by omega)
      exact ⟨m, d, a', c1, c2, c3, c4, e2.trans c5, c6, c7, e1.trans c8⟩
  · have e1 := (hu.1 i e).1
    have e2 := (hu.1 i e).2
    have := h7 i hi
    refine ⟨by omega, fun q => ?_⟩
    obtain ⟨m, d, a', c1, c2, c3, c4, c5, c6, c7, c8⟩ := this.2 (by omega)
    exact ⟨m, d, a', c1, c2, c3, c4, e2.trans c5, c6, c7, e1.trans c8⟩
theorem xh_reach {m d : Nat} {y z : Int32} (hH : xt_H g T n 256 288 L x dn s) (hm : m < pg_N g) (hd : d < 4) (ex : x = 256 + 4 * pg_ow g m + x % 4) (dq : dn (16 * m + 4 * (x % 4) + d) = 1)
    (ey : y = nI (x % 4)) (ez : z = nI (xt_D s x + xt_D s (16 * m + 4 * (x % 4) + d)))
    (H : ∀ s', xt_H g T n 256 288 L x dn s' → xt_le dn s s' → rp_P g x m d s' → post (sx_m f g L dn s')) :
    wpX_reach post (sx_m f g L dn s) (nI m) (nI d) y z := by
  subst ey ez
  have hg : pg_ok g := hH.2.2.2.2.2.2.1
  have dx : dn x = 1 := hH.2.1
  have hL := pg_L24 hg
  have hN := pg_N16 hg
  have hx : x < 288 := hH.2.2.2.2.1
  have hDx := xh_D65 hH hx dx
  have hDq := xh_D65 hH (t := 16 * m + 4 * (x % 4) + d) (by omega) dq
  -- the tail: the table is lowered, then the loop
  have tail : ∀ A' B', lx_U (xt_A s) (xt_B s) (4 * m + d) (sv_m (xt_D s x + xt_D s (16 * m + 4 * (x % 4) + d))) (x % 4) A' B' → ∃ n78, sx_u (wX_reach_78 post (nI m) (nI d) (nI (sv_m (xt_D s x + xt_D s (16 * m + 4 * (x % 4) + d)))) n78 (nI 0)) (sx_m f g L dn (xt_D s, xt_O s, A', B', xt_h s, xt_n s, xt_p s)) := by
    intro A' B' hu
    obtain ⟨D, O, A, B, h, nn, pp⟩ := s
    have le : xt_le dn (D, O, A, B, h, nn, pp) (D, O, A', B', h, nn, pp) := ⟨fun _ => lx_r _ _, lx_Ul hu, fun _ _ => rfl⟩
    have hH' : xt_H g T n 256 288 L x dn (D, O, A', B', h, nn, pp) := by
      obtain ⟨⟨hS, hW, hcD, hcA⟩, hr⟩ := hH
      refine ⟨⟨si_uA hS hu ⟨sv_m_le _, m, d, rfl, hm, hd, by omega, ?_, dq, ?_⟩, hW, hcD, cl_Ale hcA le⟩, hr⟩
      · rw [← ex]; exact dx
      · rw [← ex]
    refine ⟨pg_L g + 1, xh_r78 hH' hm hd ex dq (fun s' h1 h2 h3 => H s' h1 (xt_le_t le h2) ⟨?_, h3⟩) _ (by omega)⟩
    have p0 : rp_A x m d (D, O, A', B', h, nn, pp) := lx_Uo hu
    exact rp_Al dx dq p0 h2
  have old : lx_l (xt_A s (4 * m + d)) (xt_B s (4 * m + d)) (sv_m (xt_D s x + xt_D s (16 * m + 4 * (x % 4) + d))) (x % 4) → ∃ n78, sx_u (wX_reach_78 post (nI m) (nI d) (nI (sv_m (xt_D s x + xt_D s (16 * m + 4 * (x % 4) + d)))) n78 (nI 0)) (sx_m f g L dn s) :=
    fun q => tail (xt_A s) (xt_B s) ⟨fun _ _ => ⟨rfl, rfl⟩, Or.inr ⟨rfl, rfl, q⟩⟩
  have hv5 := sv_m_le (xt_D s x + xt_D s (16 * m + 4 * (x % 4) + d))
  have hA := (hH.1.1.2.2.2.2.2.2.1 (4 * m + d) (by omega))
  have hB : xt_A s (4 * m + d) < 66 → xt_B s (4 * m + d) < 4 := by
    intro q
    obtain ⟨m', d', a', c1, c2, c3, c4, c5, _⟩ := hA.2 q
    omega
  have hval : ∀ v, v = sv_m (xt_D s x + xt_D s (16 * m + 4 * (x % 4) + d)) → sx_u (wX_reach_21 post (nI m) (nI d) (nI (x % 4)) (nI (4 * m + d)) (nI v)) (sx_m f g L dn s) := by
    intro v ev
    rw [← ev] at tail old hv5
    have i64 : vp_in (nI (4 * m + d)) 64 := vp_in_nI (by omega) (by omega)
    have eA : ar_N (xt_A s) (nI (4 * m + d)).toNatClampNeg = nI (xt_A s (4 * m + d)) := ar_Nr _ (by omega)
    have eB : ar_N (xt_B s) (nI (4 * m + d)).toNatClampNeg = nI (xt_B s (4 * m + d)) := ar_Nr _ (by omega)
    have put : lx_l v (x % 4) (xt_A s (4 * m + d)) (xt_B s (4 * m + d)) → sx_u (wX_reach_58 post (nI m) (nI d) (nI (x % 4)) (nI (4 * m + d)) (nI v)) (sx_m f g L dn s) := by
      intro q
      refine And.intro i64 (nm_r (e' := ar_N (ar_u (xt_A s) (4 * m + d) v)) ?_ (And.intro i64 (nm_r (e' := ar_N (ar_u (xt_B s) (4 * m + d) (x % 4))) ?_ (tail _ _ ⟨fun i hi => ⟨ar_un hi, ar_un hi⟩, Or.inl ⟨ar_us, ar_us, q⟩⟩))))
      · rw [nI_clamp (by omega)]; exact ar_Nu _ _ _
      · rw [nI_clamp (by omega)]; exact ar_Nu _ _ _
    refine And.intro i64 (pk_lt v (xt_A s (4 * m + d)) (fun q => put (Or.inl q)) (fun q => And.intro i64 (pk_eq v (xt_A s (4 * m + d)) (fun q2 => And.intro i64 (pk_le (xt_B s (4 * m + d)) (x % 4) (fun q3 => old (Or.inr ⟨q2.symm, q3⟩)) (fun q3 => put (Or.inr ⟨q2, by omega⟩)) eB rfl (by have := hB (by omega); omega) (by omega))) (fun q2 => old (Or.inl (by omega))) rfl eA)) rfl eA)
  refine nm_r (ix_al m d) (pk_le (xt_D s x + xt_D s (16 * m + 4 * (x % 4) + d)) 65 (fun q => hval _ (if_pos q).symm) (fun q => hval 65 (if_neg (by omega)).symm))
def sp_P (g : pg_T) (dn : Nat → Nat) (x m d : Nat) (s : xt_T) : Prop := dn (16 * m + 4 * (x % 4) + d) = 1 → rp_P g x m d s
theorem sp_l {m d : Nat} {s' : xt_T} (dx : dn x = 1) (h : sp_P g dn x m d s) (l : xt_le dn s s') : sp_P g dn x m d s' := fun z => rp_l dx z (h z) l
theorem sp_cl (hH : xt_H g T n 256 288 L x dn s) (hE : ∀ m, m < pg_N g → pg_ow g m = (x - 256) / 4 → ∀ d, d < pg_F g → sp_P g dn x m d s) : xt_G g T n 256 288 L 288 dn s := by
  have hg : pg_ok g := hH.2.2.2.2.2.2.1
  have hx1 : 256 ≤ x := hH.2.2.2.1
  have hx2 : x < 288 := hH.2.2.2.2.1
  have hF := pg_F4 hg
  have hN := pg_N16 hg
  refine ⟨hH.1.1, hH.1.2.1, ?_, ?_⟩
  · intro t w y p q hc dp dq _ _
    have hpq := cd_pq hg hc
    by_cases px : p = x ∨ q = x
    · rcases hc with ⟨rfl, k, c, a, d, hk, hc, ha, hd, k0, hb, rfl, ep, eq, rfl⟩ | ⟨rfl, k, c, a, d, b, e, hk, hc, ha, hd, hb, he, k1, hb1, hb2, rfl, ep, eq, rfl⟩ | ⟨rfl, k, c, b, a, hk, hc, hb, ha, k1, hb1, rfl, ep, eq, rfl⟩
      · have := pg_srN hg hk
        omega
      · have := pg_srN hg hk
        have := pg_exN hg (pg_clP hg hk k1).1
        omega
      · have hsr := pg_srN hg hk
        have epx : p = x := by
          rcases px with z | z
          · exact z
          · omega
        subst epx
        have ea : p % 4 = a := by omega
        have hrq := xh_rl hH (t := q) (by omega) dq
        have hcF : c < pg_F g := by
          have : q % 4 = c := by omega
          omega
        have h1 := hE (pg_sr g k) hsr (by omega) c hcF
        unfold sp_P rp_P rp_L at h1
        rw [ea, ← eq] at h1
        exact (h1 dq).2 k hk k1 rfl b hb hb1
    · exact hH.1.2.2.1 t w y p q hc dp dq (fun z => px (Or.inl z)) (fun z => px (Or.inr z))
  · intro m d a hm hd ha q1 q2 _
    by_cases e : 256 + 4 * pg_ow g m + a = x
    · have ea : x % 4 = a := by omega
      have hrq := xh_rl hH (t := 16 * m + 4 * a + d) (by omega) q2
      have hdF : d < pg_F g := by
        have : (16 * m + 4 * a + d) % 4 = d := by omega
        omega
      have h1 := hE m hm (by omega) d hdF
      unfold sp_P rp_P rp_A at h1
      rw [ea] at h1
      rw [e]
      exact (h1 q2).1
    · exact hH.1.2.2.2 m d a hm hd ha q1 q2 e
theorem xh_spread (hH : xt_H g T n 256 288 L x dn s) (H : ∀ s', xt_G g T n 256 288 L 288 dn s' → xt_le dn s s' → post (sx_m f g L dn s')) :
    wpX_spread post (sx_m f g L dn s) (nI x) := by
  have hg : pg_ok g := hH.2.2.2.2.2.2.1
  have dx : dn x = 1 := hH.2.1
  have hx1 : 256 ≤ x := hH.2.2.2.1
  have hx2 : x < 288 := hH.2.2.2.2.1
  have hF := pg_F4 hg
  have hN := pg_N16 hg
  have hP8 := pg_P8 hg
  have hr : (x - 256) / 4 < pg_P g ∧ x % 4 < pg_F g := by
    rcases xh_rng hH (by omega) dx with a | a
    · omega
    · exact a.2.2
  have hex := pg_exN hg hr.1
  have hee := pg_enex hg hr.1
  have e2 : (nI x - 256) >>> ((2 : Int32) &&& 31) = nI ((x - 256) / 4) := by
    have : nI x - 256 = nI (x - 256) := pk_sub (b := 256) hx1
    rw [this, ct_s2 (by omega)]
  have i8 : vp_in (nI ((x - 256) / 4)) 8 := vp_in_nI (by omega) (by omega)
  refine nm_r e2 (nm_r (ct_3 (by omega)) (And.intro i8 (nm_r (ar_Nr _ (by omega)) ⟨pg_ex g ((x - 256) / 4) + 1 - pg_en g ((x - 256) / 4) + 1, ?_⟩)))
  refine lp_for (xt_H g T n 256 288 L x dn) (xt_le dn) (fun j i s => sx_u (wX_spread_20 post (nI x) (nI ((x - 256) / 4)) (nI (x % 4)) j (nI (pg_en g ((x - 256) / 4) + i))) (sx_m f g L dn s)) (fun i s => ∀ d, d < pg_F g → sp_P g dn x (pg_en g ((x - 256) / 4) + i) d s) (fun s => post (sx_m f g L dn s)) (pg_ex g ((x - 256) / 4) + 1 - pg_en g ((x - 256) / 4)) (xt_le_r dn) (fun _ _ _ => xt_le_t) ?_ ?_ ?_ s hH ?_ _ (by omega)
  · intro i s s' h l d hd
    exact sp_l dx (h d hd) l
  · intro j s q
    refine And.intro i8 (pk_lt (pg_ex g ((x - 256) / 4)) (pg_en g ((x - 256) / 4) + (pg_ex g ((x - 256) / 4) + 1 - pg_en g ((x - 256) / 4))) (fun _ => q) (fun z => ?_) (ar_Nr _ (by omega)) rfl)
    omega
  · intro j i s hi hH' K
    refine And.intro i8 (pk_lt (pg_ex g ((x - 256) / 4)) (pg_en g ((x - 256) / 4) + i) (fun z => ?_) (fun z => ⟨pg_F g + 1, ?_⟩) (ar_Nr _ (by omega)) rfl)
    · omega
    · have ho : pg_ow g (pg_en g ((x - 256) / 4) + i) = (x - 256) / 4 := pg_ow1 hg hr.1 (by omega) z
      have hm : pg_en g ((x - 256) / 4) + i < pg_N g := by omega
      have ex : x = 256 + 4 * pg_ow g (pg_en g ((x - 256) / 4) + i) + x % 4 := by rw [ho]; omega
      have K' : ∀ s', xt_H g T n 256 288 L x dn s' → xt_le dn s s' → (∀ d, d < pg_F g → sp_P g dn x (pg_en g ((x - 256) / 4) + i) d s') → sx_u (wX_spread_20 post (nI x) (nI ((x - 256) / 4)) (nI (x % 4)) j (nI (pg_en g ((x - 256) / 4) + i + 1))) (sx_m f g L dn s') := K
      clear K
      generalize pg_en g ((x - 256) / 4) + i = m at *
      refine lp_for (xt_H g T n 256 288 L x dn) (xt_le dn) (fun l d s => sx_u (wX_spread_34 post (wX_spread_20 post (nI x) (nI ((x - 256) / 4)) (nI (x % 4)) j) (nI x) (nI ((x - 256) / 4)) (nI (x % 4)) (nI m) l (nI d)) (sx_m f g L dn s)) (sp_P g dn x m) (fun s => sx_u (wX_spread_20 post (nI x) (nI ((x - 256) / 4)) (nI (x % 4)) j (nI (m + 1))) (sx_m f g L dn s)) (pg_F g) (xt_le_r dn) (fun _ _ _ => xt_le_t) ?_ ?_ ?_ s hH' K' _ (by omega)
      · intro d s s' h l
        exact sp_l dx h l
      · intro l s q
        exact br_t (nI_le (Nat.le_refl _) (by omega)) (nm_r (nI_1 m) q)
      · intro l d s hd hH2 K2
        have ei : 16 * nI m + 4 * nI (x % 4) + nI d = nI (16 * m + 4 * (x % 4) + d) := ix_lv _ _ _
        have hq : 16 * m + 4 * (x % 4) + d < 256 := by omega
        have iq : vp_in (16 * nI m + 4 * nI (x % 4) + nI d) 288 := by rw [ei]; exact vp_in_nI (by omega) (by omega)
        have eq : ar_N (xt_D s) (16 * nI m + 4 * nI (x % 4) + nI d).toNatClampNeg = nI (xt_D s (16 * m + 4 * (x % 4) + d)) := by rw [ei]; exact ar_Nr _ (by omega)
        have hD := (hH2.1.1.1 (16 * m + 4 * (x % 4) + d) (by omega))
        have hDx := xh_D65 hH2 (by omega) dx
        refine br_f (nI_ge hd (by omega)) (And.intro iq (nm_r eq (pk_le 66 (xt_D s (16 * m + 4 * (x % 4) + d)) (fun z2 => nm_r (nI_1 d) (K2 s hH2 (xt_le_r _ _) (fun z3 => ?_))) (fun z2 => And.intro (vp_in_nI (by omega) (by omega)) ?_))))
        · have := xh_D65 hH2 (t := 16 * m + 4 * (x % 4) + d) (by omega) z3
          omega
        · have dq : dn (16 * m + 4 * (x % 4) + d) = 1 := by
            by_cases e0 : dn (16 * m + 4 * (x % 4) + d) = 0
            · have := hH2.1.1.2.2.1 _ (by omega) e0 z2
              omega
            · omega
          refine xh_reach hH2 hm (by omega) ex dq rfl ?_ (fun s' h1 h2 h3 => nm_r (nI_1 d) (K2 s' h1 h2 (fun _ => h3)))
          show ar_N (xt_D s) (nI x).toNatClampNeg + _ = _
          rw [ar_Nr _ (by omega), nI_add]
  · intro s' h1 h2 h3
    refine H s' (sp_cl h1 (fun m hm ho d hd => ?_)) h2
    have hI := pg_owI hg hm
    rw [ho] at hI
    have := h3 (m - pg_en g ((x - 256) / 4)) (by omega) d hd
    rw [show pg_en g ((x - 256) / 4) + (m - pg_en g ((x - 256) / 4)) = m by omega] at this
    exact this
end
end TJ
end
section
section TK
abbrev fw_maxProcs (f : fx_T) (v : Int32) : fx_T := (v, f.2.1, f.2.2.1, f.2.2.2.1, f.2.2.2.2.1, f.2.2.2.2.2.1, f.2.2.2.2.2.2.1, f.2.2.2.2.2.2.2.1, f.2.2.2.2.2.2.2.2.1, f.2.2.2.2.2.2.2.2.2.1, f.2.2.2.2.2.2.2.2.2.2.1, f.2.2.2.2.2.2.2.2.2.2.2.1, f.2.2.2.2.2.2.2.2.2.2.2.2.1, f.2.2.2.2.2.2.2.2.2.2.2.2.2)
abbrev fw_maxNodes (f : fx_T) (v : Int32) : fx_T := (f.1, v, f.2.2.1, f.2.2.2.1, f.2.2.2.2.1, f.2.2.2.2.2.1, f.2.2.2.2.2.2.1, f.2.2.2.2.2.2.2.1, f.2.2.2.2.2.2.2.2.1, f.2.2.2.2.2.2.2.2.2.1, f.2.2.2.2.2.2.2.2.2.2.1, f.2.2.2.2.2.2.2.2.2.2.2.1, f.2.2.2.2.2.2.2.2.2.2.2.2.1, f.2.2.2.2.2.2.2.2.2.2.2.2.2)
abbrev fw_maxLinks (f : fx_T) (v : Int32) : fx_T := (f.1, f.2.1, v, f.2.2.2.1, f.2.2.2.2.1, f.2.2.2.2.2.1, f.2.2.2.2.2.2.1, f.2.2.2.2.2.2.2.1, f.2.2.2.2.2.2.2.2.1, f.2.2.2.2.2.2.2.2.2.1, f.2.2.2.2.2.2.2.2.2.2.1, f.2.2.2.2.2.2.2.2.2.2.2.1, f.2.2.2.2.2.2.2.2.2.2.2.2.1, f.2.2.2.2.2.2.2.2.2.2.2.2.2)
abbrev fw_cleanMask (f : fx_T) (v : Int32) : fx_T := (f.1, f.2.1, f.2.2.1, v, f.2.2.2.2.1, f.2.2.2.2.2.1, f.2.2.2.2.2.2.1, f.2.2.2.2.2.2.2.1, f.2.2.2.2.2.2.2.2.1, f.2.2.2.2.2.2.2.2.2.1, f.2.2.2.2.2.2.2.2.2.2.1, f.2.2.2.2.2.2.2.2.2.2.2.1, f.2.2.2.2.2.2.2.2.2.2.2.2.1, f.2.2.2.2.2.2.2.2.2.2.2.2.2)
abbrev fw_solved (f : fx_T) (v : Int32) : fx_T := (f.1, f.2.1, f.2.2.1, f.2.2.2.1, v, f.2.2.2.2.2.1, f.2.2.2.2.2.2.1, f.2.2.2.2.2.2.2.1, f.2.2.2.2.2.2.2.2.1, f.2.2.2.2.2.2.2.2.2.1, f.2.2.2.2.2.2.2.2.2.2.1, f.2.2.2.2.2.2.2.2.2.2.2.1, f.2.2.2.2.2.2.2.2.2.2.2.2.1, f.2.2.2.2.2.2.2.2.2.2.2.2.2)
abbrev fw_reachedCount (f : fx_T) (v : Int32) : fx_T := (f.1, f.2.1, f.2.2.1, f.2.2.2.1, f.2.2.2.2.1, v, f.2.2.2.2.2.2.1, f.2.2.2.2.2.2.2.1, f.2.2.2.2.2.2.2.2.1, f.2.2.2.2.2.2.2.2.2.1, f.2.2.2.2.2.2.2.2.2.2.1, f.2.2.2.2.2.2.2.2.2.2.2.1, f.2.2.2.2.2.2.2.2.2.2.2.2.1, f.2.2.2.2.2.2.2.2.2.2.2.2.2)
abbrev fw_traceLen (f : fx_T) (v : Int32) : fx_T := (f.1, f.2.1, f.2.2.1, f.2.2.2.1, f.2.2.2.2.1, f.2.2.2.2.2.1, v, f.2.2.2.2.2.2.2.1, f.2.2.2.2.2.2.2.2.1, f.2.2.2.2.2.2.2.2.2.1, f.2.2.2.2.2.2.2.2.2.2.1, f.2.2.2.2.2.2.2.2.2.2.2.1, f.2.2.2.2.2.2.2.2.2.2.2.2.1, f.2.2.2.2.2.2.2.2.2.2.2.2.2)
abbrev fw_waitingCount (f : fx_T) (v : Int32) : fx_T := (f.1, f.2.1, f.2.2.1, f.2.2.2.1, f.2.2.2.2.1, f.2.2.2.2.2.1, f.2.2.2.2.2.2.1, v, f.2.2.2.2.2.2.2.2.1, f.2.2.2.2.2.2.2.2.2.1, f.2.2.2.2.2.2.2.2.2.2.1, f.2.2.2.2.2.2.2.2.2.2.2.1, f.2.2.2.2.2.2.2.2.2.2.2.2.1, f.2.2.2.2.2.2.2.2.2.2.2.2.2)
abbrev fw_traceCell (f : fx_T) (v : (Nat → Int32)) : fx_T := (f.1, f.2.1, f.2.2.1, f.2.2.2.1, f.2.2.2.2.1, f.2.2.2.2.2.1, f.2.2.2.2.2.2.1, f.2.2.2.2.2.2.2.1, v, f.2.2.2.2.2.2.2.2.2.1, f.2.2.2.2.2.2.2.2.2.2.1, f.2.2.2.2.2.2.2.2.2.2.2.1, f.2.2.2.2.2.2.2.2.2.2.2.2.1, f.2.2.2.2.2.2.2.2.2.2.2.2.2)
abbrev fw_traceDepth (f : fx_T) (v : (Nat → Int32)) : fx_T := (f.1, f.2.1, f.2.2.1, f.2.2.2.1, f.2.2.2.2.1, f.2.2.2.2.2.1, f.2.2.2.2.2.2.1, f.2.2.2.2.2.2.2.1, f.2.2.2.2.2.2.2.2.1, v, f.2.2.2.2.2.2.2.2.2.2.1, f.2.2.2.2.2.2.2.2.2.2.2.1, f.2.2.2.2.2.2.2.2.2.2.2.2.1, f.2.2.2.2.2.2.2.2.2.2.2.2.2)
abbrev fw_stepKind (f : fx_T) (v : (Nat → Int32)) : fx_T := (f.1, f.2.1, f.2.2.1, f.2.2.2.1, f.2.2.2.2.1, f.2.2.2.2.2.1, f.2.2.2.2.2.2.1, f.2.2.2.2.2.2.2.1, f.2.2.2.2.2.2.2.2.1, f.2.2.2.2.2.2.2.2.2.1, v, f.2.2.2.2.2.2.2.2.2.2.2.1, f.2.2.2.2.2.2.2.2.2.2.2.2.1, f.2.2.2.2.2.2.2.2.2.2.2.2.2)
abbrev fw_stepLink (f : fx_T) (v : (Nat → Int32)) : fx_T := (f.1, f.2.1, f.2.2.1, f.2.2.2.1, f.2.2.2.2.1, f.2.2.2.2.2.1, f.2.2.2.2.2.2.1, f.2.2.2.2.2.2.2.1, f.2.2.2.2.2.2.2.2.1, f.2.2.2.2.2.2.2.2.2.1, f.2.2.2.2.2.2.2.2.2.2.1, v, f.2.2.2.2.2.2.2.2.2.2.2.2.1, f.2.2.2.2.2.2.2.2.2.2.2.2.2)
abbrev fw_stepMate (f : fx_T) (v : (Nat → Int32)) : fx_T := (f.1, f.2.1, f.2.2.1, f.2.2.2.1, f.2.2.2.2.1, f.2.2.2.2.2.1, f.2.2.2.2.2.2.1, f.2.2.2.2.2.2.2.1, f.2.2.2.2.2.2.2.2.1, f.2.2.2.2.2.2.2.2.2.1, f.2.2.2.2.2.2.2.2.2.2.1, f.2.2.2.2.2.2.2.2.2.2.2.1, v, f.2.2.2.2.2.2.2.2.2.2.2.2.2)
abbrev fw_waiting (f : fx_T) (v : (Nat → Int32)) : fx_T := (f.1, f.2.1, f.2.2.1, f.2.2.2.1, f.2.2.2.2.1, f.2.2.2.2.2.1, f.2.2.2.2.2.2.1, f.2.2.2.2.2.2.2.1, f.2.2.2.2.2.2.2.2.1, f.2.2.2.2.2.2.2.2.2.1, f.2.2.2.2.2.2.2.2.2.2.1, f.2.2.2.2.2.2.2.2.2.2.2.1, f.2.2.2.2.2.2.2.2.2.2.2.2.1, v)
abbrev fv_maxProcs (f : fy_T) (v : Int32) : fy_T := (v, f.2.1, f.2.2.1, f.2.2.2.1, f.2.2.2.2.1, f.2.2.2.2.2.1, f.2.2.2.2.2.2.1, f.2.2.2.2.2.2.2.1, f.2.2.2.2.2.2.2.2.1, f.2.2.2.2.2.2.2.2.2.1, f.2.2.2.2.2.2.2.2.2.2)
abbrev fv_maxNodes (f : fy_T) (v : Int32) : fy_T := (f.1, v, f.2.2.1, f.2.2.2.1, f.2.2.2.2.1, f.2.2.2.2.2.1, f.2.2.2.2.2.2.1, f.2.2.2.2.2.2.2.1, f.2.2.2.2.2.2.2.2.1, f.2.2.2.2.2.2.2.2.2.1, f.2.2.2.2.2.2.2.2.2.2)
abbrev fv_maxLinks (f : fy_T) (v : Int32) : fy_T := (f.1, f.2.1, v, f.2.2.2.1, f.2.2.2.2.1, f.2.2.2.2.2.1, f.2.2.2.2.2.2.1, f.2.2.2.2.2.2.2.1, f.2.2.2.2.2.2.2.2.1, f.2.2.2.2.2.2.2.2.2.1, f.2.2.2.2.2.2.2.2.2.2)
abbrev fv_solved (f : fy_T) (v : Int32) : fy_T := (f.1, f.2.1, f.2.2.1, v, f.2.2.2.2.1, f.2.2.2.2.2.1, f.2.2.2.2.2.2.1, f.2.2.2.2.2.2.2.1, f.2.2.2.2.2.2.2.2.1, f.2.2.2.2.2.2.2.2.2.1, f.2.2.2.2.2.2.2.2.2.2)
abbrev fv_kept (f : fy_T) (v : Int32) : fy_T := (f.1, f.2.1, f.2.2.1, f.2.2.2.1, v, f.2.2.2.2.2.1, f.2.2.2.2.2.2.1, f.2.2.2.2.2.2.2.1, f.2.2.2.2.2.2.2.2.1, f.2.2.2.2.2.2.2.2.2.1, f.2.2.2.2.2.2.2.2.2.2)
abbrev fv_pathNode (f : fy_T) (v : (Nat → Int32)) : fy_T := (f.1, f.2.1, f.2.2.1, f.2.2.2.1, f.2.2.2.2.1, v, f.2.2.2.2.2.2.1, f.2.2.2.2.2.2.2.1, f.2.2.2.2.2.2.2.2.1, f.2.2.2.2.2.2.2.2.2.1, f.2.2.2.2.2.2.2.2.2.2)
abbrev fv_pathFact (f : fy_T) (v : (Nat → Int32)) : fy_T := (f.1, f.2.1, f.2.2.1, f.2.2.2.1, f.2.2.2.2.1, f.2.2.2.2.2.1, v, f.2.2.2.2.2.2.2.1, f.2.2.2.2.2.2.2.2.1, f.2.2.2.2.2.2.2.2.2.1, f.2.2.2.2.2.2.2.2.2.2)
abbrev fv_pathDepth (f : fy_T) (v : (Nat → Int32)) : fy_T := (f.1, f.2.1, f.2.2.1, f.2.2.2.1, f.2.2.2.2.1, f.2.2.2.2.2.1, f.2.2.2.2.2.2.1, v, f.2.2.2.2.2.2.2.2.1, f.2.2.2.2.2.2.2.2.2.1, f.2.2.2.2.2.2.2.2.2.2)
abbrev fv_stepKind (f : fy_T) (v : (Nat → Int32)) : fy_T := (f.1, f.2.1, f.2.2.1, f.2.2.2.1, f.2.2.2.2.1, f.2.2.2.2.2.1, f.2.2.2.2.2.2.1, f.2.2.2.2.2.2.2.1, v, f.2.2.2.2.2.2.2.2.2.1, f.2.2.2.2.2.2.2.2.2.2)
abbrev fv_stepLink (f : fy_T) (v : (Nat → Int32)) : fy_T := (f.1, f.2.1, f.2.2.1, f.2.2.2.1, f.2.2.2.2.1, f.2.2.2.2.2.1, f.2.2.2.2.2.2.1, f.2.2.2.2.2.2.2.1, f.2.2.2.2.2.2.2.2.1, v, f.2.2.2.2.2.2.2.2.2.2)
abbrev fv_openCalls (f : fy_T) (v : (Nat → Int32)) : fy_T := (f.1, f.2.1, f.2.2.1, f.2.2.2.1, f.2.2.2.2.1, f.2.2.2.2.2.1, f.2.2.2.2.2.2.1, f.2.2.2.2.2.2.2.1, f.2.2.2.2.2.2.2.2.1, f.2.2.2.2.2.2.2.2.2.1, v)
section
variable {f : fx_T} {g : pg_T} {T : Nat → Nat} {n L x : Nat} {dn : Nat → Nat} {s : xt_T} {post : SX → Prop}
/-! the openings -/
def op_I (g : pg_T) (m r : Nat) (T : Nat → Nat) (L : Nat) (dn : Nat → Nat) (s : xt_T) : Prop :=
  xt_G g T (m + r) 256 288 L 288 dn s ∧ L ≤ 65 ∧ (∀ t, cd_i g t → xt_D s t = 0) ∧ cn_z (fun j => dn (256 + j)) 32 + r = 32
theorem cn_sh (dn : Nat → Nat) {x : Nat} (hx : 256 ≤ x) : (fun j => ar_u dn x 1 (256 + j)) = ar_u (fun j => dn (256 + j)) (x - 256) 1 := by
  funext j
  show (if 256 + j = x then 1 else dn (256 + j)) = (if j = x - 256 then 1 else dn (256 + j))
  by_cases e : 256 + j = x
  · rw [if_pos e, if_pos (by omega)]
  · rw [if_neg e, if_neg (by omega)]
theorem xh_op16 {m0 : Nat} (hg : pg_ok g) (hP : 0 < pg_P g) (H : ∀ r T L dn s, op_I g m0 r T L dn s → (∀ t, t < 288 → xt_D s t < 66 → dn t = 1) → post (sx_m f g L dn s)) :
    ∀ m r k T L dn s, r + m = 32 → m < k → op_I g m0 r T L dn s → sx_u (wX_tabulateOpenings_16 post k (nI r)) (sx_m f g L dn s) := by
  intro m
  induction m with
  | zero =>
    intro r k T L dn s e hk hI
    obtain ⟨k, rfl⟩ : ∃ j, k = j + 1 := ⟨k - 1, by omega⟩
    have : r = 32 := by omega
    subst this
    refine br_t (nI_le (a := 32) (b := 32) (by omega) (by omega)) (H _ _ _ _ _ hI ?_)
    intro t ht ft
    have b := (hI.1.1.1 t ht).2
    by_cases d : dn t = 0
    · have r1 := hI.1.1.2.2.1 t ht d ft
      have := cn_0 (f := fun j => dn (256 + j)) (N := 32) (by have := hI.2.2.2; omega) (t - 256) (by omega)
      have e2 : dn (256 + (t - 256)) ≠ 0 := this
      rw [show 256 + (t - 256) = t by omega] at e2
      omega
    · omega
  | succ m ih =>
    intro r k T L dn s e hk hI
    obtain ⟨k, rfl⟩ : ∃ j, k = j + 1 := ⟨k - 1, by omega⟩
    have hI0 := hI
    obtain ⟨D, O, A, B, h, nn, pp⟩ := s
    obtain ⟨⟨hS, hW, hcD, hcA⟩, hL, hi0, hcn⟩ := hI
    refine br_f (nI_ge (a := r) (b := 32) (by omega) (by omega)) ?_
    refine xw_take (f := f) (g := g) (L := L) (dn := dn) (D := D) (O := O) (A := A) (B := B) (h := h) (n := nn) (p := pp) hW (by omega) ?_ ?_ ?_
    · intro t c w
      have := (hS.2.2.1 t w.1 w.2.2.2 (by have := w.2.1; have := w.2.2.1; show D t < 66; omega)).2.2
      have e2 : D t = c := w.2.1
      have e3 : L ≤ D t := this
      omega
    · intro none
      refine br_f (by decide) (H r T L dn _ hI0 ?_)
      intro t ht ft
      have b := (hS.1 t ht).2
      by_cases d : dn t = 0
      · exact absurd ⟨ht, rfl, by have : D t < 66 := ft; omega, d⟩ (none t (D t))
      · omega
    · intro x v wx mn h' n' p' wl'
      have hx := wx.1
      have hD : D x = v := wx.2.1
      have hv := wx.2.2.1
      have d0 := wx.2.2.2
      have rg := hS.2.2.1 x hx d0 (by show D x < 66; omega)
      have rg3 : L ≤ D x := rg.2.2
      refine br_t (nI_pos' (by omega)) ?_
      have hH : xt_H g (ar_u T x (m0 + r)) (m0 + r + 1) 256 288 v x (ar_u dn x 1) (D, O, A, B, h', n', p') := by
        refine ⟨⟨si_take hg hS ⟨rg.1, rg.2.1⟩ hx d0 hD hv (by omega) ?_, wl', cl_tD hg hcD, ?_⟩, ar_us, hD, rg.1, rg.2.1, by omega, hg, hP⟩
        · intro t ht dt ft
          exact mn t (D t) ⟨ht, rfl, by have : D t < 66 := ft; omega, dt⟩
        · intro n d a q1 q2 q3 q4 q5 q6
          have := pg_owP hg q1
          have := pg_P8 hg
          have := pg_N16 hg
          rw [ar_un q6] at q4
          rw [ar_un (by omega)] at q5
          exact hcA n d a q1 q2 q3 q4 q5 (by omega)
      refine xh_spread hH (fun s' hG' le' => nm_r (nI_1 r) (ih (r + 1) k (ar_u T x (m0 + r)) v (ar_u dn x 1) s' (by omega) (by omega) ⟨hG', hv, ?_, ?_⟩))
      · intro t ht
        have h1 : D t = 0 := hi0 t ht
        have := lx_1 (le'.1 t)
        have h2 : xt_D s' t ≤ D t := this
        omega
      · rw [cn_sh dn rg.1]
        have := cn_set (f := fun j => dn (256 + j)) (x := x - 256) (N := 32) (by show dn (256 + (x - 256)) = 0; rw [show 256 + (x - 256) = x by omega]; exact d0) (by omega)
        omega
theorem xh_openings {m : Nat} (hg : pg_ok g) (hP : 0 < pg_P g) (hI : lv_I g m T L dn s) (hf : ∀ t, t < 288 → xt_D s t < 66 → dn t = 1)
    (H : ∀ r T L dn s, op_I g m r T L dn s → (∀ t, t < 288 → xt_D s t < 66 → dn t = 1) → post (sx_m f g L dn s)) : wpX_tabulateOpenings post (sx_m f g L dn s) := by
  obtain ⟨⟨hS, hW, hcD, hcA⟩, hL, hi0, hcn⟩ := hI
  have d0 : ∀ t, 256 ≤ t → t < 288 → dn t = 0 := hS.2.2.2.2.2.2.2
  have hG : xt_G g T m 256 288 0 288 dn s := by
    obtain ⟨h1, h2, h3, h4, h5, h6, h7, h8⟩ := hS
    refine ⟨⟨h1, h2, fun t ht dt ft => ?_, fun t l1 l2 dt => ?_, h5, h6, h7, fun t l1 l2 => by omega⟩, hW, hcD, hcA⟩
    · have := hf t ht ft; omega
    · have := d0 t l1 l2; omega
  refine xg_ini (t := 256) hg hG rfl rfl rfl (Or.inr rfl) (by omega) (by omega) (d0 256 (by omega) (by omega)) (fun s' h1 h2 h3 => ⟨33, xh_op16 hg hP H 32 0 33 T 0 dn s' (by omega) (by omega) ⟨h1, by omega, ?_, ?_⟩⟩)
  · intro t ht
    rcases ht with ⟨p, a, hp, ha, rfl⟩ | rfl
    · have := hi0 p a hp ha
      have := lx_1 (h2.1 (16 * pg_en g p + 4 * a + a))
      omega
    · exact h3
  · rw [cn_all (fun j hj => d0 (256 + j) (by omega) (by omega))]
/-! clearing -/
theorem xw_clear68 {D O A B h n p : Nat → Nat} (H : ∀ h', (∀ b, b ≤ 65 → h' b = 0) → post (sx_m f g L dn (D, O, A, B, h', n, p))) :
    ∃ k, wX_clearTables_68 post 66 256 288 f.1 f.2.1 f.2.2.1 (nI (pg_F g)) f.2.2.2.1 (nI (pg_P g)) (nI (pg_N g)) (nI (pg_L g)) f.2.2.2.2.1 f.2.2.2.2.2.1 (nI L) f.2.2.2.2.2.2.1 f.2.2.2.2.2.2.2.1 k (nI 0) (ar_N (pg_en g)) (ar_N (pg_ex g)) (ar_N (pg_ow g)) (ar_N (pg_kd g)) (ar_N (pg_sr g)) (ar_N (pg_tg g)) (ar_C (pg_ca g)) (ar_N (pg_pa g)) (ar_N (pg_ba g)) (ar_N D) (ar_N O) (ar_N dn) (ar_N A) (ar_N B) (ar_O h) (ar_O n) (ar_O p) f.2.2.2.2.2.2.2.2.1 f.2.2.2.2.2.2.2.2.2.1 f.2.2.2.2.2.2.2.2.2.2.1 f.2.2.2.2.2.2.2.2.2.2.2.1 f.2.2.2.2.2.2.2.2.2.2.2.2.1 f.2.2.2.2.2.2.2.2.2.2.2.2.2 := by
  refine pk_loop (fun k i (h' : Nat → Nat) => wX_clearTables_68 post 66 256 288 f.1 f.2.1 f.2.2.1 (nI (pg_F g)) f.2.2.2.1 (nI (pg_P g)) (nI (pg_N g)) (nI (pg_L g)) f.2.2.2.2.1 f.2.2.2.2.2.1 (nI L) f.2.2.2.2.2.2.1 f.2.2.2.2.2.2.2.1 k (nI i) (ar_N (pg_en g)) (ar_N (pg_ex g)) (ar_N (pg_ow g)) (ar_N (pg_kd g)) (ar_N (pg_sr g)) (ar_N (pg_tg g)) (ar_C (pg_ca g)) (ar_N (pg_pa g)) (ar_N (pg_ba g)) (ar_N D) (ar_N O) (ar_N dn) (ar_N A) (ar_N B) (ar_O h') (ar_O n) (ar_O p) f.2.2.2.2.2.2.2.2.1 f.2.2.2.2.2.2.2.2.2.1 f.2.2.2.2.2.2.2.2.2.2.1 f.2.2.2.2.2.2.2.2.2.2.2.1 f.2.2.2.2.2.2.2.2.2.2.2.2.1 f.2.2.2.2.2.2.2.2.2.2.2.2.2) (fun i h' => ∀ b, b < i → h' b = 0) 66 0 h (by omega) (fun b hb => by omega) ?_ ?_
  · intro k h' q
    exact br_t (by decide) (H h' (fun b hb => q b (by omega)))
  · intro k i h' hi q K
    refine br_f (nI_nlt (a := 65) (b := i) (by omega) (by omega)) (And.intro (vp_in_nI hi (by omega)) (nm_r (e' := ar_O (ar_u h' i 0)) ?_ (nm_r (nI_1 i) (K (ar_u h' i 0) (fun b hb => ?_)))))
    · rw [nI_clamp (by omega)]; exact ar_Ou h' i 0
    · by_cases e : b = i
      · rw [e]; exact ar_us
      · rw [ar_un e]; exact q b (by omega)
theorem xw_clear39 {D O A B h n p : Nat → Nat} (H : ∀ A' B' h', (∀ j, j < 64 → A' j = 66) → (∀ b, b ≤ 65 → h' b = 0) → post (sx_m f g L dn (D, O, A', B', h', n, p))) :
    ∃ k, wX_clearTables_39 post 66 256 288 f.1 f.2.1 f.2.2.1 (nI (pg_F g)) f.2.2.2.1 (nI (pg_P g)) (nI (pg_N g)) (nI (pg_L g)) f.2.2.2.2.1 f.2.2.2.2.2.1 (nI L) f.2.2.2.2.2.2.1 f.2.2.2.2.2.2.2.1 k (nI 0) (ar_N (pg_en g)) (ar_N (pg_ex g)) (ar_N (pg_ow g)) (ar_N (pg_kd g)) (ar_N (pg_sr g)) (ar_N (pg_tg g)) (ar_C (pg_ca g)) (ar_N (pg_pa g)) (ar_N (pg_ba g)) (ar_N D) (ar_N O) (ar_N dn) (ar_N A) (ar_N B) (ar_O h) (ar_O n) (ar_O p) f.2.2.2.2.2.2.2.2.1 f.2.2.2.2.2.2.2.2.2.1 f.2.2.2.2.2.2.2.2.2.2.1 f.2.2.2.2.2.2.2.2.2.2.2.1 f.2.2.2.2.2.2.2.2.2.2.2.2.1 f.2.2.2.2.2.2.2.2.2.2.2.2.2 := by
  refine pk_loop (fun k i (v : (Nat → Nat) × (Nat → Nat)) => wX_clearTables_39 post 66 256 288 f.1 f.2.1 f.2.2.1 (nI (pg_F g)) f.2.2.2.1 (nI (pg_P g)) (nI (pg_N g)) (nI (pg_L g)) f.2.2.2.2.1 f.2.2.2.2.2.1 (nI L) f.2.2.2.2.2.2.1 f.2.2.2.2.2.2.2.1 k (nI i) (ar_N (pg_en g)) (ar_N (pg_ex g)) (ar_N (pg_ow g)) (ar_N (pg_kd g)) (ar_N (pg_sr g)) (ar_N (pg_tg g)) (ar_C (pg_ca g)) (ar_N (pg_pa g)) (ar_N (pg_ba g)) (ar_N D) (ar_N O) (ar_N dn) (ar_N v.1) (ar_N v.2) (ar_O h) (ar_O n) (ar_O p) f.2.2.2.2.2.2.2.2.1 f.2.2.2.2.2.2.2.2.2.1 f.2.2.2.2.2.2.2.2.2.2.1 f.2.2.2.2.2.2.2.2.2.2.2.1 f.2.2.2.2.2.2.2.2.2.2.2.2.1 f.2.2.2.2.2.2.2.2.2.2.2.2.2) (fun i v => ∀ b, b < i → v.1 b = 66) 64 0 (A, B) (by omega) (fun b hb => by omega) ?_ ?_
  · intro k v q
    exact br_t (by decide) (xw_clear68 (fun h' hh => H v.1 v.2 h' q hh))
  · intro k i v hi q K
    refine br_f (nI_ge (a := i) (b := 64) (by omega) (by omega)) (And.intro (vp_in_nI hi (by omega)) (nm_r (e' := ar_N (ar_u v.1 i 66)) ?_ (And.intro (vp_in_nI hi (by omega)) (nm_r (e' := ar_N (ar_u v.2 i 0)) ?_ (nm_r (nI_1 i) (K (ar_u v.1 i 66, ar_u v.2 i 0) (fun b hb => ?_)))))))
    · rw [nI_clamp (by omega)]; exact ar_Nu v.1 i 66
    · rw [nI_clamp (by omega)]; exact ar_Nu v.2 i 0
    · show ar_u v.1 i 66 b = 66
      by_cases e : b = i
      · rw [e]; exact ar_us
      · rw [ar_un e]; exact q b (by omega)
theorem xw_clear {D O A B h n p : Nat → Nat} (H : ∀ dn' D' O' A' B' h', (∀ t, t < 288 → dn' t = 0) → (∀ t, t < 288 → D' t = 66) → (∀ j, j < 64 → A' j = 66) → (∀ b, b ≤ 65 → h' b = 0) → post (sx_m f g L dn' (D', O', A', B', h', n, p))) :
    wpX_clearTables post (sx_m f g L dn (D, O, A, B, h, n, p)) := by
  refine pk_loop (fun k i (v : (Nat → Nat) × (Nat → Nat) × (Nat → Nat)) => wX_clearTables_2 post 66 256 288 f.1 f.2.1 f.2.2.1 (nI (pg_F g)) f.2.2.2.1 (nI (pg_P g)) (nI (pg_N g)) (nI (pg_L g)) f.2.2.2.2.1 f.2.2.2.2.2.1 (nI L) f.2.2.2.2.2.2.1 f.2.2.2.2.2.2.2.1 k (nI i) (ar_N (pg_en g)) (ar_N (pg_ex g)) (ar_N (pg_ow g)) (ar_N (pg_kd g)) (ar_N (pg_sr g)) (ar_N (pg_tg g)) (ar_C (pg_ca g)) (ar_N (pg_pa g)) (ar_N (pg_ba g)) (ar_N v.2.1) (ar_N v.2.2) (ar_N v.1) (ar_N A) (ar_N B) (ar_O h) (ar_O n) (ar_O p) f.2.2.2.2.2.2.2.2.1 f.2.2.2.2.2.2.2.2.2.1 f.2.2.2.2.2.2.2.2.2.2.1 f.2.2.2.2.2.2.2.2.2.2.2.1 f.2.2.2.2.2.2.2.2.2.2.2.2.1 f.2.2.2.2.2.2.2.2.2.2.2.2.2) (fun i v => (∀ b, b < i → v.1 b = 0) ∧ ∀ b, b < i → v.2.1 b = 66) 288 0 (dn, D, O) (by omega) ⟨fun b hb => by omega, fun b hb => by omega⟩ ?_ ?_
  · intro k v q
    exact br_t (by decide) (xw_clear39 (fun A' B' h' hA hh => H v.1 v.2.1 v.2.2 A' B' h' q.1 q.2 hA hh))
  · intro k i v hi q K
    refine br_f (nI_ge (a := i) (b := 288) (by omega) (by omega)) (And.intro (vp_in_nI hi (by omega)) (nm_r (e' := ar_N (ar_u v.2.1 i 66)) ?_ (And.intro (vp_in_nI hi (by omega)) (nm_r (e' := ar_N (ar_u v.2.2 i 0)) ?_ (And.intro (vp_in_nI hi (by omega)) (nm_r (e' := ar_N (ar_u v.1 i 0)) ?_ (nm_r (nI_1 i) (K (ar_u v.1 i 0, ar_u v.2.1 i 66, ar_u v.2.2 i 0) ⟨fun b hb => ?_, fun b hb => ?_⟩))))))))
    · rw [nI_clamp (by omega)]; exact ar_Nu v.2.1 i 66
    · rw [nI_clamp (by omega)]; exact ar_Nu v.2.2 i 0
    · rw [nI_clamp (by omega)]; exact ar_Nu v.1 i 0
    · show ar_u v.1 i 0 b = 0
      by_cases e : b = i
      · rw [e]; exact ar_us
      · rw [ar_un e]; exact q.1 b (by omega)
    · show ar_u v.2.1 i 66 b = 66
      by_cases e : b = i
      · rw [e]; exact ar_us
      · rw [ar_un e]; exact q.2 b (by omega)
/-! counting the reached points -/
def cn_r (A : Nat → Nat) : Nat → Nat
  | 0 => 0
  | n + 1 => cn_r A n + (if A n < 66 then 1 else 0)
theorem cn_r1 {A : Nat → Nat} {n : Nat} (h : A n < 66) : cn_r A (n + 1) = cn_r A n + 1 := by show _ + _ = _; rw [if_pos h]
theorem cn_r0 {A : Nat → Nat} {n : Nat} (h : ¬ A n < 66) : cn_r A (n + 1) = cn_r A n := by show _ + _ = _; rw [if_neg h]; rfl
theorem cn_rl (A : Nat → Nat) : ∀ n, cn_r A n ≤ n := by
  intro n
  induction n with
  | zero => exact Nat.le_refl _
  | succ n ih =>
    by_cases h : A n < 66
    · rw [cn_r1 h]; omega
    · rw [cn_r0 h]; omega
theorem xw_count (hA : ∀ j, j < 64 → xt_A s j ≤ 66) (H : post (sx_m (fw_reachedCount f (nI (cn_r (xt_A s) 64))) g L dn s)) : wpX_countReached post (sx_m f g L dn s) := by
  refine pk_loop (fun k i (_ : Unit) => wX_countReached_7 post 66 256 288 f.1 f.2.1 f.2.2.1 (nI (pg_F g)) f.2.2.2.1 (nI (pg_P g)) (nI (pg_N g)) (nI (pg_L g)) f.2.2.2.2.1 (nI L) f.2.2.2.2.2.2.1 f.2.2.2.2.2.2.2.1 (ar_N (pg_en g)) (ar_N (pg_ex g)) (ar_N (pg_ow g)) (ar_N (pg_kd g)) (ar_N (pg_sr g)) (ar_N (pg_tg g)) (ar_C (pg_ca g)) (ar_N (pg_pa g)) (ar_N (pg_ba g)) (ar_N (xt_D s)) (ar_N (xt_O s)) (ar_N dn) (ar_N (xt_A s)) (ar_N (xt_B s)) (ar_O (xt_h s)) (ar_O (xt_n s)) (ar_O (xt_p s)) f.2.2.2.2.2.2.2.2.1 f.2.2.2.2.2.2.2.2.2.1 f.2.2.2.2.2.2.2.2.2.2.1 f.2.2.2.2.2.2.2.2.2.2.2.1 f.2.2.2.2.2.2.2.2.2.2.2.2.1 f.2.2.2.2.2.2.2.2.2.2.2.2.2 k (nI i) (nI (cn_r (xt_A s) i))) (fun i _ => True) 64 0 () (by omega) trivial ?_ ?_
  · intro k _ _
    exact br_t (by decide) H
  · intro k i _ hi _ K
    have b := hA i hi
    refine br_f (nI_ge (a := i) (b := 64) (by omega) (by omega)) (And.intro (vp_in_nI hi (by omega)) (pk_le 66 (xt_A s i) (fun q => nm_r (nI_1 i) ?_) (fun q => nm_r (nI_1 (cn_r (xt_A s) i)) (nm_r (nI_1 i) ?_)) rfl (ar_Nr _ (by omega))))
    · have := K () trivial
      rw [cn_r0 (by omega)] at this
      exact this
    · have := K () trivial
      rw [cn_r1 (by omega)] at this
      exact this
/-! what a solved object holds -/
def so_R (g : pg_T) (T D O A B : Nat → Nat) : Prop :=
  (∀ t, t < 288 → D t ≤ 66) ∧
  (∀ t, cd_i g t → D t = 0) ∧
  (∀ t, t < 288 → D t < 66 → T t < 288 ∧ ((cd_i g t ∧ D t = 0) ∨ ∃ w y p q, cd_A g t w y p q ∧ D p < 66 ∧ D q < 66 ∧ D t = cd_v D y p q ∧ T p < T t ∧ T q < T t)) ∧
  (∀ t, t < 288 → D t < 66 → (cd_i g t ∧ D t = 0 ∧ O t = 0) ∨ ∃ y p q, cd_A g t (O t) y p q ∧ D p < 66 ∧ D q < 66 ∧ D t = cd_v D y p q) ∧
  (∀ t w y p q, cd_A g t w y p q → D p < 66 → D q < 66 → lx_l (D t) (O t) (cd_v D y p q) w) ∧
  (∀ j, j < 64 → A j ≤ 66 ∧ (A j < 66 → ∃ n d a, j = 4 * n + d ∧ n < pg_N g ∧ d < 4 ∧ a < 4 ∧ B j = a ∧ D (256 + 4 * pg_ow g n + a) < 66 ∧ D (16 * n + 4 * a + d) < 66 ∧ A j = sv_m (D (256 + 4 * pg_ow g n + a) + D (16 * n + 4 * a + d)))) ∧
  (∀ n d a, n < pg_N g → d < 4 → a < 4 → D (256 + 4 * pg_ow g n + a) < 66 → D (16 * n + 4 * a + d) < 66 → lx_l (A (4 * n + d)) (B (4 * n + d)) (sv_m (D (256 + 4 * pg_ow g n + a) + D (16 * n + 4 * a + d))) a)
theorem so_of {m r : Nat} (hg : pg_ok g) (hm : m ≤ 256) (hI : op_I g m r T L dn s) (hf : ∀ t, t < 288 → xt_D s t < 66 → dn t = 1) : so_R g T (xt_D s) (xt_O s) (xt_A s) (xt_B s) := by
  obtain ⟨⟨⟨h1, h2, h3, h4, h5, h6, h7, h8⟩, hW, hcD, hcA⟩, hL, hi0, hcn⟩ := hI
  have hP8 := pg_P8 hg
  have hN := pg_N16 hg
  have fin : ∀ t, t < 288 → dn t = 1 → xt_D s t < 66 := fun t ht dt => (h2 t ht dt).1
  refine ⟨fun t ht => (h1 t ht).1, hi0, fun t ht ft => ⟨?_, ?_⟩, fun t ht ft => ?_, fun t w y p q hc fp fq => ?_, fun j hj => ⟨(h7 j hj).1, fun fj => ?_⟩, fun n d a hn hd ha f1 f2 => ?_⟩
  · have := (h2 t ht (hf t ht ft)).2
    omega
  · rcases h5 t ht ft with a | ⟨w, y, p, q, a, b, c, d, e⟩
    · exact Or.inl a
    · have hpq := cd_pq hg a
      exact Or.inr ⟨w, y, p, q, a, fin p hpq.1 b, fin q hpq.2.1 c, d, e (hf t ht ft)⟩
  · rcases h6 t ht ft with a | ⟨y, p, q, a, b, c, d⟩
    · exact Or.inl a
    · have hpq := cd_pq hg a
      exact Or.inr ⟨y, p, q, a, fin p hpq.1 b, fin q hpq.2.1 c, d⟩
  · have hpq := cd_pq hg hc
    exact hcD t w y p q hc (hf p hpq.1 fp) (hf q hpq.2.1 fq) (by omega) (by omega)
  · obtain ⟨n', d, a, e1, e2, e3, e4, e5, e6, e7, e8⟩ := (h7 j hj).2 fj
    have := pg_owP hg e2
    exact ⟨n', d, a, e1, e2, e3, e4, e5, fin _ (by omega) e6, fin _ (by omega) e7, e8⟩
  · have := pg_owP hg hn
    exact hcA n d a hn hd ha (hf _ (by omega) f1) (hf _ (by omega) f2) (by omega)
theorem xw_solve0 {post : Int32 → SX → Prop} (hg : pg_ok g) (hP : 0 < pg_P g) (h0 : fx_solved f = 0)
    (H : ∀ T L' dn' s', so_R g T (xt_D s') (xt_O s') (xt_A s') (xt_B s') → post (nI (cn_r (xt_A s') 64)) (sx_m (fw_solved (fw_reachedCount f (nI (cn_r (xt_A s') 64))) 1) g L' dn' s')) : wpX_solve post (sx_m f g L dn s) := by
  have hP8 := pg_P8 hg
  obtain ⟨D, O, A, B, h, nn, pp⟩ := s
  refine br_f (nI_ne0 hP (by omega)) (br_t h0 ?_)
  refine xw_clear (f := f) (g := g) (L := L) (dn := dn) (D := D) (O := O) (A := A) (B := B) (h := h) (n := nn) (p := pp) (fun dn' D' O' A' B' h' q1 q2 q3 q4 => ?_)
  refine xh_levels (T := fun _ => 0) hg hP ⟨?_, ?_, ?_, ?_⟩ q1 (fun m T1 L1 dn1 s1 hI1 hf1 => ?_)
  · refine ⟨fun t ht => ⟨?_, ?_⟩, fun t ht dt => ?_, fun t ht _ ft => ?_, fun t _ l2 dt => ?_, fun t ht ft => ?_, fun t ht ft => ?_, fun j hj => ⟨?_, fun fj => ?_⟩, fun t _ l2 => q1 t l2⟩
    · have : D' t = 66 := q2 t ht
      show D' t ≤ 66
      omega
    · have := q1 t ht; omega
    · have := q1 t ht; omega
    · have : D' t = 66 := q2 t ht
      have f2 : D' t < 66 := ft
      omega
    · have := q1 t (by omega); omega
    · have : D' t = 66 := q2 t ht
      have f2 : D' t < 66 := ft
      omega
    · have : D' t = 66 := q2 t ht
      have f2 : D' t < 66 := ft
      omega
    · have : A' j = 66 := q3 j hj
      show A' j ≤ 66
      omega
    · have : A' j = 66 := q3 j hj
      have f2 : A' j < 66 := fj
      omega
  · refine wl_c (wl_0 q4) (fun t b => ⟨fun w => ?_, fun w => w.elim⟩)
    have := q2 t w.1
    have w2 : D' t = b := w.2.1
    have := w.2.2.1
    omega
  · intro t w y p q hc dp
    have := q1 p (cd_pq hg hc).1
    omega
  · intro n d a hn hd ha d1 d2
    have := pg_owP hg hn
    have := q1 (256 + 4 * pg_ow g n + a) (by omega)
    omega
  · refine xh_openings hg hP hI1 hf1 (fun r T2 L2 dn2 s2 hI2 hf2 => ?_)
    refine xw_count (fun j hj => (hI2.1.1.2.2.2.2.2.2.1 j hj).1) ?_
    exact H T2 L2 dn2 s2 (so_of hg (by have := hI1.2.2.2; omega) hI2 hf2)
end
end TK
end
section
section TL
/-! Y: the pure part -/
def hs_d (m c d x y : Nat) : Nat := if m / 2 ^ (4 * c + d) % 2 = 1 then x else y
theorem hs_d1 {m c d x y : Nat} (h : hs_b m c d) : hs_d m c d x y = x := if_pos h
theorem hs_d0 {m c d x y : Nat} (h : ¬ hs_b m c d) : hs_d m c d x y = y := if_neg h
def yc_v (g : pg_T) (V : Nat → Nat) (w a d : Nat) : Nat :=
  if pg_kd g (w / 64) = 0 then hs_d (pg_pa g (w / 64)) (w / 16 % 4) d (sv_p (V (16 * pg_sr g (w / 64) + 4 * a + w / 16 % 4)) 1) 66
  else hs_d (pg_pa g (w / 64)) (w / 16 % 4) (w / 4 % 4) (hs_d (pg_ba g (w / 64)) (w % 4) d (sv_p (sv_p (V (16 * pg_sr g (w / 64) + 4 * a + w / 16 % 4)) (V (16 * pg_ex g (pg_cl g (w / 64)) + w % 16))) 2) 66) 66
def yo_v (g : pg_T) (A : Nat → Nat) (k c b : Nat) : Nat := if pg_kd g k = 0 then 66 else hs_d (pg_pa g k) c b (sv_p (A (4 * pg_sr g k + c)) 1) 66
theorem hs_mono {m c d x y z : Nat} (h : x ≤ y) : hs_d m c d x z ≤ hs_d m c d y z := by unfold hs_d; split <;> omega
theorem hs_le {m c d x z b : Nat} (h : x ≤ b) (k : z ≤ b) : hs_d m c d x z ≤ b := by unfold hs_d; split <;> omega
theorem yc_le (g : pg_T) (V : Nat → Nat) (w a d : Nat) : yc_v g V w a d ≤ 66 := by
  unfold yc_v
  split
  · exact hs_le (sv_p_le _ _) (Nat.le_refl _)
  · exact hs_le (hs_le (sv_p_le _ _) (Nat.le_refl _)) (Nat.le_refl _)
theorem yo_le (g : pg_T) (V : Nat → Nat) (k c b : Nat) : yo_v g V k c b ≤ 66 := by
  unfold yo_v
  split
  · exact Nat.le_refl _
  · exact hs_le (sv_p_le _ _) (Nat.le_refl _)
section
variable {g : pg_T} {T D O A B : Nat → Nat}
theorem yc_mono {V V0 : Nat → Nat} {w a d : Nat} (hg : pg_ok g) (hw : w < 64 * pg_L g) (ha : a < 4) (h : ∀ t, t < 256 → V t ≤ V0 t) (h0 : ∀ t, t < 256 → V0 t ≤ 66) : yc_v g V w a d ≤ yc_v g V0 w a d := by
  have hN := pg_N16 hg
  have hk : w / 64 < pg_L g := by omega
  have hs := pg_srN hg hk
  have i1 : 16 * pg_sr g (w / 64) + 4 * a + w / 16 % 4 < 256 := by omega
  unfold yc_v
  split
  · exact hs_mono (sv_p_mono (h _ i1) (Nat.le_refl _) (h0 _ i1) (by omega))
  · rename_i e
    have e1 : pg_kd g (w / 64) = 1 := by
      rcases pg_kd2 hg hk with z | z
      · exact absurd z e
      · exact z
    have he := pg_exN hg (pg_clP hg hk e1).1
    have i2 : 16 * pg_ex g (pg_cl g (w / 64)) + w % 16 < 256 := by omega
    exact hs_mono (hs_mono (sv_p_mono (sv_p_mono (h _ i1) (h _ i2) (h0 _ i1) (h0 _ i2)) (Nat.le_refl _) (sv_p_le _ _) (by omega)))
/-- lower bounds -/
theorem yc_lb {V : Nat → Nat} {w a d : Nat} (hg : pg_ok g) (hR : so_R g T D O A B) (hw : w < 64 * pg_L g) (ha : a < pg_F g) (hd : d < pg_F g) (h : ∀ t, t < 256 → D t ≤ V t) : D (16 * pg_tg g (w / 64) + 4 * a + d) ≤ yc_v g V w a d := by
  have hN := pg_N16 hg
  have hF := pg_F4 hg
  have hk : w / 64 < pg_L g := by omega
  have hs := pg_srN hg hk
  have ht := pg_tgN hg hk
  have b6 : D (16 * pg_tg g (w / 64) + 4 * a + d) ≤ 66 := hR.1 _ (by omega)
  have i1 := h (16 * pg_sr g (w / 64) + 4 * a + w / 16 % 4) (by omega)
  have cl := hR.2.2.2.2.1
  unfold yc_v
  by_cases e : pg_kd g (w / 64) = 0
  · rw [if_pos e]
    by_cases b : hs_b (pg_pa g (w / 64)) (w / 16 % 4) d
    · rw [hs_d1 b]
      by_cases v : V (16 * pg_sr g (w / 64) + 4 * a + w / 16 % 4) < 66
      · have c := lx_1 (cl (16 * pg_tg g (w / 64) + 4 * a + d) (64 * (w / 64) + 16 * (w / 16 % 4)) 0 _ _ (Or.inl ⟨rfl, w / 64, w / 16 % 4, a, d, hk, by omega, ha, hd, e, b, rfl, rfl, rfl, rfl⟩) (by omega) (by omega))
        rw [sv_p_f v (by omega)]
        exact Nat.le_trans c (sv_m_mono (Nat.add_le_add_right i1 1))
      · unfold sv_p
        rw [if_pos (by omega)]
        exact b6
    · rw [hs_d0 b]; exact b6
  · rw [if_neg e]
    have e1 : pg_kd g (w / 64) = 1 := by
      rcases pg_kd2 hg hk with z | z
      · exact absurd z e
      · exact z
    have he := pg_exN hg (pg_clP hg hk e1).1
    have i2 := h (16 * pg_ex g (pg_cl g (w / 64)) + w % 16) (by omega)
    by_cases b : hs_b (pg_pa g (w / 64)) (w / 16 % 4) (w / 4 % 4)
    · rw [hs_d1 b]
      by_cases b2 : hs_b (pg_ba g (w / 64)) (w % 4) d
      · rw [hs_d1 b2]
        by_cases v : V (16 * pg_sr g (w / 64) + 4 * a + w / 16 % 4) < 66
        · by_cases v2 : V (16 * pg_ex g (pg_cl g (w / 64)) + w % 16) < 66
          · have c := lx_1 (cl (16 * pg_tg g (w / 64) + 4 * a + d) (64 * (w / 64) + 16 * (w / 16 % 4) + 4 * (w / 4 % 4) + w % 4) 1 (16 * pg_sr g (w / 64) + 4 * a + w / 16 % 4) (16 * pg_ex g (pg_cl g (w / 64)) + w % 16) (Or.inr (Or.inl ⟨rfl, w / 64, w / 16 % 4, a, d, w / 4 % 4, w % 4, hk, by omega, ha, hd, by omega, by omega, e1, b, b2, rfl, rfl, by omega, rfl⟩)) (by omega) (by omega))
            rw [sv_p_f v v2, sv_p_f (Nat.lt_of_le_of_lt (sv_m_le _) (by omega)) (by omega), sv_mm]
            exact Nat.le_trans c (sv_m_mono (Nat.add_le_add_right (Nat.add_le_add i1 i2) 2))
          · have : sv_p (V (16 * pg_sr g (w / 64) + 4 * a + w / 16 % 4)) (V (16 * pg_ex g (pg_cl g (w / 64)) + w % 16)) = 66 := by
              unfold sv_p
              rw [if_neg (by omega), if_pos (by omega)]
            rw [this]
            exact b6
        · have : sv_p (V (16 * pg_sr g (w / 64) + 4 * a + w / 16 % 4)) (V (16 * pg_ex g (pg_cl g (w / 64)) + w % 16)) = 66 := by
            unfold sv_p
            rw [if_pos (by omega)]
          rw [this]
          exact b6
      · rw [hs_d0 b2]; exact b6
    · rw [hs_d0 b]; exact b6
theorem sv_p66l {y : Nat} : sv_p 66 y = 66 := rfl
theorem sv_p66 {x y : Nat} (h : 66 ≤ x ∨ 66 ≤ y) : sv_p x y = 66 := by unfold sv_p; repeat (split <;> try omega)
theorem ya_lb {Op V : Nat → Nat} {m d a : Nat} (hg : pg_ok g) (hR : so_R g T D O A B) (hm : m < pg_N g) (hd : d < 4) (ha : a < 4) (h1 : D (256 + 4 * pg_ow g m + a) ≤ Op (4 * pg_ow g m + a)) (h2 : D (16 * m + 4 * a + d) ≤ V (16 * m + 4 * a + d)) : A (4 * m + d) ≤ sv_p (Op (4 * pg_ow g m + a)) (V (16 * m + 4 * a + d)) := by
  have hN := pg_N16 hg
  have b6 : A (4 * m + d) ≤ 66 := (hR.2.2.2.2.2.1 (4 * m + d) (by omega)).1
  by_cases v : Op (4 * pg_ow g m + a) < 66 ∧ V (16 * m + 4 * a + d) < 66
  · rw [sv_p_f v.1 v.2]
    have c := lx_1 (hR.2.2.2.2.2.2 m d a hm hd ha (by omega) (by omega))
    exact Nat.le_trans c (sv_m_mono (Nat.add_le_add h1 h2))
  · rw [sv_p66 (by omega)]; exact b6
theorem yo_lb {Al : Nat → Nat} {k c b : Nat} (hg : pg_ok g) (hR : so_R g T D O A B) (hk : k < pg_L g) (k1 : pg_kd g k = 1) (hc : c < 4) (hb : b < pg_F g) (h : A (4 * pg_sr g k + c) ≤ Al (4 * pg_sr g k + c)) : D (256 + 4 * pg_cl g k + b) ≤ yo_v g Al k c b := by
  have hN := pg_N16 hg
  have hP := pg_P8 hg
  have hF := pg_F4 hg
  have hs := pg_srN hg hk
  have hcl := (pg_clP hg hk k1).1
  have b6 : D (256 + 4 * pg_cl g k + b) ≤ 66 := hR.1 _ (by omega)
  unfold yo_v
  rw [if_neg (by omega)]
  by_cases q : hs_b (pg_pa g k) c b
  · rw [hs_d1 q]
    by_cases v : Al (4 * pg_sr g k + c) < 66
    · rw [sv_p_f v (by omega)]
      obtain ⟨n, d, a, e1, e2, e3, e4, e5, e6, e7, e8⟩ := (hR.2.2.2.2.2.1 (4 * pg_sr g k + c) (by omega)).2 (by omega)
      have en : n = pg_sr g k := by omega
      have ed : d = c := by omega
      subst en ed
      have cc := lx_1 (hR.2.2.2.2.1 (256 + 4 * pg_cl g k + b) (64 * k + 16 * d) 2 (256 + 4 * pg_ow g (pg_sr g k) + a) (16 * pg_sr g k + 4 * a + d) (Or.inr (Or.inr ⟨rfl, k, d, b, a, hk, hc, hb, e4, k1, q, rfl, rfl, rfl, rfl⟩)) e6 e7)
      refine Nat.le_trans cc ?_
      rw [← cd_v2, ← e8]
      exact sv_m_mono (by omega)
    · rw [sv_p66 (by omega)]; exact b6
  · rw [hs_d0 q]; exact b6
/-! one round -/
def yr_B (g : pg_T) (D A : Nat → Nat) (s : yt_T) : Prop :=
  (∀ t, t < 256 → D t ≤ yt_V s t ∧ yt_V s t ≤ 66) ∧ (∀ q, q < 32 → D (256 + q) ≤ yt_O s q ∧ yt_O s q ≤ 66) ∧ (∀ j, j < 64 → A j ≤ yt_A s j ∧ yt_A s j ≤ 66) ∧ (∀ t, t < 256 → cd_i g t → yt_V s t = 0) ∧ yt_O s 0 = 0
def yr_R (g : pg_T) (s s' : yt_T) : Prop :=
  (∀ t, yt_V s' t ≤ yt_V s t) ∧ (∀ q, yt_O s' q ≤ yt_O s q) ∧ (∀ j, yt_A s' j ≤ yt_A s j) ∧
  (∀ w a d, w < 64 * pg_L g → a < pg_F g → d < pg_F g → yt_V s' (16 * pg_tg g (w / 64) + 4 * a + d) ≤ yc_v g (yt_V s) w a d) ∧
  (∀ i, i < 16 * pg_N g → yt_A s' (4 * (i / 16) + i % 4) ≤ sv_p (yt_O s (4 * pg_ow g (i / 16) + i / 4 % 4)) (yt_V s i)) ∧
  (∀ w b, w < 4 * pg_L g → b < pg_F g → pg_kd g (w / 4) = 1 → yt_O s' (4 * pg_cl g (w / 4) + b) ≤ yo_v g (yt_A s') (w / 4) (w % 4) b)
def yr_P (g : pg_T) (T D : Nat → Nat) (r : Nat) (s : yt_T) : Prop :=
  (∀ t, t < 256 → D t < 66 → T t < r → yt_V s t ≤ D t) ∧
  (∀ q, q < 32 → D (256 + q) < 66 → T (256 + q) < r → yt_O s q ≤ D (256 + q)) ∧
  (∀ n d a, n < pg_N g → d < 4 → a < 4 → D (256 + 4 * pg_ow g n + a) < 66 → D (16 * n + 4 * a + d) < 66 → T (256 + 4 * pg_ow g n + a) + 1 < r → T (16 * n + 4 * a + d) + 1 < r → yt_A s (4 * n + d) ≤ sv_m (D (256 + 4 * pg_ow g n + a) + D (16 * n + 4 * a + d)))
theorem yr_step {r : Nat} {s s' : yt_T} (hg : pg_ok g) (hR : so_R g T D O A B) (hB : yr_B g D A s) (hr : yr_R g s s') (hp : yr_P g T D r s) : yr_P g T D (r + 1) s' := by
  have hN := pg_N16 hg
  have hF := pg_F4 hg
  have hP8 := pg_P8 hg
  obtain ⟨r1, r2, r3, r4, r5, r6⟩ := hr
  obtain ⟨p1, p2, p3⟩ := hp
  have al : ∀ n d a, n < pg_N g → d < 4 → a < 4 → D (256 + 4 * pg_ow g n + a) < 66 → D (16 * n + 4 * a + d) < 66 → T (256 + 4 * pg_ow g n + a) < r → T (16 * n + 4 * a + d) < r → yt_A s' (4 * n + d) ≤ sv_m (D (256 + 4 * pg_ow g n + a) + D (16 * n + 4 * a + d)) := by
    intro n d a hn hd ha f1 f2 t1 t2
    have ho := pg_owP hg hn
    have h5 := r5 (16 * n + 4 * a + d) (by omega)
    rw [show (16 * n + 4 * a + d) / 16 = n by omega, show (16 * n + 4 * a + d) % 4 = d by omega, show (16 * n + 4 * a + d) / 4 % 4 = a by omega] at h5
    have h1 := p1 (16 * n + 4 * a + d) (by omega) f2 t2
    have h2 := p2 (4 * pg_ow g n + a) (by omega) (by rw [← Nat.add_assoc]; exact f1) (by rw [← Nat.add_assoc]; exact t1)
    rw [← Nat.add_assoc] at h2
    rw [← sv_p_f f1 f2]
    exact Nat.le_trans h5 (sv_p_mono h2 h1 (by omega) (by omega))
  refine ⟨fun t ht ft tt => ?_, fun q hq fq tq => ?_, fun n d a hn hd ha f1 f2 t1 t2 => al n d a hn hd ha f1 f2 (by omega) (by omega)⟩
  · by_cases eT : T t < r
    · exact Nat.le_trans (r1 t) (p1 t ht ft eT)
    · rcases (hR.2.2.1 t (by omega) ft).2 with ⟨ci, cz⟩ | ⟨w, y, p, q, hc, fp, fq, ev, tp, tq⟩
      · have := hB.2.2.2.1 t ht ci
        have := r1 t
        omega
      · rcases hc with ⟨rfl, k, c, a, d, hk, hc, ha, hd, k0, hb, rfl, ep, rfl, rfl⟩ | ⟨rfl, k, c, a, d, b, e, hk, hc, ha, hd, hb, he, k1, hb1, hb2, rfl, ep, eq, rfl⟩ | ⟨rfl, k, c, b, a, hk, hc, hb, ha, k1, hb1, rfl, ep, eq, rfl⟩
        · have hs := pg_srN hg hk
          have h4 := r4 (64 * k + 16 * c) a d (by omega) ha hd
          unfold yc_v at h4
          rw [show (64 * k + 16 * c) / 64 = k by omega, show (64 * k + 16 * c) / 16 % 4 = c by omega, if_pos k0, hs_d1 hb, ← ep] at h4
          have h1 := p1 q (by omega) fq (by omega)
          refine Nat.le_trans h4 ?_
          rw [ev]
          exact Nat.le_trans (sv_p_mono h1 (Nat.le_refl 1) (by omega) (by omega)) (Nat.le_of_eq (sv_p_f fq (by omega)))
        · have hs := pg_srN hg hk
          have hx := pg_exN hg (pg_clP hg hk k1).1
          have h4 := r4 (64 * k + 16 * c + 4 * b + e) a d (by omega) ha hd
          unfold yc_v at h4
          rw [show (64 * k + 16 * c + 4 * b + e) / 64 = k by omega, show (64 * k + 16 * c + 4 * b + e) / 16 % 4 = c by omega, show (64 * k + 16 * c + 4 * b + e) / 4 % 4 = b by omega, show (64 * k + 16 * c + 4 * b + e) % 4 = e by omega, show (64 * k + 16 * c + 4 * b + e) % 16 = 4 * b + e by omega, if_neg (by omega), hs_d1 hb1, hs_d1 hb2, ← ep, ← Nat.add_assoc, ← eq] at h4
          have h1 := p1 p (by omega) fp (by omega)
          have h2 := p1 q (by omega) fq (by omega)
          refine Nat.le_trans h4 ?_
          rw [ev]
          refine Nat.le_trans (sv_p_mono (sv_p_mono h1 h2 (by omega) (by omega)) (Nat.le_refl 2) (sv_p_le _ _) (by omega)) ?_
          rw [sv_p_f fp fq, sv_p_f (Nat.lt_of_le_of_lt (sv_m_le _) (by omega)) (by omega), sv_mm]
          exact Nat.le_refl _
        · omega
  · by_cases e : T (256 + q) < r
    · exact Nat.le_trans (r2 q) (p2 q hq fq e)
    · rcases (hR.2.2.1 (256 + q) (by omega) fq).2 with ⟨ci, cz⟩ | ⟨w, y, p, q', hc, fp, fq', ev, tp, tq'⟩
      · rcases ci with ⟨p, a, hp, ha, ee⟩ | ee
        · have := pg_enN hg hp
          omega
        · have : q = 0 := by omega
          subst this
          have := hB.2.2.2.2
          have := r2 0
          omega
      · rcases hc with ⟨rfl, k, c, a, d, hk, hc, ha, hd, k0, hb, et, ep, rfl, rfl⟩ | ⟨rfl, k, c, a, d, b, e, hk, hc, ha, hd, hb, he, k1, hb1, hb2, et, ep, eq, rfl⟩ | ⟨rfl, k, c, b, a, hk, hc, hb, ha, k1, hb1, et, ep, eq, rfl⟩
        · have := pg_tgN hg hk
          omega
        · have := pg_tgN hg hk
          omega
        · have hs := pg_srN hg hk
          have hcl := (pg_clP hg hk k1).1
          have h6 := r6 (4 * k + c) b (by omega) hb (by rw [show (4 * k + c) / 4 = k by omega]; exact k1)
          rw [show (4 * k + c) / 4 = k by omega, show (4 * k + c) % 4 = c by omega, show 4 * pg_cl g k + b = q by omega] at h6
          unfold yo_v at h6
          rw [if_neg (by omega), hs_d1 hb1] at h6
          have h5 := al (pg_sr g k) c a hs hc ha (by rw [← ep]; exact fp) (by rw [← eq]; exact fq') (by rw [← ep]; omega) (by rw [← eq]; omega)
          rw [← ep, ← eq] at h5
          refine Nat.le_trans h6 ?_
          rw [ev]
          have l65 : sv_m (D p + D q') ≤ 65 := sv_m_le _
          refine Nat.le_trans (sv_p_mono h5 (Nat.le_refl 1) (by omega) (by omega)) ?_
          rw [sv_p_f (by omega) (by omega), sv_mm]
          exact Nat.le_refl _
def yr_E (g : pg_T) (D A : Nat → Nat) (s : yt_T) : Prop := (∀ t, t < 256 → yt_V s t = D t) ∧ (∀ q, q < 32 → yt_O s q = D (256 + q)) ∧ ∀ j, j < 64 → yt_A s j = A j
theorem yr_end {s : yt_T} (hg : pg_ok g) (hR : so_R g T D O A B) (hB : yr_B g D A s) (hp : yr_P g T D 400 s) : yr_E g D A s := by
  have hN := pg_N16 hg
  refine ⟨fun t ht => ?_, fun q hq => ?_, fun j hj => ?_⟩
  · have b := hB.1 t ht
    by_cases f : D t < 66
    · have := hp.1 t ht f (by have := (hR.2.2.1 t (by omega) f).1; omega)
      omega
    · omega
  · have b := hB.2.1 q hq
    by_cases f : D (256 + q) < 66
    · have := hp.2.1 q hq f (by have := (hR.2.2.1 (256 + q) (by omega) f).1; omega)
      omega
    · omega
  · have b := hB.2.2.1 j hj
    by_cases f : A j < 66
    · obtain ⟨n, d, a, e1, e2, e3, e4, e5, e6, e7, e8⟩ := (hR.2.2.2.2.2.1 j hj).2 f
      have ho := pg_owP hg e2
      have hP8 := pg_P8 hg
      have := hp.2.2 n d a e2 e3 e4 e6 e7 (by have := (hR.2.2.1 _ (by omega) e6).1; omega) (by have := (hR.2.2.1 _ (by omega) e7).1; omega)
      rw [← e1, ← e8] at this
      omega
    · omega
theorem yr_fix {s : yt_T} {r : Nat} (hg : pg_ok g) (hR : so_R g T D O A B) (hB : yr_B g D A s) (hr : yr_R g s s) (hp : yr_P g T D r s) : ∀ m, yr_P g T D (r + m) s := by
  intro m
  induction m with
  | zero => exact hp
  | succ m ih => exact yr_step hg hR hB hr ih
end
end TL
end
section
section TM
/-! Y: walks of the lookups -/
theorem dv_64 {w : Nat} (h : w < 2 ^ 31) : nI w / 64 = nI (w / 64) := pk_div (d := 64) h (by decide) (by decide)
theorem dv_16 {w : Nat} (h : w < 2 ^ 31) : nI w / 16 = nI (w / 16) := pk_div (d := 16) h (by decide) (by decide)
theorem dv_4 {w : Nat} (h : w < 2 ^ 31) : nI w / 4 = nI (w / 4) := pk_div (d := 4) h (by decide) (by decide)
theorem rm_4 {w : Nat} (h : w < 2 ^ 31) : nI w - nI w / 4 * 4 = nI (w % 4) := pk_rem (d := 4) h (by decide) (by decide)
theorem rm_16 {w : Nat} (h : w < 2 ^ 31) : nI w - nI w / 16 * 16 = nI (w % 16) := pk_rem (d := 16) h (by decide) (by decide)
theorem rm_64 {w : Nat} (h : w < 2 ^ 31) : nI w - nI w / 64 * 64 = nI (w % 64) := pk_rem (d := 64) h (by decide) (by decide)
theorem rm_32 {w : Nat} (h : w < 2 ^ 31) : nI w - nI w / 32 * 32 = nI (w % 32) := pk_rem (d := 32) h (by decide) (by decide)
theorem z_64 : ¬ (64 : Int32) = 0 := by decide
theorem z_16 : ¬ (16 : Int32) = 0 := by decide
theorem z_4 : ¬ (4 : Int32) = 0 := by decide
theorem z_32 : ¬ (32 : Int32) = 0 := by decide
theorem iv_eq {a : Nat} : ar_iv a = 1000 ↔ 66 ≤ a := by
  rcases Nat.lt_or_ge a 66 with h | h
  · rw [ar_iv_lt h]
    constructor
    · intro e
      have : nI a = nI 1000 := e
      rw [nI_eq (by omega) (by omega)] at this
      omega
    · intro; omega
  · exact ⟨fun _ => h, fun _ => ar_iv_ge h⟩
theorem iv_le {a b : Nat} (ha : a ≤ 66) (hb : b ≤ 66) : ar_iv a ≤ ar_iv b ↔ a ≤ b := by
  have e : ∀ x, x ≤ 66 → ar_iv x = nI (if x < 66 then x else 1000) := by
    intro x _
    unfold ar_iv
    split <;> rfl
  rw [e a ha, e b hb, nI_leI (by split <;> omega) (by split <;> omega)]
  split <;> split <;> omega
theorem iv_1000 {a : Nat} (ha : a ≤ 66) : (1000 : Int32) ≤ ar_iv a ↔ 66 ≤ a := iv_le (a := 66) (by omega) ha
theorem iv_inj {a b : Nat} (ha : a ≤ 66) (hb : b ≤ 66) : ar_iv a = ar_iv b ↔ a = b := by
  constructor
  · intro e
    have h1 := (iv_le ha hb).mp (by rw [e]; exact Int32.le_refl _)
    have h2 := (iv_le hb ha).mp (by rw [e]; exact Int32.le_refl _)
    omega
  · intro e; rw [e]
theorem yw_has {post : Int32 → Prop} {u : SY} {x y z : Int32} {m c d : Nat} (ex : x = nI m) (ey : y = nI c) (ez : z = nI d) (hm : m < 65536) (hc : c < 4) (hd : d < 4) (h1 : hs_b m c d → post 1) (h0 : ¬ hs_b m c d → post 0) : wpY_has post u x y z := by
  subst ex ey ez
  rcases u with ⟨a1, a2, a3, a4, a5, a6, a7, a8, a9, a10, a11, a12, a13, a14, a15, a16, a17, a18, a19, a20, a21, a22, a23, a24, a25, a26⟩
  exact And.intro (fun e => h1 ((hs_y hm hc hd).mp e)) (fun e => h0 (fun q => e ((hs_y hm hc hd).mpr q)))
theorem yw_plus {post : Int32 → Prop} {u : SY} {x y : Int32} {a b : Nat} (ex : x = ar_iv a) (ey : y = ar_iv b) (H : post (ar_iv (sv_p a b))) : wpY_plus post u x y := by
  subst ex ey
  rcases u with ⟨a1, a2, a3, a4, a5, a6, a7, a8, a9, a10, a11, a12, a13, a14, a15, a16, a17, a18, a19, a20, a21, a22, a23, a24, a25, a26⟩
  by_cases h1 : 66 ≤ a
  · rw [sv_p66 (Or.inl h1)] at H
    exact br_t (iv_eq.mpr h1) H
  · by_cases h2 : 66 ≤ b
    · rw [sv_p66 (Or.inr h2)] at H
      exact br_f (fun e => h1 (iv_eq.mp e)) (br_t (iv_eq.mpr h2) H)
    · refine br_f (fun e => h1 (iv_eq.mp e)) (br_f (fun e => h2 (iv_eq.mp e)) ?_)
      have e : ar_iv a + ar_iv b = nI (a + b) := by rw [ar_iv_lt (by omega), ar_iv_lt (by omega), nI_add]
      refine pk_le 65 (a + b) (fun q => ?_) (fun q => ?_) rfl e
      · rw [show sv_p a b = 65 by unfold sv_p; rw [if_neg h1, if_neg h2, if_pos q]] at H
        exact H
      · rw [show sv_p a b = a + b by unfold sv_p; rw [if_neg h1, if_neg h2, if_neg (by omega)], ar_iv_lt (by omega)] at H
        show post (ar_iv a + ar_iv b)
        rw [e]
        exact H
section
variable {f : fy_T} {g : pg_T} {s : yt_T}
theorem yw_ca0 (hg : pg_ok g) {k : Nat} (hk : k < pg_L g) (h : pg_kd g k = 0) : ar_C (pg_ca g) (nI k).toNatClampNeg = -5 := by
  have := pg_L24 hg
  rw [ar_Cr _ (by omega), pg_ca0 hg hk h]
  rfl
theorem yw_ca1 (hg : pg_ok g) {k : Nat} (hk : k < pg_L g) (h : pg_kd g k = 1) : ar_C (pg_ca g) (nI k).toNatClampNeg = nI (pg_cl g k) := by
  have := pg_L24 hg
  rw [ar_Cr _ (by omega), (pg_clP hg hk h).2, ar_cvs]
theorem yw_n5 {a : Nat} (h : a < 2 ^ 31) : ¬ nI a = -5 := by
  intro e
  have := nI_pos (n := a) h
  rw [e] at this
  exact this (by decide)
theorem yw_cand {post : Int32 → Prop} {w a d : Nat} (hg : pg_ok g) (hw : w < 64 * pg_L g) (ha : a < 4) (hd : d < 4) (H : post (ar_iv (yc_v g (yt_V s) w a d))) : wpY_cand post (sy_m f g s) (nI w) (nI a) (nI d) := by
  have hN := pg_N16 hg
  have hL := pg_L24 hg
  have hP := pg_P8 hg
  have hk : w / 64 < pg_L g := by omega
  have hs := pg_srN hg hk
  have i24 : vp_in (nI (w / 64)) 24 := vp_in_nI (by omega) (by omega)
  have e5 : nI w / 16 - nI w / 16 / 4 * 4 = nI (w / 16 % 4) := by rw [dv_16 (by omega), rm_4 (by omega)]
  have e4 : nI w / 4 - nI w / 4 / 4 * 4 = nI (w / 4 % 4) := by rw [dv_4 (by omega), rm_4 (by omega)]
  have ei : ar_N (pg_sr g) (nI (w / 64)).toNatClampNeg * 16 + nI a * 4 + nI (w / 16 % 4) = nI (16 * pg_sr g (w / 64) + 4 * a + w / 16 % 4) := by rw [ar_Nr _ (by omega), ix_lvr]
  have ii : vp_in (ar_N (pg_sr g) (nI (w / 64)).toNatClampNeg * 16 + nI a * 4 + nI (w / 16 % 4)) 256 := by rw [ei]; exact vp_in_nI (by omega) (by omega)
  have e6 : ar_V (yt_V s) (ar_N (pg_sr g) (nI (w / 64)).toNatClampNeg * 16 + nI a * 4 + nI (w / 16 % 4)).toNatClampNeg = ar_iv (yt_V s (16 * pg_sr g (w / 64) + 4 * a + w / 16 % 4)) := by rw [ei]; exact ar_Vr _ (by omega)
  refine And.intro z_64 (nm_r (dv_64 (by omega)) (And.intro z_16 (And.intro z_4 (nm_r e5 (And.intro i24 (And.intro ii (nm_r e6 (And.intro i24 ?_))))))))
  unfold yc_v at H
  rcases pg_kd2 hg hk with k0 | k1
  · rw [if_pos k0] at H
    refine br_t (yw_ca0 hg hk k0) (And.intro i24 (yw_has (ar_Nr _ (by omega)) rfl rfl (pg_paB hg hk) (by omega) hd (fun b => br_f (by decide) ?_) (fun b => br_t rfl ?_)))
    · rw [hs_d1 b] at H
      exact yw_plus rfl rfl H
    · rw [hs_d0 b] at H
      exact H
  · rw [if_neg (by omega)] at H
    have ec := yw_ca1 hg hk k1
    have hcl := (pg_clP hg hk k1).1
    have hex := pg_exN hg hcl
    have i8 : vp_in (ar_C (pg_ca g) (nI (w / 64)).toNatClampNeg) 8 := by rw [ec]; exact vp_in_nI (by omega) (by omega)
    refine br_f (by show ¬ ar_C (pg_ca g) (nI (w / 64)).toNatClampNeg = -5; rw [ec]; exact yw_n5 (by omega)) (And.intro i24 (And.intro z_4 (And.intro z_4 (yw_has (ar_Nr _ (by omega)) rfl e4 (pg_paB hg hk) (by omega) (by omega) (fun b => br_f (by decide) (And.intro i24 (And.intro z_4 (yw_has (ar_Nr _ (by omega)) (rm_4 (by omega)) rfl (pg_baB hg hk) (by omega) hd (fun b2 => br_f (by decide) (And.intro i24 (And.intro i8 (And.intro z_16 ?_)))) (fun b2 => br_t rfl ?_))))) (fun b => br_t rfl ?_)))))
    · have ex : ar_N (pg_ex g) (ar_C (pg_ca g) (nI (w / 64)).toNatClampNeg).toNatClampNeg * 16 + (nI w - nI w / 16 * 16) = nI (16 * pg_ex g (pg_cl g (w / 64)) + w % 16) := by
        rw [ec, ar_Nr _ (by omega), rm_16 (by omega), ix_16r, nI_add]
      rw [hs_d1 b, hs_d1 b2] at H
      refine And.intro ?_ (yw_plus rfl ?_ (yw_plus rfl rfl H))
      · show vp_in (ar_N (pg_ex g) (ar_C (pg_ca g) (nI (w / 64)).toNatClampNeg).toNatClampNeg * 16 + (nI w - nI w / 16 * 16)) 256
        rw [ex]; exact vp_in_nI (by omega) (by omega)
      · show ar_V (yt_V s) (ar_N (pg_ex g) (ar_C (pg_ca g) (nI (w / 64)).toNatClampNeg).toNatClampNeg * 16 + (nI w - nI w / 16 * 16)).toNatClampNeg = _
        rw [ex]; exact ar_Vr _ (by omega)
    · rw [hs_d1 b, hs_d0 b2] at H
      exact H
    · rw [hs_d0 b] at H
      exact H
theorem yw_opened {post : Int32 → Prop} {x y z : Int32} {k c b : Nat} (hg : pg_ok g) (ex : x = nI k) (ey : y = nI c) (ez : z = nI b) (hk : k < pg_L g) (hc : c < 4) (hb : b < 4) (H : post (ar_iv (yo_v g (yt_A s) k c b))) : wpY_opened post (sy_m f g s) x y z := by
  subst ex ey ez
  have hN := pg_N16 hg
  have hL := pg_L24 hg
  have hP := pg_P8 hg
  have hs := pg_srN hg hk
  have i24 : vp_in (nI k) 24 := vp_in_nI (by omega) (by omega)
  refine And.intro i24 ?_
  unfold yo_v at H
  rcases pg_kd2 hg hk with k0 | k1
  · rw [if_pos k0] at H
    exact br_t (yw_ca0 hg hk k0) H
  · rw [if_neg (by omega)] at H
    have ec := yw_ca1 hg hk k1
    have hcl := (pg_clP hg hk k1).1
    have ei : ar_N (pg_sr g) (nI k).toNatClampNeg * 4 + nI c = nI (4 * pg_sr g k + c) := by rw [ar_Nr _ (by omega), ix_alr]
    refine br_f (by show ¬ ar_C (pg_ca g) (nI k).toNatClampNeg = -5; rw [ec]; exact yw_n5 (by omega)) (And.intro i24 (yw_has (ar_Nr _ (by omega)) rfl rfl (pg_paB hg hk) hc hb (fun q => br_f (by decide) (And.intro i24 (And.intro ?_ ?_))) (fun q => br_t rfl ?_)))
    · show vp_in (ar_N (pg_sr g) (nI k).toNatClampNeg * 4 + nI c) 64
      rw [ei]; exact vp_in_nI (by omega) (by omega)
    · rw [hs_d1 q] at H
      refine yw_plus ?_ rfl H
      show ar_V (yt_A s) (ar_N (pg_sr g) (nI k).toNatClampNeg * 4 + nI c).toNatClampNeg = _
      rw [ei]; exact ar_Vr _ (by omega)
    · rw [hs_d0 q] at H
      exact H
end
/-! Y: the rounds -/
def yl_L (v v' : Nat × yt_T) : Prop := (∀ t, v'.2.1 t ≤ v.2.1 t) ∧ (∀ q, v'.2.2.1 q ≤ v.2.2.1 q) ∧ (∀ j, v'.2.2.2 j ≤ v.2.2.2 j) ∧ (v'.1 = 0 → v' = v)
theorem yl_r (v : Nat × yt_T) : yl_L v v := ⟨fun _ => Nat.le_refl _, fun _ => Nat.le_refl _, fun _ => Nat.le_refl _, fun _ => rfl⟩
theorem yl_t {a b c : Nat × yt_T} (h : yl_L a b) (k : yl_L b c) : yl_L a c :=
  ⟨fun t => Nat.le_trans (k.1 t) (h.1 t), fun t => Nat.le_trans (k.2.1 t) (h.2.1 t), fun t => Nat.le_trans (k.2.2.1 t) (h.2.2.1 t), fun z => by
    have e := k.2.2.2 z
    rw [e] at z
    rw [e]
    exact h.2.2.2 z⟩
theorem ar_ule {V : Nat → Nat} {t r : Nat} (h : r ≤ V t) : ∀ j, ar_u V t r j ≤ V j := by
  intro j
  rw [ar_ud]
  split
  · rename_i e; rw [e]; exact h
  · exact Nat.le_refl _
section
variable {f : fy_T} {g : pg_T} {T D O A B : Nat → Nat} {post : SY → Prop} {J : Int32 → Int32 → kb_T}
def yl_G (g : pg_T) (D A V0 O0 : Nat → Nat) (v : Nat × yt_T) : Prop := yr_B g D A v.2 ∧ v.1 ≤ 1 ∧ (∀ t, v.2.1 t ≤ V0 t) ∧ ∀ q, v.2.2.1 q ≤ O0 q
def yl_1 (g : pg_T) (V0 : Nat → Nat) (w : Nat) (v : Nat × yt_T) : Prop := ∀ a, a < pg_F g → ∀ d, d < pg_F g → v.2.1 (16 * pg_tg g (w / 64) + 4 * a + d) ≤ yc_v g V0 w a d
theorem yl_pass1 {V0 O0 : Nat → Nat} {r : Int32} (hg : pg_ok g) (hR : so_R g T D O A B) (h0 : ∀ t, t < 256 → V0 t ≤ 66) (v : Nat × yt_T) (hG : yl_G g D A V0 O0 v)
    (H : ∀ v', yl_G g D A V0 O0 v' → yl_L v v' → (∀ w, w < 64 * pg_L g → yl_1 g V0 w v') → ∃ n238, wY_lengths_238 post J r f.1 f.2.1 (nI (pg_F g)) f.2.2.1 (nI (pg_P g)) (nI (pg_N g)) (nI (pg_L g)) f.2.2.2.1 f.2.2.2.2.1 n238 (nI v'.1) (nI 0) (ar_N (pg_en g)) (ar_N (pg_ex g)) (ar_N (pg_ow g)) (ar_N (pg_sr g)) (ar_N (pg_tg g)) (ar_C (pg_ca g)) (ar_N (pg_pa g)) (ar_N (pg_ba g)) (ar_V v'.2.1) (ar_V v'.2.2.1) (ar_V v'.2.2.2) f.2.2.2.2.2.1 f.2.2.2.2.2.2.1 f.2.2.2.2.2.2.2.1 f.2.2.2.2.2.2.2.2.1 f.2.2.2.2.2.2.2.2.2.1 f.2.2.2.2.2.2.2.2.2.2) :
    ∃ n127, wY_lengths_127 post J r f.1 f.2.1 (nI (pg_F g)) f.2.2.1 (nI (pg_P g)) (nI (pg_N g)) (nI (pg_L g)) f.2.2.2.1 f.2.2.2.2.1 n127 (nI v.1) (nI 0) (ar_N (pg_en g)) (ar_N (pg_ex g)) (ar_N (pg_ow g)) (ar_N (pg_sr g)) (ar_N (pg_tg g)) (ar_C (pg_ca g)) (ar_N (pg_pa g)) (ar_N (pg_ba g)) (ar_V v.2.1) (ar_V v.2.2.1) (ar_V v.2.2.2) f.2.2.2.2.2.1 f.2.2.2.2.2.2.1 f.2.2.2.2.2.2.2.1 f.2.2.2.2.2.2.2.2.1 f.2.2.2.2.2.2.2.2.2.1 f.2.2.2.2.2.2.2.2.2.2 := by
  have hF := pg_F4 hg
  have hL := pg_L24 hg
  have hN := pg_N16 hg
  refine ⟨64 * pg_L g + 1, ?_⟩
  refine lp_for (yl_G g D A V0 O0) yl_L (fun n i v => wY_lengths_127 post J r f.1 f.2.1 (nI (pg_F g)) f.2.2.1 (nI (pg_P g)) (nI (pg_N g)) (nI (pg_L g)) f.2.2.2.1 f.2.2.2.2.1 n (nI v.1) (nI i) (ar_N (pg_en g)) (ar_N (pg_ex g)) (ar_N (pg_ow g)) (ar_N (pg_sr g)) (ar_N (pg_tg g)) (ar_C (pg_ca g)) (ar_N (pg_pa g)) (ar_N (pg_ba g)) (ar_V v.2.1) (ar_V v.2.2.1) (ar_V v.2.2.2) f.2.2.2.2.2.1 f.2.2.2.2.2.2.1 f.2.2.2.2.2.2.2.1 f.2.2.2.2.2.2.2.2.1 f.2.2.2.2.2.2.2.2.2.1 f.2.2.2.2.2.2.2.2.2.2) (yl_1 g V0) (fun v' => ∃ n238, wY_lengths_238 post J r f.1 f.2.1 (nI (pg_F g)) f.2.2.1 (nI (pg_P g)) (nI (pg_N g)) (nI (pg_L g)) f.2.2.2.1 f.2.2.2.2.1 n238 (nI v'.1) (nI 0) (ar_N (pg_en g)) (ar_N (pg_ex g)) (ar_N (pg_ow g)) (ar_N (pg_sr g)) (ar_N (pg_tg g)) (ar_C (pg_ca g)) (ar_N (pg_pa g)) (ar_N (pg_ba g)) (ar_V v'.2.1) (ar_V v'.2.2.1) (ar_V v'.2.2.2) f.2.2.2.2.2.1 f.2.2.2.2.2.2.1 f.2.2.2.2.2.2.2.1 f.2.2.2.2.2.2.2.2.1 f.2.2.2.2.2.2.2.2.2.1 f.2.2.2.2.2.2.2.2.2.2) (64 * pg_L g) yl_r (fun _ _ _ => yl_t) ?_ ?_ ?_ v hG H _ (by omega)
  · intro w v v' h l a ha d hd
    exact Nat.le_trans (l.1 _) (h a ha d hd)
  · intro n v q
    exact br_t (by rw [ix_64r]; exact nI_le (Nat.le_refl _) (by omega)) q
  · intro n w v hw hG' K
    refine br_f (by rw [ix_64r]; exact nI_ge hw (by omega)) ⟨pg_F g + 1, ?_⟩
    refine lp_for (yl_G g D A V0 O0) yl_L (fun m i v => wY_lengths_141 post J (wY_lengths_127 post J r f.1 f.2.1 (nI (pg_F g)) f.2.2.1 (nI (pg_P g)) (nI (pg_N g)) (nI (pg_L g)) f.2.2.2.1 f.2.2.2.2.1 n) r (nI w) f.1 f.2.1 (nI (pg_F g)) f.2.2.1 (nI (pg_P g)) (nI (pg_N g)) (nI (pg_L g)) f.2.2.2.1 f.2.2.2.2.1 m (nI v.1) (nI i) (ar_N (pg_en g)) (ar_N (pg_ex g)) (ar_N (pg_ow g)) (ar_N (pg_sr g)) (ar_N (pg_tg g)) (ar_C (pg_ca g)) (ar_N (pg_pa g)) (ar_N (pg_ba g)) (ar_V v.2.1) (ar_V v.2.2.1) (ar_V v.2.2.2) f.2.2.2.2.2.1 f.2.2.2.2.2.2.1 f.2.2.2.2.2.2.2.1 f.2.2.2.2.2.2.2.2.1 f.2.2.2.2.2.2.2.2.2.1 f.2.2.2.2.2.2.2.2.2.2) (fun a v => ∀ d, d < pg_F g → v.2.1 (16 * pg_tg g (w / 64) + 4 * a + d) ≤ yc_v g V0 w a d) (fun v => wY_lengths_127 post J r f.1 f.2.1 (nI (pg_F g)) f.2.2.1 (nI (pg_P g)) (nI (pg_N g)) (nI (pg_L g)) f.2.2.2.1 f.2.2.2.2.1 n (nI v.1) (nI (w + 1)) (ar_N (pg_en g)) (ar_N (pg_ex g)) (ar_N (pg_ow g)) (ar_N (pg_sr g)) (ar_N (pg_tg g)) (ar_C (pg_ca g)) (ar_N (pg_pa g)) (ar_N (pg_ba g)) (ar_V v.2.1) (ar_V v.2.2.1) (ar_V v.2.2.2) f.2.2.2.2.2.1 f.2.2.2.2.2.2.1 f.2.2.2.2.2.2.2.1 f.2.2.2.2.2.2.2.2.1 f.2.2.2.2.2.2.2.2.2.1 f.2.2.2.2.2.2.2.2.2.2) (pg_F g) yl_r (fun _ _ _ => yl_t) ?_ ?_ ?_ v hG' (fun v' h1 h2 h3 => K v' h1 h2 h3) _ (by omega)
    · intro a v v' h l d hd
      exact Nat.le_trans (l.1 _) (h d hd)
    · intro m v q
      exact br_t (nI_le (Nat.le_refl _) (by omega)) (nm_r (nI_1 w) q)
    · intro m a v ha hG2 K2
      refine br_f (nI_ge ha (by omega)) ⟨pg_F g + 1, ?_⟩
      refine lp_for (yl_G g D A V0 O0) yl_L (fun l i v => wY_lengths_153 post J (wY_lengths_127 post J r f.1 f.2.1 (nI (pg_F g)) f.2.2.1 (nI (pg_P g)) (nI (pg_N g)) (nI (pg_L g)) f.2.2.2.1 f.2.2.2.2.1 n) (wY_lengths_141 post J (wY_lengths_127 post J r f.1 f.2.1 (nI (pg_F g)) f.2.2.1 (nI (pg_P g)) (nI (pg_N g)) (nI (pg_L g)) f.2.2.2.1 f.2.2.2.2.1 n) r (nI w) f.1 f.2.1 (nI (pg_F g)) f.2.2.1 (nI (pg_P g)) (nI (pg_N g)) (nI (pg_L g)) f.2.2.2.1 f.2.2.2.2.1 m) r (nI w) (nI a) f.1 f.2.1 (nI (pg_F g)) f.2.2.1 (nI (pg_P g)) (nI (pg_N g)) (nI (pg_L g)) f.2.2.2.1 f.2.2.2.2.1 l (nI v.1) (nI i) (ar_N (pg_en g)) (ar_N (pg_ex g)) (ar_N (pg_ow g)) (ar_N (pg_sr g)) (ar_N (pg_tg g)) (ar_C (pg_ca g)) (ar_N (pg_pa g)) (ar_N (pg_ba g)) (ar_V v.2.1) (ar_V v.2.2.1) (ar_V v.2.2.2) f.2.2.2.2.2.1 f.2.2.2.2.2.2.1 f.2.2.2.2.2.2.2.1 f.2.2.2.2.2.2.2.2.1 f.2.2.2.2.2.2.2.2.2.1 f.2.2.2.2.2.2.2.2.2.2) (fun d v => v.2.1 (16 * pg_tg g (w / 64) + 4 * a + d) ≤ yc_v g V0 w a d) (fun v => wY_lengths_141 post J (wY_lengths_127 post J r f.1 f.2.1 (nI (pg_F g)) f.2.2.1 (nI (pg_P g)) (nI (pg_N g)) (nI (pg_L g)) f.2.2.2.1 f.2.2.2.2.1 n) r (nI w) f.1 f.2.1 (nI (pg_F g)) f.2.2.1 (nI (pg_P g)) (nI (pg_N g)) (nI (pg_L g)) f.2.2.2.1 f.2.2.2.2.1 m (nI v.1) (nI (a + 1)) (ar_N (pg_en g)) (ar_N (pg_ex g)) (ar_N (pg_ow g)) (ar_N (pg_sr g)) (ar_N (pg_tg g)) (ar_C (pg_ca g)) (ar_N (pg_pa g)) (ar_N (pg_ba g)) (ar_V v.2.1) (ar_V v.2.2.1) (ar_V v.2.2.2) f.2.2.2.2.2.1 f.2.2.2.2.2.2.1 f.2.2.2.2.2.2.2.1 f.2.2.2.2.2.2.2.2.1 f.2.2.2.2.2.2.2.2.2.1 f.2.2.2.2.2.2.2.2.2.2) (pg_F g) yl_r (fun _ _ _ => yl_t) ?_ ?_ ?_ v hG2 (fun v' h1 h2 h3 => K2 v' h1 h2 h3) _ (by omega)
      · intro d v v' h l
        exact Nat.le_trans (l.1 _) h
      · intro l v q
        exact br_t (nI_le (Nat.le_refl _) (by omega)) (nm_r (nI_1 a) q)
      · intro l d v hd hG3 K3
        obtain ⟨mf, V, Op, Al⟩ := v
        obtain ⟨hB, hm, hV, hO⟩ := hG3
        have hk : w / 64 < pg_L g := by omega
        have htg := pg_tgN hg hk
        have e7 : ar_N (pg_tg g) (nI w / 64).toNatClampNeg * 16 + nI a * 4 + nI d = nI (16 * pg_tg g (w / 64) + 4 * a + d) := by
          rw [dv_64 (by omega), ar_Nr _ (by omega), ix_lvr]
        have mono : yc_v g V w a d ≤ yc_v g V0 w a d := yc_mono hg hw (by omega) (fun t ht => hV t) h0
        have lb : D (16 * pg_tg g (w / 64) + 4 * a + d) ≤ yc_v g V w a d := yc_lb hg hR hw ha hd (fun t ht => (hB.1 t ht).1)
        have i256 : vp_in (nI (16 * pg_tg g (w / 64) + 4 * a + d)) 256 := vp_in_nI (by omega) (by omega)
        have vt := (hB.1 (16 * pg_tg g (w / 64) + 4 * a + d) (by omega)).2
        have vt' : V (16 * pg_tg g (w / 64) + 4 * a + d) ≤ 66 := vt
        have yl := yc_le g V w a d
        refine br_f (nI_ge hd (by omega)) (yw_cand (f := f) (s := (V, Op, Al)) hg hw (by omega) (by omega) ?_)
        refine And.intro z_64 (And.intro (by rw [dv_64 (by omega)]; exact vp_in_nI (by omega) (by omega)) (nm_r e7 (And.intro i256 ?_)))
        by_cases q : V (16 * pg_tg g (w / 64) + 4 * a + d) ≤ yc_v g V w a d
        · refine br_t ?_ (nm_r (nI_1 d) (K3 (mf, V, Op, Al) ⟨hB, hm, hV, hO⟩ (yl_r _) (Nat.le_trans q mono)))
          show ar_V V (nI (16 * pg_tg g (w / 64) + 4 * a + d)).toNatClampNeg ≤ _
          rw [ar_Vr _ (by omega)]
          exact (iv_le vt' yl).mpr q
        · refine br_f ?_ (And.intro i256 (nm_r (e' := ar_V (ar_u V (16 * pg_tg g (w / 64) + 4 * a + d) (yc_v g V w a d))) ?_ (nm_r (nI_1 d) (K3 (1, ar_u V (16 * pg_tg g (w / 64) + 4 * a + d) (yc_v g V w a d), Op, Al) ⟨⟨?_, hB.2.1, hB.2.2.1, ?_, hB.2.2.2.2⟩, Nat.le_refl _, ?_, hO⟩ ⟨ar_ule (by omega), fun _ => Nat.le_refl _, fun _ => Nat.le_refl _, fun z => absurd z (by decide : ¬ (1 : Nat) = 0)⟩ ?_))))
          · show ¬ ar_V V (nI (16 * pg_tg g (w / 64) + 4 * a + d)).toNatClampNeg ≤ _
            rw [ar_Vr _ (by omega)]
            exact fun z => q ((iv_le vt' yl).mp z)
          · rw [nI_clamp (by omega)]; exact ar_Vu V _ _
          · intro t ht
            show D t ≤ ar_u V (16 * pg_tg g (w / 64) + 4 * a + d) (yc_v g V w a d) t ∧ ar_u V (16 * pg_tg g (w / 64) + 4 * a + d) (yc_v g V w a d) t ≤ 66
            by_cases e : t = 16 * pg_tg g (w / 64) + 4 * a + d
            · rw [e, ar_us]; exact ⟨lb, yl⟩
            · rw [ar_un e]; exact hB.1 t ht
          · intro t ht ci
            have hz : V t = 0 := hB.2.2.2.1 t ht ci
            show ar_u V (16 * pg_tg g (w / 64) + 4 * a + d) (yc_v g V w a d) t = 0
            have := ar_ule (V := V) (t := 16 * pg_tg g (w / 64) + 4 * a + d) (r := yc_v g V w a d) (by omega) t
            omega
          · intro t
            have h1 : V t ≤ V0 t := hV t
            have := ar_ule (V := V) (t := 16 * pg_tg g (w / 64) + 4 * a + d) (r := yc_v g V w a d) (by omega) t
            show ar_u V (16 * pg_tg g (w / 64) + 4 * a + d) (yc_v g V w a d) t ≤ V0 t
            omega
          · show ar_u V (16 * pg_tg g (w / 64) + 4 * a + d) (yc_v g V w a d) (16 * pg_tg g (w / 64) + 4 * a + d) ≤ _
            rw [ar_us]
            exact mono
def yl_2 (g : pg_T) (V0 O0 : Nat → Nat) (i : Nat) (v : Nat × yt_T) : Prop := v.2.2.2 (4 * (i / 16) + i % 4) ≤ sv_p (O0 (4 * pg_ow g (i / 16) + i / 4 % 4)) (V0 i)
theorem yl_pass2 {V0 O0 : Nat → Nat} {r : Int32} (hg : pg_ok g) (hR : so_R g T D O A B) (h0 : ∀ t, t < 256 → V0 t ≤ 66) (h1 : ∀ q, q < 32 → O0 q ≤ 66) (v : Nat × yt_T) (hG : yl_G g D A V0 O0 v)
    (H : ∀ v', yl_G g D A V0 O0 v' → yl_L v v' → (∀ i, i < 16 * pg_N g → yl_2 g V0 O0 i v') → ∃ n326, wY_lengths_326 post J r f.1 f.2.1 (nI (pg_F g)) f.2.2.1 (nI (pg_P g)) (nI (pg_N g)) (nI (pg_L g)) f.2.2.2.1 f.2.2.2.2.1 n326 (nI v'.1) (nI 0) (ar_N (pg_en g)) (ar_N (pg_ex g)) (ar_N (pg_ow g)) (ar_N (pg_sr g)) (ar_N (pg_tg g)) (ar_C (pg_ca g)) (ar_N (pg_pa g)) (ar_N (pg_ba g)) (ar_V v'.2.1) (ar_V v'.2.2.1) (ar_V v'.2.2.2) f.2.2.2.2.2.1 f.2.2.2.2.2.2.1 f.2.2.2.2.2.2.2.1 f.2.2.2.2.2.2.2.2.1 f.2.2.2.2.2.2.2.2.2.1 f.2.2.2.2.2.2.2.2.2.2) :
    ∃ n238, wY_lengths_238 post J r f.1 f.2.1 (nI (pg_F g)) f.2.2.1 (nI (pg_P g)) (nI (pg_N g)) (nI (pg_L g)) f.2.2.2.1 f.2.2.2.2.1 n238 (nI v.1) (nI 0) (ar_N (pg_en g)) (ar_N (pg_ex g)) (ar_N (pg_ow g)) (ar_N (pg_sr g)) (ar_N (pg_tg g)) (ar_C (pg_ca g)) (ar_N (pg_pa g)) (ar_N (pg_ba g)) (ar_V v.2.1) (ar_V v.2.2.1) (ar_V v.2.2.2) f.2.2.2.2.2.1 f.2.2.2.2.2.2.1 f.2.2.2.2.2.2.2.1 f.2.2.2.2.2.2.2.2.1 f.2.2.2.2.2.2.2.2.2.1 f.2.2.2.2.2.2.2.2.2.2 := by
  have hF := pg_F4 hg
  have hL := pg_L24 hg
  have hN := pg_N16 hg
  have hP := pg_P8 hg
  refine ⟨16 * pg_N g + 1, ?_⟩
  refine lp_for (yl_G g D A V0 O0) yl_L (fun n i v => wY_lengths_238 post J r f.1 f.2.1 (nI (pg_F g)) f.2.2.1 (nI (pg_P g)) (nI (pg_N g)) (nI (pg_L g)) f.2.2.2.1 f.2.2.2.2.1 n (nI v.1) (nI i) (ar_N (pg_en g)) (ar_N (pg_ex g)) (ar_N (pg_ow g)) (ar_N (pg_sr g)) (ar_N (pg_tg g)) (ar_C (pg_ca g)) (ar_N (pg_pa g)) (ar_N (pg_ba g)) (ar_V v.2.1) (ar_V v.2.2.1) (ar_V v.2.2.2) f.2.2.2.2.2.1 f.2.2.2.2.2.2.1 f.2.2.2.2.2.2.2.1 f.2.2.2.2.2.2.2.2.1 f.2.2.2.2.2.2.2.2.2.1 f.2.2.2.2.2.2.2.2.2.2) (yl_2 g V0 O0) (fun v' => ∃ n326, wY_lengths_326 post J r f.1 f.2.1 (nI (pg_F g)) f.2.2.1 (nI (pg_P g)) (nI (pg_N g)) (nI (pg_L g)) f.2.2.2.1 f.2.2.2.2.1 n326 (nI v'.1) (nI 0) (ar_N (pg_en g)) (ar_N (pg_ex g)) (ar_N (pg_ow g)) (ar_N (pg_sr g)) (ar_N (pg_tg g)) (ar_C (pg_ca g)) (ar_N (pg_pa g)) (ar_N (pg_ba g)) (ar_V v'.2.1) (ar_V v'.2.2.1) (ar_V v'.2.2.2) f.2.2.2.2.2.1 f.2.2.2.2.2.2.1 f.2.2.2.2.2.2.2.1 f.2.2.2.2.2.2.2.2.1 f.2.2.2.2.2.2.2.2.2.1 f.2.2.2.2.2.2.2.2.2.2) (16 * pg_N g) yl_r (fun _ _ _ => yl_t) ?_ ?_ ?_ v hG H _ (by omega)
  · intro w v v' h l
    exact Nat.le_trans (l.2.2.1 _) h
  · intro n v q
    exact br_t (by rw [ix_16r]; exact nI_le (Nat.le_refl _) (by omega)) q
  · intro n i v hi hG' K
    obtain ⟨mf, V, Op, Al⟩ := v
    obtain ⟨hB, hm, hV, hO⟩ := hG'
    have hn : i / 16 < pg_N g := by omega
    have how := pg_owP hg hn
    have eo : ar_N (pg_ow g) (nI i / 16).toNatClampNeg * 4 + (nI i / 4 - nI i / 4 / 4 * 4) = nI (4 * pg_ow g (i / 16) + i / 4 % 4) := by
      rw [dv_16 (by omega), ar_Nr _ (by omega), dv_4 (by omega), rm_4 (by omega), ix_alr]
    have e5 : nI i / 16 * 4 + (nI i - nI i / 4 * 4) = nI (4 * (i / 16) + i % 4) := by
      rw [dv_16 (by omega), rm_4 (by omega), ix_alr]
    have ii : 16 * (i / 16) + 4 * (i / 4 % 4) + i % 4 = i := by omega
    have opb := (hB.2.1 (4 * pg_ow g (i / 16) + i / 4 % 4) (by omega))
    have vb := (hB.1 i (by omega))
    have alb := (hB.2.2.1 (4 * (i / 16) + i % 4) (by omega))
    have opb' : D (256 + 4 * pg_ow g (i / 16) + i / 4 % 4) ≤ Op (4 * pg_ow g (i / 16) + i / 4 % 4) := by rw [Nat.add_assoc]; exact opb.1
    have lb : A (4 * (i / 16) + i % 4) ≤ sv_p (Op (4 * pg_ow g (i / 16) + i / 4 % 4)) (V i) := by
      have := ya_lb (Op := Op) (V := V) (m := i / 16) (d := i % 4) (a := i / 4 % 4) hg hR hn (by omega) (by omega) opb' (by rw [ii]; exact vb.1)
      rw [ii] at this
      exact this
    have mono : sv_p (Op (4 * pg_ow g (i / 16) + i / 4 % 4)) (V i) ≤ sv_p (O0 (4 * pg_ow g (i / 16) + i / 4 % 4)) (V0 i) := sv_p_mono (hO _) (hV _) (h1 _ (by omega)) (h0 _ (by omega))
    have sl := sv_p_le (Op (4 * pg_ow g (i / 16) + i / 4 % 4)) (V i)
    have alb' : Al (4 * (i / 16) + i % 4) ≤ 66 := alb.2
    have i64 : vp_in (nI (4 * (i / 16) + i % 4)) 64 := vp_in_nI (by omega) (by omega)
    refine br_f (by rw [ix_16r]; exact nI_ge hi (by omega)) (And.intro z_16 (And.intro (by rw [dv_16 (by omega)]; exact vp_in_nI (by omega) (by omega)) (And.intro z_4 (And.intro z_4 (And.intro ?_ (And.intro (vp_in_nI (by omega) (by omega)) (yw_plus (a := Op (4 * pg_ow g (i / 16) + i / 4 % 4)) (b := V i) ?_ (ar_Vr V (by omega)) ?_)))))))
    · rw [eo]; exact vp_in_nI (by omega) (by omega)
    · rw [eo]; exact ar_Vr Op (by omega)
    · refine And.intro z_16 (And.intro z_4 (nm_r e5 (And.intro i64 ?_)))
      generalize sv_p (Op (4 * pg_ow g (i / 16) + i / 4 % 4)) (V i) = x at lb mono sl ⊢
      by_cases q : Al (4 * (i / 16) + i % 4) ≤ x
      · refine br_t ?_ (nm_r (nI_1 i) (K (mf, V, Op, Al) ⟨hB, hm, hV, hO⟩ (yl_r _) (Nat.le_trans q mono)))
        rw [ar_Vr Al (by omega)]
        exact (iv_le alb' sl).mpr q
      · refine br_f ?_ (And.intro i64 (nm_r (e' := ar_V (ar_u Al (4 * (i / 16) + i % 4) x)) ?_ (nm_r (nI_1 i) (K (1, V, Op, ar_u Al (4 * (i / 16) + i % 4) x) ⟨⟨hB.1, hB.2.1, ?_, hB.2.2.2.1, hB.2.2.2.2⟩, Nat.le_refl _, hV, hO⟩ ⟨fun _ => Nat.le_refl _, fun _ => Nat.le_refl _, ar_ule (by omega), fun z => absurd z (by decide : ¬ (1 : Nat) = 0)⟩ ?_))))
        · rw [ar_Vr Al (by omega)]
          exact fun z => q ((iv_le alb' sl).mp z)
        · rw [nI_clamp (by omega)]; exact ar_Vu Al _ _
        · intro t ht
          show A t ≤ ar_u Al (4 * (i / 16) + i % 4) x t ∧ ar_u Al (4 * (i / 16) + i % 4) x t ≤ 66
          by_cases e : t = 4 * (i / 16) + i % 4
          · rw [e, ar_us]; exact ⟨lb, sl⟩
          · rw [ar_un e]; exact hB.2.2.1 t ht
        · show ar_u Al (4 * (i / 16) + i % 4) x (4 * (i / 16) + i % 4) ≤ _
          rw [ar_us]
          exact mono
def yl_3 (g : pg_T) (A1 : Nat → Nat) (w : Nat) (v : Nat × yt_T) : Prop := ∀ b, b < pg_F g → pg_kd g (w / 4) = 1 → v.2.2.1 (4 * pg_cl g (w / 4) + b) ≤ yo_v g A1 (w / 4) (w % 4) b
theorem yl_pass3 {A1 : Nat → Nat} {r : Nat} (hg : pg_ok g) (hR : so_R g T D O A B) (v : Nat × yt_T) (hB : yr_B g D A v.2) (hm : v.1 ≤ 1) (hA : v.2.2.2 = A1)
    (H : ∀ v', yr_B g D A v'.2 → v'.1 ≤ 1 → v'.2.2.2 = A1 → yl_L v v' → (∀ w, w < 4 * pg_L g → yl_3 g A1 w v') → J (nI v'.1) (nI (r + 1)) (ar_N (pg_en g)) (ar_N (pg_ex g)) (ar_N (pg_ow g)) (ar_N (pg_sr g)) (ar_N (pg_tg g)) (ar_C (pg_ca g)) (ar_N (pg_pa g)) (ar_N (pg_ba g)) (ar_V v'.2.1) (ar_V v'.2.2.1) (ar_V v'.2.2.2) f.2.2.2.2.2.1 f.2.2.2.2.2.2.1 f.2.2.2.2.2.2.2.1 f.2.2.2.2.2.2.2.2.1 f.2.2.2.2.2.2.2.2.2.1 f.2.2.2.2.2.2.2.2.2.2) :
    ∃ n326, wY_lengths_326 post J (nI r) f.1 f.2.1 (nI (pg_F g)) f.2.2.1 (nI (pg_P g)) (nI (pg_N g)) (nI (pg_L g)) f.2.2.2.1 f.2.2.2.2.1 n326 (nI v.1) (nI 0) (ar_N (pg_en g)) (ar_N (pg_ex g)) (ar_N (pg_ow g)) (ar_N (pg_sr g)) (ar_N (pg_tg g)) (ar_C (pg_ca g)) (ar_N (pg_pa g)) (ar_N (pg_ba g)) (ar_V v.2.1) (ar_V v.2.2.1) (ar_V v.2.2.2) f.2.2.2.2.2.1 f.2.2.2.2.2.2.1 f.2.2.2.2.2.2.2.1 f.2.2.2.2.2.2.2.2.1 f.2.2.2.2.2.2.2.2.2.1 f.2.2.2.2.2.2.2.2.2.2 := by
  have hF := pg_F4 hg
  have hL := pg_L24 hg
  have hN := pg_N16 hg
  have hP := pg_P8 hg
  refine ⟨4 * pg_L g + 1, ?_⟩
  refine lp_for (fun v => yr_B g D A v.2 ∧ v.1 ≤ 1 ∧ v.2.2.2 = A1) yl_L (fun n i v => wY_lengths_326 post J (nI r) f.1 f.2.1 (nI (pg_F g)) f.2.2.1 (nI (pg_P g)) (nI (pg_N g)) (nI (pg_L g)) f.2.2.2.1 f.2.2.2.2.1 n (nI v.1) (nI i) (ar_N (pg_en g)) (ar_N (pg_ex g)) (ar_N (pg_ow g)) (ar_N (pg_sr g)) (ar_N (pg_tg g)) (ar_C (pg_ca g)) (ar_N (pg_pa g)) (ar_N (pg_ba g)) (ar_V v.2.1) (ar_V v.2.2.1) (ar_V v.2.2.2) f.2.2.2.2.2.1 f.2.2.2.2.2.2.1 f.2.2.2.2.2.2.2.1 f.2.2.2.2.2.2.2.2.1 f.2.2.2.2.2.2.2.2.2.1 f.2.2.2.2.2.2.2.2.2.2) (yl_3 g A1) (fun v' => J (nI v'.1) (nI (r + 1)) (ar_N (pg_en g)) (ar_N (pg_ex g)) (ar_N (pg_ow g)) (ar_N (pg_sr g)) (ar_N (pg_tg g)) (ar_C (pg_ca g)) (ar_N (pg_pa g)) (ar_N (pg_ba g)) (ar_V v'.2.1) (ar_V v'.2.2.1) (ar_V v'.2.2.2) f.2.2.2.2.2.1 f.2.2.2.2.2.2.1 f.2.2.2.2.2.2.2.1 f.2.2.2.2.2.2.2.2.1 f.2.2.2.2.2.2.2.2.2.1 f.2.2.2.2.2.2.2.2.2.2) (4 * pg_L g) yl_r (fun _ _ _ => yl_t) ?_ ?_ ?_ v ⟨hB, hm, hA⟩ (fun v' h1 h2 h3 => H v' h1.1 h1.2.1 h1.2.2 h2 h3) _ (by omega)
  · intro w v v' h l b hb hk
    exact Nat.le_trans (l.2.1 _) (h b hb hk)
  · intro n v q
    exact br_t (by rw [ix_4r]; exact nI_le (Nat.le_refl _) (by omega)) (nm_r (nI_1 r) q)
  · intro n w v hw hG' K
    have hk : w / 4 < pg_L g := by omega
    have hsr := pg_srN hg hk
    refine br_f (by rw [ix_4r]; exact nI_ge hw (by omega)) ⟨pg_F g + 1, ?_⟩
    refine lp_for (fun v => yr_B g D A v.2 ∧ v.1 ≤ 1 ∧ v.2.2.2 = A1) yl_L (fun l i v => wY_lengths_339 post J (wY_lengths_326 post J (nI r) f.1 f.2.1 (nI (pg_F g)) f.2.2.1 (nI (pg_P g)) (nI (pg_N g)) (nI (pg_L g)) f.2.2.2.1 f.2.2.2.2.1 n) (nI r) (nI w) f.1 f.2.1 (nI (pg_F g)) f.2.2.1 (nI (pg_P g)) (nI (pg_N g)) (nI (pg_L g)) f.2.2.2.1 f.2.2.2.2.1 l (nI v.1) (nI i) (ar_N (pg_en g)) (ar_N (pg_ex g)) (ar_N (pg_ow g)) (ar_N (pg_sr g)) (ar_N (pg_tg g)) (ar_C (pg_ca g)) (ar_N (pg_pa g)) (ar_N (pg_ba g)) (ar_V v.2.1) (ar_V v.2.2.1) (ar_V v.2.2.2) f.2.2.2.2.2.1 f.2.2.2.2.2.2.1 f.2.2.2.2.2.2.2.1 f.2.2.2.2.2.2.2.2.1 f.2.2.2.2.2.2.2.2.2.1 f.2.2.2.2.2.2.2.2.2.2) (fun b v => pg_kd g (w / 4) = 1 → v.2.2.1 (4 * pg_cl g (w / 4) + b) ≤ yo_v g A1 (w / 4) (w % 4) b) (fun v => wY_lengths_326 post J (nI r) f.1 f.2.1 (nI (pg_F g)) f.2.2.1 (nI (pg_P g)) (nI (pg_N g)) (nI (pg_L g)) f.2.2.2.1 f.2.2.2.2.1 n (nI v.1) (nI (w + 1)) (ar_N (pg_en g)) (ar_N (pg_ex g)) (ar_N (pg_ow g)) (ar_N (pg_sr g)) (ar_N (pg_tg g)) (ar_C (pg_ca g)) (ar_N (pg_pa g)) (ar_N (pg_ba g)) (ar_V v.2.1) (ar_V v.2.2.1) (ar_V v.2.2.2) f.2.2.2.2.2.1 f.2.2.2.2.2.2.1 f.2.2.2.2.2.2.2.1 f.2.2.2.2.2.2.2.2.1 f.2.2.2.2.2.2.2.2.2.1 f.2.2.2.2.2.2.2.2.2.2) (pg_F g) yl_r (fun _ _ _ => yl_t) ?_ ?_ ?_ v hG' (fun v' h1 h2 h3 => K v' h1 h2 h3) _ (by omega)
    · intro b v v' h l hk1
      exact Nat.le_trans (l.2.1 _) (h hk1)
    · intro l v q
      exact br_t (nI_le (Nat.le_refl _) (by omega)) (nm_r (nI_1 w) q)
    · intro l b v hb hG2 K2
      obtain ⟨mf, V, Op, Al⟩ := v
      obtain ⟨hB, hm, hA⟩ := hG2
      have hA' : Al = A1 := hA
      subst hA'
      refine br_f (nI_ge hb (by omega)) (And.intro z_4 (And.intro z_4 (yw_opened (f := f) (s := (V, Op, Al)) (k := w / 4) (c := w % 4) (b := b) hg (dv_4 (by omega)) (rm_4 (by omega)) rfl hk (by omega) (by omega) ?_)))
      refine And.intro z_4 (And.intro (by rw [dv_4 (by omega)]; exact vp_in_nI (by omega) (by omega)) ?_)
      rcases pg_kd2 hg hk with k0 | k1
      · refine nm_r (e' := -5) (by rw [dv_4 (by omega)]; exact yw_ca0 hg hk k0) (br_t (by decide) (nm_r (nI_1 b) (K2 (mf, V, Op, Al) ⟨hB, hm, rfl⟩ (yl_r _) (fun z => by omega))))
      · have hcl := (pg_clP hg hk k1).1
        have lb : D (256 + 4 * pg_cl g (w / 4) + b) ≤ yo_v g Al (w / 4) (w % 4) b := yo_lb hg hR hk k1 (by omega) hb (hB.2.2.1 _ (by omega)).1
        have yl := yo_le g Al (w / 4) (w % 4) b
        have ei : nI (pg_cl g (w / 4)) * 4 + nI b = nI (4 * pg_cl g (w / 4) + b) := ix_alr _ _
        have ob := (hB.2.1 (4 * pg_cl g (w / 4) + b) (by omega))
        have ob' : Op (4 * pg_cl g (w / 4) + b) ≤ 66 := ob.2
        have i32 : vp_in (nI (pg_cl g (w / 4)) * 4 + nI b) 32 := by rw [ei]; exact vp_in_nI (by omega) (by omega)
        refine nm_r (e' := nI (pg_cl g (w / 4))) (by rw [dv_4 (by omega)]; exact yw_ca1 hg hk k1) (br_f (nI_pos (by omega)) (And.intro i32 ?_))
        have z0 : 4 * pg_cl g (w / 4) + b = 0 → Op (4 * pg_cl g (w / 4) + b) = 0 := fun z => by rw [z]; exact hB.2.2.2.2
        generalize yo_v g Al (w / 4) (w % 4) b = x at lb yl ⊢ K2
        by_cases q : Op (4 * pg_cl g (w / 4) + b) ≤ x
        · refine br_t ?_ (nm_r (nI_1 b) (K2 (mf, V, Op, Al) ⟨hB, hm, rfl⟩ (yl_r _) (fun _ => q)))
          rw [ei, ar_Vr Op (by omega)]
          exact (iv_le ob' yl).mpr q
        · refine br_f ?_ (And.intro i32 (nm_r (e' := ar_V (ar_u Op (4 * pg_cl g (w / 4) + b) x)) ?_ (nm_r (nI_1 b) (K2 (1, V, ar_u Op (4 * pg_cl g (w / 4) + b) x, Al) ⟨⟨hB.1, ?_, hB.2.2.1, hB.2.2.2.1, ?_⟩, Nat.le_refl _, rfl⟩ ⟨fun _ => Nat.le_refl _, ar_ule (by omega), fun _ => Nat.le_refl _, fun z => absurd z (by decide : ¬ (1 : Nat) = 0)⟩ ?_))))
          · rw [ei, ar_Vr Op (by omega)]
            exact fun z => q ((iv_le ob' yl).mp z)
          · rw [ei, nI_clamp (by omega)]; exact ar_Vu Op _ _
          · intro t ht
            show D (256 + t) ≤ ar_u Op (4 * pg_cl g (w / 4) + b) x t ∧ ar_u Op (4 * pg_cl g (w / 4) + b) x t ≤ 66
            by_cases e : t = 4 * pg_cl g (w / 4) + b
            · rw [e, ar_us, ← Nat.add_assoc]; exact ⟨lb, yl⟩
            · rw [ar_un e]; exact hB.2.1 t ht
          · show ar_u Op (4 * pg_cl g (w / 4) + b) x 0 = 0
            have h0 : Op 0 = 0 := hB.2.2.2.2
            rw [ar_ud]
            split
            · rename_i e
              have := z0 e.symm
              omega
            · exact h0
          · intro _
            show ar_u Op (4 * pg_cl g (w / 4) + b) x (4 * pg_cl g (w / 4) + b) ≤ _
            rw [ar_us]
            exact Nat.le_refl _
theorem yl_round {s : yt_T} {r : Nat} (hg : pg_ok g) (hR : so_R g T D O A B) (hB : yr_B g D A s)
    (H : ∀ m' s', yr_B g D A s' → m' ≤ 1 → yr_R g s s' → (m' = 0 → s' = s) → J (nI m') (nI (r + 1)) (ar_N (pg_en g)) (ar_N (pg_ex g)) (ar_N (pg_ow g)) (ar_N (pg_sr g)) (ar_N (pg_tg g)) (ar_C (pg_ca g)) (ar_N (pg_pa g)) (ar_N (pg_ba g)) (ar_V s'.1) (ar_V s'.2.1) (ar_V s'.2.2) f.2.2.2.2.2.1 f.2.2.2.2.2.2.1 f.2.2.2.2.2.2.2.1 f.2.2.2.2.2.2.2.2.1 f.2.2.2.2.2.2.2.2.2.1 f.2.2.2.2.2.2.2.2.2.2) :
    ∃ n127, wY_lengths_127 post J (nI r) f.1 f.2.1 (nI (pg_F g)) f.2.2.1 (nI (pg_P g)) (nI (pg_N g)) (nI (pg_L g)) f.2.2.2.1 f.2.2.2.2.1 n127 (nI 0) (nI 0) (ar_N (pg_en g)) (ar_N (pg_ex g)) (ar_N (pg_ow g)) (ar_N (pg_sr g)) (ar_N (pg_tg g)) (ar_C (pg_ca g)) (ar_N (pg_pa g)) (ar_N (pg_ba g)) (ar_V s.1) (ar_V s.2.1) (ar_V s.2.2) f.2.2.2.2.2.1 f.2.2.2.2.2.2.1 f.2.2.2.2.2.2.2.1 f.2.2.2.2.2.2.2.2.1 f.2.2.2.2.2.2.2.2.2.1 f.2.2.2.2.2.2.2.2.2.2 := by
  have h0 : ∀ t, t < 256 → s.1 t ≤ 66 := fun t ht => (hB.1 t ht).2
  have h1 : ∀ q, q < 32 → s.2.1 q ≤ 66 := fun t ht => (hB.2.1 t ht).2
  refine yl_pass1 (O0 := s.2.1) hg hR h0 (0, s) ⟨hB, by omega, fun _ => Nat.le_refl _, fun _ => Nat.le_refl _⟩ (fun v1 g1 l1 p1 => ?_)
  refine yl_pass2 hg hR h0 h1 v1 g1 (fun v2 g2 l2 p2 => ?_)
  refine yl_pass3 hg hR v2 g2.1 g2.2.1 rfl (fun v3 b3 m3 a3 l3 p3 => ?_)
  have l13 := yl_t l1 (yl_t l2 l3)
  refine H v3.1 v3.2 b3 m3 ⟨l13.1, l13.2.1, l13.2.2.1, ?_, ?_, ?_⟩ (fun z => ?_)
  · intro w a d hw ha hd
    exact Nat.le_trans ((yl_t l2 l3).1 _) (p1 w hw a ha d hd)
  · intro i hi
    exact Nat.le_trans (l3.2.2.1 _) (p2 i hi)
  · intro w b hw hb k1
    have := p3 w hw b hb k1
    rw [← a3] at this
    exact this
  · exact congrArg Prod.snd (l13.2.2.2 z)
theorem yl_112 (hg : pg_ok g) (hR : so_R g T D O A B) (H : ∀ s, yr_E g D A s → post (sy_m f g s)) :
    ∀ m r k s mf, r + m = 400 → m < k → yr_B g D A s → mf ≤ 1 → yr_P g T D r s → (mf = 0 → yr_R g s s) → wY_lengths_112 post f.1 f.2.1 (nI (pg_F g)) f.2.2.1 (nI (pg_P g)) (nI (pg_N g)) (nI (pg_L g)) f.2.2.2.1 f.2.2.2.2.1 k (nI mf) (nI r) (ar_N (pg_en g)) (ar_N (pg_ex g)) (ar_N (pg_ow g)) (ar_N (pg_sr g)) (ar_N (pg_tg g)) (ar_C (pg_ca g)) (ar_N (pg_pa g)) (ar_N (pg_ba g)) (ar_V s.1) (ar_V s.2.1) (ar_V s.2.2) f.2.2.2.2.2.1 f.2.2.2.2.2.2.1 f.2.2.2.2.2.2.2.1 f.2.2.2.2.2.2.2.2.1 f.2.2.2.2.2.2.2.2.2.1 f.2.2.2.2.2.2.2.2.2.2 := by
  intro m
  induction m with
  | zero =>
    intro r k s mf e hk hB hm hp hz
    obtain ⟨k, rfl⟩ : ∃ j, k = j + 1 := ⟨k - 1, by omega⟩
    have : r = 400 := by omega
    subst this
    exact br_t (nI_le (a := 400) (b := 400) (by omega) (by omega)) (H s (yr_end hg hR hB hp))
  | succ m ih =>
    intro r k s mf e hk hB hm hp hz
    obtain ⟨k, rfl⟩ : ∃ j, k = j + 1 := ⟨k - 1, by omega⟩
    refine br_f (nI_ge (a := r) (b := 400) (by omega) (by omega)) ?_
    by_cases z : mf = 0
    · subst z
      refine br_t rfl (H s (yr_end hg hR hB ?_))
      have := yr_fix hg hR hB (hz rfl) hp (400 - r)
      rw [show r + (400 - r) = 400 by omega] at this
      exact this
    · refine br_f (nI_ne0 (by omega) (by omega)) ?_
      refine yl_round hg hR hB (fun m' s' b' m1 r' z' => ?_)
      refine ih (r + 1) k s' m' (by omega) (by omega) b' m1 (yr_step hg hR hB r' hp) (fun q => ?_)
      rw [z' q] at r' ⊢
      exact r'
end
end TM
end
section
section TN
section
variable {f : fy_T} {g : pg_T} {T D O A B : Nat → Nat} {post : SY → Prop} {s : yt_T}
theorem yl_50 {V Op Al : Nat → Nat} (hg : pg_ok g) (hR : so_R g T D O A B) (hV : ∀ t, t < 256 → V t = 66) (hO : ∀ q, q < 32 → Op q = 66) (hA : ∀ j, j < 64 → Al j = 66) (H : ∀ s, yr_E g D A s → post (sy_m f g s)) :
    ∃ n50, wY_lengths_50 post f.1 f.2.1 (nI (pg_F g)) f.2.2.1 (nI (pg_P g)) (nI (pg_N g)) (nI (pg_L g)) f.2.2.2.1 f.2.2.2.2.1 n50 (nI 0) (ar_N (pg_en g)) (ar_N (pg_ex g)) (ar_N (pg_ow g)) (ar_N (pg_sr g)) (ar_N (pg_tg g)) (ar_C (pg_ca g)) (ar_N (pg_pa g)) (ar_N (pg_ba g)) (ar_V V) (ar_V Op) (ar_V Al) f.2.2.2.2.2.1 f.2.2.2.2.2.2.1 f.2.2.2.2.2.2.2.1 f.2.2.2.2.2.2.2.2.1 f.2.2.2.2.2.2.2.2.2.1 f.2.2.2.2.2.2.2.2.2.2 := by
  have hF := pg_F4 hg
  have hN := pg_N16 hg
  have hP := pg_P8 hg
  refine ⟨pg_P g + 1, ?_⟩
  refine lp_for (fun V => ∀ t, t < 256 → V t = 66 ∨ (V t = 0 ∧ cd_i g t)) (fun V V' => ∀ t : Nat, V' t ≤ V t) (fun n i V => wY_lengths_50 post f.1 f.2.1 (nI (pg_F g)) f.2.2.1 (nI (pg_P g)) (nI (pg_N g)) (nI (pg_L g)) f.2.2.2.1 f.2.2.2.2.1 n (nI i) (ar_N (pg_en g)) (ar_N (pg_ex g)) (ar_N (pg_ow g)) (ar_N (pg_sr g)) (ar_N (pg_tg g)) (ar_C (pg_ca g)) (ar_N (pg_pa g)) (ar_N (pg_ba g)) (ar_V V) (ar_V Op) (ar_V Al) f.2.2.2.2.2.1 f.2.2.2.2.2.2.1 f.2.2.2.2.2.2.2.1 f.2.2.2.2.2.2.2.2.1 f.2.2.2.2.2.2.2.2.2.1 f.2.2.2.2.2.2.2.2.2.2) (fun p V => ∀ a, a < pg_F g → V (16 * pg_en g p + 4 * a + a) = 0) (fun V => ∃ n112, wY_lengths_112 post f.1 f.2.1 (nI (pg_F g)) f.2.2.1 (nI (pg_P g)) (nI (pg_N g)) (nI (pg_L g)) f.2.2.2.1 f.2.2.2.2.1 n112 (nI 1) (nI 0) (ar_N (pg_en g)) (ar_N (pg_ex g)) (ar_N (pg_ow g)) (ar_N (pg_sr g)) (ar_N (pg_tg g)) (ar_C (pg_ca g)) (ar_N (pg_pa g)) (ar_N (pg_ba g)) (ar_V V) (ar_V (ar_u Op 0 0)) (ar_V Al) f.2.2.2.2.2.1 f.2.2.2.2.2.2.1 f.2.2.2.2.2.2.2.1 f.2.2.2.2.2.2.2.2.1 f.2.2.2.2.2.2.2.2.2.1 f.2.2.2.2.2.2.2.2.2.2) (pg_P g) (fun _ _ => Nat.le_refl _) (fun a b c h k t => Nat.le_trans (k t) (h t)) ?_ ?_ ?_ V (fun t ht => Or.inl (hV t ht)) ?_ _ (by omega)
  · intro p V V' h l a ha
    have := l (16 * pg_en g p + 4 * a + a)
    have := h a ha
    omega
  · intro n V q
    exact br_t (nI_le (Nat.le_refl _) (by omega)) (nm_r (e' := ar_V (ar_u Op 0 0)) (ar_Vu Op 0 0) q)
  · intro n p V hp hG K
    have hen := pg_enN hg hp
    refine br_f (nI_ge hp (by omega)) ⟨pg_F g + 1, ?_⟩
    refine lp_for (fun V => ∀ t, t < 256 → V t = 66 ∨ (V t = 0 ∧ cd_i g t)) (fun V V' => ∀ t : Nat, V' t ≤ V t) (fun m i V => wY_lengths_60 post (wY_lengths_50 post f.1 f.2.1 (nI (pg_F g)) f.2.2.1 (nI (pg_P g)) (nI (pg_N g)) (nI (pg_L g)) f.2.2.2.1 f.2.2.2.2.1 n) (nI p) f.1 f.2.1 (nI (pg_F g)) f.2.2.1 (nI (pg_P g)) (nI (pg_N g)) (nI (pg_L g)) f.2.2.2.1 f.2.2.2.2.1 m (nI i) (ar_N (pg_en g)) (ar_N (pg_ex g)) (ar_N (pg_ow g)) (ar_N (pg_sr g)) (ar_N (pg_tg g)) (ar_C (pg_ca g)) (ar_N (pg_pa g)) (ar_N (pg_ba g)) (ar_V V) (ar_V Op) (ar_V Al) f.2.2.2.2.2.1 f.2.2.2.2.2.2.1 f.2.2.2.2.2.2.2.1 f.2.2.2.2.2.2.2.2.1 f.2.2.2.2.2.2.2.2.2.1 f.2.2.2.2.2.2.2.2.2.2) (fun a V => V (16 * pg_en g p + 4 * a + a) = 0) (fun V => wY_lengths_50 post f.1 f.2.1 (nI (pg_F g)) f.2.2.1 (nI (pg_P g)) (nI (pg_N g)) (nI (pg_L g)) f.2.2.2.1 f.2.2.2.2.1 n (nI (p + 1)) (ar_N (pg_en g)) (ar_N (pg_ex g)) (ar_N (pg_ow g)) (ar_N (pg_sr g)) (ar_N (pg_tg g)) (ar_C (pg_ca g)) (ar_N (pg_pa g)) (ar_N (pg_ba g)) (ar_V V) (ar_V Op) (ar_V Al) f.2.2.2.2.2.1 f.2.2.2.2.2.2.1 f.2.2.2.2.2.2.2.1 f.2.2.2.2.2.2.2.2.1 f.2.2.2.2.2.2.2.2.2.1 f.2.2.2.2.2.2.2.2.2.2) (pg_F g) (fun _ _ => Nat.le_refl _) (fun a b c h k t => Nat.le_trans (k t) (h t)) ?_ ?_ ?_ V hG (fun V' h1 h2 h3 => K V' h1 h2 h3) _ (by omega)
    · intro a V V' h l
      have := l (16 * pg_en g p + 4 * a + a)
      omega
    · intro m V q
      exact br_t (nI_le (Nat.le_refl _) (by omega)) (nm_r (nI_1 p) q)
    · intro m a V ha hG2 K2
      have ei : ar_N (pg_en g) (nI p).toNatClampNeg * 16 + nI a * 4 + nI a = nI (16 * pg_en g p + 4 * a + a) := by rw [ar_Nr _ (by omega), ix_lvr]
      refine br_f (nI_ge ha (by omega)) (And.intro (vp_in_nI (by omega) (by omega)) (And.intro ?_ (nm_r (e' := ar_V (ar_u V (16 * pg_en g p + 4 * a + a) 0)) ?_ (nm_r (nI_1 a) (K2 (ar_u V (16 * pg_en g p + 4 * a + a) 0) ?_ (ar_ule (Nat.zero_le _)) ar_us)))))
      · rw [ei]; exact vp_in_nI (by omega) (by omega)
      · rw [ei, nI_clamp (by omega)]; exact ar_Vu V _ 0
      · intro t ht
        by_cases e : t = 16 * pg_en g p + 4 * a + a
        · rw [e, ar_us]; exact Or.inr ⟨rfl, Or.inl ⟨p, a, hp, ha, rfl⟩⟩
        · rw [ar_un e]; exact hG2 t ht
  · intro V' h1 h2 h3
    refine ⟨401, yl_112 hg hR H 400 0 401 (V', ar_u Op 0 0, Al) 1 (by omega) (by omega) ⟨fun t ht => ?_, fun q hq => ?_, fun j hj => ?_, fun t ht ci => ?_, (ar_us : ar_u Op 0 0 0 = 0)⟩ (by omega) ⟨fun t _ _ z => absurd z (Nat.not_lt_zero _), fun t _ _ z => absurd z (Nat.not_lt_zero _), fun n d a _ _ _ _ _ z => absurd z (Nat.not_lt_zero _)⟩ (fun z => absurd z (by decide))⟩
    · show D t ≤ V' t ∧ V' t ≤ 66
      rcases h1 t ht with e | ⟨e, ci⟩
      · have := hR.1 t (by omega)
        omega
      · have := hR.2.1 t ci
        omega
    · show D (256 + q) ≤ ar_u Op 0 0 q ∧ ar_u Op 0 0 q ≤ 66
      by_cases e : q = 0
      · subst e
        rw [ar_us]
        have := hR.2.1 256 (Or.inr rfl)
        have e2 : D (256 + 0) = 0 := this
        omega
      · rw [ar_un e, hO q hq]
        have := hR.1 (256 + q) (by omega)
        omega
    · show A j ≤ Al j ∧ Al j ≤ 66
      rw [hA j hj]
      have := (hR.2.2.2.2.2.1 j hj).1
      omega
    · show V' t = 0
      rcases ci with ⟨p, a, hp, ha, rfl⟩ | e
      · exact h3 p hp a ha
      · omega
theorem yl_lengths (hg : pg_ok g) (hR : so_R g T D O A B) (H : ∀ s, yr_E g D A s → post (sy_m f g s)) : wpY_lengths post (sy_m f g s) := by
  obtain ⟨V, Op, Al⟩ := s
  refine pk_loop (fun k i (v : yt_T) => wY_lengths_2 post f.1 f.2.1 (nI (pg_F g)) f.2.2.1 (nI (pg_P g)) (nI (pg_N g)) (nI (pg_L g)) f.2.2.2.1 f.2.2.2.2.1 k (nI i) (ar_N (pg_en g)) (ar_N (pg_ex g)) (ar_N (pg_ow g)) (ar_N (pg_sr g)) (ar_N (pg_tg g)) (ar_C (pg_ca g)) (ar_N (pg_pa g)) (ar_N (pg_ba g)) (ar_V v.1) (ar_V v.2.1) (ar_V v.2.2) f.2.2.2.2.2.1 f.2.2.2.2.2.2.1 f.2.2.2.2.2.2.2.1 f.2.2.2.2.2.2.2.2.1 f.2.2.2.2.2.2.2.2.2.1 f.2.2.2.2.2.2.2.2.2.2) (fun i v => (∀ t, t < i → v.1 t = 66) ∧ (∀ q, q < 32 → q < i → v.2.1 q = 66) ∧ ∀ j, j < 64 → j < i → v.2.2 j = 66) 256 0 (V, Op, Al) (by omega) ⟨fun b hb => by omega, fun b _ hb => by omega, fun b _ hb => by omega⟩ ?_ ?_
  · intro k v q
    exact br_t (by decide) (yl_50 hg hR q.1 (fun t ht => q.2.1 t ht (by omega)) (fun t ht => q.2.2 t ht (by omega)) H)
  · intro k i v hi q K
    obtain ⟨V, Op, Al⟩ := v
    refine br_f (nI_ge (a := i) (b := 256) (by omega) (by omega)) (And.intro (vp_in_nI hi (by omega)) (nm_r (e' := ar_V (ar_u V i 66)) ?_ (And.intro z_64 (And.intro ?_ (nm_r (e' := ar_V (ar_u Al (i % 64) 66)) ?_ (And.intro z_32 (And.intro ?_ (nm_r (e' := ar_V (ar_u Op (i % 32) 66)) ?_ (nm_r (nI_1 i) (K (ar_u V i 66, ar_u Op (i % 32) 66, ar_u Al (i % 64) 66) ⟨fun t ht => ?_, fun t h2 ht => ?_, fun t h2 ht => ?_⟩))))))))))
    · rw [nI_clamp (by omega)]; exact ar_Vu V i 66
    · rw [rm_64 (by omega)]; exact vp_in_nI (by omega) (by omega)
    · rw [rm_64 (by omega), nI_clamp (by omega)]; exact ar_Vu Al _ 66
    · rw [rm_32 (by omega)]; exact vp_in_nI (by omega) (by omega)
    · rw [rm_32 (by omega), nI_clamp (by omega)]; exact ar_Vu Op _ 66
    · show ar_u V i 66 t = 66
      by_cases e : t = i
      · rw [e]; exact ar_us
      · rw [ar_un e]; exact q.1 t (by omega)
    · show ar_u Op (i % 32) 66 t = 66
      by_cases e : t = i % 32
      · rw [e]; exact ar_us
      · rw [ar_un e]; exact q.2.1 t h2 (by omega)
    · show ar_u Al (i % 64) 66 t = 66
      by_cases e : t = i % 64
      · rw [e]; exact ar_us
      · rw [ar_un e]; exact q.2.2 t h2 (by omega)
theorem cn_rc {A A' : Nat → Nat} : ∀ n, (∀ j, j < n → A' j = A j) → cn_r A' n = cn_r A n := by
  intro n
  induction n with
  | zero => intro _; rfl
  | succ n ih =>
    intro h
    show cn_r A' n + (if A' n < 66 then 1 else 0) = cn_r A n + (if A n < 66 then 1 else 0)
    rw [ih (fun j hj => h j (by omega)), h n (by omega)]
theorem yw_count {post : Int32 → SY → Prop} (hA : ∀ j, j < 64 → yt_A s j ≤ 66) (H : post (nI (cn_r (yt_A s) 64)) (sy_m f g s)) : ∃ n29, sy_r (wY_solve_29 post) (sy_m f g s) n29 (nI 0) (nI 0) := by
  refine pk_loop (fun k i (_ : Unit) => sy_r (wY_solve_29 post) (sy_m f g s) k (nI (cn_r (yt_A s) i)) (nI i)) (fun i _ => True) 64 0 () (by omega) trivial ?_ ?_
  · intro k _ _
    exact br_t (by decide) H
  · intro k i _ hi _ K
    have b := hA i hi
    have e : ar_V (yt_A s) (nI i).toNatClampNeg = ar_iv (yt_A s i) := ar_Vr _ (by omega)
    have K' := K () trivial
    refine br_f (nI_ge (a := i) (b := 64) (by omega) (by omega)) (And.intro (vp_in_nI hi (by omega)) ?_)
    by_cases q : 66 ≤ yt_A s i
    · rw [cn_r0 (by omega)] at K'
      refine br_t ?_ (nm_r (nI_1 i) K')
      show 1000 ≤ ar_V (yt_A s) (nI i).toNatClampNeg
      rw [e]
      exact (iv_1000 b).mpr q
    · rw [cn_r1 (by omega)] at K'
      refine br_f ?_ (nm_r (nI_1 _) (nm_r (nI_1 i) K'))
      show ¬ 1000 ≤ ar_V (yt_A s) (nI i).toNatClampNeg
      rw [e]
      exact fun z => q ((iv_1000 b).mp z)
theorem yw_solve0 {post : Int32 → SY → Prop} (hg : pg_ok g) (hP : 0 < pg_P g) (hR : so_R g T D O A B) (h0 : fy_solved f = 0) (H : ∀ s', yr_E g D A s' → post (nI (cn_r A 64)) (sy_m (fv_solved f 1) g s')) : wpY_solve post (sy_m f g s) := by
  have hP8 := pg_P8 hg
  refine br_f (nI_ne0 hP (by omega)) (br_t h0 ?_)
  refine yl_lengths hg hR (fun s' hE => ?_)
  refine yw_count (f := fv_solved f 1) (s := s') (fun j hj => by rw [hE.2.2 j hj]; exact (hR.2.2.2.2.2.1 j hj).1) ?_
  rw [cn_rc 64 (fun j hj => hE.2.2 j hj)]
  exact H s' hE
theorem yw_solve1 {post : Int32 → SY → Prop} (hg : pg_ok g) (hP : 0 < pg_P g) (hR : so_R g T D O A B) (hE : yr_E g D A s) (h0 : fy_solved f = 1) (H : post (nI (cn_r A 64)) (sy_m f g s)) : wpY_solve post (sy_m f g s) := by
  have hP8 := pg_P8 hg
  refine br_f (nI_ne0 hP (by omega)) (br_f (by show ¬ fy_solved f = 0; rw [h0]; decide) ?_)
  have e : fv_solved f 1 = f := by
    obtain ⟨a1, a2, a3, a4, a5⟩ := f
    have : a4 = 1 := h0
    subst this
    rfl
  refine yw_count (f := fv_solved f 1) (s := s) (fun j hj => by rw [hE.2.2 j hj]; exact (hR.2.2.2.2.2.1 j hj).1) ?_
  rw [cn_rc 64 (fun j hj => hE.2.2 j hj), e]
  exact H
end
end TN
end
section
section TO
section
variable {f : fy_T} {g : pg_T} {T D O A B : Nat → Nat} {s : yt_T}
/-- what the reference's table of candidates says -/
theorem yc_cd {V : Nat → Nat} {w a d : Nat} (hg : pg_ok g) (hw : w < 64 * pg_L g) (ha : a < pg_F g) (hd : d < pg_F g) (hV : ∀ t, t < 256 → V t = D t) (h : yc_v g V w a d < 66) :
    ∃ w' y p q, cd_A g (16 * pg_tg g (w / 64) + 4 * a + d) w' y p q ∧ D p < 66 ∧ D q < 66 ∧ yc_v g V w a d = cd_v D y p q ∧ w' ≤ w := by
  have hN := pg_N16 hg
  have hF := pg_F4 hg
  have hk : w / 64 < pg_L g := by omega
  have hs := pg_srN hg hk
  have e1 := hV (16 * pg_sr g (w / 64) + 4 * a + w / 16 % 4) (by omega)
  unfold yc_v at h ⊢
  by_cases e : pg_kd g (w / 64) = 0
  · rw [if_pos e] at h ⊢
    by_cases b : hs_b (pg_pa g (w / 64)) (w / 16 % 4) d
    · rw [hs_d1 b] at h ⊢
      rw [e1] at h ⊢
      obtain ⟨h1, h2, h3⟩ := sv_p_lt h
      exact ⟨64 * (w / 64) + 16 * (w / 16 % 4), 0, _, _, Or.inl ⟨rfl, w / 64, w / 16 % 4, a, d, hk, by omega, ha, hd, e, b, rfl, rfl, rfl, rfl⟩, h1, h1, h3, by omega⟩
    · rw [hs_d0 b] at h; omega
  · rw [if_neg e] at h ⊢
    have k1 : pg_kd g (w / 64) = 1 := by
      rcases pg_kd2 hg hk with z | z
      · exact absurd z e
      · exact z
    have he := pg_exN hg (pg_clP hg hk k1).1
    have e2 := hV (16 * pg_ex g (pg_cl g (w / 64)) + w % 16) (by omega)
    by_cases b : hs_b (pg_pa g (w / 64)) (w / 16 % 4) (w / 4 % 4)
    · rw [hs_d1 b] at h ⊢
      by_cases b2 : hs_b (pg_ba g (w / 64)) (w % 4) d
      · rw [hs_d1 b2] at h ⊢
        rw [e1, e2] at h ⊢
        obtain ⟨h1, h2, h3⟩ := sv_p_lt h
        obtain ⟨h4, h5, h6⟩ := sv_p_lt h1
        refine ⟨64 * (w / 64) + 16 * (w / 16 % 4) + 4 * (w / 4 % 4) + w % 4, 1, 16 * pg_sr g (w / 64) + 4 * a + w / 16 % 4, 16 * pg_ex g (pg_cl g (w / 64)) + w % 16, Or.inr (Or.inl ⟨rfl, w / 64, w / 16 % 4, a, d, w / 4 % 4, w % 4, hk, by omega, ha, hd, by omega, by omega, k1, b, b2, rfl, rfl, by omega, rfl⟩), h4, h5, ?_, by omega⟩
        rw [h3, h6, sv_mm]
        rfl
      · rw [hs_d0 b2] at h; omega
    · rw [hs_d0 b] at h; omega
theorem yc_of {V : Nat → Nat} {t w y p q : Nat} (hg : pg_ok g) (hc : cd_A g t w y p q) (ht : t < 256) (fp : D p < 66) (fq : D q < 66) (hV : ∀ t, t < 256 → V t = D t) :
    w < 64 * pg_L g ∧ pg_tg g (w / 64) = t / 16 ∧ yc_v g V w (t / 4 % 4) (t % 4) = cd_v D y p q := by
  have hN := pg_N16 hg
  have hF := pg_F4 hg
  rcases hc with ⟨rfl, k, c, a, d, hk, hc, ha, hd, k0, hb, rfl, ep, rfl, rfl⟩ | ⟨rfl, k, c, a, d, b, e, hk, hc, ha, hd, hb, he, k1, hb1, hb2, rfl, ep, eq, rfl⟩ | ⟨rfl, k, c, b, a, hk, hc, hb, ha, k1, hb1, rfl, ep, eq, rfl⟩
  · have hs := pg_srN hg hk
    unfold yc_v
    rw [show (64 * k + 16 * c) / 64 = k by omega, show (64 * k + 16 * c) / 16 % 4 = c by omega, show (16 * pg_tg g k + 4 * a + d) / 4 % 4 = a by omega, show (16 * pg_tg g k + 4 * a + d) % 4 = d by omega, if_pos k0, hs_d1 hb, ← ep, hV q (by omega), sv_p_f fq (by omega)]
    exact ⟨by omega, by omega, rfl⟩
  · have hs := pg_srN hg hk
    have hx := pg_exN hg (pg_clP hg hk k1).1
    unfold yc_v
    rw [show (64 * k + 16 * c + 4 * b + e) / 64 = k by omega, show (64 * k + 16 * c + 4 * b + e) / 16 % 4 = c by omega, show (64 * k + 16 * c + 4 * b + e) / 4 % 4 = b by omega, show (64 * k + 16 * c + 4 * b + e) % 4 = e by omega, show (64 * k + 16 * c + 4 * b + e) % 16 = 4 * b + e by omega, show (16 * pg_tg g k + 4 * a + d) / 4 % 4 = a by omega, show (16 * pg_tg g k + 4 * a + d) % 4 = d by omega, if_neg (by omega), hs_d1 hb1, hs_d1 hb2, ← ep, ← Nat.add_assoc, ← eq, hV p (by omega), hV q (by omega), sv_p_f fp fq, sv_p_f (Nat.lt_of_le_of_lt (sv_m_le _) (by omega)) (by omega), sv_mm]
    exact ⟨by omega, by omega, rfl⟩
  · omega
theorem so_rng (hg : pg_ok g) (hP : 0 < pg_P g) (hR : so_R g T D O A B) {t : Nat} (ht : t < 288) (ft : D t < 66) : cd_r g t := by
  rcases (hR.2.2.1 t ht ft).2 with ⟨a, _⟩ | ⟨w, y, p, q, a, _⟩
  · exact cd_ri hg hP a
  · exact cd_rt hg a
theorem so_rl (hg : pg_ok g) (hP : 0 < pg_P g) (hR : so_R g T D O A B) {t : Nat} (ht : t < 256) (ft : D t < 66) : t / 16 < pg_N g ∧ t / 4 % 4 < pg_F g ∧ t % 4 < pg_F g := by
  rcases so_rng hg hP hR (by omega) ft with a | a
  · exact a.2
  · omega
/-- the chosen candidate of a cell -/
theorem so_c (hR : so_R g T D O A B) {t : Nat} (ht : t < 288) (f0 : 0 < D t) (ft : D t < 66) : ∃ y p q, cd_A g t (O t) y p q ∧ D p < 66 ∧ D q < 66 ∧ D t = cd_v D y p q := by
  rcases hR.2.2.2.1 t ht ft with ⟨_, z, _⟩ | h
  · omega
  · exact h
theorem yw_lastStep {post : Int32 → Prop} {n a d : Nat} (hg : pg_ok g) (hR : so_R g T D O A B) (hE : yr_E g D A s) (hn : n < pg_N g) (ha : a < pg_F g) (hd : d < pg_F g) (f0 : 0 < D (16 * n + 4 * a + d)) (ft : D (16 * n + 4 * a + d) < 66) (H : post (nI (O (16 * n + 4 * a + d)))) :
    wpY_lastStep post (sy_m f g s) (nI n) (nI a) (nI d) := by
  have hF := pg_F4 hg
  have hL := pg_L24 hg
  have hN := pg_N16 hg
  obtain ⟨y, p, q, hc, fp, fq, ev⟩ := so_c hR (by omega) f0 ft
  have hO := yc_of hg hc (by omega) fp fq hE.1
  rw [show (16 * n + 4 * a + d) / 16 = n by omega, show (16 * n + 4 * a + d) / 4 % 4 = a by omega, show (16 * n + 4 * a + d) % 4 = d by omega] at hO
  have ei : nI n * 16 + nI a * 4 + nI d = nI (16 * n + 4 * a + d) := ix_lvr _ _ _
  have i256 : vp_in (nI n * 16 + nI a * 4 + nI d) 256 := by rw [ei]; exact vp_in_nI (by omega) (by omega)
  have er : ar_V (yt_V s) (nI n * 16 + nI a * 4 + nI d).toNatClampNeg = ar_iv (D (16 * n + 4 * a + d)) := by rw [ei, ar_Vr _ (by omega), hE.1 _ (by omega)]
  have key : ∀ m w k, w + m = O (16 * n + 4 * a + d) → m < k → sy_r (wY_lastStep_3 post (nI n) (nI a) (nI d)) (sy_m f g s) k (nI w) := by
    intro m
    induction m with
    | zero =>
      intro w k e hk
      obtain ⟨k, rfl⟩ : ∃ j, k = j + 1 := ⟨k - 1, by omega⟩
      have : w = O (16 * n + 4 * a + d) := by omega
      subst this
      have hk' : O (16 * n + 4 * a + d) / 64 < pg_L g := by omega
      refine br_f (by show ¬ nI (pg_L g) * 64 ≤ _; rw [ix_64r]; exact nI_ge hO.1 (by omega)) (And.intro z_64 (And.intro (by rw [dv_64 (by omega)]; exact vp_in_nI (by omega) (by omega)) (br_t ?_ (yw_cand hg hO.1 (by omega) (by omega) (And.intro i256 (br_t ?_ H))))))
      · show ar_N (pg_tg g) (nI (O (16 * n + 4 * a + d)) / 64).toNatClampNeg = nI n
        rw [dv_64 (by omega), ar_Nr _ (by omega), hO.2.1]
      · show _ = ar_V (yt_V s) (nI n * 16 + nI a * 4 + nI d).toNatClampNeg
        rw [er, hO.2.2, ev]
    | succ m ih =>
      intro w k e hk
      obtain ⟨k, rfl⟩ : ∃ j, k = j + 1 := ⟨k - 1, by omega⟩
      have hw : w < 64 * pg_L g := by omega
      have hk' : w / 64 < pg_L g := by omega
      have htg := pg_tgN hg hk'
      have next := ih (w + 1) k (by omega) (by omega)
      refine br_f (by show ¬ nI (pg_L g) * 64 ≤ _; rw [ix_64r]; exact nI_ge hw (by omega)) (And.intro z_64 (And.intro (by rw [dv_64 (by omega)]; exact vp_in_nI (by omega) (by omega)) (pk_eq (pg_tg g (w / 64)) n (fun z => yw_cand hg hw (by omega) (by omega) (And.intro i256 (br_f (fun z2 => ?_) (nm_r (nI_1 w) next)))) (fun z => nm_r (nI_1 w) next) ?_ rfl)))
      · have z3 : ar_iv (yc_v g (yt_V s) w a d) = ar_V (yt_V s) (nI n * 16 + nI a * 4 + nI d).toNatClampNeg := z2
        rw [er, iv_inj (yc_le _ _ _ _ _) (by omega)] at z3
        obtain ⟨w', y', p', q', c1, c2, c3, c4, c5⟩ := yc_cd hg hw ha hd hE.1 (by rw [z3]; exact ft)
        rw [z] at c1
        have cl := hR.2.2.2.2.1 _ _ _ _ _ c1 c2 c3
        rw [← c4, z3] at cl
        unfold lx_l at cl
        omega
      · show ar_N (pg_tg g) (nI w / 64).toNatClampNeg = _
        rw [dv_64 (by omega), ar_Nr _ (by omega)]
  exact ⟨O (16 * n + 4 * a + d) + 1, key (O (16 * n + 4 * a + d)) 0 _ (by omega) (by omega)⟩
/-- the least entry fact -/
theorem yw_origin {post : Int32 → Prop} {x y : Int32} {n d : Nat} (ex : x = nI n) (ey : y = nI d) (hg : pg_ok g) (hP : 0 < pg_P g) (hR : so_R g T D O A B) (hE : yr_E g D A s) (hn : n < pg_N g) (hd : d < 4) (H : ∀ r, r < 4 → (A (4 * n + d) < 66 → r = B (4 * n + d)) → post (nI r)) :
    wpY_origin post (sy_m f g s) x y := by
  subst ex ey
  have hF := pg_F4 hg
  have hN := pg_N16 hg
  have hP8 := pg_P8 hg
  have how := pg_owP hg hn
  have key : ∀ m a k, a + m = pg_F g → m < k → (∀ a', a' < a → sv_p (D (256 + 4 * pg_ow g n + a')) (D (16 * n + 4 * a' + d)) ≠ A (4 * n + d)) → sy_r (wY_origin_2 post (nI n) (nI d)) (sy_m f g s) k (nI a) := by
    intro m
    induction m with
    | zero =>
      intro a k e hk hne
      obtain ⟨k, rfl⟩ : ∃ j, k = j + 1 := ⟨k - 1, by omega⟩
      have : a = pg_F g := by omega
      subst this
      refine br_t (nI_le (Nat.le_refl _) (by omega)) (H 0 (by omega) (fun fA => ?_))
      obtain ⟨n', d', a', c1, c2, c3, c4, c5, c6, c7, c8⟩ := (hR.2.2.2.2.2.1 (4 * n + d) (by omega)).2 fA
      have en : n' = n := by omega
      have ed : d' = d := by omega
      subst en ed
      have hr := so_rl hg hP hR (by omega) c7
      have := hne a' (by omega)
      rw [sv_p_f c6 c7] at this
      exact absurd c8.symm this
    | succ m ih =>
      intro a k e hk hne
      obtain ⟨k, rfl⟩ : ∃ j, k = j + 1 := ⟨k - 1, by omega⟩
      have e1 : ar_N (pg_ow g) (nI n).toNatClampNeg * 4 + nI a = nI (4 * pg_ow g n + a) := by rw [ar_Nr _ (by omega), ix_alr]
      have e2 : nI n * 16 + nI a * 4 + nI d = nI (16 * n + 4 * a + d) := ix_lvr _ _ _
      have e3 : nI n * 4 + nI d = nI (4 * n + d) := ix_alr _ _
      have hA6 := (hR.2.2.2.2.2.1 (4 * n + d) (by omega)).1
      have r3 : ar_V (yt_A s) (nI n * 4 + nI d).toNatClampNeg = ar_iv (A (4 * n + d)) := by rw [e3, ar_Vr _ (by omega), hE.2.2 _ (by omega)]
      refine br_f (nI_ge (by omega) (by omega)) (And.intro (vp_in_nI (by omega) (by omega)) (And.intro ?_ (And.intro ?_ (yw_plus (a := D (256 + 4 * pg_ow g n + a)) (b := D (16 * n + 4 * a + d)) ?_ ?_ (And.intro ?_ ?_)))))
      · show vp_in (ar_N (pg_ow g) (nI n).toNatClampNeg * 4 + nI a) 32
        rw [e1]; exact vp_in_nI (by omega) (by omega)
      · rw [e2]; exact vp_in_nI (by omega) (by omega)
      · show ar_V (yt_O s) (ar_N (pg_ow g) (nI n).toNatClampNeg * 4 + nI a).toNatClampNeg = _
        rw [e1, ar_Vr _ (by omega), hE.2.1 _ (by omega), ← Nat.add_assoc]
      · show ar_V (yt_V s) (nI n * 16 + nI a * 4 + nI d).toNatClampNeg = _
        rw [e2, ar_Vr _ (by omega), hE.1 _ (by omega)]
      · rw [e3]; exact vp_in_nI (by omega) (by omega)
      · by_cases z : sv_p (D (256 + 4 * pg_ow g n + a)) (D (16 * n + 4 * a + d)) = A (4 * n + d)
        · refine br_t ?_ (H a (by omega) (fun fA => ?_))
          · show _ = ar_V (yt_A s) (nI n * 4 + nI d).toNatClampNeg
            rw [r3, z]
          · obtain ⟨n', d', a', c1, c2, c3, c4, c5, c6, c7, c8⟩ := (hR.2.2.2.2.2.1 (4 * n + d) (by omega)).2 fA
            have en : n' = n := by omega
            have ed : d' = d := by omega
            subst en ed
            rw [c5]
            have l1 : ¬ a' < a := by
              intro q
              have := hne a' q
              rw [sv_p_f c6 c7] at this
              exact this c8.symm
            obtain ⟨g1, g2, g3⟩ := sv_p_lt (by rw [z]; exact fA)
            have cl := hR.2.2.2.2.2.2 n' d' a hn hd (by omega) g1 g2
            rw [← g3, z] at cl
            unfold lx_l at cl
            omega
        · refine br_f ?_ (nm_r (nI_1 a) (ih (a + 1) k (by omega) (by omega) (fun a' q => ?_)))
          · show ¬ _ = ar_V (yt_A s) (nI n * 4 + nI d).toNatClampNeg
            rw [r3, iv_inj (sv_p_le _ _) hA6]
            exact z
          · rcases Nat.lt_or_ge a' a with l | l
            · exact hne a' l
            · have : a' = a := by omega
              subst this
              exact z
  exact ⟨pg_F g + 1, key (pg_F g) 0 _ (by omega) (by omega) (fun a' q => absurd q (Nat.not_lt_zero _))⟩
/-- opened, at the solution -/
theorem yo_cd {k c b : Nat} (hg : pg_ok g) (hR : so_R g T D O A B) (hk : k < pg_L g) (hc : c < 4) (hb : b < pg_F g) (h : yo_v g A k c b < 66) :
    pg_kd g k = 1 ∧ A (4 * pg_sr g k + c) < 66 ∧ yo_v g A k c b = sv_m (A (4 * pg_sr g k + c) + 1) ∧ ∃ p q, cd_A g (256 + 4 * pg_cl g k + b) (64 * k + 16 * c) 2 p q ∧ D p < 66 ∧ D q < 66 ∧ yo_v g A k c b = cd_v D 2 p q := by
  have hs := pg_srN hg hk
  have hN := pg_N16 hg
  unfold yo_v at h ⊢
  by_cases e : pg_kd g k = 0
  · rw [if_pos e] at h; omega
  · rw [if_neg e] at h ⊢
    have k1 : pg_kd g k = 1 := by
      rcases pg_kd2 hg hk with z | z
      · exact absurd z e
      · exact z
    by_cases q : hs_b (pg_pa g k) c b
    · rw [hs_d1 q] at h ⊢
      obtain ⟨h1, _, h3⟩ := sv_p_lt h
      obtain ⟨n, d, a, e1, e2, e3, e4, e5, e6, e7, e8⟩ := (hR.2.2.2.2.2.1 (4 * pg_sr g k + c) (by omega)).2 h1
      have en : n = pg_sr g k := by omega
      have ed : d = c := by omega
      subst en ed
      refine ⟨k1, h1, h3, 256 + 4 * pg_ow g (pg_sr g k) + a, 16 * pg_sr g k + 4 * a + d, Or.inr (Or.inr ⟨rfl, k, d, b, a, hk, hc, hb, e4, k1, q, rfl, rfl, rfl, rfl⟩), e6, e7, ?_⟩
      rw [h3, ← cd_v2, ← e8]
    · rw [hs_d0 q] at h; omega
theorem so_o {p a : Nat} (hg : pg_ok g) (hR : so_R g T D O A B) (hp : p < pg_P g) (ha : a < pg_F g) (f0 : 0 < D (256 + 4 * p + a)) (ft : D (256 + 4 * p + a) < 66) :
    ∃ k c, k < pg_L g ∧ c < 4 ∧ O (256 + 4 * p + a) = 64 * k + 16 * c ∧ pg_kd g k = 1 ∧ pg_cl g k = p ∧ A (4 * pg_sr g k + c) < 66 ∧ yo_v g A k c a = D (256 + 4 * p + a) ∧ D (256 + 4 * p + a) = sv_m (A (4 * pg_sr g k + c) + 1) := by
  have hP8 := pg_P8 hg
  have hF := pg_F4 hg
  have hN := pg_N16 hg
  obtain ⟨y, p', q', hc, fp, fq, ev⟩ := so_c hR (by omega) f0 ft
  rcases hc with ⟨rfl, k, c, a', d, hk, hc, ha', hd, k0, hb, et, _⟩ | ⟨rfl, k, c, a', d, b, e, hk, hc, ha', hd, hb, he, k1, hb1, hb2, et, _⟩ | ⟨rfl, k, c, b, a', hk, hc, hb, ha', k1, hb1, et, ep, eq, ew⟩
  · have := pg_tgN hg hk; omega
  · have := pg_tgN hg hk; omega
  · have hs := pg_srN hg hk
    have hcl := (pg_clP hg hk k1).1
    have e1 : pg_cl g k = p := by omega
    have e2 : b = a := by omega
    subst e2
    have cA := lx_1 (hR.2.2.2.2.2.2 (pg_sr g k) c a' hs hc ha' (by rw [← ep]; exact fp) (by rw [← eq]; exact fq))
    rw [← ep, ← eq] at cA
    have fA : A (4 * pg_sr g k + c) < 66 := Nat.lt_of_le_of_lt cA (Nat.lt_of_le_of_lt (sv_m_le _) (by omega))
    have lo := yo_lb (Al := A) hg hR hk k1 hc hb (Nat.le_refl _)
    rw [e1] at lo
    have vo : yo_v g A k c b = sv_m (A (4 * pg_sr g k + c) + 1) := by
      unfold yo_v
      rw [if_neg (by omega), hs_d1 hb1, sv_p_f fA (by omega)]
    have hi : yo_v g A k c b ≤ D (256 + 4 * p + b) := by
      rw [vo, ev, ← cd_v2]
      exact sv_m_mono (by omega)
    have eqv : yo_v g A k c b = D (256 + 4 * p + b) := by omega
    exact ⟨k, c, hk, hc, ew, k1, e1, fA, eqv, by rw [← eqv, vo]⟩
theorem yw_opening {post : Int32 → Prop} {x : Int32} {p a k0 c0 : Nat} (ex : x = nI p) (hg : pg_ok g) (hP : 0 < pg_P g) (hR : so_R g T D O A B) (hE : yr_E g D A s) (hp : p < pg_P g) (ha : a < pg_F g) (ft : D (256 + 4 * p + a) < 66)
    (hk0 : k0 < pg_L g) (hc0 : c0 < 4) (eO : O (256 + 4 * p + a) = 64 * k0 + 16 * c0) (h1 : pg_kd g k0 = 1) (h2 : pg_cl g k0 = p) (h3 : A (4 * pg_sr g k0 + c0) < 66) (h4 : yo_v g A k0 c0 a = D (256 + 4 * p + a)) (H : post (nI (64 * k0 + 16 * c0 + 4 * B (4 * pg_sr g k0 + c0)))) :
    wpY_opening post (sy_m f g s) x (nI a) := by
  subst ex
  have hF := pg_F4 hg
  have hL := pg_L24 hg
  have hN := pg_N16 hg
  have hP8 := pg_P8 hg
  have ei : nI p * 4 + nI a = nI (4 * p + a) := ix_alr _ _
  have i32 : vp_in (nI p * 4 + nI a) 32 := by rw [ei]; exact vp_in_nI (by omega) (by omega)
  have er : ar_V (yt_O s) (nI p * 4 + nI a).toNatClampNeg = ar_iv (D (256 + 4 * p + a)) := by rw [ei, ar_Vr _ (by omega), hE.2.1 _ (by omega), ← Nat.add_assoc]
  have eA : ∀ k c, k < pg_L g → c < 4 → yo_v g (yt_A s) k c a = yo_v g A k c a := by
    intro k c hk hc
    have := pg_srN hg hk
    unfold yo_v
    rw [hE.2.2 _ (by omega)]
  have key : ∀ m w k, w + m = 4 * k0 + c0 → m < k → sy_r (wY_opening_2 post (nI p) (nI a)) (sy_m f g s) k (nI w) := by
    intro m
    induction m with
    | zero =>
      intro w k e hk
      obtain ⟨k, rfl⟩ : ∃ j, k = j + 1 := ⟨k - 1, by omega⟩
      have ek : w / 4 = k0 := by omega
      have ec : w % 4 = c0 := by omega
      have hs := pg_srN hg hk0
      have i24 : vp_in (nI k0) 24 := vp_in_nI (by omega) (by omega)
      have d4 : nI w / 4 = nI k0 := by rw [dv_4 (by omega), ek]
      have m4 : nI w - nI w / 4 * 4 = nI c0 := by rw [rm_4 (by omega), ec]
      refine br_f (by show ¬ nI (pg_L g) * 4 ≤ _; rw [ix_4r]; exact nI_ge (by omega) (by omega)) (And.intro z_4 (nm_r d4 (And.intro z_4 (nm_r m4 (yw_opened (k := k0) (c := c0) (b := a) hg rfl rfl rfl hk0 hc0 (by omega) (And.intro i24 (yw_origin (n := pg_sr g k0) (d := c0) (ar_Nr _ (by omega)) rfl hg hP hR hE hs hc0 (fun r hr er' => And.intro i24 ?_))))))))
      have rB := er' h3
      subst rB
      refine br_t ?_ (And.intro i32 (br_t ?_ ?_))
      · show ar_C (pg_ca g) (nI k0).toNatClampNeg = nI p
        rw [yw_ca1 hg hk0 h1, h2]
      · show _ = ar_V (yt_O s) (nI p * 4 + nI a).toNatClampNeg
        rw [er, eA k0 c0 hk0 hc0, h4]
      · have e9 : nI k0 * 64 + nI c0 * 16 + nI (B (4 * pg_sr g k0 + c0)) * 4 = nI (64 * k0 + 16 * c0 + 4 * B (4 * pg_sr g k0 + c0)) := by
          rw [ix_64r, ix_16r, ix_4r, nI_add, nI_add]
        rw [e9]
        exact H
    | succ m ih =>
      intro w k e hk
      obtain ⟨k, rfl⟩ : ∃ j, k = j + 1 := ⟨k - 1, by omega⟩
      have hw : w < 4 * pg_L g := by omega
      have hk' : w / 4 < pg_L g := by omega
      have hs := pg_srN hg hk'
      have next := ih (w + 1) k (by omega) (by omega)
      have i24 : vp_in (nI (w / 4)) 24 := vp_in_nI (by omega) (by omega)
      refine br_f (by show ¬ nI (pg_L g) * 4 ≤ _; rw [ix_4r]; exact nI_ge hw (by omega)) (And.intro z_4 (nm_r (dv_4 (by omega)) (And.intro z_4 (nm_r (rm_4 (by omega)) (yw_opened (k := w / 4) (c := w % 4) (b := a) hg rfl rfl rfl hk' (by omega) (by omega) (And.intro i24 (yw_origin (n := pg_sr g (w / 4)) (d := w % 4) (ar_Nr _ (by omega)) rfl hg hP hR hE hs (by omega) (fun r hr er' => And.intro i24 ?_))))))))
      rcases pg_kd2 hg hk' with q0 | q1
      · refine br_f ?_ (nm_r (nI_1 w) next)
        show ¬ ar_C (pg_ca g) (nI (w / 4)).toNatClampNeg = nI p
        rw [yw_ca0 hg hk' q0]
        exact fun z => yw_n5 (a := p) (by omega) z.symm
      · have hcl := (pg_clP hg hk' q1).1
        refine pk_eq (pg_cl g (w / 4)) p (fun z => And.intro i32 (br_f (fun z2 => ?_) (nm_r (nI_1 w) next))) (fun z => nm_r (nI_1 w) next) (yw_ca1 hg hk' q1) rfl
        have z3 : ar_iv (yo_v g (yt_A s) (w / 4) (w % 4) a) = ar_V (yt_O s) (nI p * 4 + nI a).toNatClampNeg := z2
        rw [er, eA _ _ hk' (by omega), iv_inj (yo_le _ _ _ _ _) (by omega)] at z3
        obtain ⟨_, _, _, p', q', c1, c2, c3, c4⟩ := yo_cd (c := w % 4) hg hR hk' (by omega) ha (by rw [z3]; exact ft)
        rw [z] at c1
        have cl := hR.2.2.2.2.1 _ _ _ _ _ c1 c2 c3
        rw [← c4, z3, eO] at cl
        unfold lx_l at cl
        omega
  exact ⟨4 * k0 + c0 + 1, key (4 * k0 + c0) 0 _ (by omega) (by omega)⟩
end
end TO
end
section
section TP
abbrev tx_f (f : fx_T) (tl wc : Int32) (C H K Lk M W : Nat → Nat) : fx_T := (f.1, f.2.1, f.2.2.1, f.2.2.2.1, f.2.2.2.2.1, f.2.2.2.2.2.1, tl, wc, ar_N C, ar_N H, ar_N K, ar_N Lk, ar_N M, ar_N W)
abbrev ty_f (f : fy_T) (kp : Int32) (PN PF PD K Lk OC : Nat → Nat) : fy_T := (f.1, f.2.1, f.2.2.1, f.2.2.2.1, kp, ar_N PN, ar_N PF, ar_N PD, ar_N K, ar_N Lk, ar_N OC)
def sx_t (f : fx_T) (tl wc : Int32) (C H K Lk M W : Nat → Nat) (g : pg_T) (L : Nat) (dn : Nat → Nat) (s : xt_T) : SX := (66, 256, 288, f.1, f.2.1, f.2.2.1, nI (pg_F g), f.2.2.2.1, nI (pg_P g), nI (pg_N g), nI (pg_L g), f.2.2.2.2.1, f.2.2.2.2.2.1, nI L, tl, wc, ar_N (pg_en g), ar_N (pg_ex g), ar_N (pg_ow g), ar_N (pg_kd g), ar_N (pg_sr g), ar_N (pg_tg g), ar_C (pg_ca g), ar_N (pg_pa g), ar_N (pg_ba g), ar_N (xt_D s), ar_N (xt_O s), ar_N dn, ar_N (xt_A s), ar_N (xt_B s), ar_O (xt_h s), ar_O (xt_n s), ar_O (xt_p s), ar_N C, ar_N H, ar_N K, ar_N Lk, ar_N M, ar_N W)
def sy_t (f : fy_T) (kp : Int32) (PN PF PD K Lk OC : Nat → Nat) (g : pg_T) (s : yt_T) : SY := (f.1, f.2.1, nI (pg_F g), f.2.2.1, nI (pg_P g), nI (pg_N g), nI (pg_L g), f.2.2.2.1, kp, ar_N (pg_en g), ar_N (pg_ex g), ar_N (pg_ow g), ar_N (pg_sr g), ar_N (pg_tg g), ar_C (pg_ca g), ar_N (pg_pa g), ar_N (pg_ba g), ar_V (yt_V s), ar_V (yt_O s), ar_V (yt_A s), ar_N PN, ar_N PF, ar_N PD, ar_N K, ar_N Lk, ar_N OC)
theorem sx_tm (f : fx_T) (tl wc : Int32) (C H K Lk M W : Nat → Nat) (g : pg_T) (L : Nat) (dn : Nat → Nat) (s : xt_T) : sx_t f tl wc C H K Lk M W g L dn s = sx_m (tx_f f tl wc C H K Lk M W) g L dn s := rfl
theorem sy_tm (f : fy_T) (kp : Int32) (PN PF PD K Lk OC : Nat → Nat) (g : pg_T) (s : yt_T) : sy_t f kp PN PF PD K Lk OC g s = sy_m (ty_f f kp PN PF PD K Lk OC) g s := rfl
/-- both ends of a link lie in one procedure -/
def pg_sm (g : pg_T) : Prop := ∀ k, k < pg_L g → pg_ow g (pg_sr g k) = pg_ow g (pg_tg g k)
/-! X: the steps back -/
section
variable {f : fx_T} {g : pg_T} {L : Nat} {dn : Nat → Nat} {s : xt_T} {tl : Int32} {C H K Lk M W : Nat → Nat}
theorem xt_put {post : SX → Prop} {x y z : Int32} {i a b c wc : Nat} (ex : x = nI a) (ey : y = nI b) (ez : z = nI c) (hi : i < 65) (Q : post (sx_t f tl (nI wc) C H (ar_u K i a) (ar_u Lk i b) (ar_u M i c) W g L dn s)) : wpX_putStep post (sx_t f tl (nI wc) C H K Lk M W g L dn s) (nI i) x y z := by
  subst ex ey ez
  have ii : vp_in (nI i) 65 := vp_in_nI hi (by omega)
  refine And.intro ii (nm_r (e' := ar_N (ar_u K i a)) ?_ (And.intro ii (nm_r (e' := ar_N (ar_u Lk i b)) ?_ (And.intro ii (nm_r (e' := ar_N (ar_u M i c)) ?_ Q)))))
  · rw [nI_clamp (by omega)]; exact ar_Nu K i a
  · rw [nI_clamp (by omega)]; exact ar_Nu Lk i b
  · rw [nI_clamp (by omega)]; exact ar_Nu M i c
theorem xt_whole {post : Int32 → Prop} {x wc : Int32} {m d : Nat} (ex : x = nI (4 * m + d)) (hm : m < 16) (hd : d < 4) (hB : xt_B s (4 * m + d) < 4) (Q : post (nI (16 * m + 4 * xt_B s (4 * m + d) + d))) : wpX_wholeCell post (sx_t f tl wc C H K Lk M W g L dn s) x := by
  subst ex
  refine And.intro (vp_in_nI (by omega) (by omega)) ?_
  have e1 : nI (4 * m + d) >>> ((2 : Int32) &&& 31) = nI m := by rw [ct_s2 (by omega)]; congr 1; omega
  have e2 : nI (4 * m + d) &&& 3 = nI d := by rw [ct_3 (by omega)]; congr 1; omega
  have e3 : ar_N (xt_B s) (nI (4 * m + d)).toNatClampNeg = nI (xt_B s (4 * m + d)) := ar_Nr _ (by omega)
  have e : 16 * (nI (4 * m + d) >>> ((2 : Int32) &&& 31)) + 4 * ar_N (xt_B s) (nI (4 * m + d)).toNatClampNeg + (nI (4 * m + d) &&& 3) = nI (16 * m + 4 * xt_B s (4 * m + d) + d) := by
    rw [e1, e2, e3, ix_lv]
  show post (16 * (nI (4 * m + d) >>> ((2 : Int32) &&& 31)) + 4 * ar_N (xt_B s) (nI (4 * m + d)).toNatClampNeg + (nI (4 * m + d) &&& 3))
  rw [e]
  exact Q
theorem xt_local {post : Int32 → SX → Prop} {i t wc k c : Nat} (hg : pg_ok g) (hi : i < 65) (ht : t < 256) (h0 : 0 < xt_D s t) (h6 : xt_D s t ≤ 66) (hk : k < pg_L g) (hc : c < 4) (k0 : pg_kd g k = 0) (eO : xt_O s t / 64 = k) (eO2 : xt_O s t / 16 % 4 = c) (hO : xt_O s t < 1536)
    (Q : post (nI (16 * pg_sr g k + 4 * (t / 4 % 4) + c)) (sx_t f tl (nI wc) C H (ar_u K i 0) (ar_u Lk i k) (ar_u M i 0) W g L dn s)) : wpX_stepBack post (sx_t f tl (nI wc) C H K Lk M W g L dn s) (nI i) (nI t) := by
  have hL := pg_L24 hg
  have it : vp_in (nI t) 288 := vp_in_nI (by omega) (by omega)
  have i24 : vp_in (nI k) 24 := vp_in_nI (by omega) (by omega)
  have e3 : ar_N (xt_O s) (nI t).toNatClampNeg = nI (xt_O s t) := ar_Nr _ (by omega)
  have e4 : nI (xt_O s t) >>> ((6 : Int32) &&& 31) = nI k := by rw [ct_s6 (by omega), eO]
  have e5 : 16 * ar_N (pg_sr g) (nI k).toNatClampNeg + (nI t &&& 12) + ((nI (xt_O s t) >>> ((4 : Int32) &&& 31)) &&& 3) = nI (16 * pg_sr g k + 4 * (t / 4 % 4) + c) := by
    rw [ar_Nr _ (by omega), ct_12 t (by omega), ct_s4 (by omega), ct_3 (by omega), eO2, ix_lv2]
  refine And.intro it (pk_le (xt_D s t) 0 (fun z => by omega) (fun _ => ?_) (ar_Nr _ (by omega)) rfl)
  refine And.intro it (nm_r e3 (nm_r e4 (And.intro i24 (pk_eq (pg_kd g k) 0 (fun _ => xt_put (wc := wc) (a := 0) (b := k) (c := 0) rfl rfl rfl hi (And.intro i24 ?_)) (fun z => absurd k0 z) (ar_Nr _ (by omega)) rfl))))
  show post (16 * ar_N (pg_sr g) (nI k).toNatClampNeg + (nI t &&& 12) + ((nI (xt_O s t) >>> ((4 : Int32) &&& 31)) &&& 3)) _
  rw [e5]
  exact Q
theorem xt_ret {post : Int32 → SX → Prop} {i t wc k r : Nat} (hg : pg_ok g) (hi : i < 65) (ht : t < 256) (h0 : 0 < xt_D s t) (h6 : xt_D s t ≤ 66) (hk : k < pg_L g) (k1 : pg_kd g k = 1) (eO : xt_O s t / 64 = k) (eO2 : xt_O s t % 16 = r) (hO : xt_O s t < 1536) (hwc : wc < 65)
    (Q : post (nI (16 * pg_ex g (pg_cl g k) + r)) (sx_t f tl (nI (wc + 1)) C H (ar_u K i 2) (ar_u Lk i k) (ar_u M i 0) (ar_u W wc i) g L dn s)) : wpX_stepBack post (sx_t f tl (nI wc) C H K Lk M W g L dn s) (nI i) (nI t) := by
  have hL := pg_L24 hg
  have hP := pg_P8 hg
  have hcl := (pg_clP hg hk k1).1
  have it : vp_in (nI t) 288 := vp_in_nI (by omega) (by omega)
  have i24 : vp_in (nI k) 24 := vp_in_nI (by omega) (by omega)
  have ec := yw_ca1 hg hk k1
  have i8 : vp_in (ar_C (pg_ca g) (nI k).toNatClampNeg) 8 := by rw [ec]; exact vp_in_nI (by omega) (by omega)
  have e3 : ar_N (xt_O s) (nI t).toNatClampNeg = nI (xt_O s t) := ar_Nr _ (by omega)
  have e4 : nI (xt_O s t) >>> ((6 : Int32) &&& 31) = nI k := by rw [ct_s6 (by omega), eO]
  have e5 : 16 * ar_N (pg_ex g) (ar_C (pg_ca g) (nI k).toNatClampNeg).toNatClampNeg + (nI (xt_O s t) &&& 15) = nI (16 * pg_ex g (pg_cl g k) + r) := by
    rw [ec, ar_Nr _ (by omega), ct_15 (by omega), eO2, ix_16, nI_add]
  refine And.intro it (pk_le (xt_D s t) 0 (fun z => by omega) (fun _ => ?_) (ar_Nr _ (by omega)) rfl)
  refine And.intro it (nm_r e3 (nm_r e4 (And.intro i24 (pk_eq (pg_kd g k) 0 (fun z => by omega) (fun z => xt_put (wc := wc) (a := 2) (b := k) (c := 0) rfl rfl rfl hi (And.intro (vp_in_nI hwc (by omega)) (nm_r (e' := ar_N (ar_u W wc i)) ?_ (nm_r (nI_1 wc) (And.intro i24 (And.intro i8 ?_)))))) (ar_Nr _ (by omega)) rfl))))
  · rw [nI_clamp (by omega)]; exact ar_Nu W wc i
  · show post (16 * ar_N (pg_ex g) (ar_C (pg_ca g) (nI k).toNatClampNeg).toNatClampNeg + (nI (xt_O s t) &&& 15)) _
    rw [e5]
    exact Q
theorem xt_call {post : Int32 → SX → Prop} {i t wc k c : Nat} (hg : pg_ok g) (hi : i < 65) (ht : t < 256) (h0 : xt_D s t = 0) (hwc : wc < 65) (hm : W wc < 65) (hcm : C (W wc) < 256) (hk : k < pg_L g) (eO : xt_O s (C (W wc)) / 64 = k) (eO2 : xt_O s (C (W wc)) / 16 % 4 = c) (hO : xt_O s (C (W wc)) < 1536)
    (Q : post (nI (16 * pg_sr g k + 4 * (C (W wc) / 4 % 4) + c)) (sx_t f tl (nI wc) C H (ar_u K i 1) (ar_u Lk i k) (ar_u (ar_u M i (W wc)) (W wc) i) W g L dn s)) : wpX_stepBack post (sx_t f tl (nI (wc + 1)) C H K Lk M W g L dn s) (nI i) (nI t) := by
  have hL := pg_L24 hg
  have it : vp_in (nI t) 288 := vp_in_nI (by omega) (by omega)
  have i24 : vp_in (nI k) 24 := vp_in_nI (by omega) (by omega)
  have im : vp_in (nI (W wc)) 65 := vp_in_nI hm (by omega)
  have e3 : ar_N (xt_O s) (nI (C (W wc))).toNatClampNeg = nI (xt_O s (C (W wc))) := ar_Nr _ (by omega)
  have e4 : nI (xt_O s (C (W wc))) >>> ((6 : Int32) &&& 31) = nI k := by rw [ct_s6 (by omega), eO]
  have e5 : 16 * ar_N (pg_sr g) (nI k).toNatClampNeg + (nI (C (W wc)) &&& 12) + ((nI (xt_O s (C (W wc))) >>> ((4 : Int32) &&& 31)) &&& 3) = nI (16 * pg_sr g k + 4 * (C (W wc) / 4 % 4) + c) := by
    rw [ar_Nr _ (by omega), ct_12 _ (by omega), ct_s4 (by omega), ct_3 (by omega), eO2, ix_lv2]
  refine And.intro it (pk_le (xt_D s t) 0 (fun _ => pk_le (wc + 1) 0 (fun z => by omega) (fun _ => ?_)) (fun z => by omega) (ar_Nr _ (by omega)) rfl (by omega) (by omega))
  refine nm_r (nI_pred wc) (And.intro (vp_in_nI hwc (by omega)) (nm_r (ar_Nr W (by omega)) (And.intro im (nm_r (ar_Nr C (by omega)) (And.intro (vp_in_nI (by omega) (by omega)) (nm_r e3 (nm_r e4 (xt_put (wc := wc) (a := 1) (b := k) (c := W wc) rfl rfl rfl hi (And.intro im (nm_r (e' := ar_N (ar_u (ar_u M i (W wc)) (W wc) i)) ?_ (And.intro i24 ?_)))))))))))
  · rw [nI_clamp (by omega)]; exact ar_Nu _ _ i
  · show post (16 * ar_N (pg_sr g) (nI k).toNatClampNeg + (nI (C (W wc)) &&& 12) + ((nI (xt_O s (C (W wc))) >>> ((4 : Int32) &&& 31)) &&& 3)) _
    rw [e5]
    exact Q
theorem xt_open {post : Int32 → SX → Prop} {i t k c : Nat} (hg : pg_ok g) (hi : i < 65) (ht : t < 256) (h0 : xt_D s t = 0) (hn : t / 16 < pg_N g) (hk : k < pg_L g) (hc : c < 4) (eO : xt_O s (256 + 4 * pg_ow g (t / 16) + t % 4) = 64 * k + 16 * c) (hB : xt_B s (4 * pg_sr g k + c) < 4)
    (Q : post (nI (16 * pg_sr g k + 4 * xt_B s (4 * pg_sr g k + c) + c)) (sx_t f tl (nI 0) C H (ar_u K i 1) (ar_u Lk i k) (ar_u M i 0) W g L dn s)) : wpX_stepBack post (sx_t f tl (nI 0) C H K Lk M W g L dn s) (nI i) (nI t) := by
  have hL := pg_L24 hg
  have hN := pg_N16 hg
  have hP := pg_P8 hg
  have how := pg_owP hg hn
  have hs := pg_srN hg hk
  have it : vp_in (nI t) 288 := vp_in_nI (by omega) (by omega)
  have i24 : vp_in (nI k) 24 := vp_in_nI (by omega) (by omega)
  have e1 : nI t >>> ((4 : Int32) &&& 31) = nI (t / 16) := ct_s4 (by omega)
  have e2 : 256 + 4 * ar_N (pg_ow g) (nI t >>> ((4 : Int32) &&& 31)).toNatClampNeg + (nI t &&& 3) = nI (256 + 4 * pg_ow g (t / 16) + t % 4) := by
    rw [e1, ar_Nr _ (by omega), ct_3 (by omega), ix_op]
  have e3 : ar_N (xt_O s) (256 + 4 * ar_N (pg_ow g) (nI t >>> ((4 : Int32) &&& 31)).toNatClampNeg + (nI t &&& 3)).toNatClampNeg = nI (64 * k + 16 * c) := by
    rw [e2, ar_Nr _ (by omega), eO]
  have e4 : nI (64 * k + 16 * c) >>> ((6 : Int32) &&& 31) = nI k := by rw [ct_s6 (by omega)]; congr 1; omega
  have e5 : 4 * ar_N (pg_sr g) (nI k).toNatClampNeg + ((nI (64 * k + 16 * c) >>> ((4 : Int32) &&& 31)) &&& 3) = nI (4 * pg_sr g k + c) := by
    rw [ar_Nr _ (by omega), ct_s4 (by omega), ct_3 (by omega), ix_al]; congr 1; omega
  refine And.intro it (pk_le (xt_D s t) 0 (fun _ => pk_le 0 0 (fun _ => ?_) (fun z => by omega)) (fun z => by omega) (ar_Nr _ (by omega)) rfl (by omega) (by omega))
  refine And.intro (by rw [e1]; exact vp_in_nI (by omega) (by omega)) (And.intro ?_ (nm_r e3 (nm_r e4 (xt_put (wc := 0) (a := 1) (b := k) (c := 0) rfl rfl rfl hi (And.intro i24 (xt_whole (m := pg_sr g k) (d := c) e5 (by omega) hc hB Q))))))
  show vp_in (256 + 4 * ar_N (pg_ow g) (nI t >>> ((4 : Int32) &&& 31)).toNatClampNeg + (nI t &&& 3)) 288
  rw [e2]; exact vp_in_nI (by omega) (by omega)
end
end TP
end
section
section TQ
/-! Y: the steps back -/
theorem ar_Nus {K : Nat → Nat} {i z : Nat} (h : i < 2 ^ 31) : ar_N (ar_u K i z) (nI i).toNatClampNeg = nI z := by rw [ar_Nr _ h, ar_us]
section
variable {f : fy_T} {g : pg_T} {s : yt_T} {kp : Int32} {PN PF PD K Lk OC : Nat → Nat} {post : Int32 → SY → Prop} {J : Int32 → Int32 → Int32 → Int32 → Int32 → kb_T} {x3 : Int32}
theorem yt_161L {i top a w k : Nat} (hg : pg_ok g) (hi : 0 < i) (hi2 : i < 65) (hw : w < 1536) (hk : k < pg_L g) (ek : w / 64 = k) (k0 : pg_kd g k = 0)
    (H : J (nI (pg_sr g k)) (nI (w / 16 % 4)) (nI top) (nI a) (nI (i - 1)) (ar_N (pg_en g)) (ar_N (pg_ex g)) (ar_N (pg_ow g)) (ar_N (pg_sr g)) (ar_N (pg_tg g)) (ar_C (pg_ca g)) (ar_N (pg_pa g)) (ar_N (pg_ba g)) (ar_V (yt_V s)) (ar_V (yt_O s)) (ar_V (yt_A s)) (ar_N PN) (ar_N PF) (ar_N PD) (ar_N (ar_u K i 0)) (ar_N (ar_u Lk i k)) (ar_N OC)) :
    wY_trace_161 post J x3 (nI top) (nI a) (nI i) 0 (nI w) f.1 f.2.1 (nI (pg_F g)) f.2.2.1 (nI (pg_P g)) (nI (pg_N g)) (nI (pg_L g)) f.2.2.2.1 kp (ar_N (pg_en g)) (ar_N (pg_ex g)) (ar_N (pg_ow g)) (ar_N (pg_sr g)) (ar_N (pg_tg g)) (ar_C (pg_ca g)) (ar_N (pg_pa g)) (ar_N (pg_ba g)) (ar_V (yt_V s)) (ar_V (yt_O s)) (ar_V (yt_A s)) (ar_N PN) (ar_N PF) (ar_N PD) (ar_N K) (ar_N Lk) (ar_N OC) := by
  have hL := pg_L24 hg
  have ii : vp_in (nI i) 65 := vp_in_nI hi2 (by omega)
  have i24 : vp_in (nI k) 24 := vp_in_nI (by omega) (by omega)
  have ez : ar_N (ar_u K i 0) (nI i).toNatClampNeg = nI 0 := ar_Nus (by omega)
  have d1 : nI w / 64 = nI k := by rw [dv_64 (by omega), ek]
  have ej : nI i + (-1) = nI (i - 1) := by
    obtain ⟨j, rfl⟩ : ∃ j, i = j + 1 := ⟨i - 1, by omega⟩
    exact pk_m1 j
  refine And.intro z_64 (nm_r d1 (And.intro ii (nm_r (e' := ar_N (ar_u Lk i k)) (by rw [nI_clamp (by omega)]; exact ar_Nu _ _ _) (br_t rfl (And.intro i24 (br_t (yw_ca0 hg hk k0) ?_))))))
  refine And.intro ii (nm_r (e' := ar_N (ar_u K i 0)) (by rw [nI_clamp (by omega)]; exact ar_Nu _ _ 0) (And.intro ii (br_f (by rw [ez]; decide) ?_)))
  refine And.intro ii (br_f (by rw [ez]; decide) (And.intro i24 ?_))
  refine And.intro ii (br_f (by rw [ez]; decide) (And.intro z_16 (And.intro z_4 ?_)))
  have e1 : ar_N (pg_sr g) (nI k).toNatClampNeg = nI (pg_sr g k) := ar_Nr _ (by omega)
  have e2 : nI w / 16 - nI w / 16 / 4 * 4 = nI (w / 16 % 4) := by rw [dv_16 (by omega), rm_4 (by omega)]
  rw [e1, e2]
  exact And.intro ii (br_t ez (nm_r ej H))
theorem yt_161R {i top a w k : Nat} (hg : pg_ok g) (hi : 0 < i) (hi2 : i < 65) (hw : w < 1536) (ht : top < 65) (hk : k < pg_L g) (ek : w / 64 = k) (k1 : pg_kd g k = 1)
    (H : J (nI (pg_ex g (pg_cl g k))) (nI (w % 4)) (nI (top + 1)) (nI (w / 4 % 4)) (nI (i - 1)) (ar_N (pg_en g)) (ar_N (pg_ex g)) (ar_N (pg_ow g)) (ar_N (pg_sr g)) (ar_N (pg_tg g)) (ar_C (pg_ca g)) (ar_N (pg_pa g)) (ar_N (pg_ba g)) (ar_V (yt_V s)) (ar_V (yt_O s)) (ar_V (yt_A s)) (ar_N PN) (ar_N PF) (ar_N PD) (ar_N (ar_u K i 2)) (ar_N (ar_u Lk i k)) (ar_N (ar_u OC top (16*(w/16)+4*a)))) :
    wY_trace_161 post J x3 (nI top) (nI a) (nI i) 0 (nI w) f.1 f.2.1 (nI (pg_F g)) f.2.2.1 (nI (pg_P g)) (nI (pg_N g)) (nI (pg_L g)) f.2.2.2.1 kp (ar_N (pg_en g)) (ar_N (pg_ex g)) (ar_N (pg_ow g)) (ar_N (pg_sr g)) (ar_N (pg_tg g)) (ar_C (pg_ca g)) (ar_N (pg_pa g)) (ar_N (pg_ba g)) (ar_V (yt_V s)) (ar_V (yt_O s)) (ar_V (yt_A s)) (ar_N PN) (ar_N PF) (ar_N PD) (ar_N K) (ar_N Lk) (ar_N OC) := by
  have hL := pg_L24 hg
  have hP := pg_P8 hg
  have hcl := (pg_clP hg hk k1).1
  have ii : vp_in (nI i) 65 := vp_in_nI hi2 (by omega)
  have i24 : vp_in (nI k) 24 := vp_in_nI (by omega) (by omega)
  have ec := yw_ca1 hg hk k1
  have i8 : vp_in (ar_C (pg_ca g) (nI k).toNatClampNeg) 8 := by rw [ec]; exact vp_in_nI (by omega) (by omega)
  have ez : ar_N (ar_u K i 2) (nI i).toNatClampNeg = nI 2 := ar_Nus (by omega)
  have d1 : nI w / 64 = nI k := by rw [dv_64 (by omega), ek]
  have ej : nI i + (-1) = nI (i - 1) := by
    obtain ⟨j, rfl⟩ : ∃ j, i = j + 1 := ⟨i - 1, by omega⟩
    exact pk_m1 j
  have eo : nI w / 16 * 16 + nI a * 4 = nI (16 * (w / 16) + 4 * a) := by rw [dv_16 (by omega), ix_16r, ix_4r, nI_add]
  refine And.intro z_64 (nm_r d1 (And.intro ii (nm_r (e' := ar_N (ar_u Lk i k)) (by rw [nI_clamp (by omega)]; exact ar_Nu _ _ _) (br_t rfl (And.intro i24 (br_f (by rw [ec]; exact yw_n5 (by omega)) ?_))))))
  refine And.intro ii (nm_r (e' := ar_N (ar_u K i 2)) (by rw [nI_clamp (by omega)]; exact ar_Nu _ _ 2) (And.intro ii (br_t ez (And.intro z_16 (And.intro (vp_in_nI ht (by omega)) (nm_r (e' := ar_N (ar_u OC top (16 * (w / 16) + 4 * a))) (by rw [nI_clamp (by omega), eo]; exact ar_Nu _ _ _) (nm_r (nI_1 top) ?_)))))))
  refine And.intro ii (br_t ez (And.intro i24 (And.intro i8 ?_)))
  refine And.intro ii (br_t ez (And.intro z_4 ?_))
  have e1 : ar_N (pg_ex g) (ar_C (pg_ca g) (nI k).toNatClampNeg).toNatClampNeg = nI (pg_ex g (pg_cl g k)) := by rw [ec]; exact ar_Nr _ (by omega)
  have e2 : nI w - nI w / 4 * 4 = nI (w % 4) := rm_4 (by omega)
  have e3 : nI w / 4 - nI w / 4 / 4 * 4 = nI (w / 4 % 4) := by rw [dv_4 (by omega), rm_4 (by omega)]
  rw [e1, e2]
  exact And.intro ii (br_f (by rw [ez]; decide) (And.intro z_4 (And.intro z_4 (nm_r e3 (nm_r ej H)))))
theorem yt_161C {i top a w k : Nat} (hg : pg_ok g) (hi : 0 < i) (hi2 : i < 65) (hw : w < 1536) (hk : k < pg_L g) (ek : w / 64 = k)
    (H : J (nI (pg_sr g k)) (nI (w / 16 % 4)) (nI top) (nI (w / 4 % 4)) (nI (i - 1)) (ar_N (pg_en g)) (ar_N (pg_ex g)) (ar_N (pg_ow g)) (ar_N (pg_sr g)) (ar_N (pg_tg g)) (ar_C (pg_ca g)) (ar_N (pg_pa g)) (ar_N (pg_ba g)) (ar_V (yt_V s)) (ar_V (yt_O s)) (ar_V (yt_A s)) (ar_N PN) (ar_N PF) (ar_N PD) (ar_N (ar_u K i 1)) (ar_N (ar_u Lk i k)) (ar_N OC)) :
    wY_trace_161 post J x3 (nI top) (nI a) (nI i) 1 (nI w) f.1 f.2.1 (nI (pg_F g)) f.2.2.1 (nI (pg_P g)) (nI (pg_N g)) (nI (pg_L g)) f.2.2.2.1 kp (ar_N (pg_en g)) (ar_N (pg_ex g)) (ar_N (pg_ow g)) (ar_N (pg_sr g)) (ar_N (pg_tg g)) (ar_C (pg_ca g)) (ar_N (pg_pa g)) (ar_N (pg_ba g)) (ar_V (yt_V s)) (ar_V (yt_O s)) (ar_V (yt_A s)) (ar_N PN) (ar_N PF) (ar_N PD) (ar_N K) (ar_N Lk) (ar_N OC) := by
  have hL := pg_L24 hg
  have ii : vp_in (nI i) 65 := vp_in_nI hi2 (by omega)
  have i24 : vp_in (nI k) 24 := vp_in_nI (by omega) (by omega)
  have ez : ar_N (ar_u K i 1) (nI i).toNatClampNeg = nI 1 := ar_Nus (by omega)
  have d1 : nI w / 64 = nI k := by rw [dv_64 (by omega), ek]
  have ej : nI i + (-1) = nI (i - 1) := by
    obtain ⟨j, rfl⟩ : ∃ j, i = j + 1 := ⟨i - 1, by omega⟩
    exact pk_m1 j
  refine And.intro z_64 (nm_r d1 (And.intro ii (nm_r (e' := ar_N (ar_u Lk i k)) (by rw [nI_clamp (by omega)]; exact ar_Nu _ _ _) (br_f (by decide) ?_))))
  refine And.intro ii (nm_r (e' := ar_N (ar_u K i 1)) (by rw [nI_clamp (by omega)]; exact ar_Nu _ _ 1) (And.intro ii (br_f (by rw [ez]; decide) ?_)))
  refine And.intro ii (br_f (by rw [ez]; decide) (And.intro i24 ?_))
  refine And.intro ii (br_f (by rw [ez]; decide) (And.intro z_16 (And.intro z_4 ?_)))
  have e1 : ar_N (pg_sr g) (nI k).toNatClampNeg = nI (pg_sr g k) := ar_Nr _ (by omega)
  have e2 : nI w / 16 - nI w / 16 / 4 * 4 = nI (w / 16 % 4) := by rw [dv_16 (by omega), rm_4 (by omega)]
  have e3 : nI w / 4 - nI w / 4 / 4 * 4 = nI (w / 4 % 4) := by rw [dv_4 (by omega), rm_4 (by omega)]
  rw [e1, e2]
  exact And.intro ii (br_f (by rw [ez]; decide) (And.intro z_4 (And.intro z_4 (nm_r e3 (nm_r ej H)))))
/-- the head of a round: the point is written; begun or not -/
theorem yt_41 {n d a i top m : Nat} (hg : pg_ok g) (hi : 0 < i) (hi2 : i < 65) (hn : n < pg_N g) (hd : d < 4) (ha : a < 4)
    (H1 : n = pg_en g (pg_ow g n) → d = a → wY_trace_93 post (wY_trace_41 post x3 f.1 f.2.1 (nI (pg_F g)) f.2.2.1 (nI (pg_P g)) (nI (pg_N g)) (nI (pg_L g)) f.2.2.2.1 kp m) x3 (nI n) (nI d) (nI top) (nI a) (nI i) 1 f.1 f.2.1 (nI (pg_F g)) f.2.2.1 (nI (pg_P g)) (nI (pg_N g)) (nI (pg_L g)) f.2.2.2.1 kp (ar_N (pg_en g)) (ar_N (pg_ex g)) (ar_N (pg_ow g)) (ar_N (pg_sr g)) (ar_N (pg_tg g)) (ar_C (pg_ca g)) (ar_N (pg_pa g)) (ar_N (pg_ba g)) (ar_V (yt_V s)) (ar_V (yt_O s)) (ar_V (yt_A s)) (ar_N (ar_u PN i n)) (ar_N (ar_u PF i d)) (ar_N PD) (ar_N K) (ar_N Lk) (ar_N OC))
    (H0 : ¬ (n = pg_en g (pg_ow g n) ∧ d = a) → wY_trace_93 post (wY_trace_41 post x3 f.1 f.2.1 (nI (pg_F g)) f.2.2.1 (nI (pg_P g)) (nI (pg_N g)) (nI (pg_L g)) f.2.2.2.1 kp m) x3 (nI n) (nI d) (nI top) (nI a) (nI i) 0 f.1 f.2.1 (nI (pg_F g)) f.2.2.1 (nI (pg_P g)) (nI (pg_N g)) (nI (pg_L g)) f.2.2.2.1 kp (ar_N (pg_en g)) (ar_N (pg_ex g)) (ar_N (pg_ow g)) (ar_N (pg_sr g)) (ar_N (pg_tg g)) (ar_C (pg_ca g)) (ar_N (pg_pa g)) (ar_N (pg_ba g)) (ar_V (yt_V s)) (ar_V (yt_O s)) (ar_V (yt_A s)) (ar_N (ar_u PN i n)) (ar_N (ar_u PF i d)) (ar_N PD) (ar_N K) (ar_N Lk) (ar_N OC)) :
    wY_trace_41 post x3 f.1 f.2.1 (nI (pg_F g)) f.2.2.1 (nI (pg_P g)) (nI (pg_N g)) (nI (pg_L g)) f.2.2.2.1 kp (m + 1) (nI n) (nI d) (nI top) (nI a) (nI i) (ar_N (pg_en g)) (ar_N (pg_ex g)) (ar_N (pg_ow g)) (ar_N (pg_sr g)) (ar_N (pg_tg g)) (ar_C (pg_ca g)) (ar_N (pg_pa g)) (ar_N (pg_ba g)) (ar_V (yt_V s)) (ar_V (yt_O s)) (ar_V (yt_A s)) (ar_N PN) (ar_N PF) (ar_N PD) (ar_N K) (ar_N Lk) (ar_N OC) := by
  have hN := pg_N16 hg
  have hP := pg_P8 hg
  have how := pg_owP hg hn
  have hen := pg_enN hg how
  have ii : vp_in (nI i) 65 := vp_in_nI hi2 (by omega)
  have eo : ar_N (pg_ow g) (nI n).toNatClampNeg = nI (pg_ow g n) := ar_Nr _ (by omega)
  have ee : ar_N (pg_en g) (ar_N (pg_ow g) (nI n).toNatClampNeg).toNatClampNeg = nI (pg_en g (pg_ow g n)) := by rw [eo]; exact ar_Nr _ (by omega)
  refine br_f (nI_nle hi (by omega)) (And.intro ii (nm_r (e' := ar_N (ar_u PN i n)) (by rw [nI_clamp (by omega)]; exact ar_Nu _ _ _) (And.intro ii (nm_r (e' := ar_N (ar_u PF i d)) (by rw [nI_clamp (by omega)]; exact ar_Nu _ _ _) (And.intro (vp_in_nI (by omega) (by omega)) (And.intro (by rw [eo]; exact vp_in_nI (by omega) (by omega)) (pk_eq n (pg_en g (pg_ow g n)) (fun q => pk_eq d a (fun q2 => H1 q q2) (fun q2 => H0 (fun z => q2 z.2))) (fun q => H0 (fun z => q z.1)) rfl ee)))))))
end
end TQ
end
section
section TR
/-! the trace: what is left to write, heights, mates -/
def rm_f (g : pg_T) (D O cs : Nat → Nat) : Nat → Nat → Nat
  | 0, c => D (256 + 4 * pg_ow g (c / 16) + c / 4 % 4) + D c
  | t + 1, c => D c + 1 + rm_f g D O cs t (16 * pg_sr g (O (cs t) / 64) + 4 * (cs t / 4 % 4) + O (cs t) / 16 % 4)
theorem rm_c {g : pg_T} {D O cs cs' : Nat → Nat} : ∀ {top c : Nat}, (∀ t, t < top → cs' t = cs t) → rm_f g D O cs' top c = rm_f g D O cs top c := by
  intro top
  induction top with
  | zero => intro c _; rfl
  | succ t ih =>
    intro c h
    show D c + 1 + rm_f g D O cs' t _ = D c + 1 + rm_f g D O cs t _
    rw [h t (by omega), ih (fun q hq => h q (by omega))]
theorem rm_sub {g : pg_T} {D O cs : Nat → Nat} {top c p : Nat} (ho : pg_ow g (p / 16) = pg_ow g (c / 16)) (ha : p / 4 % 4 = c / 4 % 4) : rm_f g D O cs top p + D c = rm_f g D O cs top c + D p := by
  cases top with
  | zero =>
    show D (256 + 4 * pg_ow g (p / 16) + p / 4 % 4) + D p + D c = D (256 + 4 * pg_ow g (c / 16) + c / 4 % 4) + D c + D p
    rw [ho, ha]
    omega
  | succ t =>
    show D p + 1 + rm_f g D O cs t _ + D c = D c + 1 + rm_f g D O cs t _ + D p
    omega
theorem rm_ge {g : pg_T} {D O cs : Nat → Nat} {top c : Nat} : D c ≤ rm_f g D O cs top c ∧ (0 < top → 0 < rm_f g D O cs top c) := by
  cases top with
  | zero =>
    refine ⟨?_, fun z => by omega⟩
    show D c ≤ D (256 + 4 * pg_ow g (c / 16) + c / 4 % 4) + D c
    omega
  | succ t =>
    have e : rm_f g D O cs (t + 1) c = D c + 1 + rm_f g D O cs t (16 * pg_sr g (O (cs t) / 64) + 4 * (cs t / 4 % 4) + O (cs t) / 16 % 4) := rfl
    rw [e]
    exact ⟨by omega, fun _ => by omega⟩
def ts_J (i top len : Nat) (K M W w u : Nat → Nat) (j : Nat) : Prop :=
  (K j = 0 ∧ M j = 0 ∧ w (j - 1) = w j ∧ u (j - 1) = u j) ∨
  (K j = 2 ∧ w (j - 1) = w j + 1 ∧ u (j - 1) = u j ∧ ((M j = 0 ∧ ∃ t, t < top ∧ W t = j) ∨ (i < M j ∧ M j < j ∧ K (M j) = 1 ∧ M (M j) = j))) ∨
  (K j = 1 ∧ j < M j ∧ M j ≤ len ∧ K (M j) = 2 ∧ M (M j) = j ∧ w j = w (M j) + 1 ∧ w (j - 1) = w (M j) ∧ u (j - 1) = u j ∧ (∀ t, j ≤ t → t < M j → w j ≤ w t) ∧ (∀ t, j ≤ t → t ≤ M j → u t = u (M j))) ∨
  (K j = 1 ∧ M j = 0 ∧ w j = 0 ∧ w (j - 1) = 0 ∧ u (j - 1) = u j + 1)
def ts_W (D O : Nat → Nat) (i len : Nat) (C K M W OC w u : Nat → Nat) (t : Nat) : Prop :=
  i < W t ∧ W t ≤ len ∧ K (W t) = 2 ∧ M (W t) = 0 ∧ w (W t) = t ∧ (∀ q, i ≤ q → q < W t → t + 1 ≤ w q) ∧ (∀ q, i ≤ q → q ≤ W t → u q = u (W t)) ∧ C (W t) < 256 ∧ 0 < D (C (W t)) ∧ D (C (W t)) < 66 ∧ OC t = 16 * (O (C (W t)) / 16) + 4 * (C (W t) / 4 % 4)
def ts_I (g : pg_T) (D O : Nat → Nat) (len i c top : Nat) (C K Lk M W PN PF K' Lk' OC w u : Nat → Nat) : Prop :=
  (i ≤ len ∧ len ≤ 64 ∧ c < 256 ∧ D c < 66 ∧ rm_f g D O (fun t => C (W t)) top c = i ∧ top = w i) ∧
  (∀ j, i < j → j ≤ len → C j < 256 ∧ PN j = C j / 16 ∧ PF j = C j % 4 ∧ K' j = K j ∧ Lk' j = Lk j) ∧
  (∀ j, i < j → j ≤ len → ts_J i top len K M W w u j) ∧
  (∀ t, t < top → ts_W D O i len C K M W OC w u t) ∧
  (∀ t t', i ≤ t → t ≤ t' → t' ≤ len → u t' ≤ u t) ∧
  (∀ j, i ≤ j → j ≤ len → w j + u j ≤ len - j)
section
variable {g : pg_T} {D O : Nat → Nat} {len i c top : Nat} {C K Lk M W PN PF K' Lk' OC w u : Nat → Nat}
theorem ts_Jk {i' top' j : Nat} {K1 M1 W1 w1 u1 : Nat → Nat} (h : ts_J i top len K M W w u j) (hj : i < j) (hi : i' ≤ i) (eK : ∀ q, i < q → K1 q = K q) (eM : ∀ q, i < q → M1 q = M q) (ew : ∀ q, i ≤ q → w1 q = w q) (eu : ∀ q, i ≤ q → u1 q = u q) (eW : ∀ t, t < top → ∃ t', t' < top' ∧ W1 t' = W t) : ts_J i' top' len K1 M1 W1 w1 u1 j := by
  unfold ts_J at *
  rw [eK j hj, eM j hj, ew j (by omega), eu j (by omega), ew (j - 1) (by omega), eu (j - 1) (by omega)]
  rcases h with h | ⟨h1, h2, h3, h4⟩ | ⟨h1, h2, h3, h4, h5, h6, h7, h8, h9, h10⟩ | h
  · exact Or.inl h
  · refine Or.inr (Or.inl ⟨h1, h2, h3, ?_⟩)
    rcases h4 with ⟨a, t, b, c⟩ | ⟨a, b, c, d⟩
    · obtain ⟨t', e1, e2⟩ := eW t b
      exact Or.inl ⟨a, t', e1, e2.trans c⟩
    · refine Or.inr ⟨by omega, b, ?_, ?_⟩
      · rw [eK _ a]; exact c
      · rw [eM _ a]; exact d
  · have a : i < M j := by omega
    refine Or.inr (Or.inr (Or.inl ⟨h1, h2, h3, ?_, ?_, ?_, ?_, h8, ?_, ?_⟩))
    · rw [eK _ a]; exact h4
    · rw [eM _ a]; exact h5
    · rw [ew _ (by omega)]; exact h6
    · rw [ew _ (by omega)]; exact h7
    · intro t l1 l2
      rw [ew t (by omega)]; exact h9 t l1 l2
    · intro t l1 l2
      rw [eu t (by omega), eu (M j) (by omega)]; exact h10 t l1 l2
  · exact Or.inr (Or.inr (Or.inr h))
/-- entries of the stack below stay -/
theorem ts_Wk {t i' : Nat} {C1 K1 M1 W1 OC1 w1 u1 : Nat → Nat} (h : ts_W D O i len C K M W OC w u t) (hi : i' + 1 = i) (eC : ∀ q, i < q → C1 q = C q) (eK : ∀ q, i < q → K1 q = K q) (eM : M1 (W t) = M (W t)) (ew : ∀ q, i ≤ q → w1 q = w q) (eu : ∀ q, i ≤ q → u1 q = u q) (eW : W1 t = W t) (eO : OC1 t = OC t) (hw : t + 1 ≤ w1 i') (hu : u1 i' = u i) : ts_W D O i' len C1 K1 M1 W1 OC1 w1 u1 t := by
  obtain ⟨h1, h2, h3, h4, h5, h6, h7, h8, h9, h10, h11⟩ := h
  unfold ts_W
  rw [eW, eO, eM, eC _ h1, eK _ h1, ew (W t) (by omega), eu (W t) (by omega)]
  refine ⟨by omega, h2, h3, h4, h5, fun q l1 l2 => ?_, fun q l1 l2 => ?_, h8, h9, h10, h11⟩
  · by_cases e : q = i'
    · rw [e]; exact hw
    · rw [ew q (by omega)]; exact h6 q (by omega) l2
  · by_cases e : q = i'
    · rw [e, hu]; exact h7 i (by omega) (by omega)
    · rw [eu q (by omega)]; exact h7 q (by omega) l2
theorem ts_5 {κ k : Nat} (h : ∀ j, i < j → j ≤ len → C j < 256 ∧ PN j = C j / 16 ∧ PF j = C j % 4 ∧ K' j = K j ∧ Lk' j = Lk j) (hc : c < 256) : ∀ j, i - 1 < j → j ≤ len → ar_u C i c j < 256 ∧ ar_u PN i (c / 16) j = ar_u C i c j / 16 ∧ ar_u PF i (c % 4) j = ar_u C i c j % 4 ∧ ar_u K' i κ j = ar_u K i κ j ∧ ar_u Lk' i k j = ar_u Lk i k j := by
  intro j l1 l2
  by_cases e : j = i
  · rw [e, ar_us, ar_us, ar_us, ar_us, ar_us, ar_us, ar_us]; exact ⟨hc, rfl, rfl, rfl, rfl⟩
  · rw [ar_un e, ar_un e, ar_un e, ar_un e, ar_un e, ar_un e, ar_un e]; exact h j (by omega) l2
theorem ts_8 {υ : Nat} (h : ∀ t t', i ≤ t → t ≤ t' → t' ≤ len → u t' ≤ u t) (hi : 0 < i) (hl : i ≤ len) (hv : u i ≤ υ) : ∀ t t', i - 1 ≤ t → t ≤ t' → t' ≤ len → ar_u u (i - 1) υ t' ≤ ar_u u (i - 1) υ t := by
  intro t t' l1 l2 l3
  by_cases e : t = i - 1
  · rw [e, ar_us]
    by_cases e2 : t' = i - 1
    · rw [e2, ar_us]; exact Nat.le_refl _
    · rw [ar_un e2]
      exact Nat.le_trans (h i t' (Nat.le_refl _) (by omega) l3) hv
  · rw [ar_un e, ar_un (by omega)]
    exact h t t' (by omega) l2 l3
theorem ts_9 {υ ω : Nat} (h : ∀ j, i ≤ j → j ≤ len → w j + u j ≤ len - j) (hi : 0 < i) (hl : i ≤ len) (hv : ω + υ ≤ w i + u i + 1) : ∀ j, i - 1 ≤ j → j ≤ len → ar_u w (i - 1) ω j + ar_u u (i - 1) υ j ≤ len - j := by
  intro j l1 l2
  by_cases e : j = i - 1
  · rw [e, ar_us, ar_us]
    have := h i (Nat.le_refl _) hl
    omega
  · rw [ar_un e, ar_un e]; exact h j (by omega) l2
theorem ts_cs {top' : Nat} {W1 : Nat → Nat} (h : ∀ t, t < top' → i < W t ∧ W1 t = W t) : ∀ t, t < top' → (fun t => ar_u C i c (W1 t)) t = (fun t => C (W t)) t := by
  intro t ht
  show ar_u C i c (W1 t) = C (W t)
  rw [(h t ht).2, ar_un (by have := (h t ht).1; omega)]
theorem ts_local {p k : Nat} (h : ts_I g D O len i c top C K Lk M W PN PF K' Lk' OC w u) (hi : 0 < i) (hp : p < 256) (fp : D p < 66) (hr : rm_f g D O (fun t => C (W t)) top p = i - 1) :
    ts_I g D O len (i - 1) p top (ar_u C i c) (ar_u K i 0) (ar_u Lk i k) (ar_u M i 0) W (ar_u PN i (c / 16)) (ar_u PF i (c % 4)) (ar_u K' i 0) (ar_u Lk' i k) OC (ar_u w (i - 1) top) (ar_u u (i - 1) (u i)) := by
  obtain ⟨⟨a1, a2, a3, a4, a5, a6⟩, h5, h6, h7, h8, h9⟩ := h
  have ew : ∀ q, i ≤ q → ar_u w (i - 1) top q = w q := fun q hq => ar_un (by omega)
  have eu : ∀ q, i ≤ q → ar_u u (i - 1) (u i) q = u q := fun q hq => ar_un (by omega)
  have eK : ∀ q, i < q → ar_u K i 0 q = K q := fun q hq => ar_un (by omega)
  have eM : ∀ q, i < q → ar_u M i 0 q = M q := fun q hq => ar_un (by omega)
  refine ⟨⟨by omega, a2, hp, fp, ?_, ar_us.symm⟩, ts_5 h5 a3, fun j l1 l2 => ?_, fun t ht => ?_, ts_8 h8 hi a1 (Nat.le_refl _), ts_9 h9 hi a1 (by omega)⟩
  · rw [rm_c (ts_cs (fun t ht => ⟨(h7 t ht).1, rfl⟩))]
    exact hr
  · by_cases e : j = i
    · subst e
      unfold ts_J
      rw [ew j (Nat.le_refl _), eu j (Nat.le_refl _)]
      exact Or.inl ⟨ar_us, ar_us, ar_us.trans a6, ar_us⟩
    · exact ts_Jk (h6 j (by omega) l2) (by omega) (by omega) eK eM ew eu (fun t ht => ⟨t, ht, rfl⟩)
  · have hW := h7 t ht
    exact ts_Wk hW (by omega) (fun q hq => ar_un (by omega)) eK (eM _ hW.1) ew eu rfl rfl (by rw [ar_us]; omega) ar_us
theorem ts_ret {p k : Nat} (h : ts_I g D O len i c top C K Lk M W PN PF K' Lk' OC w u) (hi : 0 < i) (hp : p < 256) (fp : D p < 66) (f0 : 0 < D c) (hr : D p + 1 + rm_f g D O (fun t => C (W t)) top (16 * pg_sr g (O c / 64) + 4 * (c / 4 % 4) + O c / 16 % 4) = i - 1) :
    ts_I g D O len (i - 1) p (top + 1) (ar_u C i c) (ar_u K i 2) (ar_u Lk i k) (ar_u M i 0) (ar_u W top i) (ar_u PN i (c / 16)) (ar_u PF i (c % 4)) (ar_u K' i 2) (ar_u Lk' i k) (ar_u OC top (16 * (O c / 16) + 4 * (c / 4 % 4))) (ar_u w (i - 1) (top + 1)) (ar_u u (i - 1) (u i)) := by
  obtain ⟨⟨a1, a2, a3, a4, a5, a6⟩, h5, h6, h7, h8, h9⟩ := h
  have ew : ∀ q, i ≤ q → ar_u w (i - 1) (top + 1) q = w q := fun q hq => ar_un (by omega)
  have eu : ∀ q, i ≤ q → ar_u u (i - 1) (u i) q = u q := fun q hq => ar_un (by omega)
  have eK : ∀ q, i < q → ar_u K i 2 q = K q := fun q hq => ar_un (by omega)
  have eM : ∀ q, i < q → ar_u M i 0 q = M q := fun q hq => ar_un (by omega)
  have eW : ∀ t, t < top → ar_u W top i t = W t := fun t ht => ar_un (by omega)
  refine ⟨⟨by omega, a2, hp, fp, ?_, ar_us.symm⟩, ts_5 h5 a3, fun j l1 l2 => ?_, fun t ht => ?_, ts_8 h8 hi a1 (Nat.le_refl _), ts_9 h9 hi a1 (by omega)⟩
  · show D p + 1 + rm_f g D O (fun t => ar_u C i c (ar_u W top i t)) top (16 * pg_sr g (O (ar_u C i c (ar_u W top i top)) / 64) + 4 * (ar_u C i c (ar_u W top i top) / 4 % 4) + O (ar_u C i c (ar_u W top i top)) / 16 % 4) = i - 1
    rw [rm_c (ts_cs (fun t ht => ⟨(h7 t ht).1, eW t ht⟩))]
    rw [show ar_u W top i top = i from ar_us, show ar_u C i c i = c from ar_us]
    exact hr
  · by_cases e : j = i
    · subst e
      unfold ts_J
      rw [ew j (Nat.le_refl _), eu j (Nat.le_refl _)]
      refine Or.inr (Or.inl ⟨ar_us, ?_, ar_us, Or.inl ⟨ar_us, top, by omega, ar_us⟩⟩)
      rw [ar_us]; omega
    · exact ts_Jk (h6 j (by omega) l2) (by omega) (by omega) eK eM ew eu (fun t ht => ⟨t, by omega, eW t ht⟩)
  · by_cases e : t = top
    · subst e
      unfold ts_W
      rw [show ar_u W t i t = i from ar_us, show ar_u C i c i = c from ar_us, ew i (Nat.le_refl _), eu i (Nat.le_refl _)]
      refine ⟨by omega, a1, ar_us, ar_us, a6.symm, fun q l1 l2 => ?_, fun q l1 l2 => ?_, a3, f0, a4, ar_us⟩
      · rw [show q = i - 1 by omega, ar_us]; exact Nat.le_refl _
      · by_cases e2 : q = i - 1
        · rw [e2, ar_us]
        · rw [show q = i by omega]; exact eu i (Nat.le_refl _)
    · have ht' : t < top := by omega
      have hW := h7 t ht'
      exact ts_Wk hW (by omega) (fun q hq => ar_un (by omega)) eK (eM _ hW.1) ew eu (eW t ht') (ar_un e) (by rw [ar_us]; omega) ar_us
theorem ts_call {p k t0 : Nat} (h : ts_I g D O len i c (t0 + 1) C K Lk M W PN PF K' Lk' OC w u) (hi : 0 < i) (hp : p < 256) (fp : D p < 66) (hr : rm_f g D O (fun t => C (W t)) t0 p = i - 1) :
    ts_I g D O len (i - 1) p t0 (ar_u C i c) (ar_u K i 1) (ar_u Lk i k) (ar_u (ar_u M i (W t0)) (W t0) i) W (ar_u PN i (c / 16)) (ar_u PF i (c % 4)) (ar_u K' i 1) (ar_u Lk' i k) OC (ar_u w (i - 1) t0) (ar_u u (i - 1) (u i)) := by
  obtain ⟨⟨a1, a2, a3, a4, a5, a6⟩, h5, h6, h7, h8, h9⟩ := h
  have ew : ∀ q, i ≤ q → ar_u w (i - 1) t0 q = w q := fun q hq => ar_un (by omega)
  have eu : ∀ q, i ≤ q → ar_u u (i - 1) (u i) q = u q := fun q hq => ar_un (by omega)
  have eK : ∀ q, i < q → ar_u K i 1 q = K q := fun q hq => ar_un (by omega)
  have hW0 := h7 t0 (by omega)
  obtain ⟨m1, m2, m3, m4, m5, m6, m7, m8, m9, m10, m11⟩ := hW0
  have eM : ∀ q, i < q → q ≠ W t0 → ar_u (ar_u M i (W t0)) (W t0) i q = M q := fun q hq hn => by rw [ar_un hn, ar_un (by omega)]
  have eM0 : ar_u (ar_u M i (W t0)) (W t0) i (W t0) = i := ar_us
  have eMi : ar_u (ar_u M i (W t0)) (W t0) i i = W t0 := by rw [ar_un (by omega), ar_us]
  refine ⟨⟨by omega, a2, hp, fp, ?_, ar_us.symm⟩, ts_5 h5 a3, fun j l1 l2 => ?_, fun t ht => ?_, ts_8 h8 hi a1 (Nat.le_refl _), ts_9 h9 hi a1 (by omega)⟩
  · rw [rm_c (ts_cs (fun t ht => ⟨(h7 t (by omega)).1, rfl⟩))]
    exact hr
  · by_cases e : j = i
    · subst e
      unfold ts_J
      rw [ew j (Nat.le_refl _), eu j (Nat.le_refl _), eMi, eM0, eK _ m1, ew (W t0) (by omega), eu (W t0) (by omega)]
      refine Or.inr (Or.inr (Or.inl ⟨ar_us, m1, m2, m3, rfl, by omega, by rw [ar_us]; exact m5.symm, ar_us, fun t q1 q2 => ?_, fun t q1 q2 => ?_⟩))
      · rw [ew t q1]
        have := m6 t q1 q2
        omega
      · rw [eu t q1]
        exact m7 t q1 q2
    · have hj := h6 j (by omega) l2
      have hij : i < j := by omega
      by_cases ej : j = W t0
      · subst ej
        unfold ts_J at hj ⊢
        rw [eM0, eMi, eK _ hij, ew (W t0) (by omega), eu (W t0) (by omega), ew (W t0 - 1) (by omega), eu (W t0 - 1) (by omega)]
        rcases hj with hj | ⟨q1, q2, q3, q4⟩ | hj | hj
        · omega
        · exact Or.inr (Or.inl ⟨q1, q2, q3, Or.inr ⟨by omega, m1, ar_us, rfl⟩⟩)
        · omega
        · omega
      · unfold ts_J at hj ⊢
        rw [eM j hij ej, eK j hij, ew j (by omega), eu j (by omega), ew (j - 1) (by omega), eu (j - 1) (by omega)]
        rcases hj with hj | ⟨q1, q2, q3, q4⟩ | ⟨q1, q2, q3, q4, q5, q6, q7, q8, q9, q10⟩ | hj
        · exact Or.inl hj
        · refine Or.inr (Or.inl ⟨q1, q2, q3, ?_⟩)
          rcases q4 with ⟨b1, t, b2, b3⟩ | ⟨b1, b2, b3, b4⟩
          · refine Or.inl ⟨b1, t, ?_, b3⟩
            have : t ≠ t0 := by intro z; subst z; exact ej b3.symm
            omega
          · refine Or.inr ⟨by omega, b2, ?_, ?_⟩
            · rw [eK _ b1]; exact b3
            · rw [eM _ b1 (by intro z; rw [z] at b3; omega)]; exact b4
        · have b : i < M j := by omega
          have hne : M j ≠ W t0 := by intro z; rw [z] at q5; omega
          refine Or.inr (Or.inr (Or.inl ⟨q1, q2, q3, ?_, ?_, ?_, ?_, q8, ?_, ?_⟩))
          · rw [eK _ b]; exact q4
          · rw [eM _ b hne]; exact q5
          · rw [ew _ (by omega)]; exact q6
          · rw [ew _ (by omega)]; exact q7
          · intro t r1 r2
            rw [ew t (by omega)]; exact q9 t r1 r2
          · intro t r1 r2
            rw [eu t (by omega), eu (M j) (by omega)]; exact q10 t r1 r2
        · exact Or.inr (Or.inr (Or.inr hj))
  · have hW := h7 t (by omega)
    refine ts_Wk hW (by omega) (fun q hq => ar_un (by omega)) eK (eM _ hW.1 ?_) ew eu rfl rfl (by rw [ar_us]; omega) ar_us
    intro z
    have := hW.2.2.2.2.1
    rw [z] at this
    omega
theorem ts_open {p k : Nat} (h : ts_I g D O len i c 0 C K Lk M W PN PF K' Lk' OC w u) (hi : 0 < i) (hp : p < 256) (fp : D p < 66) (hr : rm_f g D O (fun t => C (W t)) 0 p = i - 1) :
    ts_I g D O len (i - 1) p 0 (ar_u C i c) (ar_u K i 1) (ar_u Lk i k) (ar_u M i 0) W (ar_u PN i (c / 16)) (ar_u PF i (c % 4)) (ar_u K' i 1) (ar_u Lk' i k) OC (ar_u w (i - 1) 0) (ar_u u (i - 1) (u i + 1)) := by
  obtain ⟨⟨a1, a2, a3, a4, a5, a6⟩, h5, h6, h7, h8, h9⟩ := h
  have ew : ∀ q, i ≤ q → ar_u w (i - 1) 0 q = w q := fun q hq => ar_un (by omega)
  have eu : ∀ q, i ≤ q → ar_u u (i - 1) (u i + 1) q = u q := fun q hq => ar_un (by omega)
  have eK : ∀ q, i < q → ar_u K i 1 q = K q := fun q hq => ar_un (by omega)
  have eM : ∀ q, i < q → ar_u M i 0 q = M q := fun q hq => ar_un (by omega)
  refine ⟨⟨by omega, a2, hp, fp, ?_, ar_us.symm⟩, ts_5 h5 a3, fun j l1 l2 => ?_, fun t ht => by omega, ts_8 h8 hi a1 (by omega), ts_9 h9 hi a1 (by omega)⟩
  · rw [rm_c (cs := fun t => C (W t)) (fun t ht => by omega)]
    exact hr
  · by_cases e : j = i
    · subst e
      unfold ts_J
      rw [ew j (Nat.le_refl _), eu j (Nat.le_refl _)]
      exact Or.inr (Or.inr (Or.inr ⟨ar_us, ar_us, a6.symm, ar_us, ar_us⟩))
    · exact ts_Jk (h6 j (by omega) l2) (by omega) (by omega) eK eM ew eu (fun t ht => ⟨t, ht, rfl⟩)
/-! the kept trace -/
def tr_M (len : Nat) (H K M : Nat → Nat) (j : Nat) : Prop :=
  (K j = 0 ∧ M j = 0) ∨
  (K j = 1 ∧ M j = 0 ∧ ∀ t, j < t → t ≤ len → H j ≤ H t) ∨
  (K j = 1 ∧ j < M j ∧ M j ≤ len ∧ H (M j) < H j ∧ (∀ t, j < t → t < M j → H j ≤ H t) ∧ K (M j) = 2 ∧ M (M j) = j) ∨
  (K j = 2 ∧ 1 ≤ M j ∧ M j < j ∧ K (M j) = 1 ∧ M (M j) = j)
def tr_K (len : Nat) (C H K Lk M PN PF PD K' Lk' : Nat → Nat) : Prop :=
  len ≤ 64 ∧ (∀ j, j ≤ len → C j < 256 ∧ PN j = C j / 16 ∧ PF j = C j % 4 ∧ PD j = H j ∧ H j < 1000) ∧
  (∀ j, 1 ≤ j → j ≤ len → K' j = K j ∧ Lk' j = Lk j ∧ tr_M len H K M j)
/-- the depth at a place, and its change -/
theorem ts_dep (h : ts_I g D O len 0 c 0 C K Lk M W PN PF K' Lk' OC w u) {j : Nat} (h1 : 1 ≤ j) (h2 : j ≤ len) :
    (K j = 1 ∧ u 0 + w j - u j = u 0 + w (j - 1) - u (j - 1) + 1) ∨ (K j = 2 ∧ u 0 + w (j - 1) - u (j - 1) = u 0 + w j - u j + 1) ∨ (K j = 0 ∧ u 0 + w j - u j = u 0 + w (j - 1) - u (j - 1)) := by
  have hu := h.2.2.2.2.1 0 j (by omega) (by omega) h2
  have hu' := h.2.2.2.2.1 0 (j - 1) (by omega) (by omega) (by omega)
  rcases h.2.2.1 j (by omega) h2 with ⟨a, b, c1, d⟩ | ⟨a, b, c1, d⟩ | ⟨a, b, b2, b3, b4, c1, c2, d, _⟩ | ⟨a, b, c1, c2, d⟩
  · exact Or.inr (Or.inr ⟨a, by omega⟩)
  · exact Or.inr (Or.inl ⟨a, by omega⟩)
  · exact Or.inl ⟨a, by omega⟩
  · exact Or.inl ⟨a, by omega⟩
theorem ts_end {H PD : Nat → Nat} (h : ts_I g D O len 0 c 0 C K Lk M W PN PF K' Lk' OC w u) (hH : ∀ j, j ≤ len → H j = u 0 + w j - u j) (hPD : ∀ j, j ≤ len → PD j = H j) :
    tr_K len (ar_u C 0 c) H K Lk M (ar_u PN 0 (c / 16)) (ar_u PF 0 (c % 4)) PD K' Lk' := by
  obtain ⟨⟨a1, a2, a3, a4, a5, a6⟩, h5, h6, h7, h8, h9⟩ := h
  refine ⟨a2, fun j hj => ?_, fun j l1 l2 => ?_⟩
  · have b := h9 j (by omega) hj
    have b0 := h9 0 (by omega) (by omega)
    have e := hH j hj
    refine ⟨?_, ?_, ?_, hPD j hj, by omega⟩
    · by_cases z : j = 0
      · rw [z, ar_us]; exact a3
      · rw [ar_un z]; exact (h5 j (by omega) hj).1
    · by_cases z : j = 0
      · rw [z, ar_us, ar_us]
      · rw [ar_un z, ar_un z]; exact (h5 j (by omega) hj).2.1
    · by_cases z : j = 0
      · rw [z, ar_us, ar_us]
      · rw [ar_un z, ar_un z]; exact (h5 j (by omega) hj).2.2.1
  · refine ⟨(h5 j (by omega) l2).2.2.2.1, (h5 j (by omega) l2).2.2.2.2, ?_⟩
    have ej := hH j l2
    have uj := h8 0 j (by omega) (by omega) l2
    rcases h6 j (by omega) l2 with ⟨a, b, _⟩ | ⟨a, b, c1, d⟩ | ⟨a, b, b2, b3, b4, c1, c2, d, d2, d3⟩ | ⟨a, b, c1, c2, d⟩
    · exact Or.inl ⟨a, b⟩
    · rcases d with ⟨_, t, d2, _⟩ | ⟨d1, d2, d3, d4⟩
      · omega
      · exact Or.inr (Or.inr (Or.inr ⟨a, d1, d2, d3, d4⟩))
    · refine Or.inr (Or.inr (Or.inl ⟨a, b, b2, ?_, fun t q1 q2 => ?_, b3, b4⟩))
      · have em := hH (M j) b2
        have := d3 j (Nat.le_refl _) (by omega)
        have um := h8 0 (M j) (by omega) (by omega) b2
        omega
      · have et := hH t (by omega)
        have := d2 t (by omega) q2
        have e1 := d3 t (by omega) (by omega)
        have e2 := d3 j (Nat.le_refl _) (by omega)
        omega
    · refine Or.inr (Or.inl ⟨a, b, fun t q1 q2 => ?_⟩)
      have et := hH t q2
      have := h8 j t (by omega) (by omega) q2
      omega
end
end TR
end
section
section TS
/-! the depths -/
section
variable {g : pg_T} {L : Nat} {dn : Nat → Nat} {s : xt_T} {y : yt_T} {len : Nat} {K : Nat → Nat} {dp : Nat → Nat}
def dp_C (len : Nat) (K dp : Nat → Nat) : Prop := ∀ j, 1 ≤ j → j ≤ len → (K j = 1 ∧ dp j = dp (j - 1) + 1) ∨ (K j = 2 ∧ dp (j - 1) = dp j + 1) ∨ (K j = 0 ∧ dp j = dp (j - 1))
theorem dp_n (n : Nat) : nI n + 0 = nI n := Int32.add_zero _
theorem xt_depth {f : fx_T} {tl wc : Int32} {post : SX → Prop} {C H Lk M W : Nat → Nat} (hl : len ≤ 64) (hd : dp_C len K dp) (h0 : H 0 = dp 0)
    (Q : ∀ H', (∀ j, j ≤ len → H' j = dp j) → post (sx_t f tl wc C H' K Lk M W g L dn s)) :
    ∃ n64, wX_unfold_64 post (nI len) 66 256 288 f.1 f.2.1 f.2.2.1 (nI (pg_F g)) f.2.2.2.1 (nI (pg_P g)) (nI (pg_N g)) (nI (pg_L g)) f.2.2.2.2.1 f.2.2.2.2.2.1 (nI L) tl wc n64 (nI 1) (ar_N (pg_en g)) (ar_N (pg_ex g)) (ar_N (pg_ow g)) (ar_N (pg_kd g)) (ar_N (pg_sr g)) (ar_N (pg_tg g)) (ar_C (pg_ca g)) (ar_N (pg_pa g)) (ar_N (pg_ba g)) (ar_N (xt_D s)) (ar_N (xt_O s)) (ar_N dn) (ar_N (xt_A s)) (ar_N (xt_B s)) (ar_O (xt_h s)) (ar_O (xt_n s)) (ar_O (xt_p s)) (ar_N C) (ar_N H) (ar_N K) (ar_N Lk) (ar_N M) (ar_N W) := by
  have key : ∀ m i k H, 0 < i → i + m = len + 1 → m < k → (∀ j, j < i → H j = dp j) → wX_unfold_64 post (nI len) 66 256 288 f.1 f.2.1 f.2.2.1 (nI (pg_F g)) f.2.2.2.1 (nI (pg_P g)) (nI (pg_N g)) (nI (pg_L g)) f.2.2.2.2.1 f.2.2.2.2.2.1 (nI L) tl wc k (nI i) (ar_N (pg_en g)) (ar_N (pg_ex g)) (ar_N (pg_ow g)) (ar_N (pg_kd g)) (ar_N (pg_sr g)) (ar_N (pg_tg g)) (ar_C (pg_ca g)) (ar_N (pg_pa g)) (ar_N (pg_ba g)) (ar_N (xt_D s)) (ar_N (xt_O s)) (ar_N dn) (ar_N (xt_A s)) (ar_N (xt_B s)) (ar_O (xt_h s)) (ar_O (xt_n s)) (ar_O (xt_p s)) (ar_N C) (ar_N H) (ar_N K) (ar_N Lk) (ar_N M) (ar_N W) := by
    intro m
    induction m with
    | zero =>
      intro i k H hi e hk q
      obtain ⟨k, rfl⟩ : ∃ j, k = j + 1 := ⟨k - 1, by omega⟩
      exact br_t (nI_lt (by omega) (by omega)) (Q H (fun j hj => q j (by omega)))
    | succ m ih =>
      intro i k H z e hk q
      obtain ⟨k, rfl⟩ : ∃ j, k = j + 1 := ⟨k - 1, by omega⟩
      have ii : vp_in (nI i) 65 := vp_in_nI (by omega) (by omega)
      have e1 : nI i - 1 = nI (i - 1) := by
        obtain ⟨j, rfl⟩ : ∃ j, i = j + 1 := ⟨i - 1, by omega⟩
        exact nI_pred j
      have ij : vp_in (nI i - 1) 65 := by rw [e1]; exact vp_in_nI (by omega) (by omega)
      have er : ar_N H (nI i - 1).toNatClampNeg = nI (dp (i - 1)) := by rw [e1, ar_Nr _ (by omega), q (i - 1) (by omega)]
      have ek : ar_N K (nI i).toNatClampNeg = nI (K i) := ar_Nr _ (by omega)
      have K2 := ih (i + 1) k (ar_u H i (dp i)) (by omega) (by omega) (by omega) (fun j hj => by
        by_cases e : j = i
        · rw [e, ar_us]
        · rw [ar_un e]; exact q j (by omega))
      have put : ∀ z : Int32, nI (dp (i - 1)) + z = nI (dp i) → wX_unfold_101 post (wX_unfold_64 post (nI len) 66 256 288 f.1 f.2.1 f.2.2.1 (nI (pg_F g)) f.2.2.2.1 (nI (pg_P g)) (nI (pg_N g)) (nI (pg_L g)) f.2.2.2.2.1 f.2.2.2.2.2.1 (nI L) tl wc k) (nI len) (nI i) z 66 256 288 f.1 f.2.1 f.2.2.1 (nI (pg_F g)) f.2.2.2.1 (nI (pg_P g)) (nI (pg_N g)) (nI (pg_L g)) f.2.2.2.2.1 f.2.2.2.2.2.1 (nI L) tl wc (ar_N (pg_en g)) (ar_N (pg_ex g)) (ar_N (pg_ow g)) (ar_N (pg_kd g)) (ar_N (pg_sr g)) (ar_N (pg_tg g)) (ar_C (pg_ca g)) (ar_N (pg_pa g)) (ar_N (pg_ba g)) (ar_N (xt_D s)) (ar_N (xt_O s)) (ar_N dn) (ar_N (xt_A s)) (ar_N (xt_B s)) (ar_O (xt_h s)) (ar_O (xt_n s)) (ar_O (xt_p s)) (ar_N C) (ar_N H) (ar_N K) (ar_N Lk) (ar_N M) (ar_N W) := by
        intro z ez
        refine And.intro ij (And.intro ii (nm_r (e' := ar_N (ar_u H i (dp i))) ?_ (nm_r (nI_1 i) K2)))
        rw [er, ez, nI_clamp (by omega)]
        exact ar_Nu H i (dp i)
      refine br_f (nI_nlt (a := len) (b := i) (by omega) (by omega)) (And.intro ii ?_)
      rcases hd i z (by omega) with ⟨a, b⟩ | ⟨a, b⟩ | ⟨a, b⟩
      · exact br_t (by rw [ek, a]; rfl) (put 1 (by rw [b]; exact nI_1 _))
      · exact br_f (by rw [ek, a]; decide) (And.intro ii (br_t (by rw [ek, a]; rfl) (put (-1) (by rw [b]; exact pk_m1 _))))
      · exact br_f (by rw [ek, a]; decide) (And.intro ii (br_f (by rw [ek, a]; decide) (put 0 (by rw [b]; exact dp_n _))))
  exact ⟨len + 1, key len 1 _ H (by omega) (by omega) (by omega) (fun j hj => by rw [show j = 0 by omega]; exact h0)⟩
theorem yt_depth {e : fy_T} {kp : Int32} {post : Int32 → SY → Prop} {PN PF PD Lk OC : Nat → Nat} (hl : len ≤ 64) (hd : dp_C len K dp) (h0 : PD 0 = dp 0)
    (Q : ∀ PD', (∀ j, j ≤ len → PD' j = dp j) → post (nI len) (sy_t e (nI len) PN PF PD' K Lk OC g y)) :
    ∃ n356, wY_trace_356 post (nI len) e.1 e.2.1 (nI (pg_F g)) e.2.2.1 (nI (pg_P g)) (nI (pg_N g)) (nI (pg_L g)) e.2.2.2.1 kp n356 (nI 1) (ar_N (pg_en g)) (ar_N (pg_ex g)) (ar_N (pg_ow g)) (ar_N (pg_sr g)) (ar_N (pg_tg g)) (ar_C (pg_ca g)) (ar_N (pg_pa g)) (ar_N (pg_ba g)) (ar_V (yt_V y)) (ar_V (yt_O y)) (ar_V (yt_A y)) (ar_N PN) (ar_N PF) (ar_N PD) (ar_N K) (ar_N Lk) (ar_N OC) := by
  have key : ∀ m i k PD, 0 < i → i + m = len + 1 → m < k → (∀ j, j < i → PD j = dp j) → wY_trace_356 post (nI len) e.1 e.2.1 (nI (pg_F g)) e.2.2.1 (nI (pg_P g)) (nI (pg_N g)) (nI (pg_L g)) e.2.2.2.1 kp k (nI i) (ar_N (pg_en g)) (ar_N (pg_ex g)) (ar_N (pg_ow g)) (ar_N (pg_sr g)) (ar_N (pg_tg g)) (ar_C (pg_ca g)) (ar_N (pg_pa g)) (ar_N (pg_ba g)) (ar_V (yt_V y)) (ar_V (yt_O y)) (ar_V (yt_A y)) (ar_N PN) (ar_N PF) (ar_N PD) (ar_N K) (ar_N Lk) (ar_N OC) := by
    intro m
    induction m with
    | zero =>
      intro i k PD hi eq0 hk q
      obtain ⟨k, rfl⟩ : ∃ j, k = j + 1 := ⟨k - 1, by omega⟩
      exact br_t (nI_lt (by omega) (by omega)) (Q PD (fun j hj => q j (by omega)))
    | succ m ih =>
      intro i k PD z eq0 hk q
      obtain ⟨k, rfl⟩ : ∃ j, k = j + 1 := ⟨k - 1, by omega⟩
      have ii : vp_in (nI i) 65 := vp_in_nI (by omega) (by omega)
      have e1 : nI i - 1 = nI (i - 1) := by
        obtain ⟨j, rfl⟩ : ∃ j, i = j + 1 := ⟨i - 1, by omega⟩
        exact nI_pred j
      have ij : vp_in (nI i - 1) 65 := by rw [e1]; exact vp_in_nI (by omega) (by omega)
      have er : ar_N PD (nI i - 1).toNatClampNeg = nI (dp (i - 1)) := by rw [e1, ar_Nr _ (by omega), q (i - 1) (by omega)]
      have ek : ar_N K (nI i).toNatClampNeg = nI (K i) := ar_Nr _ (by omega)
      have K2 := ih (i + 1) k (ar_u PD i (dp i)) (by omega) (by omega) (by omega) (fun j hj => by
        by_cases e9 : j = i
        · rw [e9, ar_us]
        · rw [ar_un e9]; exact q j (by omega))
      have put : ∀ z : Int32, nI (dp (i - 1)) + z = nI (dp i) → upd (ar_N PD) (nI i).toNatClampNeg (ar_N PD (nI i - 1).toNatClampNeg + z) = ar_N (ar_u PD i (dp i)) := by
        intro z ez
        rw [er, ez, nI_clamp (by omega)]
        exact ar_Nu PD i (dp i)
      refine br_f (nI_nlt (a := len) (b := i) (by omega) (by omega)) (And.intro ij (And.intro ii ?_))
      rcases hd i z (by omega) with ⟨a, b⟩ | ⟨a, b⟩ | ⟨a, b⟩
      · exact br_t (by rw [ek, a]; rfl) (And.intro ii (nm_r (put 1 (by rw [b]; exact nI_1 _)) (nm_r (nI_1 i) K2)))
      · exact br_f (by rw [ek, a]; decide) (And.intro ii (br_t (by rw [ek, a]; rfl) (And.intro ii (nm_r (put (-1) (by rw [b]; exact pk_m1 _)) (nm_r (nI_1 i) K2)))))
      · exact br_f (by rw [ek, a]; decide) (And.intro ii (br_f (by rw [ek, a]; decide) (And.intro ii (nm_r (put 0 (by rw [b]; exact dp_n _)) (nm_r (nI_1 i) K2)))))
  exact ⟨len + 1, key len 1 _ PD (by omega) (by omega) (by omega) (fun j hj => by rw [show j = 0 by omega]; exact h0)⟩
end
end TS
end
section
section TT
/-! the two traces, step by step -/
def ls_O (f : fx_T) (e : fy_T) (g : pg_T) (L : Nat) (dn : Nat → Nat) (s : xt_T) (y : yt_T) (kp : Int32) (H PD : Nat → Nat) (len i c top : Nat) (C K Lk M W PN PF K' Lk' OC : Nat → Nat) : Prop :=
  ∃ (c0 : Nat) (C0 K0 Lk0 M0 W0 PN0 PF0 K1 Lk1 OC0 w0 u0 : Nat → Nat), ts_I g (xt_D s) (xt_O s) len 0 c0 0 C0 K0 Lk0 M0 W0 PN0 PF0 K1 Lk1 OC0 w0 u0 ∧
  (∀ (post : SX → Prop) (n : Nat), i < n → (∀ H' : Nat → Nat, (∀ j, j ≤ len → H' j = u0 0 + w0 j - u0 j) → post (sx_t f (nI len) (nI 0) (ar_u C0 0 c0) H' K0 Lk0 M0 W0 g L dn s)) → wX_unfold_19 post (nI len) n (nI c) (nI i) 66 256 288 f.1 f.2.1 f.2.2.1 (nI (pg_F g)) f.2.2.2.1 (nI (pg_P g)) (nI (pg_N g)) (nI (pg_L g)) f.2.2.2.2.1 f.2.2.2.2.2.1 (nI L) (nI len) (nI top) (ar_N (pg_en g)) (ar_N (pg_ex g)) (ar_N (pg_ow g)) (ar_N (pg_kd g)) (ar_N (pg_sr g)) (ar_N (pg_tg g)) (ar_C (pg_ca g)) (ar_N (pg_pa g)) (ar_N (pg_ba g)) (ar_N (xt_D s)) (ar_N (xt_O s)) (ar_N dn) (ar_N (xt_A s)) (ar_N (xt_B s)) (ar_O (xt_h s)) (ar_O (xt_n s)) (ar_O (xt_p s)) (ar_N C) (ar_N H) (ar_N K) (ar_N Lk) (ar_N M) (ar_N W)) ∧
  (∀ (post : Int32 → SY → Prop) (n : Nat), i < n → (∀ PD' : Nat → Nat, (∀ j, j ≤ len → PD' j = u0 0 + w0 j - u0 j) → post (nI len) (sy_t e (nI len) (ar_u PN0 0 (c0 / 16)) (ar_u PF0 0 (c0 % 4)) PD' K1 Lk1 OC0 g y)) → wY_trace_41 post (nI len) e.1 e.2.1 (nI (pg_F g)) e.2.2.1 (nI (pg_P g)) (nI (pg_N g)) (nI (pg_L g)) e.2.2.2.1 kp n (nI (c / 16)) (nI (c % 4)) (nI top) (nI (c / 4 % 4)) (nI i) (ar_N (pg_en g)) (ar_N (pg_ex g)) (ar_N (pg_ow g)) (ar_N (pg_sr g)) (ar_N (pg_tg g)) (ar_C (pg_ca g)) (ar_N (pg_pa g)) (ar_N (pg_ba g)) (ar_V (yt_V y)) (ar_V (yt_O y)) (ar_V (yt_A y)) (ar_N PN) (ar_N PF) (ar_N PD) (ar_N K') (ar_N Lk') (ar_N OC))
section
variable {f : fx_T} {e : fy_T} {g : pg_T} {L : Nat} {dn : Nat → Nat} {s : xt_T} {y : yt_T} {kp : Int32} {H PD : Nat → Nat} {len i c top : Nat} {C K Lk M W PN PF K' Lk' OC w u : Nat → Nat} {T : Nat → Nat}
theorem ls_next {p top1 : Nat} {C1 K1 Lk1 M1 W1 PN1 PF1 K2 Lk2 OC1 : Nat → Nat} (hi : 0 < i) (h : ls_O f e g L dn s y kp H PD len (i - 1) p top1 C1 K1 Lk1 M1 W1 PN1 PF1 K2 Lk2 OC1)
    (hX : ∀ (post : SX → Prop) (n : Nat), wX_unfold_19 post (nI len) n (nI p) (nI (i - 1)) 66 256 288 f.1 f.2.1 f.2.2.1 (nI (pg_F g)) f.2.2.2.1 (nI (pg_P g)) (nI (pg_N g)) (nI (pg_L g)) f.2.2.2.2.1 f.2.2.2.2.2.1 (nI L) (nI len) (nI top1) (ar_N (pg_en g)) (ar_N (pg_ex g)) (ar_N (pg_ow g)) (ar_N (pg_kd g)) (ar_N (pg_sr g)) (ar_N (pg_tg g)) (ar_C (pg_ca g)) (ar_N (pg_pa g)) (ar_N (pg_ba g)) (ar_N (xt_D s)) (ar_N (xt_O s)) (ar_N dn) (ar_N (xt_A s)) (ar_N (xt_B s)) (ar_O (xt_h s)) (ar_O (xt_n s)) (ar_O (xt_p s)) (ar_N C1) (ar_N H) (ar_N K1) (ar_N Lk1) (ar_N M1) (ar_N W1) → wX_unfold_19 post (nI len) (n + 1) (nI c) (nI i) 66 256 288 f.1 f.2.1 f.2.2.1 (nI (pg_F g)) f.2.2.2.1 (nI (pg_P g)) (nI (pg_N g)) (nI (pg_L g)) f.2.2.2.2.1 f.2.2.2.2.2.1 (nI L) (nI len) (nI top) (ar_N (pg_en g)) (ar_N (pg_ex g)) (ar_N (pg_ow g)) (ar_N (pg_kd g)) (ar_N (pg_sr g)) (ar_N (pg_tg g)) (ar_C (pg_ca g)) (ar_N (pg_pa g)) (ar_N (pg_ba g)) (ar_N (xt_D s)) (ar_N (xt_O s)) (ar_N dn) (ar_N (xt_A s)) (ar_N (xt_B s)) (ar_O (xt_h s)) (ar_O (xt_n s)) (ar_O (xt_p s)) (ar_N C) (ar_N H) (ar_N K) (ar_N Lk) (ar_N M) (ar_N W))
    (hY : ∀ (post : Int32 → SY → Prop) (n : Nat), wY_trace_41 post (nI len) e.1 e.2.1 (nI (pg_F g)) e.2.2.1 (nI (pg_P g)) (nI (pg_N g)) (nI (pg_L g)) e.2.2.2.1 kp n (nI (p / 16)) (nI (p % 4)) (nI top1) (nI (p / 4 % 4)) (nI (i - 1)) (ar_N (pg_en g)) (ar_N (pg_ex g)) (ar_N (pg_ow g)) (ar_N (pg_sr g)) (ar_N (pg_tg g)) (ar_C (pg_ca g)) (ar_N (pg_pa g)) (ar_N (pg_ba g)) (ar_V (yt_V y)) (ar_V (yt_O y)) (ar_V (yt_A y)) (ar_N PN1) (ar_N PF1) (ar_N PD) (ar_N K2) (ar_N Lk2) (ar_N OC1) → wY_trace_41 post (nI len) e.1 e.2.1 (nI (pg_F g)) e.2.2.1 (nI (pg_P g)) (nI (pg_N g)) (nI (pg_L g)) e.2.2.2.1 kp (n + 1) (nI (c / 16)) (nI (c % 4)) (nI top) (nI (c / 4 % 4)) (nI i) (ar_N (pg_en g)) (ar_N (pg_ex g)) (ar_N (pg_ow g)) (ar_N (pg_sr g)) (ar_N (pg_tg g)) (ar_C (pg_ca g)) (ar_N (pg_pa g)) (ar_N (pg_ba g)) (ar_V (yt_V y)) (ar_V (yt_O y)) (ar_V (yt_A y)) (ar_N PN) (ar_N PF) (ar_N PD) (ar_N K') (ar_N Lk') (ar_N OC)) :
    ls_O f e g L dn s y kp H PD len i c top C K Lk M W PN PF K' Lk' OC := by
  obtain ⟨c0, C0, K0, Lk0, M0, W0, PN0, PF0, K10, Lk10, OC0, w0, u0, h1, h2, h3⟩ := h
  refine ⟨c0, C0, K0, Lk0, M0, W0, PN0, PF0, K10, Lk10, OC0, w0, u0, h1, fun post n hn Q => ?_, fun post n hn Q => ?_⟩
  · obtain ⟨n, rfl⟩ : ∃ j, n = j + 1 := ⟨n - 1, by omega⟩
    exact hX post n (h2 post n (by omega) Q)
  · obtain ⟨n, rfl⟩ : ∃ j, n = j + 1 := ⟨n - 1, by omega⟩
    exact hY post n (h3 post n (by omega) Q)
theorem ls_X {p top1 n : Nat} {K1 Lk1 M1 W1 : Nat → Nat} {post : SX → Prop} (hi : 0 < i) (hi2 : i < 65)
    (S : ∀ post' : Int32 → SX → Prop, post' (nI p) (sx_t f (nI len) (nI top1) (ar_u C i c) H K1 Lk1 M1 W1 g L dn s) → wpX_stepBack post' (sx_t f (nI len) (nI top) (ar_u C i c) H K Lk M W g L dn s) (nI i) (nI c))
    (h : wX_unfold_19 post (nI len) n (nI p) (nI (i - 1)) 66 256 288 f.1 f.2.1 f.2.2.1 (nI (pg_F g)) f.2.2.2.1 (nI (pg_P g)) (nI (pg_N g)) (nI (pg_L g)) f.2.2.2.2.1 f.2.2.2.2.2.1 (nI L) (nI len) (nI top1) (ar_N (pg_en g)) (ar_N (pg_ex g)) (ar_N (pg_ow g)) (ar_N (pg_kd g)) (ar_N (pg_sr g)) (ar_N (pg_tg g)) (ar_C (pg_ca g)) (ar_N (pg_pa g)) (ar_N (pg_ba g)) (ar_N (xt_D s)) (ar_N (xt_O s)) (ar_N dn) (ar_N (xt_A s)) (ar_N (xt_B s)) (ar_O (xt_h s)) (ar_O (xt_n s)) (ar_O (xt_p s)) (ar_N (ar_u C i c)) (ar_N H) (ar_N K1) (ar_N Lk1) (ar_N M1) (ar_N W1)) : wX_unfold_19 post (nI len) (n + 1) (nI c) (nI i) 66 256 288 f.1 f.2.1 f.2.2.1 (nI (pg_F g)) f.2.2.2.1 (nI (pg_P g)) (nI (pg_N g)) (nI (pg_L g)) f.2.2.2.2.1 f.2.2.2.2.2.1 (nI L) (nI len) (nI top) (ar_N (pg_en g)) (ar_N (pg_ex g)) (ar_N (pg_ow g)) (ar_N (pg_kd g)) (ar_N (pg_sr g)) (ar_N (pg_tg g)) (ar_C (pg_ca g)) (ar_N (pg_pa g)) (ar_N (pg_ba g)) (ar_N (xt_D s)) (ar_N (xt_O s)) (ar_N dn) (ar_N (xt_A s)) (ar_N (xt_B s)) (ar_O (xt_h s)) (ar_O (xt_n s)) (ar_O (xt_p s)) (ar_N C) (ar_N H) (ar_N K) (ar_N Lk) (ar_N M) (ar_N W) := by
  have ej : nI i + (-1) = nI (i - 1) := by
    obtain ⟨j, rfl⟩ : ∃ j, i = j + 1 := ⟨i - 1, by omega⟩
    exact pk_m1 j
  refine br_f (nI_nlt (a := i) (b := 1) (by omega) (by omega)) (And.intro (vp_in_nI hi2 (by omega)) (nm_r (e' := ar_N (ar_u C i c)) (by rw [nI_clamp (by omega)]; exact ar_Nu C i c) ?_))
  exact S _ (nm_r ej h)
theorem ls_base (hg : pg_ok g) (h : ts_I g (xt_D s) (xt_O s) len 0 c top C K Lk M W PN PF K' Lk' OC w u) : ls_O f e g L dn s y kp H PD len 0 c top C K Lk M W PN PF K' Lk' OC := by
  have ht : top = 0 := by
    rcases Nat.eq_zero_or_pos top with z | z
    · exact z
    · have := (rm_ge (g := g) (D := xt_D s) (O := xt_O s) (cs := fun t => C (W t)) (top := top) (c := c)).2 z
      have := h.1.2.2.2.2.1
      omega
  subst ht
  have hl := h.1.2.1
  have d0 : u 0 + w 0 - u 0 = 0 := by have := h.1.2.2.2.2.2; omega
  have hd : dp_C len K (fun j => u 0 + w j - u j) := fun j h1 h2 => ts_dep h h1 h2
  have eK : ∀ j, 1 ≤ j → j ≤ len → K' j = K j := fun j h1 h2 => (h.2.1 j (by omega) h2).2.2.2.1
  have hd' : dp_C len K' (fun j => u 0 + w j - u j) := fun j h1 h2 => by rw [eK j h1 h2]; exact hd j h1 h2
  refine ⟨c, C, K, Lk, M, W, PN, PF, K', Lk', OC, w, u, h, fun post n hn Q => ?_, fun post n hn Q => ?_⟩
  · obtain ⟨n, rfl⟩ : ∃ j, n = j + 1 := ⟨n - 1, by omega⟩
    refine br_t (by decide) (nm_r (e' := ar_N (ar_u C 0 c)) (ar_Nu C 0 c) (nm_r (e' := ar_N (ar_u H 0 0)) (ar_Nu H 0 0) ?_))
    exact xt_depth (dp := fun j => u 0 + w j - u j) hl hd (ar_us.trans d0.symm) Q
  · obtain ⟨n, rfl⟩ : ∃ j, n = j + 1 := ⟨n - 1, by omega⟩
    refine br_t (by decide) (nm_r (e' := ar_N (ar_u PN 0 (c / 16))) (ar_Nu PN 0 _) (nm_r (e' := ar_N (ar_u PF 0 (c % 4))) (ar_Nu PF 0 _) (nm_r (e' := ar_N (ar_u PD 0 0)) (ar_Nu PD 0 0) ?_)))
    exact yt_depth (dp := fun j => u 0 + w j - u j) hl hd' (ar_us.trans d0.symm) Q
theorem sv_small {x : Nat} (h : sv_m x ≤ 64) : sv_m x = x := by
  unfold sv_m at *
  split at h
  · rw [if_pos (by assumption)]
  · omega
theorem ix_3 {n a b : Nat} (ha : a < 4) (hb : b < 4) : (16 * n + 4 * a + b) / 16 = n ∧ (16 * n + 4 * a + b) / 4 % 4 = a ∧ (16 * n + 4 * a + b) % 4 = b := by omega
theorem ix_oc {o a : Nat} (ha : a < 4) : (16 * (o / 16) + 4 * a) / 64 = o / 64 ∧ (16 * (o / 16) + 4 * a) / 16 % 4 = o / 16 % 4 ∧ (16 * (o / 16) + 4 * a) / 4 % 4 = a := by omega
/-- no length left in the level: the cell is an entry -/
theorem so_ent {A B : Nat → Nat} {D O : Nat → Nat} (hg : pg_ok g) (hR : so_R g T D O A B) (hc : c < 256) (h0 : D c = 0) : ∃ p a, p < pg_P g ∧ a < pg_F g ∧ c = 16 * pg_en g p + 4 * a + a := by
  rcases (hR.2.2.1 c (by omega) (by omega)).2 with ⟨ci, _⟩ | ⟨w, yy, p, q, hc', fp, fq, ev, _⟩
  · rcases ci with h | h
    · exact h
    · omega
  · have := cd_v_pos D (y := yy) (p := p) (q := q)
    omega
theorem ls_in (hg : pg_ok g) (hP : 0 < pg_P g) (hsm : pg_sm g) (hR : so_R g T (xt_D s) (xt_O s) (xt_A s) (xt_B s)) (hE : yr_E g (xt_D s) (xt_A s) y) (hi : 0 < i) (h : ts_I g (xt_D s) (xt_O s) len i c top C K Lk M W PN PF K' Lk' OC w u) (f0 : 0 < xt_D s c)
    (IH : ∀ p top1 C1 K1 Lk1 M1 W1 PN1 PF1 K2 Lk2 OC1 w1 u1, ts_I g (xt_D s) (xt_O s) len (i - 1) p top1 C1 K1 Lk1 M1 W1 PN1 PF1 K2 Lk2 OC1 w1 u1 → ls_O f e g L dn s y kp H PD len (i - 1) p top1 C1 K1 Lk1 M1 W1 PN1 PF1 K2 Lk2 OC1) :
    ls_O f e g L dn s y kp H PD len i c top C K Lk M W PN PF K' Lk' OC := by
  obtain ⟨⟨a1, a2, a3, a4, a5, a6⟩, h5, h6, h7, h8, h9⟩ := id h
  have hF := pg_F4 hg
  have hN := pg_N16 hg
  have hL := pg_L24 hg
  have hr := so_rl hg hP hR a3 a4
  have hDi := (rm_ge (g := g) (D := xt_D s) (O := xt_O s) (cs := fun t => C (W t)) (top := top) (c := c)).1
  rw [a5] at hDi
  have h9i := h9 i (Nat.le_refl _) a1
  obtain ⟨yy, p, q, hc, fp, fq, ev⟩ := so_c hR (by omega) f0 a4
  have hO := cd_w hg hc
  have nb : ¬ (c / 16 = pg_en g (pg_ow g (c / 16)) ∧ c % 4 = c / 4 % 4) := by
    intro z
    have := hR.2.1 c (Or.inl ⟨pg_ow g (c / 16), c % 4, pg_owP hg hr.1, hr.2.2, by omega⟩)
    omega
  have ec : 16 * (c / 16) + 4 * (c / 4 % 4) + c % 4 = c := by omega
  rcases hc with ⟨rfl, k, c', a, d, hk, hc, ha, hd, k0, hb, et, ep, eq, ew⟩ | ⟨rfl, k, c', a, d, b, e', hk, hc, ha, hd, hb, he, k1, hb1, hb2, et, ep, eq, ew⟩ | ⟨rfl, k, c', b, a, hk, hc, hb, ha, k1, hb1, et, ep, eq, ew⟩
  · have hs := pg_srN hg hk
    have ht := pg_tgN hg hk
    have eD : xt_D s c = xt_D s p + 1 := by
      have e1 : xt_D s c = sv_m (xt_D s p + 1) := ev
      have := sv_small (x := xt_D s p + 1) (by omega)
      omega
    have p1 : p / 16 = pg_sr g k := by omega
    have p2 : p / 4 % 4 = c / 4 % 4 := by omega
    have p3 : p % 4 = c' := by omega
    have rs := rm_sub (g := g) (D := xt_D s) (O := xt_O s) (cs := fun t => C (W t)) (top := top) (c := c) (p := p) (by rw [p1, show c / 16 = pg_tg g k by omega]; exact hsm k hk) p2
    have nx := IH _ _ _ _ _ _ _ _ _ _ _ _ _ _ (ts_local (p := p) (k := k) h hi (by omega) fp (by omega))
    refine ls_next hi nx (fun post n hx => ls_X hi (by omega) (fun post' hp => ?_) hx) (fun post n hy => ?_)
    · refine xt_local (k := k) (c := c') hg (by omega) a3 f0 (by omega) hk hc k0 (by omega) (by omega) hO ?_
      rw [show 16 * pg_sr g k + 4 * (c / 4 % 4) + c' = p by omega]
      exact hp
    · refine yt_41 hg hi (by omega) hr.1 (by omega) (by omega) (fun z1 z2 => absurd ⟨z1, z2⟩ nb) (fun _ => ?_)
      refine br_t rfl (yw_lastStep (f := ty_f e kp (ar_u PN i (c / 16)) (ar_u PF i (c % 4)) PD K' Lk' OC) (s := y) hg hR hE hr.1 hr.2.1 hr.2.2 (by rw [ec]; exact f0) (by rw [ec]; exact a4) ?_)
      rw [ec]
      refine br_t rfl (br_t rfl (yt_161L (k := k) hg hi (by omega) hO hk (by omega) k0 ?_))
      rw [p1, p2, p3] at hy
      rw [show xt_O s c / 16 % 4 = c' by omega]
      exact hy
  · have hs := pg_srN hg hk
    have ht := pg_tgN hg hk
    have hx := pg_exN hg (pg_clP hg hk k1).1
    have eD : xt_D s c = xt_D s p + xt_D s q + 2 := by
      have e1 : xt_D s c = sv_m (xt_D s p + xt_D s q + 2) := ev
      have := sv_small (x := xt_D s p + xt_D s q + 2) (by omega)
      omega
    have p1 : p / 16 = pg_sr g k := by omega
    have p2 : p / 4 % 4 = c / 4 % 4 := by omega
    have w1 : xt_O s c / 64 = k := by omega
    have w2 : xt_O s c / 16 % 4 = c' := by omega
    have w3 : xt_O s c % 16 = 4 * b + e' := by omega
    have w4 : xt_O s c % 4 = e' := by omega
    have w5 : xt_O s c / 4 % 4 = b := by omega
    have rs := rm_sub (g := g) (D := xt_D s) (O := xt_O s) (cs := fun t => C (W t)) (top := top) (c := c) (p := p) (by rw [p1, show c / 16 = pg_tg g k by omega]; exact hsm k hk) p2
    have nx := IH _ _ _ _ _ _ _ _ _ _ _ _ _ _ (ts_ret (p := q) (k := k) h hi (by omega) fq f0 (by
      rw [w1, w2, show 16 * pg_sr g k + 4 * (c / 4 % 4) + c' = p by omega]
      omega))
    refine ls_next hi nx (fun post n hx => ls_X hi (by omega) (fun post' hp => ?_) hx) (fun post n hy => ?_)
    · refine xt_ret (k := k) (r := 4 * b + e') hg (by omega) a3 f0 (by omega) hk k1 w1 w3 hO (by omega) ?_
      rw [show 16 * pg_ex g (pg_cl g k) + (4 * b + e') = q by omega]
      exact hp
    · refine yt_41 hg hi (by omega) hr.1 (by omega) (by omega) (fun z1 z2 => absurd ⟨z1, z2⟩ nb) (fun _ => ?_)
      refine br_t rfl (yw_lastStep (f := ty_f e kp (ar_u PN i (c / 16)) (ar_u PF i (c % 4)) PD K' Lk' OC) (s := y) hg hR hE hr.1 hr.2.1 hr.2.2 (by rw [ec]; exact f0) (by rw [ec]; exact a4) ?_)
      rw [ec]
      refine br_t rfl (br_t rfl (yt_161R (k := k) hg hi (by omega) hO (by omega) hk w1 k1 ?_))
      rw [show q / 16 = pg_ex g (pg_cl g k) by omega, show q % 4 = e' by omega, show q / 4 % 4 = b by omega] at hy
      rw [w4, w5]
      exact hy
  · omega
theorem ls_out (hg : pg_ok g) (hP : 0 < pg_P g) (hR : so_R g T (xt_D s) (xt_O s) (xt_A s) (xt_B s)) (hE : yr_E g (xt_D s) (xt_A s) y) (hi : 0 < i) (h : ts_I g (xt_D s) (xt_O s) len i c top C K Lk M W PN PF K' Lk' OC w u) (f0 : xt_D s c = 0)
    (IH : ∀ p top1 C1 K1 Lk1 M1 W1 PN1 PF1 K2 Lk2 OC1 w1 u1, ts_I g (xt_D s) (xt_O s) len (i - 1) p top1 C1 K1 Lk1 M1 W1 PN1 PF1 K2 Lk2 OC1 w1 u1 → ls_O f e g L dn s y kp H PD len (i - 1) p top1 C1 K1 Lk1 M1 W1 PN1 PF1 K2 Lk2 OC1) :
    ls_O f e g L dn s y kp H PD len i c top C K Lk M W PN PF K' Lk' OC := by
  obtain ⟨⟨a1, a2, a3, a4, a5, a6⟩, h5, h6, h7, h8, h9⟩ := id h
  have hF := pg_F4 hg
  have hN := pg_N16 hg
  have hL := pg_L24 hg
  have hP8 := pg_P8 hg
  have hr := so_rl hg hP hR a3 a4
  have h9i := h9 i (Nat.le_refl _) a1
  obtain ⟨pe, ae, hpe, hae, eent⟩ := so_ent hg hR a3 f0
  have e1 : c / 16 = pg_en g pe := by omega
  have e2 : pg_ow g (c / 16) = pe := by rw [e1]; exact pg_owen hg hpe
  have hx3 := ix_3 (n := pg_en g pe) (a := ae) (b := ae) (by omega) (by omega)
  have e3 : c % 4 = c / 4 % 4 := by rw [eent, hx3.2.1, hx3.2.2]
  have bg : c / 16 = pg_en g (pg_ow g (c / 16)) := by rw [e2]; exact e1
  cases top with
  | succ t0 =>
    obtain ⟨m1, m2, m3, m4, m5, m6, m7, m8, m9, m10, m11⟩ := h7 t0 (by omega)
    obtain ⟨yy, p', q', hc, fp, fq, ev⟩ := so_c hR (t := C (W t0)) (by omega) m9 m10
    have hO := cd_w hg hc
    have eC : ar_u C i c (W t0) = C (W t0) := ar_un (by omega)
    have ep : xt_O s (C (W t0)) / 64 < pg_L g ∧ p' = 16 * pg_sr g (xt_O s (C (W t0)) / 64) + 4 * (C (W t0) / 4 % 4) + xt_O s (C (W t0)) / 16 % 4 := by
      rcases hc with ⟨rfl, k, c', a, d, hk, hc, ha, hd, k0, hb, et, ep, eq, ew⟩ | ⟨rfl, k, c', a, d, b, e', hk, hc, ha, hd, hb, he, k1, hb1, hb2, et, ep, eq, ew⟩ | ⟨rfl, k, c', b, a, hk, hc, hb, ha, k1, hb1, et, ep, eq, ew⟩
      · have ht := pg_tgN hg hk
        rw [show xt_O s (C (W t0)) / 64 = k by omega, show xt_O s (C (W t0)) / 16 % 4 = c' by omega, show C (W t0) / 4 % 4 = a by omega]
        exact ⟨hk, ep⟩
      · have ht := pg_tgN hg hk
        rw [show xt_O s (C (W t0)) / 64 = k by omega, show xt_O s (C (W t0)) / 16 % 4 = c' by omega, show C (W t0) / 4 % 4 = a by omega]
        exact ⟨hk, ep⟩
      · omega
    have hs := pg_srN hg ep.1
    have hp256 : p' < 256 := by omega
    have rme : xt_D s c + 1 + rm_f g (xt_D s) (xt_O s) (fun t => C (W t)) t0 (16 * pg_sr g (xt_O s (C (W t0)) / 64) + 4 * (C (W t0) / 4 % 4) + xt_O s (C (W t0)) / 16 % 4) = i := a5
    rw [← ep.2] at rme
    have nx := IH _ _ _ _ _ _ _ _ _ _ _ _ _ _ (ts_call (p := p') (k := xt_O s (C (W t0)) / 64) h hi hp256 fp (by omega))
    refine ls_next hi nx (fun post n hx => ls_X hi (by omega) (fun post' hp => ?_) hx) (fun post n hy => ?_)
    · refine xt_call (k := xt_O s (C (W t0)) / 64) (c := xt_O s (C (W t0)) / 16 % 4) (wc := t0) hg (by omega) a3 f0 (by omega) (by omega) (by rw [eC]; exact m8) ep.1 (by rw [eC]) (by rw [eC]) (by rw [eC]; exact hO) ?_
      rw [eC, ← ep.2]
      exact hp
    · refine yt_41 hg hi (by omega) hr.1 (by omega) (by omega) (fun _ _ => ?_) (fun z => absurd ⟨bg, e3⟩ z)
      refine br_f (by decide) (br_f (by decide) (br_f (nI_ne0 (by omega) (by omega)) (br_f (by decide) (nm_r (pk_m1 t0) (And.intro (vp_in_nI (by omega) (by omega)) (nm_r (ar_Nr OC (by omega)) ?_))))))
      refine yt_161C (k := xt_O s (C (W t0)) / 64) hg hi (by omega) (by omega) ep.1 (by omega) ?_
      have j1 := ix_oc (o := xt_O s (C (W t0))) (a := C (W t0) / 4 % 4) (by omega)
      have j2 := ix_3 (n := pg_sr g (xt_O s (C (W t0)) / 64)) (a := C (W t0) / 4 % 4) (b := xt_O s (C (W t0)) / 16 % 4) (by omega) (by omega)
      rw [← ep.2] at j2
      rw [← m11] at j1
      rw [j2.1, j2.2.1, j2.2.2] at hy
      rw [j1.2.1, j1.2.2]
      exact hy
  | zero =>
    have rme : xt_D s (256 + 4 * pg_ow g (c / 16) + c / 4 % 4) + xt_D s c = i := a5
    have ha : c / 4 % 4 < pg_F g := hr.2.1
    have hp : pg_ow g (c / 16) < pg_P g := pg_owP hg hr.1
    have fop : xt_D s (256 + 4 * pg_ow g (c / 16) + c / 4 % 4) < 66 := by omega
    obtain ⟨k, c', hk, hc', eO, k1, ecl, fA, evo, eD⟩ := so_o hg hR hp ha (by omega) fop
    have eA : xt_A s (4 * pg_sr g k + c') + 1 = i := by
      have := sv_small (x := xt_A s (4 * pg_sr g k + c') + 1) (by omega)
      omega
    have hs := pg_srN hg hk
    obtain ⟨n', d', a', b1, b2, b3, b4, b5, b6, b7, b8⟩ := (hR.2.2.2.2.2.1 (4 * pg_sr g k + c') (by omega)).2 fA
    have en : n' = pg_sr g k := by omega
    have ed : d' = c' := by omega
    subst en ed
    have esum : xt_A s (4 * pg_sr g k + d') = xt_D s (256 + 4 * pg_ow g (pg_sr g k) + a') + xt_D s (16 * pg_sr g k + 4 * a' + d') := by
      have := sv_small (x := xt_D s (256 + 4 * pg_ow g (pg_sr g k) + a') + xt_D s (16 * pg_sr g k + 4 * a' + d')) (by omega)
      omega
    have nx := IH _ _ _ _ _ _ _ _ _ _ _ _ _ _ (ts_open (p := 16 * pg_sr g k + 4 * a' + d') (k := k) h hi (by omega) b7 (by
      show xt_D s (256 + 4 * pg_ow g ((16 * pg_sr g k + 4 * a' + d') / 16) + (16 * pg_sr g k + 4 * a' + d') / 4 % 4) + xt_D s (16 * pg_sr g k + 4 * a' + d') = i - 1
      rw [show (16 * pg_sr g k + 4 * a' + d') / 16 = pg_sr g k by omega, show (16 * pg_sr g k + 4 * a' + d') / 4 % 4 = a' by omega]
      omega))
    refine ls_next hi nx (fun post n hx => ls_X hi (by omega) (fun post' hp' => ?_) hx) (fun post n hy => ?_)
    · refine xt_open (k := k) (c := d') hg (by omega) a3 f0 hr.1 hk hc' (by rw [e3]; exact eO) (by rw [b5]; exact b4) ?_
      rw [b5]
      exact hp'
    · refine yt_41 hg hi (by omega) hr.1 (by omega) (by omega) (fun _ _ => ?_) (fun z => absurd ⟨bg, e3⟩ z)
      have hB4 : xt_B s (4 * pg_sr g k + d') = a' := b5
      refine br_f (by decide) (br_f (by decide) (br_t rfl (And.intro (vp_in_nI (by omega) (by omega)) ?_)))
      refine yw_opening (f := ty_f e kp (ar_u PN i (c / 16)) (ar_u PF i (c % 4)) PD K' Lk' OC) (s := y) (p := pg_ow g (c / 16)) (a := c / 4 % 4) (k0 := k) (c0 := d') (ar_Nr _ (by omega)) hg hP hR hE hp ha fop hk hc' eO k1 ecl fA evo ?_
      rw [hB4]
      refine yt_161C (k := k) hg hi (by omega) (by omega) hk (by omega) ?_
      rw [show (16 * pg_sr g k + 4 * a' + d') / 16 = pg_sr g k by omega, show (16 * pg_sr g k + 4 * a' + d') % 4 = d' by omega, show (16 * pg_sr g k + 4 * a' + d') / 4 % 4 = a' by omega] at hy
      rw [show (64 * k + 16 * d' + 4 * a') / 16 % 4 = d' by omega, show (64 * k + 16 * d' + 4 * a') / 4 % 4 = a' by omega]
      exact hy
theorem ls_main (hg : pg_ok g) (hP : 0 < pg_P g) (hsm : pg_sm g) (hR : so_R g T (xt_D s) (xt_O s) (xt_A s) (xt_B s)) (hE : yr_E g (xt_D s) (xt_A s) y) :
    ∀ i c top C K Lk M W PN PF K' Lk' OC w u, ts_I g (xt_D s) (xt_O s) len i c top C K Lk M W PN PF K' Lk' OC w u → ls_O f e g L dn s y kp H PD len i c top C K Lk M W PN PF K' Lk' OC := by
  intro i
  induction i with
  | zero =>
    intro c top C K Lk M W PN PF K' Lk' OC w u h
    exact ls_base hg h
  | succ i ih =>
    intro c top C K Lk M W PN PF K' Lk' OC w u h
    rcases Nat.eq_zero_or_pos (xt_D s c) with z | z
    · exact ls_out hg hP hR hE (by omega) h z ih
    · exact ls_in hg hP hsm hR hE (by omega) h z ih
end
end TT
end
section
section TU
def rX (mp mn ml : Nat) (cm so rc tl wc : Int32) (C H K Lk M W : Nat → Nat) (g : pg_T) (L : Nat) (dn : Nat → Nat) (s : xt_T) : SX := (66, 256, 288, nI mp, nI mn, nI ml, nI (pg_F g), cm, nI (pg_P g), nI (pg_N g), nI (pg_L g), so, rc, nI L, tl, wc, ar_N (pg_en g), ar_N (pg_ex g), ar_N (pg_ow g), ar_N (pg_kd g), ar_N (pg_sr g), ar_N (pg_tg g), ar_C (pg_ca g), ar_N (pg_pa g), ar_N (pg_ba g), ar_N (xt_D s), ar_N (xt_O s), ar_N dn, ar_N (xt_A s), ar_N (xt_B s), ar_O (xt_h s), ar_O (xt_n s), ar_O (xt_p s), ar_N C, ar_N H, ar_N K, ar_N Lk, ar_N M, ar_N W)
def rY (mp mn ml : Nat) (so tl : Int32) (PN PF PD K1 Lk1 OC : Nat → Nat) (g : pg_T) (y : yt_T) : SY := (nI mp, nI mn, nI (pg_F g), nI ml, nI (pg_P g), nI (pg_N g), nI (pg_L g), so, tl, ar_N (pg_en g), ar_N (pg_ex g), ar_N (pg_ow g), ar_N (pg_sr g), ar_N (pg_tg g), ar_C (pg_ca g), ar_N (pg_pa g), ar_N (pg_ba g), ar_V (yt_V y), ar_V (yt_O y), ar_V (yt_A y), ar_N PN, ar_N PF, ar_N PD, ar_N K1, ar_N Lk1, ar_N OC)

/-! the mask -/
def cl_M (F : Nat) (cm : Int32) : Prop := ∀ i, i < 32 → bt cm i = decide (i < 16 ∧ i / 4 < F ∧ i % 4 < F)
def re_S (so rc : Int32) (g : pg_T) (s : xt_T) (y : yt_T) : Prop := so = 0 ∨ (so = 1 ∧ 0 < pg_P g ∧ rc = nI (cn_r (xt_A s) 64) ∧ yr_E g (xt_D s) (xt_A s) y ∧ ∃ T, so_R g T (xt_D s) (xt_O s) (xt_A s) (xt_B s))
def re_T (tl : Int32) (C H K Lk M PN PF PD K1 Lk1 : Nat → Nat) : Prop := tl = -5 ∨ ∃ len, tl = nI len ∧ tr_K len C H K Lk M PN PF PD K1 Lk1
def re_G (mp mn ml : Nat) (cm : Int32) (g : pg_T) : Prop := pg_ok g ∧ pg_sm g ∧ (pg_P g ≤ mp ∧ mp ≤ 8) ∧ (pg_N g ≤ mn ∧ mn ≤ 16) ∧ (pg_L g ≤ ml ∧ ml ≤ 24) ∧ cl_M (pg_F g) cm
/-- the relation -/
def i_Rel (_ : Nat) (u : SX) (v : SY) : Prop :=
  ∃ (mp mn ml : Nat) (cm so rc tl wc : Int32) (C H K Lk M W PN PF PD K1 Lk1 OC : Nat → Nat) (g : pg_T) (L : Nat) (dn : Nat → Nat) (s : xt_T) (y : yt_T),
    u = rX mp mn ml cm so rc tl wc C H K Lk M W g L dn s ∧ v = rY mp mn ml so tl PN PF PD K1 Lk1 OC g y ∧ re_G mp mn ml cm g ∧ re_S so rc g s y ∧ re_T tl C H K Lk M PN PF PD K1 Lk1
theorem re_el {k : Nat} {u : SX} {v : SY} {P : SX → SY → Prop} (h : ∀ (mp mn ml : Nat) (cm so rc tl wc : Int32) (C H K Lk M W PN PF PD K1 Lk1 OC : Nat → Nat) (g : pg_T) (L : Nat) (dn : Nat → Nat) (s : xt_T) (y : yt_T),
    re_G mp mn ml cm g → re_S so rc g s y → re_T tl C H K Lk M PN PF PD K1 Lk1 → P (rX mp mn ml cm so rc tl wc C H K Lk M W g L dn s) (rY mp mn ml so tl PN PF PD K1 Lk1 OC g y)) (I : i_Rel k u v) : P u v :=
  Exists.elim I fun mp I => Exists.elim I fun mn I => Exists.elim I fun ml I => Exists.elim I fun cm I => Exists.elim I fun so I => Exists.elim I fun rc I => Exists.elim I fun tl I => Exists.elim I fun wc I =>
  Exists.elim I fun C I => Exists.elim I fun H I => Exists.elim I fun K I => Exists.elim I fun Lk I => Exists.elim I fun M I => Exists.elim I fun W I => Exists.elim I fun PN I => Exists.elim I fun PF I => Exists.elim I fun PD I => Exists.elim I fun K1 I => Exists.elim I fun Lk1 I => Exists.elim I fun OC I =>
  Exists.elim I fun g I => Exists.elim I fun L I => Exists.elim I fun dn I => Exists.elim I fun s I => Exists.elim I fun y I => by
    rw [I.1, I.2.1]
    exact h mp mn ml cm so rc tl wc C H K Lk M W PN PF PD K1 Lk1 OC g L dn s y I.2.2.1 I.2.2.2.1 I.2.2.2.2
theorem re_in {k mp mn ml : Nat} {cm so rc tl wc : Int32} {C H K Lk M W PN PF PD K1 Lk1 OC : Nat → Nat} {g : pg_T} {L : Nat} {dn : Nat → Nat} {s : xt_T} {y : yt_T} (h1 : re_G mp mn ml cm g) (h2 : re_S so rc g s y) (h3 : re_T tl C H K Lk M PN PF PD K1 Lk1) : i_Rel k (rX mp mn ml cm so rc tl wc C H K Lk M W g L dn s) (rY mp mn ml so tl PN PF PD K1 Lk1 OC g y) :=
  ⟨mp, mn, ml, cm, so, rc, tl, wc, C, H, K, Lk, M, W, PN, PF, PD, K1, Lk1, OC, g, L, dn, s, y, rfl, rfl, h1, h2, h3⟩
theorem i_up {k : Nat} {u : SX} {v : SY} (h : i_Rel k u v) : i_Rel (k + 5) u v := h
/-! numbers of any sign -/
theorem nx_c (v : Int32) {N : Nat} (hN : N < 2 ^ 31) : v < 0 ∨ (¬ v < 0 ∧ nI N ≤ v ∧ ¬ v < nI N) ∨ ∃ j, j < N ∧ v = nI j := by
  by_cases h : v < 0
  · exact Or.inl h
  · obtain ⟨j, hj, rfl⟩ := nI_of h
    by_cases h2 : j < N
    · exact Or.inr (Or.inr ⟨j, h2, rfl⟩)
    · exact Or.inr (Or.inl ⟨h, nI_le (by omega) hj, nI_nlt (by omega) hj⟩)
/-! the mask by its bits -/
def cl_B (F d e : Nat) (x r : Int32) : Prop := ∀ i, i < 32 → bt r i = (bt x i && decide (i < 16 ∧ i / 4 < F ∧ i % 4 < F ∧ (i / 4 < d ∨ (i / 4 = d ∧ i % 4 < e))))
theorem bt_1 : ∀ j, j < 32 → bt 1 j = decide (j = 0) := by decide +kernel
theorem bt_s {n i : Nat} (hn : n < 32) (hi : i < 32) : bt ((1 : Int32) <<< (nI n &&& 31)) i = decide (i = n) := by
  rw [b_shl n hn 1 hi]
  rcases Nat.lt_or_ge i n with h | h
  · rw [decide_eq_false (by omega), decide_eq_false (by omega)]; rfl
  · rw [bt_1 (i - n) (by omega), decide_eq_true h, Bool.true_and, Bool.eq_iff_iff, decide_eq_true_iff, decide_eq_true_iff]
    omega
theorem cl_Bs {F d e : Nat} {x r : Int32} (hF : F ≤ 4) (hd : d < F) (he : e < F) (h : cl_B F d e x r) : cl_B F d (e + 1) x (r ||| (x &&& ((1 : Int32) <<< ((4 * nI d + nI e) &&& 31)))) := by
  intro i hi
  rw [ix_al, b_or, b_and, h i hi, bt_s (by omega) hi]
  cases bt x i
  · rfl
  · rw [Bool.true_and, Bool.true_and, Bool.true_and, ← Bool.decide_or, decide_eq_decide]
    omega
theorem cl_Bn {F d : Nat} {x r : Int32} (hd : d < F) (hF : F ≤ 4) (h : cl_B F d F x r) : cl_B F (d + 1) 0 x r := by
  intro i hi
  rw [h i hi]
  congr 1
  rw [decide_eq_decide]
  omega
theorem cl_B0 {F : Nat} {x : Int32} : cl_B F 0 0 x 0 := by
  intro i hi
  rw [b_0, decide_eq_false (by omega), Bool.and_false]
theorem cl_Be {F : Nat} {x r cm : Int32} (hF : F ≤ 4) (hm : cl_M F cm) (h : cl_B F F 0 x r) : r = x &&& cm := by
  refine b_ext (fun i hi => ?_)
  rw [h i hi, b_and, hm i hi]
  congr 1
  rw [decide_eq_decide]
  omega
theorem cl_Me {F : Nat} {r : Int32} (hF : F ≤ 4) (h : cl_B F F 0 (-1) r) : cl_M F r := by
  intro i hi
  rw [h i hi, b_m1 i hi, Bool.true_and, decide_eq_decide]
  omega
theorem cl_n {F : Nat} {cm : Int32} (hm : cl_M F cm) (x : Int32) : ∃ m, m < 65536 ∧ x &&& cm = nI m := by
  have e : x &&& cm = (x &&& cm) &&& 65535 := by
    refine b_ext (fun i hi => ?_)
    rw [b_and, b_and, b_and, hm i hi, b_65535]
    cases bt x i
    · rfl
    · rw [Bool.true_and, ← Bool.decide_and, decide_eq_decide]
      omega
  obtain ⟨j, hj, ej⟩ := pk_andE (x &&& cm) (m := 65535) 16 (by decide)
  exact ⟨j, hj, by rw [e]; exact ej⟩
theorem cl_16 {F : Nat} {cm : Int32} (hm : cl_M F cm) (x : Int32) : (x &&& 65535) &&& cm = x &&& cm := by
  refine b_ext (fun i hi => ?_)
  rw [b_and, b_and, b_and, hm i hi, b_65535]
  cases bt x i
  · rfl
  · rw [Bool.true_and, Bool.true_and, ← Bool.decide_and, decide_eq_decide]
    omega
theorem cl_hi (x : Int32) : ((x &&& 65535).toUInt32 >>> ((16 : Int32).toUInt32 &&& Int32.toUInt32 31)).toInt32 = 0 := by
  refine b_ext (fun i hi => ?_)
  rw [b_0]
  show bt (((x &&& 65535).toUInt32 >>> ((nI 16).toUInt32 &&& Int32.toUInt32 31)).toInt32) i = false
  rw [b_ushr 16 (by omega), b_and, b_65535, decide_eq_false (by omega), Bool.and_false]
/-- Y: clean -/
theorem yw_clean {f : fy_T} {g : pg_T} {y : yt_T} {post : Int32 → Prop} {cm x : Int32} (hF : pg_F g ≤ 4) (hm : cl_M (pg_F g) cm) (H : post (x &&& cm)) : wpY_clean post (sy_m f g y) x := by
  refine pk_loop (fun k d (r : Int32) => sy_r (wY_clean_4 post x) (sy_m f g y) k r (nI d)) (fun d r => cl_B (pg_F g) d 0 x r) (pg_F g) 0 0 (by omega) cl_B0 ?_ ?_
  · intro k r h
    refine br_t (nI_le (Nat.le_refl _) (by omega)) ?_
    rw [cl_Be hF hm h]
    exact H
  · intro k d r hd h K
    refine br_f (nI_ge hd (by omega)) ?_
    refine pk_loop (fun j e (r : Int32) => sy_r (wY_clean_15 post (sy_r (wY_clean_4 post x) (sy_m f g y) k) x (nI d)) (sy_m f g y) j r (nI e)) (fun e r => cl_B (pg_F g) d e x r) (pg_F g) 0 r (by omega) h ?_ ?_
    · intro j r h
      exact br_t (nI_le (Nat.le_refl _) (by omega)) (nm_r (nI_1 d) (K r (cl_Bn hd hF h)))
    · intro j e r he h K2
      exact br_f (nI_ge he (by omega)) (nm_e (nm_r (nI_1 e) (K2 _ (cl_Bs hF hd he h))))
end TU
end
section
section TV
section
variable {mp mn ml : Nat} {cm so rc tl wc : Int32} {C H K Lk M W PN PF PD K1 Lk1 OC : Nat → Nat} {g : pg_T} {L : Nat} {dn : Nat → Nat} {s : xt_T} {y : yt_T}
/-! distance, facts, transfer -/
def ds_O (so : Int32) (g : pg_T) (s : xt_T) (v1 v2 r : Int32) : Prop := r = -1 ∨ r = -4 ∨ r = -5 ∨ ∃ n d, n < pg_N g ∧ d < pg_F g ∧ v1 = nI n ∧ v2 = nI d ∧ so = 1 ∧ r = nI (xt_A s (4 * n + d)) ∧ xt_A s (4 * n + d) < 66
theorem ds_out (hG : re_G mp mn ml cm g) (hS : re_S so rc g s y) (v1 v2 : Int32) : ∃ r, ds_O so g s v1 v2 r ∧ (∀ post : Int32 → Prop, post r → wpX_distance post (rX mp mn ml cm so rc tl wc C H K Lk M W g L dn s) v1 v2) ∧ (∀ post : Int32 → Prop, post r → wpY_distance post (rY mp mn ml so tl PN PF PD K1 Lk1 OC g y) v1 v2) := by
  have hg := hG.1
  have hN := pg_N16 hg
  have hF := pg_F4 hg
  rcases nx_c v1 (N := pg_N g) (by omega) with h1 | ⟨h1, h2, h3⟩ | ⟨n, hn, rfl⟩
  · exact ⟨-1, Or.inl rfl, fun post h => br_t h1 (br_t rfl h), fun post h => br_t h1 (br_f (by decide) h)⟩
  · exact ⟨-1, Or.inl rfl, fun post h => br_f h1 (br_t h2 (br_t rfl h)), fun post h => br_f h1 (br_f h3 (br_f (by decide) h))⟩
  · have n0 : ¬ nI n < 0 := nI_pos (by omega)
    have nX : ¬ nI (pg_N g) ≤ nI n := nI_ge hn (by omega)
    have nY : nI n < nI (pg_N g) := nI_lt hn (by omega)
    rcases nx_c v2 (N := pg_F g) (by omega) with h1 | ⟨h1, h2, h3⟩ | ⟨d, hd, rfl⟩
    · exact ⟨-1, Or.inl rfl, fun post h => br_f n0 (br_f nX (br_t h1 (br_t rfl h))), fun post h => br_f n0 (br_t nY (br_t rfl (br_t h1 h)))⟩
    · exact ⟨-1, Or.inl rfl, fun post h => br_f n0 (br_f nX (br_f h1 (br_t h2 (br_t rfl h)))), fun post h => br_f n0 (br_t nY (br_t rfl (br_f h1 (br_f h3 h))))⟩
    · have d0 : ¬ nI d < 0 := nI_pos (by omega)
      have dX : ¬ nI (pg_F g) ≤ nI d := nI_ge hd (by omega)
      have dY : nI d < nI (pg_F g) := nI_lt hd (by omega)
      rcases hS with rfl | ⟨rfl, hP, hrc, hE, T, hR⟩
      · exact ⟨-4, Or.inr (Or.inl rfl), fun post h => br_f n0 (br_f nX (br_f d0 (br_f dX (br_f (by decide) (br_t rfl h))))), fun post h => br_f n0 (br_t nY (br_t rfl (br_f d0 (br_t dY (br_t rfl h)))))⟩
      · have eX : ar_N (xt_A s) (4 * nI n + nI d).toNatClampNeg = nI (xt_A s (4 * n + d)) := by rw [ix_al]; exact ar_Nr _ (by omega)
        have iX : vp_in (4 * nI n + nI d) 64 := by rw [ix_al]; exact vp_in_nI (by omega) (by omega)
        have eY : ar_V (yt_A y) (nI n * 4 + nI d).toNatClampNeg = ar_iv (xt_A s (4 * n + d)) := by rw [ix_alr, ar_Vr _ (by omega), hE.2.2 _ (by omega)]
        have iY : vp_in (nI n * 4 + nI d) 64 := by rw [ix_alr]; exact vp_in_nI (by omega) (by omega)
        have hA := (hR.2.2.2.2.2.1 (4 * n + d) (by omega)).1
        by_cases fA : xt_A s (4 * n + d) < 66
        · refine ⟨nI (xt_A s (4 * n + d)), Or.inr (Or.inr (Or.inr ⟨n, d, hn, hd, rfl, rfl, rfl, rfl, fA⟩)), fun post h => br_f n0 (br_f nX (br_f d0 (br_f dX (br_f (by decide) (br_f (by decide) (And.intro iX (nm_r eX (br_f (nI_ge (a := xt_A s (4 * n + d)) (b := 66) fA (by omega)) h)))))))), fun post h => br_f n0 (br_t nY (br_t rfl (br_f d0 (br_t dY (br_f (by decide) (And.intro iY (br_f ?_ (And.intro iY ?_))))))))⟩
          · show ¬ ar_V (yt_A y) (nI n * 4 + nI d).toNatClampNeg = 1000
            rw [eY, iv_eq]; omega
          · show post (ar_V (yt_A y) (nI n * 4 + nI d).toNatClampNeg)
            rw [eY, ar_iv_lt fA]; exact h
        · refine ⟨-5, Or.inr (Or.inr (Or.inl rfl)), fun post h => br_f n0 (br_f nX (br_f d0 (br_f dX (br_f (by decide) (br_f (by decide) (And.intro iX (nm_r eX (br_t (nI_le (a := 66) (b := xt_A s (4 * n + d)) (by omega) (by omega)) h)))))))), fun post h => br_f n0 (br_t nY (br_t rfl (br_f d0 (br_t dY (br_f (by decide) (And.intro iY (br_t ?_ h)))))))⟩
          show ar_V (yt_A y) (nI n * 4 + nI d).toNatClampNeg = 1000
          rw [eY, iv_eq]; omega
theorem fa_out (hg : pg_ok g) (hE : yr_E g (xt_D s) (xt_A s) y) (hA : ∀ j, j < 64 → xt_A s j ≤ 66) {n : Nat} (hn : n < pg_N g) : ∀ (m d : Nat) (b : Int32), d + m = pg_F g → ∃ r, (∀ (post : Int32 → Prop) (k : Nat), m < k → post r → sx_r (wX_factsAt_24 post (nI n)) (rX mp mn ml cm so rc tl wc C H K Lk M W g L dn s) k b (nI d)) ∧ (∀ (post : Int32 → Prop) (k : Nat), m < k → post r → sy_r (wY_factsAt_24 post (nI n)) (rY mp mn ml so tl PN PF PD K1 Lk1 OC g y) k b (nI d)) := by
  have hN := pg_N16 hg
  have hF := pg_F4 hg
  intro m
  induction m with
  | zero =>
    intro d b e
    have : d = pg_F g := by omega
    subst this
    refine ⟨b, fun post k hk h => ?_, fun post k hk h => ?_⟩
    · obtain ⟨k, rfl⟩ : ∃ j, k = j + 1 := ⟨k - 1, by omega⟩
      exact br_t (nI_le (Nat.le_refl _) (by omega)) h
    · obtain ⟨k, rfl⟩ : ∃ j, k = j + 1 := ⟨k - 1, by omega⟩
      exact br_t (nI_le (Nat.le_refl _) (by omega)) h
  | succ m ih =>
    intro d b e
    have eX : ar_N (xt_A s) (4 * nI n + nI d).toNatClampNeg = nI (xt_A s (4 * n + d)) := by rw [ix_al]; exact ar_Nr _ (by omega)
    have iX : vp_in (4 * nI n + nI d) 64 := by rw [ix_al]; exact vp_in_nI (by omega) (by omega)
    have eY : ar_V (yt_A y) (nI n * 4 + nI d).toNatClampNeg = ar_iv (xt_A s (4 * n + d)) := by rw [ix_alr, ar_Vr _ (by omega), hE.2.2 _ (by omega)]
    have iY : vp_in (nI n * 4 + nI d) 64 := by rw [ix_alr]; exact vp_in_nI (by omega) (by omega)
    have h6 := hA (4 * n + d) (by omega)
    have dX : ¬ nI (pg_F g) ≤ nI d := nI_ge (by omega) (by omega)
    by_cases fA : xt_A s (4 * n + d) < 66
    · obtain ⟨r, hX, hY⟩ := ih (d + 1) (b ||| ((1 : Int32) <<< (nI d &&& 31))) (by omega)
      refine ⟨r, fun post k hk h => ?_, fun post k hk h => ?_⟩
      · obtain ⟨k, rfl⟩ : ∃ j, k = j + 1 := ⟨k - 1, by omega⟩
        refine br_f dX (And.intro iX (br_f ?_ (nm_e (nm_r (nI_1 d) (hX post k (by omega) h)))))
        show ¬ 66 ≤ ar_N (xt_A s) (4 * nI n + nI d).toNatClampNeg
        rw [eX]; exact nI_ge (a := xt_A s (4 * n + d)) (b := 66) fA (by omega)
      · obtain ⟨k, rfl⟩ : ∃ j, k = j + 1 := ⟨k - 1, by omega⟩
        refine br_f dX (And.intro iY (br_f ?_ (nm_e (nm_r (nI_1 d) (hY post k (by omega) h)))))
        show ¬ 1000 ≤ ar_V (yt_A y) (nI n * 4 + nI d).toNatClampNeg
        rw [eY, iv_1000 h6]; omega
    · obtain ⟨r, hX, hY⟩ := ih (d + 1) b (by omega)
      refine ⟨r, fun post k hk h => ?_, fun post k hk h => ?_⟩
      · obtain ⟨k, rfl⟩ : ∃ j, k = j + 1 := ⟨k - 1, by omega⟩
        refine br_f dX (And.intro iX (br_t ?_ (nm_r (nI_1 d) (hX post k (by omega) h))))
        show 66 ≤ ar_N (xt_A s) (4 * nI n + nI d).toNatClampNeg
        rw [eX]; exact nI_le (a := 66) (b := xt_A s (4 * n + d)) (by omega) (by omega)
      · obtain ⟨k, rfl⟩ : ∃ j, k = j + 1 := ⟨k - 1, by omega⟩
        refine br_f dX (And.intro iY (br_t ?_ (nm_r (nI_1 d) (hY post k (by omega) h))))
        show 1000 ≤ ar_V (yt_A y) (nI n * 4 + nI d).toNatClampNeg
        rw [eY, iv_1000 h6]; omega
theorem tf_out (hg : pg_ok g) (hE : yr_E g (xt_D s) (xt_A s) y) (hA : ∀ j, j < 288 → xt_D s j ≤ 66) {n a : Nat} (hn : n < pg_N g) (ha : a < 4) : ∀ (m d : Nat) (b : Int32), d + m = pg_F g → ∃ r, (∀ (post : Int32 → Prop) (k : Nat), m < k → post r → sx_r (wX_transfer_53 post (nI n) (nI a)) (rX mp mn ml cm so rc tl wc C H K Lk M W g L dn s) k b (nI d)) ∧ (∀ (post : Int32 → Prop) (k : Nat), m < k → post r → sy_r (wY_transfer_61 post (nI n) (nI a)) (rY mp mn ml so tl PN PF PD K1 Lk1 OC g y) k b (nI d)) := by
  have hN := pg_N16 hg
  have hF := pg_F4 hg
  intro m
  induction m with
  | zero =>
    intro d b e
    have : d = pg_F g := by omega
    subst this
    refine ⟨b, fun post k hk h => ?_, fun post k hk h => ?_⟩
    · obtain ⟨k, rfl⟩ : ∃ j, k = j + 1 := ⟨k - 1, by omega⟩
      exact br_t (nI_le (Nat.le_refl _) (by omega)) h
    · obtain ⟨k, rfl⟩ : ∃ j, k = j + 1 := ⟨k - 1, by omega⟩
      exact br_t (nI_le (Nat.le_refl _) (by omega)) h
  | succ m ih =>
    intro d b e
    have eX : ar_N (xt_D s) (16 * nI n + 4 * nI a + nI d).toNatClampNeg = nI (xt_D s (16 * n + 4 * a + d)) := by rw [ix_lv]; exact ar_Nr _ (by omega)
    have iX : vp_in (16 * nI n + 4 * nI a + nI d) 288 := by rw [ix_lv]; exact vp_in_nI (by omega) (by omega)
    have eY : ar_V (yt_V y) (nI n * 16 + nI a * 4 + nI d).toNatClampNeg = ar_iv (xt_D s (16 * n + 4 * a + d)) := by rw [ix_lvr, ar_Vr _ (by omega), hE.1 _ (by omega)]
    have iY : vp_in (nI n * 16 + nI a * 4 + nI d) 256 := by rw [ix_lvr]; exact vp_in_nI (by omega) (by omega)
    have h6 := hA (16 * n + 4 * a + d) (by omega)
    have dX : ¬ nI (pg_F g) ≤ nI d := nI_ge (by omega) (by omega)
    by_cases fA : xt_D s (16 * n + 4 * a + d) < 66
    · obtain ⟨r, hX, hY⟩ := ih (d + 1) (b ||| ((1 : Int32) <<< (nI d &&& 31))) (by omega)
      refine ⟨r, fun post k hk h => ?_, fun post k hk h => ?_⟩
      · obtain ⟨k, rfl⟩ : ∃ j, k = j + 1 := ⟨k - 1, by omega⟩
        refine br_f dX (And.intro iX (br_f ?_ (nm_e (nm_r (nI_1 d) (hX post k (by omega) h)))))
        show ¬ 66 ≤ ar_N (xt_D s) (16 * nI n + 4 * nI a + nI d).toNatClampNeg
        rw [eX]; exact nI_ge (a := xt_D s (16 * n + 4 * a + d)) (b := 66) fA (by omega)
      · obtain ⟨k, rfl⟩ : ∃ j, k = j + 1 := ⟨k - 1, by omega⟩
        refine br_f dX (And.intro iY (br_f ?_ (nm_e (nm_r (nI_1 d) (hY post k (by omega) h)))))
        show ¬ 1000 ≤ ar_V (yt_V y) (nI n * 16 + nI a * 4 + nI d).toNatClampNeg
        rw [eY, iv_1000 h6]; omega
    · obtain ⟨r, hX, hY⟩ := ih (d + 1) b (by omega)
      refine ⟨r, fun post k hk h => ?_, fun post k hk h => ?_⟩
      · obtain ⟨k, rfl⟩ : ∃ j, k = j + 1 := ⟨k - 1, by omega⟩
        refine br_f dX (And.intro iX (br_t ?_ (nm_r (nI_1 d) (hX post k (by omega) h))))
        show 66 ≤ ar_N (xt_D s) (16 * nI n + 4 * nI a + nI d).toNatClampNeg
        rw [eX]; exact nI_le (a := 66) (b := xt_D s (16 * n + 4 * a + d)) (by omega) (by omega)
      · obtain ⟨k, rfl⟩ : ∃ j, k = j + 1 := ⟨k - 1, by omega⟩
        refine br_f dX (And.intro iY (br_t ?_ (nm_r (nI_1 d) (hY post k (by omega) h))))
        show 1000 ≤ ar_V (yt_V y) (nI n * 16 + nI a * 4 + nI d).toNatClampNeg
        rw [eY, iv_1000 h6]; omega
/-! mates -/
theorem rt_out {len j : Nat} {post : Int32 → Prop} (ht : tr_K len C H K Lk M PN PF PD K1 Lk1) (h1 : 1 ≤ j) (h2 : j ≤ len) (k1 : K j = 1) (Q : post (nI (M j))) : wpY_returnOf post (rY mp mn ml so (nI len) PN PF PD K1 Lk1 OC g y) (nI j) := by
  obtain ⟨hl, hA, hB⟩ := ht
  have ed : ∀ t, t ≤ len → ar_N PD (nI t).toNatClampNeg = nI (H t) := fun t hh => by rw [ar_Nr _ (by omega), (hA t hh).2.2.2.1]
  have hj := hA j h2
  have ij : vp_in (nI j) 65 := vp_in_nI (by omega) (by omega)
  have key : ∀ m t k, j < t → t + m = (if M j = 0 then len + 1 else M j) → m < k → sy_r (wY_returnOf_4 post (nI j)) (rY mp mn ml so (nI len) PN PF PD K1 Lk1 OC g y) k (nI t) := by
    intro m
    induction m with
    | zero =>
      intro t k hjt e hk
      obtain ⟨k, rfl⟩ : ∃ i, k = i + 1 := ⟨k - 1, by omega⟩
      rcases (hB j h1 h2).2.2 with ⟨a, _⟩ | ⟨a, b, c⟩ | ⟨a, b, b2, c, d, _⟩ | ⟨a, _⟩
      · omega
      · rw [if_pos b] at e
        rw [b] at Q
        exact br_t (nI_lt (by omega) (by omega)) Q
      · rw [if_neg (by omega)] at e
        have et : t = M j := by omega
        subst et
        have hm := hA (M j) b2
        refine br_f (nI_nlt (by omega) (by omega)) (And.intro (vp_in_nI (by omega) (by omega)) (And.intro ij (br_f ?_ Q)))
        show ¬ ar_N PD (nI j).toNatClampNeg ≤ ar_N PD (nI (M j)).toNatClampNeg
        rw [ed j h2, ed (M j) b2]
        exact nI_ge c (by omega)
      · omega
    | succ m ih =>
      intro t k hjt e hk
      obtain ⟨k, rfl⟩ : ∃ i, k = i + 1 := ⟨k - 1, by omega⟩
      have next := ih (t + 1) k (by omega) (by omega) (by omega)
      have lt : t ≤ len ∧ H j ≤ H t := by
        rcases (hB j h1 h2).2.2 with ⟨a, _⟩ | ⟨a, b, c⟩ | ⟨a, b, b2, c, d, _⟩ | ⟨a, _⟩
        · omega
        · rw [if_pos b] at e
          exact ⟨by omega, c t hjt (by omega)⟩
        · rw [if_neg (by omega)] at e
          exact ⟨by omega, d t hjt (by omega)⟩
        · omega
      have ht := hA t lt.1
      refine br_f (nI_nlt (by omega) (by omega)) (And.intro (vp_in_nI (by omega) (by omega)) (And.intro ij (br_t ?_ (nm_r (nI_1 t) next))))
      show ar_N PD (nI j).toNatClampNeg ≤ ar_N PD (nI t).toNatClampNeg
      rw [ed j h2, ed t lt.1]
      exact nI_le lt.2 (by omega)
  refine nm_r (nI_1 j) ?_
  have hb : j + 1 ≤ (if M j = 0 then len + 1 else M j) := by
    rcases (hB j h1 h2).2.2 with ⟨a, _⟩ | ⟨a, b, c⟩ | ⟨a, b, b2, c, d, _⟩ | ⟨a, _⟩
    · omega
    · rw [if_pos b]; omega
    · rw [if_neg (by omega)]; omega
    · omega
  exact ⟨(if M j = 0 then len + 1 else M j) - (j + 1) + 1, key ((if M j = 0 then len + 1 else M j) - (j + 1)) (j + 1) _ (by omega) (by omega) (by omega)⟩
theorem mt_out {len i : Nat} {post : Int32 → Prop} (ht : tr_K len C H K Lk M PN PF PD K1 Lk1) (h1 : 1 ≤ i) (h2 : i ≤ len) (k1 : K i ≠ 1) (Q : post (nI (M i))) : ∃ n79, sy_r (wY_traceStep_79 post (nI i)) (rY mp mn ml so (nI len) PN PF PD K1 Lk1 OC g y) n79 (nI 1) := by
  have ht0 := ht
  obtain ⟨hl, hA, hB⟩ := ht
  have ii : vp_in (nI i) 65 := vp_in_nI (by omega) (by omega)
  have ek : ∀ t, 1 ≤ t → t ≤ len → ar_N K1 (nI t).toNatClampNeg = nI (K t) := fun t l1 l2 => by rw [ar_Nr _ (by omega), (hB t l1 l2).1]
  have hi := (hB i h1 h2).2.2
  have key : ∀ m t k, 1 ≤ t → t + m = (if K i = 2 then M i else i) → m < k → sy_r (wY_traceStep_79 post (nI i)) (rY mp mn ml so (nI len) PN PF PD K1 Lk1 OC g y) k (nI t) := by
    intro m
    induction m with
    | zero =>
      intro t k l1 e hk
      obtain ⟨k, rfl⟩ : ∃ j, k = j + 1 := ⟨k - 1, by omega⟩
      by_cases c2 : K i = 2
      · rw [if_pos c2] at e
        rcases hi with ⟨a, _⟩ | ⟨a, _⟩ | ⟨a, _⟩ | ⟨a, b, c, d, f⟩
        · omega
        · omega
        · omega
        · have et : t = M i := by omega
          subst et
          refine br_f (nI_ge c (by omega)) (And.intro ii (br_t ?_ (And.intro (vp_in_nI (by omega) (by omega)) (br_t ?_ (rt_out ht0 b (by omega) d ?_)))))
          · show ar_N K1 (nI i).toNatClampNeg = 2
            rw [ek i h1 h2, a]; rfl
          · show ar_N K1 (nI (M i)).toNatClampNeg = 1
            rw [ek (M i) b (by omega), d]; rfl
          · rw [f]
            exact br_t rfl Q
      · rw [if_neg c2] at e
        have et : t = i := by omega
        subst et
        rcases hi with ⟨a, b⟩ | ⟨a, _⟩ | ⟨a, _⟩ | ⟨a, _⟩
        · rw [b] at Q
          exact br_t (nI_le (Nat.le_refl _) (by omega)) Q
        · omega
        · omega
        · omega
    | succ m ih =>
      intro t k l1 e hk
      obtain ⟨k, rfl⟩ : ∃ j, k = j + 1 := ⟨k - 1, by omega⟩
      have next := ih (t + 1) k (by omega) (by omega) (by omega)
      by_cases c2 : K i = 2
      · rw [if_pos c2] at e
        rcases hi with ⟨a, _⟩ | ⟨a, _⟩ | ⟨a, _⟩ | ⟨a, b, c, d, f⟩
        · omega
        · omega
        · omega
        · refine br_f (nI_ge (by omega) (by omega)) (And.intro ii (br_t ?_ (And.intro (vp_in_nI (by omega) (by omega)) ?_)))
          · show ar_N K1 (nI i).toNatClampNeg = 2
            rw [ek i h1 h2, a]; rfl
          · by_cases ct : K t = 1
            · refine br_t ?_ (rt_out ht0 l1 (by omega) ct (br_f ?_ (nm_r (nI_1 t) next)))
              · show ar_N K1 (nI t).toNatClampNeg = 1
                rw [ek t l1 (by omega), ct]; rfl
              · intro z
                have hMt : M t ≤ len ∧ (M t ≠ 0 → M (M t) = t) := by
                  rcases (hB t l1 (by omega)).2.2 with ⟨q1, _⟩ | ⟨q1, q2, _⟩ | ⟨q1, q2, q3, _, _, _, q4⟩ | ⟨q1, _⟩
                  · omega
                  · exact ⟨by omega, fun z => absurd q2 z⟩
                  · exact ⟨q3, fun _ => q4⟩
                  · omega
                have z2 : M t = i := (nI_eq (by omega) (by omega)).mp z
                have := hMt.2 (by omega)
                rw [z2] at this
                omega
            · refine br_f ?_ (nm_r (nI_1 t) next)
              show ¬ ar_N K1 (nI t).toNatClampNeg = 1
              rw [ek t l1 (by omega)]
              intro z
              have hKt : K t ≤ 2 := by
                rcases (hB t l1 (by omega)).2.2 with ⟨q1, _⟩ | ⟨q1, _⟩ | ⟨q1, _⟩ | ⟨q1, _⟩ <;> omega
              have z2 : K t = 1 := (nI_eq (a := K t) (b := 1) (by omega) (by omega)).mp z
              exact ct z2
      · rw [if_neg c2] at e
        refine br_f (nI_ge (by omega) (by omega)) (And.intro ii (br_f ?_ (nm_r (nI_1 t) next)))
        show ¬ ar_N K1 (nI i).toNatClampNeg = 2
        rw [ek i h1 h2]
        intro z
        have hKi : K i ≤ 2 := by
          rcases hi with ⟨q1, _⟩ | ⟨q1, _⟩ | ⟨q1, _⟩ | ⟨q1, _⟩ <;> omega
        exact c2 ((nI_eq (a := K i) (b := 2) (by omega) (by omega)).mp z)
  have hb : 1 ≤ (if K i = 2 then M i else i) := by
    by_cases c2 : K i = 2
    · rw [if_pos c2]
      rcases hi with ⟨a, _⟩ | ⟨a, _⟩ | ⟨a, _⟩ | ⟨a, b, _⟩ <;> omega
    · rw [if_neg c2]; exact h1
  exact ⟨(if K i = 2 then M i else i) - 1 + 1, key ((if K i = 2 then M i else i) - 1) 1 _ (by omega) (by omega) (by omega)⟩
end
end TV
end
section
section TW
/-! the reading methods -/
theorem i_vc_distance {k : Nat} {u : SX} {v : SY} (I : i_Rel k u v) (hk : k + 5 ≤ 2564) (v1 : Int32) (v2 : Int32) : wpX_distance (fun r => wpY_distance (fun r' => r' = r ∧ i_Rel (k + 5) u v) v v1 v2) u v1 v2 := by
  refine re_el (P := fun u v => wpX_distance (fun r => wpY_distance (fun r' => r' = r ∧ i_Rel (k + 5) u v) v v1 v2) u v1 v2) ?_ I
  intro mp mn ml cm so rc tl wc C H K Lk M W PN PF PD K1 Lk1 OC g L dn s y hG hS hT
  obtain ⟨r, _, hX, hY⟩ := ds_out (mp := mp) (mn := mn) (ml := ml) (tl := tl) (wc := wc) (C := C) (H := H) (K := K) (Lk := Lk) (M := M) (W := W) (PN := PN) (PF := PF) (PD := PD) (K1 := K1) (Lk1 := Lk1) (OC := OC) (L := L) (dn := dn) hG hS v1 v2
  exact hX _ (hY _ ⟨rfl, re_in hG hS hT⟩)
theorem i_vc_factsAt {k : Nat} {u : SX} {v : SY} (I : i_Rel k u v) (hk : k + 5 ≤ 2564) (v1 : Int32) : wpX_factsAt (fun r => wpY_factsAt (fun r' => r' = r ∧ i_Rel (k + 5) u v) v v1) u v1 := by
  refine re_el (P := fun u v => wpX_factsAt (fun r => wpY_factsAt (fun r' => r' = r ∧ i_Rel (k + 5) u v) v v1) u v1) ?_ I
  intro mp mn ml cm so rc tl wc C H K Lk M W PN PF PD K1 Lk1 OC g L dn s y hG hS hT
  have hg := hG.1
  have hN := pg_N16 hg
  have R := re_in (k := k + 5) (wc := wc) (W := W) (OC := OC) (L := L) (dn := dn) hG hS hT
  rcases nx_c v1 (N := pg_N g) (by omega) with h1 | ⟨h1, h2, h3⟩ | ⟨n, hn, rfl⟩
  · exact br_t h1 (br_t rfl (br_t h1 (br_f (by decide) ⟨rfl, R⟩)))
  · exact br_f h1 (br_t h2 (br_t rfl (br_f h1 (br_f h3 (br_f (by decide) ⟨rfl, R⟩)))))
  · have n0 : ¬ nI n < 0 := nI_pos (by omega)
    have nX : ¬ nI (pg_N g) ≤ nI n := nI_ge hn (by omega)
    have nY : nI n < nI (pg_N g) := nI_lt hn (by omega)
    rcases hS with rfl | ⟨rfl, hP, hrc, hE, T, hR⟩
    · exact br_f n0 (br_f nX (br_f (by decide) (br_t rfl (br_f n0 (br_t nY (br_t rfl (br_t rfl ⟨rfl, R⟩)))))))
    · obtain ⟨r, hX, hY⟩ := fa_out (mp := mp) (mn := mn) (ml := ml) (cm := cm) (so := 1) (rc := rc) (tl := tl) (wc := wc) (C := C) (H := H) (K := K) (Lk := Lk) (M := M) (W := W) (PN := PN) (PF := PF) (PD := PD) (K1 := K1) (Lk1 := Lk1) (OC := OC) (L := L) (dn := dn) hg hE (fun j hj => (hR.2.2.2.2.2.1 j hj).1) hn (pg_F g) 0 0 (by omega)
      exact br_f n0 (br_f nX (br_f (by decide) (br_f (by decide) ⟨pg_F g + 1, hX _ _ (by omega) (br_f n0 (br_t nY (br_t rfl (br_f (by decide) ⟨pg_F g + 1, hY _ _ (by omega) ⟨rfl, R⟩⟩))))⟩)))
theorem i_vc_transfer {k : Nat} {u : SX} {v : SY} (I : i_Rel k u v) (hk : k + 5 ≤ 2564) (v1 : Int32) (v2 : Int32) : wpX_transfer (fun r => wpY_transfer (fun r' => r' = r ∧ i_Rel (k + 5) u v) v v1 v2) u v1 v2 := by
  refine re_el (P := fun u v => wpX_transfer (fun r => wpY_transfer (fun r' => r' = r ∧ i_Rel (k + 5) u v) v v1 v2) u v1 v2) ?_ I
  intro mp mn ml cm so rc tl wc C H K Lk M W PN PF PD K1 Lk1 OC g L dn s y hG hS hT
  have hg := hG.1
  have hN := pg_N16 hg
  have hF := pg_F4 hg
  have hP8 := pg_P8 hg
  have R := re_in (k := k + 5) (wc := wc) (W := W) (OC := OC) (L := L) (dn := dn) hG hS hT
  rcases nx_c v1 (N := pg_N g) (by omega) with h1 | ⟨h1, h2, h3⟩ | ⟨n, hn, rfl⟩
  · exact br_t h1 (br_t rfl (br_t h1 (br_f (by decide) ⟨rfl, R⟩)))
  · exact br_f h1 (br_t h2 (br_t rfl (br_f h1 (br_f h3 (br_f (by decide) ⟨rfl, R⟩)))))
  · have n0 : ¬ nI n < 0 := nI_pos (by omega)
    have nX : ¬ nI (pg_N g) ≤ nI n := nI_ge hn (by omega)
    have nY : nI n < nI (pg_N g) := nI_lt hn (by omega)
    rcases nx_c v2 (N := pg_F g) (by omega) with h1 | ⟨h1, h2, h3⟩ | ⟨a, ha, rfl⟩
    · exact br_f n0 (br_f nX (br_t h1 (br_t rfl (br_f n0 (br_t nY (br_t rfl (br_t h1 ⟨rfl, R⟩)))))))
    · exact br_f n0 (br_f nX (br_f h1 (br_t h2 (br_t rfl (br_f n0 (br_t nY (br_t rfl (br_f h1 (br_f h3 ⟨rfl, R⟩)))))))))
    · have d0 : ¬ nI a < 0 := nI_pos (by omega)
      have dX : ¬ nI (pg_F g) ≤ nI a := nI_ge ha (by omega)
      have dY : nI a < nI (pg_F g) := nI_lt ha (by omega)
      rcases hS with rfl | ⟨rfl, hP, hrc, hE, T, hR⟩
      · exact br_f n0 (br_f nX (br_f d0 (br_f dX (br_f (by decide) (br_t rfl (br_f n0 (br_t nY (br_t rfl (br_f d0 (br_t dY (br_t rfl ⟨rfl, R⟩)))))))))))
      · have how := pg_owP hg hn
        have i16 : vp_in (nI n) 16 := vp_in_nI (by omega) (by omega)
        have ei : 256 + 4 * ar_N (pg_ow g) (nI n).toNatClampNeg + nI a = nI (256 + 4 * pg_ow g n + a) := by rw [ar_Nr _ (by omega), ix_op]
        have iX : vp_in (256 + 4 * ar_N (pg_ow g) (nI n).toNatClampNeg + nI a) 288 := by rw [ei]; exact vp_in_nI (by omega) (by omega)
        have eX : ar_N (xt_D s) (256 + 4 * ar_N (pg_ow g) (nI n).toNatClampNeg + nI a).toNatClampNeg = nI (xt_D s (256 + 4 * pg_ow g n + a)) := by rw [ei]; exact ar_Nr _ (by omega)
        have ej : ar_N (pg_ow g) (nI n).toNatClampNeg * 4 + nI a = nI (4 * pg_ow g n + a) := by rw [ar_Nr _ (by omega), ix_alr]
        have iY : vp_in (ar_N (pg_ow g) (nI n).toNatClampNeg * 4 + nI a) 32 := by rw [ej]; exact vp_in_nI (by omega) (by omega)
        have eY : ar_V (yt_O y) (ar_N (pg_ow g) (nI n).toNatClampNeg * 4 + nI a).toNatClampNeg = ar_iv (xt_D s (256 + 4 * pg_ow g n + a)) := by rw [ej, ar_Vr _ (by omega), hE.2.1 _ (by omega), ← Nat.add_assoc]
        have h6 := hR.1 (256 + 4 * pg_ow g n + a) (by omega)
        by_cases fA : xt_D s (256 + 4 * pg_ow g n + a) < 66
        · obtain ⟨r, hX, hY⟩ := tf_out (mp := mp) (mn := mn) (ml := ml) (cm := cm) (so := 1) (rc := rc) (tl := tl) (wc := wc) (C := C) (H := H) (K := K) (Lk := Lk) (M := M) (W := W) (PN := PN) (PF := PF) (PD := PD) (K1 := K1) (Lk1 := Lk1) (OC := OC) (L := L) (dn := dn) hg hE hR.1 hn (a := a) (by omega) (pg_F g) 0 0 (by omega)
          refine br_f n0 (br_f nX (br_f d0 (br_f dX (br_f (by decide) (br_f (by decide) (And.intro i16 (And.intro iX (br_t ?_ ⟨pg_F g + 1, hX _ _ (by omega) (br_f n0 (br_t nY (br_t rfl (br_f d0 (br_t dY (br_f (by decide) (And.intro i16 (And.intro iY (br_f ?_ ⟨pg_F g + 1, hY _ _ (by omega) ⟨rfl, R⟩⟩)))))))))⟩))))))))
          · show ar_N (xt_D s) (256 + 4 * ar_N (pg_ow g) (nI n).toNatClampNeg + nI a).toNatClampNeg < 66
            rw [eX]; exact nI_lt (b := 66) fA (by omega)
          · show ¬ ar_V (yt_O y) (ar_N (pg_ow g) (nI n).toNatClampNeg * 4 + nI a).toNatClampNeg = 1000
            rw [eY, iv_eq]; omega
        · refine br_f n0 (br_f nX (br_f d0 (br_f dX (br_f (by decide) (br_f (by decide) (And.intro i16 (And.intro iX (br_f ?_ (br_f n0 (br_t nY (br_t rfl (br_f d0 (br_t dY (br_f (by decide) (And.intro i16 (And.intro iY (br_t ?_ ⟨rfl, R⟩)))))))))))))))))
          · show ¬ ar_N (xt_D s) (256 + 4 * ar_N (pg_ow g) (nI n).toNatClampNeg + nI a).toNatClampNeg < 66
            rw [eX]; exact nI_nlt (b := 66) (by omega) (by omega)
          · show ar_V (yt_O y) (ar_N (pg_ow g) (nI n).toNatClampNeg * 4 + nI a).toNatClampNeg = 1000
            rw [eY, iv_eq]; omega
theorem i_vc_traceLength {k : Nat} {u : SX} {v : SY} (I : i_Rel k u v) (hk : k + 5 ≤ 2564) : wpX_traceLength (fun r => wpY_traceLength (fun r' => r' = r ∧ i_Rel (k + 5) u v) v) u := by
  refine re_el (P := fun u v => wpX_traceLength (fun r => wpY_traceLength (fun r' => r' = r ∧ i_Rel (k + 5) u v) v) u) ?_ I
  intro mp mn ml cm so rc tl wc C H K Lk M W PN PF PD K1 Lk1 OC g L dn s y hG hS hT
  exact And.intro rfl (re_in hG hS hT)
theorem tl_n5 {n : Nat} (h : n ≤ 64) : ¬ nI n = -5 := yw_n5 (by omega)
theorem i_vc_tracePoint {k : Nat} {u : SX} {v : SY} (I : i_Rel k u v) (hk : k + 5 ≤ 2564) (v1 : Int32) (v2 : Int32) : wpX_tracePoint (fun r => wpY_tracePoint (fun r' => r' = r ∧ i_Rel (k + 5) u v) v v1 v2) u v1 v2 := by
  refine re_el (P := fun u v => wpX_tracePoint (fun r => wpY_tracePoint (fun r' => r' = r ∧ i_Rel (k + 5) u v) v v1 v2) u v1 v2) ?_ I
  intro mp mn ml cm so rc tl wc C H K Lk M W PN PF PD K1 Lk1 OC g L dn s y hG hS hT
  have R := re_in (k := k + 5) (wc := wc) (W := W) (OC := OC) (L := L) (dn := dn) hG hS hT
  rcases hT with rfl | ⟨len, rfl, hl, hA, hB⟩
  · exact br_f (by decide) (br_t rfl ⟨rfl, R⟩)
  · have t0 : 0 ≤ nI len := nI_pos' (by omega)
    have t5 := tl_n5 hl
    by_cases h1 : v1 < 0
    · exact br_t t0 (br_t h1 (br_f t5 (br_t h1 ⟨rfl, R⟩)))
    · obtain ⟨j, hj, rfl⟩ := nI_of h1
      by_cases h2 : len < j
      · have q : nI len < nI j := nI_lt h2 hj
        exact br_t t0 (br_f h1 (br_t q (br_f t5 (br_f h1 (br_t q ⟨rfl, R⟩)))))
      · have q : ¬ nI len < nI j := nI_nlt (by omega) (by omega)
        by_cases h3 : v2 < 0
        · exact br_t t0 (br_f h1 (br_f q (br_t h3 (br_f t5 (br_f h1 (br_f q (br_t h3 ⟨rfl, R⟩)))))))
        · have ij : vp_in (nI j) 65 := vp_in_nI (by omega) (by omega)
          have hp := hA j (by omega)
          have eC : ar_N C (nI j).toNatClampNeg = nI (C j) := ar_Nr _ (by omega)
          have eN : ar_N PN (nI j).toNatClampNeg = nI (C j / 16) := by rw [ar_Nr _ (by omega), hp.2.1]
          have eF : ar_N PF (nI j).toNatClampNeg = nI (C j % 4) := by rw [ar_Nr _ (by omega), hp.2.2.1]
          have eD : ar_N PD (nI j).toNatClampNeg = ar_N H (nI j).toNatClampNeg := by rw [ar_Nr _ (by omega), ar_Nr _ (by omega), hp.2.2.2.1]
          by_cases h4 : v2 ≤ 2
          · by_cases h5 : v2 = 0
            · refine br_t t0 (br_f h1 (br_f q (br_f h3 (br_t h4 (br_t h5 (And.intro ij (br_f t5 (br_f h1 (br_f q (br_f h3 (br_t h4 (br_t h5 (And.intro ij ⟨?_, R⟩)))))))))))))
              show ar_N PN (nI j).toNatClampNeg = ar_N C (nI j).toNatClampNeg >>> ((4 : Int32) &&& 31)
              rw [eN, eC, ct_s4 (by omega)]
            · by_cases h6 : v2 = 1
              · refine br_t t0 (br_f h1 (br_f q (br_f h3 (br_t h4 (br_f h5 (br_t h6 (And.intro ij (br_f t5 (br_f h1 (br_f q (br_f h3 (br_t h4 (br_f h5 (br_t h6 (And.intro ij ⟨?_, R⟩)))))))))))))))
                show ar_N PF (nI j).toNatClampNeg = ar_N C (nI j).toNatClampNeg &&& 3
                rw [eF, eC, ct_3 (by omega)]
              · exact br_t t0 (br_f h1 (br_f q (br_f h3 (br_t h4 (br_f h5 (br_f h6 (And.intro ij (br_f t5 (br_f h1 (br_f q (br_f h3 (br_t h4 (br_f h5 (br_f h6 (And.intro ij ⟨eD, R⟩)))))))))))))))
          · exact br_t t0 (br_f h1 (br_f q (br_f h3 (br_f h4 (br_f t5 (br_f h1 (br_f q (br_f h3 (br_f h4 ⟨rfl, R⟩)))))))))
theorem i_vc_traceStep {k : Nat} {u : SX} {v : SY} (I : i_Rel k u v) (hk : k + 5 ≤ 2564) (v1 : Int32) (v2 : Int32) : wpX_traceStep (fun r => wpY_traceStep (fun r' => r' = r ∧ i_Rel (k + 5) u v) v v1 v2) u v1 v2 := by
  refine re_el (P := fun u v => wpX_traceStep (fun r => wpY_traceStep (fun r' => r' = r ∧ i_Rel (k + 5) u v) v v1 v2) u v1 v2) ?_ I
  intro mp mn ml cm so rc tl wc C H K Lk M W PN PF PD K1 Lk1 OC g L dn s y hG hS hT
  have R := re_in (k := k + 5) (wc := wc) (W := W) (OC := OC) (L := L) (dn := dn) hG hS hT
  rcases hT with rfl | ⟨len, rfl, ht⟩
  · exact br_f (by decide) (br_t rfl ⟨rfl, R⟩)
  · obtain ⟨hl, hA, hB⟩ := id ht
    have t0 : 0 ≤ nI len := nI_pos' (by omega)
    have t5 := tl_n5 hl
    by_cases h1 : v1 < 1
    · exact br_t t0 (br_t h1 (br_f t5 (br_t h1 ⟨rfl, R⟩)))
    · have h0 : ¬ v1 < 0 := fun z => h1 (Int32.lt_trans z (by decide))
      obtain ⟨j, hj, rfl⟩ := nI_of h0
      have j1 : 1 ≤ j := by
        rcases Nat.eq_zero_or_pos j with z | z
        · subst z; exact absurd (by decide) h1
        · exact z
      by_cases h2 : len < j
      · have q : nI len < nI j := nI_lt h2 hj
        exact br_t t0 (br_f h1 (br_t q (br_f t5 (br_f h1 (br_t q ⟨rfl, R⟩)))))
      · have q : ¬ nI len < nI j := nI_nlt (by omega) (by omega)
        by_cases h3 : v2 < 0
        · exact br_t t0 (br_f h1 (br_f q (br_t h3 (br_f t5 (br_f h1 (br_f q (br_t h3 ⟨rfl, R⟩)))))))
        · have ij : vp_in (nI j) 65 := vp_in_nI (by omega) (by omega)
          have hp := hB j j1 (by omega)
          have eK : ar_N K1 (nI j).toNatClampNeg = ar_N K (nI j).toNatClampNeg := by rw [ar_Nr _ (by omega), ar_Nr _ (by omega), hp.1]
          have eL : ar_N Lk1 (nI j).toNatClampNeg = ar_N Lk (nI j).toNatClampNeg := by rw [ar_Nr _ (by omega), ar_Nr _ (by omega), hp.2.1]
          have eM : ar_N M (nI j).toNatClampNeg = nI (M j) := ar_Nr _ (by omega)
          have hK2 : K j ≤ 2 := by
            rcases hp.2.2 with ⟨q1, _⟩ | ⟨q1, _⟩ | ⟨q1, _⟩ | ⟨q1, _⟩ <;> omega
          obtain ⟨e, he, rfl⟩ := nI_of h3
          by_cases h4 : e ≤ 2
          · have h4' : nI e ≤ 2 := nI_le (b := 2) h4 (by omega)
            rcases (show e = 0 ∨ e = 1 ∨ e = 2 by omega) with rfl | rfl | rfl
            · exact br_t t0 (br_f h1 (br_f q (br_f h3 (br_t h4' (br_t rfl (And.intro ij (br_f t5 (br_f h1 (br_f q (br_f h3 (br_t h4' (br_f (by decide) (br_t rfl (And.intro ij ⟨eK, R⟩))))))))))))))
            · exact br_t t0 (br_f h1 (br_f q (br_f h3 (br_t h4' (br_f (by decide) (br_t rfl (And.intro ij (br_f t5 (br_f h1 (br_f q (br_f h3 (br_t h4' (br_f (by decide) (br_f (by decide) (And.intro ij ⟨eL, R⟩)))))))))))))))
            · refine br_t t0 (br_f h1 (br_f q (br_f h3 (br_t h4' (br_f (by decide) (br_f (by decide) (And.intro ij (br_f t5 (br_f h1 (br_f q (br_f h3 (br_t h4' (br_t (by decide) (And.intro ij ?_))))))))))))))
              by_cases c1 : K j = 1
              · refine br_t ?_ (rt_out ht j1 (by omega) c1 ⟨eM.symm, R⟩)
                show ar_N K1 (nI j).toNatClampNeg = 1
                rw [eK, ar_Nr _ (by omega), c1]; rfl
              · refine br_f ?_ (mt_out ht j1 (by omega) c1 ⟨eM.symm, R⟩)
                show ¬ ar_N K1 (nI j).toNatClampNeg = 1
                rw [eK, ar_Nr _ (by omega)]
                intro z
                exact c1 ((nI_eq (a := K j) (b := 1) (by omega) (by omega)).mp z)
          · have h4' : ¬ nI e ≤ 2 := nI_ge (a := 2) (b := e) (by omega) he
            exact br_t t0 (br_f h1 (br_f q (br_f h3 (br_f h4' (br_f t5 (br_f h1 (br_f q (br_f h3 (br_f h4' ⟨rfl, R⟩)))))))))
theorem i_vc_linkField {k : Nat} {u : SX} {v : SY} (I : i_Rel k u v) (hk : k + 5 ≤ 2564) (v1 : Int32) (v2 : Int32) : wpX_linkField (fun r => wpY_linkField (fun r' => r' = r ∧ i_Rel (k + 5) u v) v v1 v2) u v1 v2 := by
  refine re_el (P := fun u v => wpX_linkField (fun r => wpY_linkField (fun r' => r' = r ∧ i_Rel (k + 5) u v) v v1 v2) u v1 v2) ?_ I
  intro mp mn ml cm so rc tl wc C H K Lk M W PN PF PD K1 Lk1 OC g L dn s y hG hS hT
  have hg := hG.1
  have hL := pg_L24 hg
  have R := re_in (k := k + 5) (wc := wc) (W := W) (OC := OC) (L := L) (dn := dn) hG hS hT
  rcases nx_c v1 (N := pg_L g) (by omega) with h1 | ⟨h1, h2, h3⟩ | ⟨j, hj, rfl⟩
  · exact br_t h1 (br_t h1 ⟨rfl, R⟩)
  · exact br_f h1 (br_t h2 (br_f h1 (br_t h2 ⟨rfl, R⟩)))
  · have n0 : ¬ nI j < 0 := nI_pos (by omega)
    have nX : ¬ nI (pg_L g) ≤ nI j := nI_ge hj (by omega)
    have ij : vp_in (nI j) 24 := vp_in_nI (by omega) (by omega)
    by_cases h3 : v2 < 0
    · exact br_f n0 (br_f nX (br_t h3 (br_f n0 (br_f nX (br_t h3 ⟨rfl, R⟩)))))
    · obtain ⟨e, he, rfl⟩ := nI_of h3
      by_cases h4 : e ≤ 5
      · have h4' : nI e ≤ 5 := nI_le (b := 5) h4 (by omega)
        rcases (show e = 0 ∨ e = 1 ∨ e = 2 ∨ e = 3 ∨ e = 4 ∨ e = 5 by omega) with rfl | rfl | rfl | rfl | rfl | rfl
        · refine br_f n0 (br_f nX (br_f h3 (br_t h4' (br_f h3 (br_f (by decide) (br_t rfl (And.intro ij (br_f n0 (br_f nX (br_f h3 (br_t h4' (br_t rfl (And.intro ij ?_)))))))))))))
          rcases pg_kd2 hg hj with k0 | k1
          · refine br_t (yw_ca0 hg hj k0) ⟨?_, R⟩
            show (0 : Int32) = ar_N (pg_kd g) (nI j).toNatClampNeg
            rw [ar_Nr _ (by omega), k0]; rfl
          · refine br_f ?_ ⟨?_, R⟩
            · show ¬ ar_C (pg_ca g) (nI j).toNatClampNeg = -5
              have hP := pg_P8 hg
              have hcl := (pg_clP hg hj k1).1
              rw [yw_ca1 hg hj k1]; exact yw_n5 (by omega)
            · show (1 : Int32) = ar_N (pg_kd g) (nI j).toNatClampNeg
              rw [ar_Nr _ (by omega), k1]; rfl
        · exact br_f n0 (br_f nX (br_f h3 (br_t h4' (br_f h3 (br_f (by decide) (br_f (by decide) (br_t rfl (And.intro ij (br_f n0 (br_f nX (br_f h3 (br_t h4' (br_f (by decide) (br_f (by decide) (br_t rfl (And.intro ij ⟨rfl, R⟩))))))))))))))))
        · exact br_f n0 (br_f nX (br_f h3 (br_t h4' (br_f h3 (br_f (by decide) (br_f (by decide) (br_f (by decide) (br_t rfl (And.intro ij (br_f n0 (br_f nX (br_f h3 (br_t h4' (br_f (by decide) (br_f (by decide) (br_f (by decide) (And.intro ij ⟨rfl, R⟩)))))))))))))))))
        · exact br_f n0 (br_f nX (br_f h3 (br_t h4' (br_f h3 (br_f (by decide) (br_f (by decide) (br_f (by decide) (br_f (by decide) (br_t rfl (And.intro ij (br_f n0 (br_f nX (br_f h3 (br_t h4' (br_f (by decide) (br_t (by decide) (br_t rfl (And.intro ij ⟨rfl, R⟩))))))))))))))))))
        · exact br_f n0 (br_f nX (br_f h3 (br_t h4' (br_f h3 (br_f (by decide) (br_f (by decide) (br_f (by decide) (br_f (by decide) (br_f (by decide) (br_t rfl (And.intro ij (br_f n0 (br_f nX (br_f h3 (br_t h4' (br_f (by decide) (br_t (by decide) (br_f (by decide) (br_t rfl (And.intro ij ⟨rfl, R⟩))))))))))))))))))))
        · exact br_f n0 (br_f nX (br_f h3 (br_t h4' (br_f h3 (br_t (by decide) (And.intro ij (br_f n0 (br_f nX (br_f h3 (br_t h4' (br_f (by decide) (br_t (by decide) (br_f (by decide) (br_f (by decide) (And.intro ij ⟨rfl, R⟩)))))))))))))))
      · have h4' : ¬ nI e ≤ 5 := nI_ge (a := 5) (b := e) (by omega) he
        exact br_f n0 (br_f nX (br_f h3 (br_f h4' (br_f n0 (br_f nX (br_f h3 (br_f h4' ⟨rfl, R⟩)))))))
theorem i_vc_procField {k : Nat} {u : SX} {v : SY} (I : i_Rel k u v) (hk : k + 5 ≤ 2564) (v1 : Int32) (v2 : Int32) : wpX_procField (fun r => wpY_procField (fun r' => r' = r ∧ i_Rel (k + 5) u v) v v1 v2) u v1 v2 := by
  refine re_el (P := fun u v => wpX_procField (fun r => wpY_procField (fun r' => r' = r ∧ i_Rel (k + 5) u v) v v1 v2) u v1 v2) ?_ I
  intro mp mn ml cm so rc tl wc C H K Lk M W PN PF PD K1 Lk1 OC g L dn s y hG hS hT
  have hg := hG.1
  have hP := pg_P8 hg
  have R := re_in (k := k + 5) (wc := wc) (W := W) (OC := OC) (L := L) (dn := dn) hG hS hT
  rcases nx_c v1 (N := pg_P g) (by omega) with h1 | ⟨h1, h2, h3⟩ | ⟨j, hj, rfl⟩
  · exact br_t h1 (br_t h1 ⟨rfl, R⟩)
  · exact br_f h1 (br_t h2 (br_f h1 (br_t h2 ⟨rfl, R⟩)))
  · have n0 : ¬ nI j < 0 := nI_pos (by omega)
    have nX : ¬ nI (pg_P g) ≤ nI j := nI_ge hj (by omega)
    have ij : vp_in (nI j) 8 := vp_in_nI (by omega) (by omega)
    by_cases h3 : v2 < 0
    · exact br_f n0 (br_f nX (br_t h3 (br_f n0 (br_f nX (br_t h3 ⟨rfl, R⟩)))))
    · by_cases h4 : v2 ≤ 1
      · by_cases h5 : v2 = 0
        · exact br_f n0 (br_f nX (br_f h3 (br_t h4 (br_t h5 (And.intro ij (br_f n0 (br_f nX (br_f h3 (br_t h4 (br_t h5 (And.intro ij ⟨rfl, R⟩)))))))))))
        · exact br_f n0 (br_f nX (br_f h3 (br_t h4 (br_f h5 (And.intro ij (br_f n0 (br_f nX (br_f h3 (br_t h4 (br_f h5 (And.intro ij ⟨rfl, R⟩)))))))))))
      · exact br_f n0 (br_f nX (br_f h3 (br_f h4 (br_f n0 (br_f nX (br_f h3 (br_f h4 ⟨rfl, R⟩)))))))
end TW
end
section
section TX
/-! building -/
def pg_mk (F P N L : Nat) (en ex ow kd sr tg ca pa ba : Nat → Nat) : pg_T := ((F, P, N, L), en, ex, ow, kd, sr, tg, ca, pa, ba)
section
variable {F P N L : Nat} {en ex ow kd sr tg ca pa ba : Nat → Nat}
theorem mk_F : pg_F (pg_mk F P N L en ex ow kd sr tg ca pa ba) = F := rfl
theorem mk_P : pg_P (pg_mk F P N L en ex ow kd sr tg ca pa ba) = P := rfl
theorem mk_N : pg_N (pg_mk F P N L en ex ow kd sr tg ca pa ba) = N := rfl
theorem mk_L : pg_L (pg_mk F P N L en ex ow kd sr tg ca pa ba) = L := rfl
theorem mk_en : pg_en (pg_mk F P N L en ex ow kd sr tg ca pa ba) = en := rfl
theorem mk_ex : pg_ex (pg_mk F P N L en ex ow kd sr tg ca pa ba) = ex := rfl
theorem mk_ow : pg_ow (pg_mk F P N L en ex ow kd sr tg ca pa ba) = ow := rfl
theorem mk_kd : pg_kd (pg_mk F P N L en ex ow kd sr tg ca pa ba) = kd := rfl
theorem mk_sr : pg_sr (pg_mk F P N L en ex ow kd sr tg ca pa ba) = sr := rfl
theorem mk_tg : pg_tg (pg_mk F P N L en ex ow kd sr tg ca pa ba) = tg := rfl
theorem mk_ca : pg_ca (pg_mk F P N L en ex ow kd sr tg ca pa ba) = ca := rfl
theorem mk_pa : pg_pa (pg_mk F P N L en ex ow kd sr tg ca pa ba) = pa := rfl
theorem mk_ba : pg_ba (pg_mk F P N L en ex ow kd sr tg ca pa ba) = ba := rfl
theorem mk_cl (k : Nat) : pg_cl (pg_mk F P N L en ex ow kd sr tg ca pa ba) k = ca k - 1 := rfl
end
def ow_f (ow : Nat → Nat) (p n0 : Nat) : Nat → (Nat → Nat)
  | 0 => ow
  | m + 1 => ar_u (ow_f ow p n0 m) (n0 + m) p
theorem ow_lo {ow : Nat → Nat} {p n0 : Nat} : ∀ m j, j < n0 → ow_f ow p n0 m j = ow j := by
  intro m
  induction m with
  | zero => intro j _; rfl
  | succ m ih =>
    intro j hj
    show ar_u (ow_f ow p n0 m) (n0 + m) p j = ow j
    rw [ar_un (by omega)]; exact ih j hj
theorem ow_in {ow : Nat → Nat} {p n0 : Nat} : ∀ m j, n0 ≤ j → j < n0 + m → ow_f ow p n0 m j = p := by
  intro m
  induction m with
  | zero => intro j h1 h2; omega
  | succ m ih =>
    intro j h1 h2
    show ar_u (ow_f ow p n0 m) (n0 + m) p j = p
    by_cases e : j = n0 + m
    · rw [e, ar_us]
    · rw [ar_un e]; exact ih j h1 (by omega)
section
variable {mp mn ml : Nat} {cm so rc tl wc : Int32} {C H K Lk M W PN PF PD K1 Lk1 OC : Nat → Nat} {g : pg_T} {L : Nat} {dn : Nat → Nat} {s : xt_T} {y : yt_T}
theorem ap_X {post : Int32 → SX → Prop} {en ex : Nat → Nat} {sz : Nat} (hs : pg_N g + sz ≤ 16) (Q : post (nI (pg_P g)) (rX mp mn ml cm 0 rc (-5) wc C H K Lk M W (pg_mk (pg_F g) (pg_P g + 1) (pg_N g + sz) (pg_L g) en ex (ow_f (pg_ow g) (pg_P g) (pg_N g) sz) (pg_kd g) (pg_sr g) (pg_tg g) (pg_ca g) (pg_pa g) (pg_ba g)) L dn s)) :
    ∃ n71, wX_addProc_71 post (nI (pg_P g)) (nI (pg_N g + sz)) 66 256 288 (nI mp) (nI mn) (nI ml) (nI (pg_F g)) cm (nI (pg_P g)) (nI (pg_N g)) (nI (pg_L g)) so rc (nI L) tl wc n71 (nI (pg_N g)) (ar_N en) (ar_N ex) (ar_N (pg_ow g)) (ar_N (pg_kd g)) (ar_N (pg_sr g)) (ar_N (pg_tg g)) (ar_C (pg_ca g)) (ar_N (pg_pa g)) (ar_N (pg_ba g)) (ar_N (xt_D s)) (ar_N (xt_O s)) (ar_N dn) (ar_N (xt_A s)) (ar_N (xt_B s)) (ar_O (xt_h s)) (ar_O (xt_n s)) (ar_O (xt_p s)) (ar_N C) (ar_N H) (ar_N K) (ar_N Lk) (ar_N M) (ar_N W) := by
  refine pk_loop (fun k i (_ : Unit) => wX_addProc_71 post (nI (pg_P g)) (nI (pg_N g + sz)) 66 256 288 (nI mp) (nI mn) (nI ml) (nI (pg_F g)) cm (nI (pg_P g)) (nI (pg_N g)) (nI (pg_L g)) so rc (nI L) tl wc k (nI (pg_N g + i)) (ar_N en) (ar_N ex) (ar_N (ow_f (pg_ow g) (pg_P g) (pg_N g) i)) (ar_N (pg_kd g)) (ar_N (pg_sr g)) (ar_N (pg_tg g)) (ar_C (pg_ca g)) (ar_N (pg_pa g)) (ar_N (pg_ba g)) (ar_N (xt_D s)) (ar_N (xt_O s)) (ar_N dn) (ar_N (xt_A s)) (ar_N (xt_B s)) (ar_O (xt_h s)) (ar_O (xt_n s)) (ar_O (xt_p s)) (ar_N C) (ar_N H) (ar_N K) (ar_N Lk) (ar_N M) (ar_N W)) (fun _ _ => True) sz 0 () (by omega) trivial ?_ ?_
  · intro k _ _
    exact br_t (nI_le (Nat.le_refl _) (by omega)) (nm_r (nI_1 (pg_P g)) Q)
  · intro k i _ hi _ K
    refine br_f (nI_ge (by omega) (by omega)) (And.intro (vp_in_nI (by omega) (by omega)) (nm_r (e' := ar_N (ow_f (pg_ow g) (pg_P g) (pg_N g) (i + 1))) ?_ (nm_r (nI_1 _) (K () trivial))))
    rw [nI_clamp (by omega)]
    exact ar_Nu _ _ _
theorem ap_Y {post : Int32 → SY → Prop} {en ex : Nat → Nat} {sz : Nat} (hs : pg_N g + sz ≤ 16) (Q : post (nI (pg_P g)) (rY mp mn ml 0 (-5) PN PF PD K1 Lk1 OC (pg_mk (pg_F g) (pg_P g + 1) (pg_N g + sz) (pg_L g) en ex (ow_f (pg_ow g) (pg_P g) (pg_N g) sz) (pg_kd g) (pg_sr g) (pg_tg g) (pg_ca g) (pg_pa g) (pg_ba g)) y)) :
    ∃ n69, wY_addProc_69 post (nI sz) (nI mp) (nI mn) (nI (pg_F g)) (nI ml) (nI (pg_P g)) (nI (pg_N g)) (nI (pg_L g)) so tl n69 (nI (pg_N g)) (ar_N en) (ar_N ex) (ar_N (pg_ow g)) (ar_N (pg_sr g)) (ar_N (pg_tg g)) (ar_C (pg_ca g)) (ar_N (pg_pa g)) (ar_N (pg_ba g)) (ar_V (yt_V y)) (ar_V (yt_O y)) (ar_V (yt_A y)) (ar_N PN) (ar_N PF) (ar_N PD) (ar_N K1) (ar_N Lk1) (ar_N OC) := by
  refine pk_loop (fun k i (_ : Unit) => wY_addProc_69 post (nI sz) (nI mp) (nI mn) (nI (pg_F g)) (nI ml) (nI (pg_P g)) (nI (pg_N g)) (nI (pg_L g)) so tl k (nI (pg_N g + i)) (ar_N en) (ar_N ex) (ar_N (ow_f (pg_ow g) (pg_P g) (pg_N g) i)) (ar_N (pg_sr g)) (ar_N (pg_tg g)) (ar_C (pg_ca g)) (ar_N (pg_pa g)) (ar_N (pg_ba g)) (ar_V (yt_V y)) (ar_V (yt_O y)) (ar_V (yt_A y)) (ar_N PN) (ar_N PF) (ar_N PD) (ar_N K1) (ar_N Lk1) (ar_N OC)) (fun _ _ => True) sz 0 () (by omega) trivial ?_ ?_
  · intro k _ _
    exact br_t (by rw [nI_add]; exact nI_le (Nat.le_refl _) (by omega)) (nm_r (nI_add _ _) (nm_r (nI_1 (pg_P g)) Q))
  · intro k i _ hi _ K
    refine br_f (by rw [nI_add]; exact nI_ge (by omega) (by omega)) (And.intro (vp_in_nI (by omega) (by omega)) (nm_r (e' := ar_N (ow_f (pg_ow g) (pg_P g) (pg_N g) (i + 1))) ?_ (nm_r (nI_1 _) (K () trivial))))
    rw [nI_clamp (by omega)]
    exact ar_Nu _ _ _
theorem ap_G {sz : Nat} (hG : re_G mp mn ml cm g) (hP : pg_P g < mp) (h1 : 1 ≤ sz) (h2 : pg_N g + sz ≤ mn) : re_G mp mn ml cm (pg_mk (pg_F g) (pg_P g + 1) (pg_N g + sz) (pg_L g) (ar_u (pg_en g) (pg_P g) (pg_N g)) (ar_u (pg_ex g) (pg_P g) (pg_N g + sz - 1)) (ow_f (pg_ow g) (pg_P g) (pg_N g) sz) (pg_kd g) (pg_sr g) (pg_tg g) (pg_ca g) (pg_pa g) (pg_ba g)) := by
  obtain ⟨hg, hsm, g1, g2, g3, g4⟩ := hG
  refine ⟨⟨⟨hg.1.1, hg.1.2.1, ?_, ?_, hg.1.2.2.2.2⟩, ?_, ?_, ?_⟩, ?_, ⟨?_, g1.2⟩, ⟨?_, g2.2⟩, g3, g4⟩
  · show pg_P g + 1 ≤ 8
    omega
  · show pg_N g + sz ≤ 16
    omega
  · simp only [mk_P, mk_N, mk_en, mk_ex, mk_ow]
    intro p hp
    by_cases e : p = pg_P g
    · subst e
      rw [ar_us, ar_us]
      exact ⟨by omega, by omega, fun n q1 q2 => ow_in sz n q1 (by omega)⟩
    · rw [ar_un e, ar_un e]
      have hp' : p < pg_P g := by omega
      have := pg_exN hg hp'
      exact ⟨pg_enex hg hp', by omega, fun n q1 q2 => by rw [ow_lo sz n (by omega)]; exact pg_ow1 hg hp' q1 q2⟩
  · simp only [mk_P, mk_N, mk_en, mk_ex, mk_ow]
    intro n hn
    by_cases e : n < pg_N g
    · rw [ow_lo sz n e]
      have ho := pg_owP hg e
      have hi := pg_owI hg e
      rw [ar_un (by omega), ar_un (by omega)]
      exact ⟨by omega, hi⟩
    · rw [ow_in sz n (by omega) (by omega), ar_us, ar_us]
      omega
  · simp only [mk_L, mk_N, mk_P, mk_sr, mk_tg, mk_pa, mk_ba, mk_kd, mk_ca, mk_cl]
    intro k hk
    obtain ⟨q1, q2, q3, q4, q5⟩ := hg.2.2.2 k hk
    refine ⟨by omega, by omega, q3, q4, ?_⟩
    rcases q5 with q5 | ⟨q5, q6, q7⟩
    · exact Or.inl q5
    · unfold pg_cl at q6 q7
      exact Or.inr ⟨q5, by omega, q7⟩
  · intro k hk
    simp only [mk_sr, mk_tg, mk_ow]
    have q := hg.2.2.2 k hk
    rw [ow_lo sz _ q.1, ow_lo sz _ q.2.1]
    exact hsm k hk
  · show pg_P g + 1 ≤ mp
    omega
  · show pg_N g + sz ≤ mn
    omega
end
theorem i_vc_addProc {k : Nat} {u : SX} {v : SY} (I : i_Rel k u v) (hk : k + 5 ≤ 2564) (v1 : Int32) : wpX_addProc (fun r u' => wpY_addProc (fun r' v' => r' = r ∧ i_Rel (k + 5) u' v') v v1) u v1 := by
  refine re_el (P := fun u v => wpX_addProc (fun r u' => wpY_addProc (fun r' v' => r' = r ∧ i_Rel (k + 5) u' v') v v1) u v1) ?_ I
  intro mp mn ml cm so rc tl wc C H K Lk M W PN PF PD K1 Lk1 OC g L dn s y hG hS hT
  have R := re_in (k := k + 5) (wc := wc) (W := W) (OC := OC) (L := L) (dn := dn) hG hS hT
  have hb := hG.2.2
  by_cases h1 : 1 ≤ v1
  · have h0 : ¬ v1 < 0 := fun z => by
      rw [Int32.lt_iff_toInt_lt] at z
      rw [Int32.le_iff_toInt_le] at h1
      have e1 : (1 : Int32).toInt = 1 := by decide
      have e0 : (0 : Int32).toInt = 0 := by decide
      omega
    obtain ⟨sz, hsz, rfl⟩ := nI_of h0
    have hs1 : 1 ≤ sz := by
      rcases Nat.eq_zero_or_pos sz with z | z
      · subst z; exact absurd h1 (by decide)
      · exact z
    by_cases h2 : mp ≤ pg_P g
    · have : pg_P g = mp := by omega
      exact br_t h1 (br_t (nI_le h2 (by omega)) (br_t h1 (br_t (congrArg nI this) ⟨rfl, R⟩)))
    · have es : nI mn - nI (pg_N g) = nI (mn - pg_N g) := pk_sub hb.2.1.1
      have n1 : ¬ nI mp ≤ nI (pg_P g) := nI_ge (by omega) (by omega)
      have n2 : ¬ nI (pg_P g) = nI mp := fun z => by
        have := (nI_eq (by omega) (by omega)).mp z
        omega
      by_cases h3 : sz ≤ mn - pg_N g
      · have c1 : nI sz ≤ nI mn - nI (pg_N g) := by rw [es]; exact nI_le h3 (by omega)
        have i8 : vp_in (nI (pg_P g)) 8 := vp_in_nI (by omega) (by omega)
        have e3 : nI (pg_N g) + nI sz = nI (pg_N g + sz) := nI_add _ _
        have e4 : nI (pg_N g + sz) - 1 = nI (pg_N g + sz - 1) := pk_sub (b := 1) (by omega)
        refine br_t h1 (br_f n1 (br_t c1 (nm_r e3 (And.intro i8 (nm_r (e' := ar_N (ar_u (pg_en g) (pg_P g) (pg_N g))) (by rw [nI_clamp (by omega)]; exact ar_Nu _ _ _) (And.intro i8 (nm_r (e' := ar_N (ar_u (pg_ex g) (pg_P g) (pg_N g + sz - 1))) (by rw [nI_clamp (by omega), e4]; exact ar_Nu _ _ _) (ap_X (by omega) ?_))))))))
        refine br_t h1 (br_f n2 (br_t c1 (And.intro i8 (nm_r (e' := ar_N (ar_u (pg_en g) (pg_P g) (pg_N g))) (by rw [nI_clamp (by omega)]; exact ar_Nu _ _ _) (And.intro i8 (nm_r (e' := ar_N (ar_u (pg_ex g) (pg_P g) (pg_N g + sz - 1))) (by rw [nI_clamp (by omega), e3, e4]; exact ar_Nu _ _ _) (ap_Y (by omega) ⟨rfl, ?_⟩)))))))
        exact re_in (ap_G hG (by omega) hs1 (by omega)) (Or.inl rfl) (Or.inl rfl)
      · have c1 : ¬ nI sz ≤ nI mn - nI (pg_N g) := by rw [es]; exact nI_ge (by omega) hsz
        exact br_t h1 (br_f n1 (br_f c1 (br_t h1 (br_f n2 (br_f c1 ⟨rfl, R⟩)))))
  · exact br_f h1 (br_f h1 ⟨rfl, R⟩)
end TX
end
section
section S24
/-! links -/
section
variable {mp mn ml : Nat} {cm so rc tl wc : Int32} {C H K Lk M W PN PF PD K1 Lk1 OC : Nat → Nat} {g : pg_T} {L : Nat} {dn : Nat → Nat} {s : xt_T} {y : yt_T}
def lk_g (g : pg_T) (κ n1 n2 cc pm bm : Nat) : pg_T := pg_mk (pg_F g) (pg_P g) (pg_N g) (pg_L g + 1) (pg_en g) (pg_ex g) (pg_ow g) (ar_u (pg_kd g) (pg_L g) κ) (ar_u (pg_sr g) (pg_L g) n1) (ar_u (pg_tg g) (pg_L g) n2) (ar_u (pg_ca g) (pg_L g) cc) (ar_u (pg_pa g) (pg_L g) pm) (ar_u (pg_ba g) (pg_L g) bm)
theorem lk_G {κ n1 n2 cc pm bm : Nat} (hG : re_G mp mn ml cm g) (hL : pg_L g < ml) (h1 : n1 < pg_N g) (h2 : n2 < pg_N g) (ho : pg_ow g n1 = pg_ow g n2) (hp : pm < 65536) (hb : bm < 65536) (hc : (κ = 0 ∧ cc = 0) ∨ (κ = 1 ∧ ∃ p, p < pg_P g ∧ cc = p + 1)) : re_G mp mn ml cm (lk_g g κ n1 n2 cc pm bm) := by
  obtain ⟨hg, hsm, g1, g2, g3, g4⟩ := hG
  unfold lk_g
  refine ⟨⟨⟨hg.1.1, hg.1.2.1, hg.1.2.2.1, hg.1.2.2.2.1, ?_⟩, hg.2.1, hg.2.2.1, ?_⟩, ?_, g1, g2, ⟨?_, g3.2⟩, g4⟩
  · show pg_L g + 1 ≤ 24
    omega
  · simp only [mk_L, mk_N, mk_P, mk_sr, mk_tg, mk_pa, mk_ba, mk_kd, mk_ca, mk_cl]
    intro k hk
    by_cases e : k = pg_L g
    · subst e
      rw [ar_us, ar_us, ar_us, ar_us, ar_us, ar_us]
      refine ⟨h1, h2, hp, hb, ?_⟩
      rcases hc with hc | ⟨hc, p, hp1, hp2⟩
      · exact Or.inl hc
      · exact Or.inr ⟨hc, by omega, by omega⟩
    · rw [ar_un e, ar_un e, ar_un e, ar_un e, ar_un e, ar_un e]
      exact hg.2.2.2 k (by omega)
  · intro k hk
    simp only [mk_L] at hk
    simp only [mk_sr, mk_tg, mk_ow]
    by_cases e : k = pg_L g
    · subst e
      rw [ar_us, ar_us]; exact ho
    · rw [ar_un e, ar_un e]; exact hsm k (by omega)
  · show pg_L g + 1 ≤ ml
    omega
theorem lk_put {post : Int32 → SX → Prop} {κ n1 n2 cc pm bm : Nat} {x1 x2 x3 x4 x5 x6 : Int32} (e1 : x1 = nI κ) (e2 : x2 = nI n1) (e3 : x3 = nI n2) (e4 : x4 = ar_cv cc) (e5 : x5 = nI pm) (e6 : x6 = nI bm) (hL : pg_L g < 24) (Q : post (nI (pg_L g)) (rX mp mn ml cm 0 rc (-5) wc C H K Lk M W (lk_g g κ n1 n2 cc pm bm) L dn s)) :
    wpX_putLink post (rX mp mn ml cm so rc tl wc C H K Lk M W g L dn s) x1 x2 x3 x4 x5 x6 := by
  subst e1 e2 e3 e4 e5 e6
  have i24 : vp_in (nI (pg_L g)) 24 := vp_in_nI hL (by omega)
  refine And.intro i24 (nm_r (e' := ar_N (ar_u (pg_kd g) (pg_L g) κ)) ?_ (And.intro i24 (nm_r (e' := ar_N (ar_u (pg_sr g) (pg_L g) n1)) ?_ (And.intro i24 (nm_r (e' := ar_N (ar_u (pg_tg g) (pg_L g) n2)) ?_ (And.intro i24 (nm_r (e' := ar_C (ar_u (pg_ca g) (pg_L g) cc)) ?_ (And.intro i24 (nm_r (e' := ar_N (ar_u (pg_pa g) (pg_L g) pm)) ?_ (And.intro i24 (nm_r (e' := ar_N (ar_u (pg_ba g) (pg_L g) bm)) ?_ (nm_r (nI_1 (pg_L g)) Q))))))))))))
  · rw [nI_clamp (by omega)]; exact ar_Nu _ _ _
  · rw [nI_clamp (by omega)]; exact ar_Nu _ _ _
  · rw [nI_clamp (by omega)]; exact ar_Nu _ _ _
  · rw [nI_clamp (by omega)]; exact ar_Cu _ _ _
  · rw [nI_clamp (by omega)]; exact ar_Nu _ _ _
  · rw [nI_clamp (by omega)]; exact ar_Nu _ _ _
theorem lk_out {k κ cc pm bm : Nat} {x : Int32} (hG : re_G mp mn ml cm g) (hS : re_S so rc g s y) (hT : re_T tl C H K Lk M PN PF PD K1 Lk1) (hp : pm < 65536) (hb : bm < 65536) (hc : (κ = 0 ∧ cc = 0) ∨ (κ = 1 ∧ ∃ p, p < pg_P g ∧ cc = p + 1))
    (ep : x &&& cm = nI pm) (eb : (x.toUInt32 >>> ((16 : Int32).toUInt32 &&& Int32.toUInt32 31)).toInt32 &&& cm = nI bm) (v1 v2 : Int32) :
    ∃ r u' v', i_Rel (k + 5) u' v' ∧ (∀ p1 p2 : Int32 → SX → Prop, p1 r u' → p2 r u' → wpX_checkLink (fun r => (0 ≤ r → wpX_putLink p1 (rX mp mn ml cm so rc tl wc C H K Lk M W g L dn s) (nI κ) v1 v2 (ar_cv cc) (nI pm) (nI bm)) ∧ (¬ 0 ≤ r → p2 r (rX mp mn ml cm so rc tl wc C H K Lk M W g L dn s))) (rX mp mn ml cm so rc tl wc C H K Lk M W g L dn s) v1 v2 1) ∧
      (∀ post : Int32 → SY → Prop, post r v' → wpY_addLink post (rY mp mn ml so tl PN PF PD K1 Lk1 OC g y) v1 v2 (ar_cv cc) x) := by
  have hg := hG.1
  have hN := pg_N16 hg
  have hP := pg_P8 hg
  have hF := pg_F4 hg
  have hlb := hG.2.2.2.2.1
  have R := re_in (k := k + 5) (wc := wc) (W := W) (OC := OC) (L := L) (dn := dn) hG hS hT
  rcases nx_c v1 (N := pg_N g) (by omega) with h1 | ⟨h1, h2, h3⟩ | ⟨n1, hn1, rfl⟩
  · exact ⟨-1, _, _, R, fun p1 p2 q1 q2 => br_t h1 (br_t rfl (br_f (by decide) q2)), fun post q => br_t h1 (br_f (by decide) q)⟩
  · exact ⟨-1, _, _, R, fun p1 p2 q1 q2 => br_f h1 (br_t h2 (br_t rfl (br_f (by decide) q2))), fun post q => br_f h1 (br_f h3 (br_f (by decide) q))⟩
  · have a0 : ¬ nI n1 < 0 := nI_pos (by omega)
    have aX : ¬ nI (pg_N g) ≤ nI n1 := nI_ge hn1 (by omega)
    have aY : nI n1 < nI (pg_N g) := nI_lt hn1 (by omega)
    rcases nx_c v2 (N := pg_N g) (by omega) with h1 | ⟨h1, h2, h3⟩ | ⟨n2, hn2, rfl⟩
    · exact ⟨-1, _, _, R, fun p1 p2 q1 q2 => br_f a0 (br_f aX (br_f (by decide) (br_t h1 (br_t rfl (br_f (by decide) q2))))), fun post q => br_f a0 (br_t aY (br_t rfl (br_t h1 (br_f (by decide) q))))⟩
    · exact ⟨-1, _, _, R, fun p1 p2 q1 q2 => br_f a0 (br_f aX (br_f (by decide) (br_f h1 (br_t h2 (br_t rfl (br_f (by decide) q2)))))), fun post q => br_f a0 (br_t aY (br_t rfl (br_f h1 (br_f h3 (br_f (by decide) q)))))⟩
    · have b0 : ¬ nI n2 < 0 := nI_pos (by omega)
      have bX : ¬ nI (pg_N g) ≤ nI n2 := nI_ge hn2 (by omega)
      have bY : nI n2 < nI (pg_N g) := nI_lt hn2 (by omega)
      have i1 : vp_in (nI n1) 16 := vp_in_nI (by omega) (by omega)
      have i2 : vp_in (nI n2) 16 := vp_in_nI (by omega) (by omega)
      have o1 : ar_N (pg_ow g) (nI n1).toNatClampNeg = nI (pg_ow g n1) := ar_Nr _ (by omega)
      have o2 : ar_N (pg_ow g) (nI n2).toNatClampNeg = nI (pg_ow g n2) := ar_Nr _ (by omega)
      have w1 := pg_owP hg hn1
      have w2 := pg_owP hg hn2
      by_cases ho : pg_ow g n1 = pg_ow g n2
      · have c1 : ar_N (pg_ow g) (nI n1).toNatClampNeg = ar_N (pg_ow g) (nI n2).toNatClampNeg := by rw [o1, o2, ho]
        by_cases hl : pg_L g < ml
        · have d1 : nI (pg_L g) < nI ml := nI_lt hl (by omega)
          have d2 : ¬ nI (pg_L g) = nI ml := fun z => by
            have := (nI_eq (by omega) (by omega)).mp z
            omega
          have i24 : vp_in (nI (pg_L g)) 24 := vp_in_nI (by omega) (by omega)
          refine ⟨nI (pg_L g), rX mp mn ml cm 0 rc (-5) wc C H K Lk M W (lk_g g κ n1 n2 cc pm bm) L dn s, rY mp mn ml 0 (-5) PN PF PD K1 Lk1 OC (lk_g g κ n1 n2 cc pm bm) y, re_in (lk_G hG hl hn1 hn2 ho hp hb hc) (Or.inl rfl) (Or.inl rfl), fun p1 p2 q1 q2 => ?_, fun post q => ?_⟩
          · exact br_f a0 (br_f aX (br_f (by decide) (br_f b0 (br_f bX (br_f (by decide) (br_f (by decide) (And.intro i1 (And.intro i2 (br_t c1 (br_t d1 (br_t (by decide) (lk_put rfl rfl rfl rfl rfl rfl (by omega) q1))))))))))))
          · have k1 : upd (ar_N (pg_sr g)) (nI (pg_L g)).toNatClampNeg (nI n1) = ar_N (ar_u (pg_sr g) (pg_L g) n1) := by rw [nI_clamp (by omega)]; exact ar_Nu _ _ _
            have k2 : upd (ar_N (pg_tg g)) (nI (pg_L g)).toNatClampNeg (nI n2) = ar_N (ar_u (pg_tg g) (pg_L g) n2) := by rw [nI_clamp (by omega)]; exact ar_Nu _ _ _
            have k3 : upd (ar_C (pg_ca g)) (nI (pg_L g)).toNatClampNeg (ar_cv cc) = ar_C (ar_u (pg_ca g) (pg_L g) cc) := by rw [nI_clamp (by omega)]; exact ar_Cu _ _ _
            have k4 : upd (ar_N (pg_pa g)) (nI (pg_L g)).toNatClampNeg (nI pm) = ar_N (ar_u (pg_pa g) (pg_L g) pm) := by rw [nI_clamp (by omega)]; exact ar_Nu _ _ _
            have k5 : upd (ar_N (pg_ba g)) (nI (pg_L g)).toNatClampNeg (nI bm) = ar_N (ar_u (pg_ba g) (pg_L g) bm) := by rw [nI_clamp (by omega)]; exact ar_Nu _ _ _
            refine br_f a0 (br_t aY (br_t rfl (br_f b0 (br_t bY (br_t rfl (And.intro i1 (And.intro i2 (br_t c1 (br_f d2 (And.intro i24 (nm_r k1 (And.intro i24 (nm_r k2 (And.intro i24 (nm_r k3 ?_)))))))))))))))
            refine yw_clean (f := (nI mp, nI mn, nI ml, so, tl, ar_N PN, ar_N PF, ar_N PD, ar_N K1, ar_N Lk1, ar_N OC)) (g := pg_mk (pg_F g) (pg_P g) (pg_N g) (pg_L g) (pg_en g) (pg_ex g) (pg_ow g) (pg_kd g) (ar_u (pg_sr g) (pg_L g) n1) (ar_u (pg_tg g) (pg_L g) n2) (ar_u (pg_ca g) (pg_L g) cc) (pg_pa g) (pg_ba g)) (y := y) hF hG.2.2.2.2.2 ?_
            rw [ep]
            refine And.intro i24 (nm_r k4 ?_)
            refine yw_clean (f := (nI mp, nI mn, nI ml, so, tl, ar_N PN, ar_N PF, ar_N PD, ar_N K1, ar_N Lk1, ar_N OC)) (g := pg_mk (pg_F g) (pg_P g) (pg_N g) (pg_L g) (pg_en g) (pg_ex g) (pg_ow g) (pg_kd g) (ar_u (pg_sr g) (pg_L g) n1) (ar_u (pg_tg g) (pg_L g) n2) (ar_u (pg_ca g) (pg_L g) cc) (ar_u (pg_pa g) (pg_L g) pm) (pg_ba g)) (y := y) hF hG.2.2.2.2.2 ?_
            rw [eb]
            exact And.intro i24 (nm_r k5 (nm_r (nI_1 (pg_L g)) q))
        · have d1 : ¬ nI (pg_L g) < nI ml := nI_nlt (by omega) (by omega)
          have d2 : nI (pg_L g) = nI ml := congrArg nI (by omega)
          exact ⟨-2, _, _, R, fun p1 p2 q1 q2 => br_f a0 (br_f aX (br_f (by decide) (br_f b0 (br_f bX (br_f (by decide) (br_f (by decide) (And.intro i1 (And.intro i2 (br_t c1 (br_f d1 (br_f (by decide) q2))))))))))), fun post q => br_f a0 (br_t aY (br_t rfl (br_f b0 (br_t bY (br_t rfl (And.intro i1 (And.intro i2 (br_t c1 (br_t d2 q)))))))))⟩
      · have c1 : ¬ ar_N (pg_ow g) (nI n1).toNatClampNeg = ar_N (pg_ow g) (nI n2).toNatClampNeg := by
          rw [o1, o2]
          exact fun z => ho ((nI_eq (by omega) (by omega)).mp z)
        exact ⟨-3, _, _, R, fun p1 p2 q1 q2 => br_f a0 (br_f aX (br_f (by decide) (br_f b0 (br_f bX (br_f (by decide) (br_f (by decide) (And.intro i1 (And.intro i2 (br_f c1 (br_f (by decide) q2)))))))))), fun post q => br_f a0 (br_t aY (br_t rfl (br_f b0 (br_t bY (br_t rfl (And.intro i1 (And.intro i2 (br_f c1 q))))))))⟩
theorem lk_bad {post : Int32 → Prop} (hg : pg_ok g) (v1 v2 : Int32) (Q : post (-1)) : wpX_checkLink post (rX mp mn ml cm so rc tl wc C H K Lk M W g L dn s) v1 v2 0 := by
  have hN := pg_N16 hg
  rcases nx_c v1 (N := pg_N g) (by omega) with h1 | ⟨h1, h2, h3⟩ | ⟨n1, hn1, rfl⟩
  · exact br_t h1 (br_t rfl Q)
  · exact br_f h1 (br_t h2 (br_t rfl Q))
  · have a0 : ¬ nI n1 < 0 := nI_pos (by omega)
    have aX : ¬ nI (pg_N g) ≤ nI n1 := nI_ge hn1 (by omega)
    rcases nx_c v2 (N := pg_N g) (by omega) with h1 | ⟨h1, h2, h3⟩ | ⟨n2, hn2, rfl⟩
    · exact br_f a0 (br_f aX (br_f (by decide) (br_t h1 (br_t rfl Q))))
    · exact br_f a0 (br_f aX (br_f (by decide) (br_f h1 (br_t h2 (br_t rfl Q)))))
    · exact br_f a0 (br_f aX (br_f (by decide) (br_f (nI_pos (by omega)) (br_f (nI_ge hn2 (by omega)) (br_f (by decide) (br_t rfl Q))))))
end
theorem i_vc_addEdge {k : Nat} {u : SX} {v : SY} (I : i_Rel k u v) (hk : k + 5 ≤ 2564) (v1 : Int32) (v2 : Int32) (v3 : Int32) : wpX_addEdge (fun r u' => wpY_addEdge (fun r' v' => r' = r ∧ i_Rel (k + 5) u' v') v v1 v2 v3) u v1 v2 v3 := by
  refine re_el (P := fun u v => wpX_addEdge (fun r u' => wpY_addEdge (fun r' v' => r' = r ∧ i_Rel (k + 5) u' v') v v1 v2 v3) u v1 v2 v3) ?_ I
  intro mp mn ml cm so rc tl wc C H K Lk M W PN PF PD K1 Lk1 OC g L dn s y hG hS hT
  obtain ⟨pm, hpm, epm⟩ := cl_n hG.2.2.2.2.2 v3
  have e0 : ((v3 &&& 65535).toUInt32 >>> ((16 : Int32).toUInt32 &&& Int32.toUInt32 31)).toInt32 &&& cm = nI 0 := by
    rw [cl_hi]
    exact b_ext (fun i hi => by rw [b_and, b_0]; exact (b_0 i).symm)
  obtain ⟨r, u', v', R, hX, hY⟩ := lk_out (k := k) (κ := 0) (cc := 0) (pm := pm) (bm := 0) (x := v3 &&& 65535) (mp := mp) (mn := mn) (ml := ml) (wc := wc) (W := W) (OC := OC) (L := L) (dn := dn) hG hS hT hpm (by omega) (Or.inl ⟨rfl, rfl⟩) (by rw [cl_16 hG.2.2.2.2.2]; exact epm) e0 v1 v2
  have Z : ∀ post : Int32 → SX → Prop, post r u' → wpX_addEdge post (rX mp mn ml cm so rc tl wc C H K Lk M W g L dn s) v1 v2 v3 := by
    intro post q
    have h := hX post post q q
    rw [← epm] at h
    exact h
  have ZY : ∀ post : Int32 → SY → Prop, post r v' → wpY_addEdge post (rY mp mn ml so tl PN PF PD K1 Lk1 OC g y) v1 v2 v3 := by
    intro post q
    have h := hY post q
    exact h
  exact Z _ (ZY _ ⟨rfl, R⟩)
theorem i_vc_addCall {k : Nat} {u : SX} {v : SY} (I : i_Rel k u v) (hk : k + 5 ≤ 2564) (v1 : Int32) (v2 : Int32) (v3 : Int32) (v4 : Int32) : wpX_addCall (fun r u' => wpY_addCall (fun r' v' => r' = r ∧ i_Rel (k + 5) u' v') v v1 v2 v3 v4) u v1 v2 v3 v4 := by
  refine re_el (P := fun u v => wpX_addCall (fun r u' => wpY_addCall (fun r' v' => r' = r ∧ i_Rel (k + 5) u' v') v v1 v2 v3 v4) u v1 v2 v3 v4) ?_ I
  intro mp mn ml cm so rc tl wc C H K Lk M W PN PF PD K1 Lk1 OC g L dn s y hG hS hT
  have hP := pg_P8 hG.1
  have R0 := re_in (k := k + 5) (wc := wc) (W := W) (OC := OC) (L := L) (dn := dn) hG hS hT
  have key : ∀ post : Int32 → SX → Prop, post (-1) (rX mp mn ml cm so rc tl wc C H K Lk M W g L dn s) → sx_u (wX_addCall_16 post v1 v2 v3 v4) (rX mp mn ml cm so rc tl wc C H K Lk M W g L dn s) := by
    intro post q
    show wX_addCall_16 post v1 v2 v3 v4 66 256 288 (nI mp) (nI mn) (nI ml) (nI (pg_F g)) cm (nI (pg_P g)) (nI (pg_N g)) (nI (pg_L g)) so rc (nI L) tl wc (ar_N (pg_en g)) (ar_N (pg_ex g)) (ar_N (pg_ow g)) (ar_N (pg_kd g)) (ar_N (pg_sr g)) (ar_N (pg_tg g)) (ar_C (pg_ca g)) (ar_N (pg_pa g)) (ar_N (pg_ba g)) (ar_N (xt_D s)) (ar_N (xt_O s)) (ar_N dn) (ar_N (xt_A s)) (ar_N (xt_B s)) (ar_O (xt_h s)) (ar_O (xt_n s)) (ar_O (xt_p s)) (ar_N C) (ar_N H) (ar_N K) (ar_N Lk) (ar_N M) (ar_N W)
    unfold wX_addCall_16 wX_addCall_17
    exact lk_bad (mp := mp) (mn := mn) (ml := ml) (cm := cm) (so := so) (rc := rc) (tl := tl) (wc := wc) (C := C) (H := H) (K := K) (Lk := Lk) (M := M) (W := W) (g := g) (L := L) (dn := dn) (s := s) hG.1 v1 v2 (br_f (by decide) q)
  rcases nx_c v3 (N := pg_P g) (by omega) with h1 | ⟨h1, h2, h3⟩ | ⟨p, hp, rfl⟩
  · exact br_t h1 (key _ (br_t h1 ⟨rfl, R0⟩))
  · exact br_f h1 (br_t h2 (key _ (br_f h1 (br_f h3 ⟨rfl, R0⟩))))
  · have p0 : ¬ nI p < 0 := nI_pos (by omega)
    have pX : ¬ nI (pg_P g) ≤ nI p := nI_ge hp (by omega)
    have pY : nI p < nI (pg_P g) := nI_lt hp (by omega)
    obtain ⟨pm, hpm, epm⟩ := cl_n hG.2.2.2.2.2 v4
    obtain ⟨bm, hbm, ebm⟩ := cl_n hG.2.2.2.2.2 ((v4.toUInt32 >>> ((16 : Int32).toUInt32 &&& Int32.toUInt32 31)).toInt32)
    obtain ⟨r, u', v', R, hX, hY⟩ := lk_out (k := k) (κ := 1) (cc := p + 1) (pm := pm) (bm := bm) (x := v4) (mp := mp) (mn := mn) (ml := ml) (wc := wc) (W := W) (OC := OC) (L := L) (dn := dn) hG hS hT hpm hbm (Or.inr ⟨rfl, p, hp, rfl⟩) epm ebm v1 v2
    have Z : ∀ post : Int32 → SX → Prop, post r u' → wpX_addCall post (rX mp mn ml cm so rc tl wc C H K Lk M W g L dn s) v1 v2 (nI p) v4 := by
      intro post q
      have h := hX post post q q
      rw [← epm, ← ebm] at h
      exact br_f p0 (br_f pX h)
    have ZY : ∀ post : Int32 → SY → Prop, post r v' → wpY_addCall post (rY mp mn ml so tl PN PF PD K1 Lk1 OC g y) v1 v2 (nI p) v4 := by
      intro post q
      have h := hY post q
      exact br_f p0 (br_t pY h)
    exact Z _ (ZY _ ⟨rfl, R⟩)
end S24
end
section
section S25
/-! setRel, solve, trace -/
section
variable {mp mn ml : Nat} {cm so rc tl wc : Int32} {C H K Lk M W PN PF PD K1 Lk1 OC : Nat → Nat} {g : pg_T} {L : Nat} {dn : Nat → Nat} {s : xt_T} {y : yt_T}
def sr_g (g : pg_T) (j pm bm : Nat) : pg_T := pg_mk (pg_F g) (pg_P g) (pg_N g) (pg_L g) (pg_en g) (pg_ex g) (pg_ow g) (pg_kd g) (pg_sr g) (pg_tg g) (pg_ca g) (ar_u (pg_pa g) j pm) (ar_u (pg_ba g) j bm)
theorem sr_G {j pm bm : Nat} (hG : re_G mp mn ml cm g) (hp : pm < 65536) (hb : bm < 65536) : re_G mp mn ml cm (sr_g g j pm bm) := by
  obtain ⟨hg, hsm, g1, g2, g3, g4⟩ := hG
  unfold sr_g
  refine ⟨⟨hg.1, hg.2.1, hg.2.2.1, ?_⟩, hsm, g1, g2, g3, g4⟩
  simp only [mk_L, mk_N, mk_P, mk_sr, mk_tg, mk_pa, mk_ba, mk_kd, mk_ca, mk_cl]
  intro k hk
  obtain ⟨q1, q2, q3, q4, q5⟩ := hg.2.2.2 k hk
  refine ⟨q1, q2, ?_, ?_, q5⟩
  · by_cases e : k = j
    · rw [e, ar_us]; exact hp
    · rw [ar_un e]; exact q3
  · by_cases e : k = j
    · rw [e, ar_us]; exact hb
    · rw [ar_un e]; exact q4
theorem sr_out {k j pm bm : Nat} (hG : re_G mp mn ml cm g) (hS : re_S so rc g s y) (hT : re_T tl C H K Lk M PN PF PD K1 Lk1) (hj : j < pg_L g) (hp : pm < 65536) (hb : bm < 65536) :
    ∃ r u' v', i_Rel (k + 5) u' v' ∧ (∀ post : Int32 → SX → Prop, post r u' → sx_u (wX_setRel_44 post (nI j) (nI pm) (nI bm)) (rX mp mn ml cm so rc tl wc C H K Lk M W g L dn s)) ∧ (∀ post : Int32 → SY → Prop, post r v' → sy_u (wY_setRel_43 post (nI j) (nI pm) (nI bm)) (rY mp mn ml so tl PN PF PD K1 Lk1 OC g y)) := by
  have hg := hG.1
  have hL := pg_L24 hg
  have i24 : vp_in (nI j) 24 := vp_in_nI (by omega) (by omega)
  have ep : ar_N (pg_pa g) (nI j).toNatClampNeg = nI (pg_pa g j) := ar_Nr _ (by omega)
  have eb : ar_N (pg_ba g) (nI j).toNatClampNeg = nI (pg_ba g j) := ar_Nr _ (by omega)
  have b1 := pg_paB hg hj
  have b2 := pg_baB hg hj
  have k4 : upd (ar_N (pg_pa g)) (nI j).toNatClampNeg (nI pm) = ar_N (ar_u (pg_pa g) j pm) := by rw [nI_clamp (by omega)]; exact ar_Nu _ _ _
  have k5 : upd (ar_N (pg_ba g)) (nI j).toNatClampNeg (nI bm) = ar_N (ar_u (pg_ba g) j bm) := by rw [nI_clamp (by omega)]; exact ar_Nu _ _ _
  have wX : ∀ post : Int32 → SX → Prop, post 1 (rX mp mn ml cm 0 rc (-5) wc C H K Lk M W (sr_g g j pm bm) L dn s) → sx_u (wX_setRel_69 post (nI j) (nI pm) (nI bm)) (rX mp mn ml cm so rc tl wc C H K Lk M W g L dn s) := by
    intro post q
    exact And.intro i24 (nm_r k4 (And.intro i24 (nm_r k5 q)))
  have wY : ∀ post : Int32 → SY → Prop, post 1 (rY mp mn ml 0 (-5) PN PF PD K1 Lk1 OC (sr_g g j pm bm) y) → sy_u (wY_setRel_68 post (nI j) (nI pm) (nI bm)) (rY mp mn ml so tl PN PF PD K1 Lk1 OC g y) := by
    intro post q
    exact And.intro i24 (nm_r k4 (And.intro i24 (nm_r k5 q)))
  have R' := re_in (k := k + 5) (rc := rc) (wc := wc) (W := W) (OC := OC) (L := L) (dn := dn) (s := s) (y := y) (C := C) (H := H) (K := K) (Lk := Lk) (M := M) (PN := PN) (PF := PF) (PD := PD) (K1 := K1) (Lk1 := Lk1) (sr_G (j := j) hG hp hb) (Or.inl rfl) (Or.inl rfl)
  by_cases h1 : pg_pa g j = pm
  · have x1 : ar_N (pg_pa g) (nI j).toNatClampNeg = nI pm := by rw [ep, h1]
    by_cases h2 : pg_ba g j = bm
    · have x2 : ar_N (pg_ba g) (nI j).toNatClampNeg = nI bm := by rw [eb, h2]
      exact ⟨0, _, _, re_in (k := k + 5) (wc := wc) (W := W) (OC := OC) (L := L) (dn := dn) hG hS hT, fun post q => And.intro i24 (br_t x1 (And.intro i24 (br_t x2 q))), fun post q => And.intro i24 (br_t x1.symm (And.intro i24 (br_t x2.symm q)))⟩
    · have x2 : ¬ ar_N (pg_ba g) (nI j).toNatClampNeg = nI bm := by
        rw [eb]
        exact fun z => h2 ((nI_eq (by omega) (by omega)).mp z)
      exact ⟨1, _, _, R', fun post q => And.intro i24 (br_t x1 (And.intro i24 (br_f x2 (wX post q)))), fun post q => And.intro i24 (br_t x1.symm (And.intro i24 (br_f (fun z => x2 z.symm) (wY post q))))⟩
  · have x1 : ¬ ar_N (pg_pa g) (nI j).toNatClampNeg = nI pm := by
      rw [ep]
      exact fun z => h1 ((nI_eq (by omega) (by omega)).mp z)
    exact ⟨1, _, _, R', fun post q => And.intro i24 (br_f x1 (wX post q)), fun post q => And.intro i24 (br_f (fun z => x1 z.symm) (wY post q))⟩
end
theorem i_vc_setRel {k : Nat} {u : SX} {v : SY} (I : i_Rel k u v) (hk : k + 5 ≤ 2564) (v1 : Int32) (v2 : Int32) : wpX_setRel (fun r u' => wpY_setRel (fun r' v' => r' = r ∧ i_Rel (k + 5) u' v') v v1 v2) u v1 v2 := by
  refine re_el (P := fun u v => wpX_setRel (fun r u' => wpY_setRel (fun r' v' => r' = r ∧ i_Rel (k + 5) u' v') v v1 v2) u v1 v2) ?_ I
  intro mp mn ml cm so rc tl wc C H K Lk M W PN PF PD K1 Lk1 OC g L dn s y hG hS hT
  have hg := hG.1
  have hL := pg_L24 hg
  have hF := pg_F4 hg
  have hP := pg_P8 hg
  have R := re_in (k := k + 5) (wc := wc) (W := W) (OC := OC) (L := L) (dn := dn) hG hS hT
  rcases nx_c v1 (N := pg_L g) (by omega) with h1 | ⟨h1, h2, h3⟩ | ⟨j, hj, rfl⟩
  · exact br_t h1 (br_t h1 ⟨rfl, R⟩)
  · exact br_f h1 (br_f h3 (br_f h1 (br_f h3 ⟨rfl, R⟩)))
  · have n0 : ¬ nI j < 0 := nI_pos (by omega)
    have nY : nI j < nI (pg_L g) := nI_lt hj (by omega)
    have i24 : vp_in (nI j) 24 := vp_in_nI (by omega) (by omega)
    obtain ⟨pm, hpm, epm⟩ := cl_n hG.2.2.2.2.2 v2
    obtain ⟨bm, hbm, ebm⟩ := cl_n hG.2.2.2.2.2 ((v2.toUInt32 >>> ((16 : Int32).toUInt32 &&& Int32.toUInt32 31)).toInt32)
    have ek : ar_N (pg_kd g) (nI j).toNatClampNeg = nI (pg_kd g j) := ar_Nr _ (by omega)
    rcases pg_kd2 hg hj with k0 | k1
    · obtain ⟨r, u', v', R', hX, hY⟩ := sr_out (k := k) (j := j) (pm := pm) (bm := 0) (mp := mp) (mn := mn) (ml := ml) (wc := wc) (W := W) (OC := OC) (L := L) (dn := dn) hG hS hT hj hpm (by omega)
      have Z : ∀ post : Int32 → SX → Prop, post r u' → wpX_setRel post (rX mp mn ml cm so rc tl wc C H K Lk M W g L dn s) (nI j) v2 := by
        intro post q
        refine br_f n0 (br_t nY (nm_r epm (And.intro i24 (br_f ?_ (hX post q)))))
        show ¬ ar_N (pg_kd g) (nI j).toNatClampNeg = 1
        rw [ek, k0]; decide
      refine Z _ (br_f n0 (br_t nY ?_))
      refine yw_clean (f := (nI mp, nI mn, nI ml, so, tl, ar_N PN, ar_N PF, ar_N PD, ar_N K1, ar_N Lk1, ar_N OC)) (g := g) (y := y) hF hG.2.2.2.2.2 ?_
      rw [epm]
      exact And.intro i24 (br_t (yw_ca0 hg hj k0) (hY _ ⟨rfl, R'⟩))
    · obtain ⟨r, u', v', R', hX, hY⟩ := sr_out (k := k) (j := j) (pm := pm) (bm := bm) (mp := mp) (mn := mn) (ml := ml) (wc := wc) (W := W) (OC := OC) (L := L) (dn := dn) hG hS hT hj hpm hbm
      have hcl := (pg_clP hg hj k1).1
      have Z : ∀ post : Int32 → SX → Prop, post r u' → wpX_setRel post (rX mp mn ml cm so rc tl wc C H K Lk M W g L dn s) (nI j) v2 := by
        intro post q
        have h := hX post q
        rw [← ebm] at h
        refine br_f n0 (br_t nY (nm_r epm (And.intro i24 (br_t ?_ h))))
        show ar_N (pg_kd g) (nI j).toNatClampNeg = 1
        rw [ek, k1]; rfl
      refine Z _ (br_f n0 (br_t nY ?_))
      refine yw_clean (f := (nI mp, nI mn, nI ml, so, tl, ar_N PN, ar_N PF, ar_N PD, ar_N K1, ar_N Lk1, ar_N OC)) (g := g) (y := y) hF hG.2.2.2.2.2 ?_
      rw [epm]
      refine And.intro i24 (br_f ?_ ?_)
      · show ¬ ar_C (pg_ca g) (nI j).toNatClampNeg = -5
        rw [yw_ca1 hg hj k1]; exact yw_n5 (by omega)
      · refine yw_clean (f := (nI mp, nI mn, nI ml, so, tl, ar_N PN, ar_N PF, ar_N PD, ar_N K1, ar_N Lk1, ar_N OC)) (g := g) (y := y) hF hG.2.2.2.2.2 ?_
        rw [ebm]
        exact hY _ ⟨rfl, R'⟩
theorem i_vc_solve {k : Nat} {u : SX} {v : SY} (I : i_Rel k u v) (hk : k + 5 ≤ 2564) : wpX_solve (fun r u' => wpY_solve (fun r' v' => r' = r ∧ i_Rel (k + 5) u' v') v) u := by
  refine re_el (P := fun u v => wpX_solve (fun r u' => wpY_solve (fun r' v' => r' = r ∧ i_Rel (k + 5) u' v') v) u) ?_ I
  intro mp mn ml cm so rc tl wc C H K Lk M W PN PF PD K1 Lk1 OC g L dn s y hG hS hT
  have hg := hG.1
  have hP8 := pg_P8 hg
  have R := re_in (k := k + 5) (wc := wc) (W := W) (OC := OC) (L := L) (dn := dn) hG hS hT
  rcases Nat.eq_zero_or_pos (pg_P g) with hP | hP
  · have e0 : nI (pg_P g) = 0 := by rw [hP]; rfl
    exact br_t e0 (br_t e0 ⟨rfl, R⟩)
  · rcases hS with rfl | ⟨rfl, _, hrc, hE, T, hR⟩
    · refine xw_solve0 (f := (nI mp, nI mn, nI ml, cm, 0, rc, tl, wc, ar_N C, ar_N H, ar_N K, ar_N Lk, ar_N M, ar_N W)) (g := g) (L := L) (dn := dn) (s := s) hg hP rfl (fun T L' dn' s' hR => ?_)
      refine yw_solve0 (f := (nI mp, nI mn, nI ml, 0, tl, ar_N PN, ar_N PF, ar_N PD, ar_N K1, ar_N Lk1, ar_N OC)) (g := g) (s := y) hg hP hR rfl (fun y' hE => ⟨rfl, ?_⟩)
      exact re_in (k := k + 5) (so := 1) (rc := nI (cn_r (xt_A s') 64)) (wc := wc) (W := W) (OC := OC) (L := L') (dn := dn') (s := s') (y := y') hG (Or.inr ⟨rfl, hP, rfl, hE, T, hR⟩) hT
    · refine br_f (nI_ne0 hP (by omega)) (br_f (by decide) ?_)
      exact yw_solve1 (f := (nI mp, nI mn, nI ml, 1, tl, ar_N PN, ar_N PF, ar_N PD, ar_N K1, ar_N Lk1, ar_N OC)) (g := g) (s := y) hg hP hR hE rfl ⟨hrc.symm, R⟩
end S25
end
section
section S26
/-! trace -/
theorem tr_X {post : Int32 → SX → Prop} {U : SX} {v1 v2 : Int32} (h : wpX_distance (fun r => (r < 0 → post r U) ∧ (¬ r < 0 → ((r < 65 → wpX_unfold (fun u => post r u) U (4 * v1 + v2) r) ∧ (¬ r < 65 → post r U)))) U v1 v2) : wpX_trace post U v1 v2 := by
  rcases U with ⟨a1, a2, a3, a4, a5, a6, a7, a8, a9, a10, a11, a12, a13, a14, a15, a16, a17, a18, a19, a20, a21, a22, a23, a24, a25, a26, a27, a28, a29, a30, a31, a32, a33, a34, a35, a36, a37, a38, a39⟩
  exact h
theorem tr_U {post : SX → Prop} {mp mn ml : Nat} {cm so rc tl wc p0 : Int32} {C H K Lk M W : Nat → Nat} {g : pg_T} {L : Nat} {dn : Nat → Nat} {s : xt_T} {len : Nat} (h : wpX_wholeCell (fun r => ∃ n19 : Nat, wX_unfold_19 post (nI len) n19 r (nI len) 66 256 288 (nI mp) (nI mn) (nI ml) (nI (pg_F g)) cm (nI (pg_P g)) (nI (pg_N g)) (nI (pg_L g)) so rc (nI L) (nI len) 0 (ar_N (pg_en g)) (ar_N (pg_ex g)) (ar_N (pg_ow g)) (ar_N (pg_kd g)) (ar_N (pg_sr g)) (ar_N (pg_tg g)) (ar_C (pg_ca g)) (ar_N (pg_pa g)) (ar_N (pg_ba g)) (ar_N (xt_D s)) (ar_N (xt_O s)) (ar_N dn) (ar_N (xt_A s)) (ar_N (xt_B s)) (ar_O (xt_h s)) (ar_O (xt_n s)) (ar_O (xt_p s)) (ar_N C) (ar_N H) (ar_N K) (ar_N Lk) (ar_N M) (ar_N W)) (rX mp mn ml cm so rc (nI len) 0 C H K Lk M W g L dn s) p0) : wpX_unfold post (rX mp mn ml cm so rc tl wc C H K Lk M W g L dn s) p0 (nI len) := h
theorem tr_Y {post : Int32 → SY → Prop} {V : SY} {v1 v2 : Int32} (h : wpY_distance (fun r => (r < 0 → post r V) ∧ (¬ r < 0 → ((r = 65 → post r V) ∧ (¬ r = 65 → wpY_origin (fun q => ∃ n41 : Nat, sy_a (sy_f (wY_trace_41 post r) V n41 v1 v2 0 q r) V) V v1 v2)))) V v1 v2) : wpY_trace post V v1 v2 := by
  rcases V with ⟨a1, a2, a3, a4, a5, a6, a7, a8, a9, a10, a11, a12, a13, a14, a15, a16, a17, a18, a19, a20, a21, a22, a23, a24, a25, a26⟩
  exact h
theorem i_vc_trace {k : Nat} {u : SX} {v : SY} (I : i_Rel k u v) (hk : k + 5 ≤ 2564) (v1 : Int32) (v2 : Int32) : wpX_trace (fun r u' => wpY_trace (fun r' v' => r' = r ∧ i_Rel (k + 5) u' v') v v1 v2) u v1 v2 := by
  refine re_el (P := fun u v => wpX_trace (fun r u' => wpY_trace (fun r' v' => r' = r ∧ i_Rel (k + 5) u' v') v v1 v2) u v1 v2) ?_ I
  intro mp mn ml cm so rc tl wc C H K Lk M W PN PF PD K1 Lk1 OC g L dn s y hG hS hT
  have hg := hG.1
  have hN := pg_N16 hg
  have hF := pg_F4 hg
  have R := re_in (k := k + 5) (wc := wc) (W := W) (OC := OC) (L := L) (dn := dn) hG hS hT
  obtain ⟨r, hr, hX, hY⟩ := ds_out (mp := mp) (mn := mn) (ml := ml) (tl := tl) (wc := wc) (C := C) (H := H) (K := K) (Lk := Lk) (M := M) (W := W) (PN := PN) (PF := PF) (PD := PD) (K1 := K1) (Lk1 := Lk1) (OC := OC) (L := L) (dn := dn) hG hS v1 v2
  rcases hr with rfl | rfl | rfl | ⟨n, d, hn, hd, rfl, rfl, rfl, rfl, fA⟩
  · exact tr_X (hX _ (br_t (by decide) (tr_Y (hY _ (br_t (by decide) ⟨rfl, R⟩)))))
  · exact tr_X (hX _ (br_t (by decide) (tr_Y (hY _ (br_t (by decide) ⟨rfl, R⟩)))))
  · exact tr_X (hX _ (br_t (by decide) (tr_Y (hY _ (br_t (by decide) ⟨rfl, R⟩)))))
  · rcases hS with z | ⟨_, hP, hrc, hE, T, hR⟩
    · exact absurd z (by decide)
    · have a0 : ¬ nI (xt_A s (4 * n + d)) < 0 := nI_pos (by omega)
      by_cases h65 : xt_A s (4 * n + d) < 65
      · have c1 : nI (xt_A s (4 * n + d)) < 65 := nI_lt (b := 65) h65 (by omega)
        have c2 : ¬ nI (xt_A s (4 * n + d)) = 65 := fun z => by
          have := (nI_eq (a := xt_A s (4 * n + d)) (b := 65) (by omega) (by omega)).mp z
          omega
        obtain ⟨n', d', a', b1, b2, b3, b4, b5, b6, b7, b8⟩ := (hR.2.2.2.2.2.1 (4 * n + d) (by omega)).2 fA
        have en : n' = n := by omega
        have ed : d' = d := by omega
        subst en ed
        have esum := sv_small (x := xt_D s (256 + 4 * pg_ow g n' + a') + xt_D s (16 * n' + 4 * a' + d')) (by omega)
        have hx3 := ix_3 (n := n') (a := a') (b := d') b4 b3
        have t0 : ts_I g (xt_D s) (xt_O s) (xt_A s (4 * n' + d')) (xt_A s (4 * n' + d')) (16 * n' + 4 * a' + d') 0 C K Lk M W PN PF K1 Lk1 OC (fun _ => 0) (fun _ => 0) := by
          refine ⟨⟨Nat.le_refl _, by omega, by omega, b7, ?_, rfl⟩, fun j q1 q2 => by omega, fun j q1 q2 => by omega, fun t q => by omega, fun t t' _ _ _ => Nat.le_refl _, fun j _ _ => Nat.zero_le _⟩
          show xt_D s (256 + 4 * pg_ow g ((16 * n' + 4 * a' + d') / 16) + (16 * n' + 4 * a' + d') / 4 % 4) + xt_D s (16 * n' + 4 * a' + d') = _
          rw [hx3.1, hx3.2.1]
          omega
        have lo := ls_main (f := (nI mp, nI mn, nI ml, cm, 1, rc, tl, wc, ar_N C, ar_N H, ar_N K, ar_N Lk, ar_N M, ar_N W)) (e := (nI mp, nI mn, nI ml, 1, tl, ar_N PN, ar_N PF, ar_N PD, ar_N K1, ar_N Lk1, ar_N OC)) (L := L) (dn := dn) (kp := tl) (H := H) (PD := PD) hg hP hG.2.1 hR hE _ _ _ _ _ _ _ _ _ _ _ _ _ _ _ t0
        obtain ⟨c0, C0, K0, Lk0, M0, W0, PN0, PF0, K10, Lk10, OC0, w0, u0, h1, hX2, hY2⟩ := lo
        rw [hx3.1, hx3.2.1, hx3.2.2] at hY2
        have ei : 4 * nI n' + nI d' = nI (4 * n' + d') := ix_al _ _
        have hB4 : xt_B s (4 * n' + d') < 4 := by rw [b5]; exact b4
        refine tr_X (hX _ (br_f a0 (br_t c1 (tr_U ?_))))
        refine xt_whole (f := (nI mp, nI mn, nI ml, cm, 1, rc, tl, wc, ar_N C, ar_N H, ar_N K, ar_N Lk, ar_N M, ar_N W)) (tl := nI (xt_A s (4 * n' + d'))) (wc := 0) (C := C) (H := H) (K := K) (Lk := Lk) (M := M) (W := W) (m := n') (d := d') ei (by omega) b3 hB4 ?_
        rw [b5]
        refine ⟨xt_A s (4 * n' + d') + 1, hX2 _ _ (by omega) (fun H' hH' => ?_)⟩
        refine tr_Y (hY _ (br_f a0 (br_f c2 ?_)))
        refine yw_origin (f := (nI mp, nI mn, nI ml, 1, tl, ar_N PN, ar_N PF, ar_N PD, ar_N K1, ar_N Lk1, ar_N OC)) (g := g) (s := y) rfl rfl hg hP hR hE hn b3 (fun r _ er => ?_)
        have erB := er fA
        rw [b5] at erB
        subst erB
        refine ⟨xt_A s (4 * n' + d') + 1, hY2 _ _ (by omega) (fun PD' hPD' => ⟨rfl, ?_⟩)⟩
        exact re_in (k := k + 5) (so := 1) (rc := rc) (tl := nI (xt_A s (4 * n' + d'))) (wc := nI 0) (W := W0) (OC := OC0) (L := L) (dn := dn) (s := s) (y := y) hG (Or.inr ⟨rfl, hP, hrc, hE, T, hR⟩) (Or.inr ⟨_, rfl, ts_end h1 hH' (fun j hj => by rw [hPD' j hj, hH' j hj])⟩)
      · have e65 : xt_A s (4 * n + d) = 65 := by omega
        have c1 : ¬ nI (xt_A s (4 * n + d)) < 65 := nI_nlt (b := 65) (by omega) (by omega)
        have c2 : nI (xt_A s (4 * n + d)) = 65 := by rw [e65]; rfl
        exact tr_X (hX _ (br_f a0 (br_f c1 (tr_Y (hY _ (br_f a0 (br_t c2 ⟨rfl, R⟩)))))))
/-! the constructors -/
theorem cp_out (p : Int32) {lo hi : Nat} (h : lo ≤ hi) (hh : hi < 100) : ∃ n, lo ≤ n ∧ n ≤ hi ∧ (∀ (post : Int32 → Prop) (u : SX), post (nI n) → wpX_clamp post u p (nI lo) (nI hi)) ∧ (∀ (post : Int32 → Prop) (u : SY), post (nI n) → wpY_clamp post u p (nI lo) (nI hi)) := by
  have gX : ∀ (post : Int32 → Prop) (u : SX) (p0 p1 p2 : Int32), ((p1 ≤ p0 → ((p0 ≤ p2 → post p0) ∧ (¬ p0 ≤ p2 → post p2))) ∧ (¬ p1 ≤ p0 → post p1)) → wpX_clamp post u p0 p1 p2 := by
    intro post u p0 p1 p2 q
    rcases u with ⟨a1, a2, a3, a4, a5, a6, a7, a8, a9, a10, a11, a12, a13, a14, a15, a16, a17, a18, a19, a20, a21, a22, a23, a24, a25, a26, a27, a28, a29, a30, a31, a32, a33, a34, a35, a36, a37, a38, a39⟩
    exact q
  have gY : ∀ (post : Int32 → Prop) (u : SY) (p0 p1 p2 : Int32), ((p1 ≤ p0 → ((p0 ≤ p2 → post p0) ∧ (¬ p0 ≤ p2 → post p2))) ∧ (¬ p1 ≤ p0 → post p1)) → wpY_clamp post u p0 p1 p2 := by
    intro post u p0 p1 p2 q
    rcases u with ⟨a1, a2, a3, a4, a5, a6, a7, a8, a9, a10, a11, a12, a13, a14, a15, a16, a17, a18, a19, a20, a21, a22, a23, a24, a25, a26⟩
    exact q
  by_cases h1 : nI lo ≤ p
  · have h0 : ¬ p < 0 := by
      rw [Int32.lt_iff_toInt_lt]
      rw [Int32.le_iff_toInt_le, nI_toInt (by omega)] at h1
      have e0 : (0 : Int32).toInt = 0 := by decide
      omega
    obtain ⟨j, hj, rfl⟩ := nI_of h0
    have l1 : lo ≤ j := (nI_leI (by omega) hj).mp h1
    by_cases h2 : j ≤ hi
    · exact ⟨j, l1, h2, fun post u q => gX post u _ _ _ (br_t h1 (br_t (nI_le h2 (by omega)) q)), fun post u q => gY post u _ _ _ (br_t h1 (br_t (nI_le h2 (by omega)) q))⟩
    · have h3 : ¬ nI j ≤ nI hi := nI_ge (by omega) hj
      exact ⟨hi, h, Nat.le_refl _, fun post u q => gX post u _ _ _ (br_t h1 (br_f h3 q)), fun post u q => gY post u _ _ _ (br_t h1 (br_f h3 q))⟩
  · exact ⟨lo, Nat.le_refl _, h, fun post u q => gX post u _ _ _ (br_f h1 q), fun post u q => gY post u _ _ _ (br_f h1 q)⟩
theorem m1_and (y : Int32) : (-1 : Int32) &&& y = y := b_ext (fun i hi => by rw [b_and, b_m1 i hi, Bool.true_and])
def g0_g (F : Nat) : pg_T := pg_mk F 0 0 0 (fun _ => 0) (fun _ => 0) (fun _ => 0) (fun _ => 0) (fun _ => 0) (fun _ => 0) (fun _ => 1) (fun _ => 0) (fun _ => 0)
def s0_s : xt_T := (fun _ => 0, fun _ => 0, fun _ => 0, fun _ => 0, fun _ => 1, fun _ => 1, fun _ => 1)
def y0_y : yt_T := (fun _ => 0, fun _ => 0, fun _ => 0)
theorem in_X {post : SX → Prop} {mp mn ml F : Nat} (hF : F ≤ 4) (Q : ∀ cm, cl_M F cm → post (rX mp mn ml cm 0 0 (-5) 0 (fun _ => 0) (fun _ => 0) (fun _ => 0) (fun _ => 0) (fun _ => 0) (fun _ => 0) (g0_g F) 0 (fun _ => 0) s0_s)) :
    ∃ n270, wX_init_270 post 66 256 288 (nI mp) (nI mn) (nI ml) (nI F) 0 0 0 0 0 0 (-5) 0 (fun _ => 0) (fun _ => 0) (fun _ => 0) (fun _ => 0) (fun _ => 0) (fun _ => 0) (fun _ => 0) (fun _ => 0) (fun _ => 0) (fun _ => 0) (fun _ => 0) (fun _ => 0) (fun _ => 0) (fun _ => 0) (fun _ => 0) (fun _ => 0) (fun _ => 0) (fun _ => 0) (fun _ => 0) (fun _ => 0) (fun _ => 0) (fun _ => 0) (fun _ => 0) n270 (nI 0) 0 := by
  refine pk_loop (fun k d (cm : Int32) => wX_init_270 post 66 256 288 (nI mp) (nI mn) (nI ml) (nI F) 0 0 0 0 0 0 (-5) 0 (fun _ => 0) (fun _ => 0) (fun _ => 0) (fun _ => 0) (fun _ => 0) (fun _ => 0) (fun _ => 0) (fun _ => 0) (fun _ => 0) (fun _ => 0) (fun _ => 0) (fun _ => 0) (fun _ => 0) (fun _ => 0) (fun _ => 0) (fun _ => 0) (fun _ => 0) (fun _ => 0) (fun _ => 0) (fun _ => 0) (fun _ => 0) (fun _ => 0) (fun _ => 0) k (nI d) cm) (fun d cm => cl_B F d 0 (-1) cm) F 0 0 (by omega) cl_B0 ?_ ?_
  · intro k cm h
    exact br_t (nI_le (Nat.le_refl _) (by omega)) (Q cm (cl_Me hF h))
  · intro k d cm hd h K
    refine br_f (nI_ge hd (by omega)) ?_
    refine pk_loop (fun j e (cm : Int32) => wX_init_282 post (wX_init_270 post 66 256 288 (nI mp) (nI mn) (nI ml) (nI F) 0 0 0 0 0 0 (-5) 0 (fun _ => 0) (fun _ => 0) (fun _ => 0) (fun _ => 0) (fun _ => 0) (fun _ => 0) (fun _ => 0) (fun _ => 0) (fun _ => 0) (fun _ => 0) (fun _ => 0) (fun _ => 0) (fun _ => 0) (fun _ => 0) (fun _ => 0) (fun _ => 0) (fun _ => 0) (fun _ => 0) (fun _ => 0) (fun _ => 0) (fun _ => 0) (fun _ => 0) (fun _ => 0) k) (nI d) 66 256 288 (nI mp) (nI mn) (nI ml) (nI F) 0 0 0 0 0 0 (-5) 0 (fun _ => 0) (fun _ => 0) (fun _ => 0) (fun _ => 0) (fun _ => 0) (fun _ => 0) (fun _ => 0) (fun _ => 0) (fun _ => 0) (fun _ => 0) (fun _ => 0) (fun _ => 0) (fun _ => 0) (fun _ => 0) (fun _ => 0) (fun _ => 0) (fun _ => 0) (fun _ => 0) (fun _ => 0) (fun _ => 0) (fun _ => 0) (fun _ => 0) (fun _ => 0) j (nI e) cm) (fun e cm => cl_B F d e (-1) cm) F 0 cm (by omega) h ?_ ?_
    · intro j cm h
      exact br_t (nI_le (Nat.le_refl _) (by omega)) (nm_r (nI_1 d) (K cm (cl_Bn hd hF h)))
    · intro j e cm he h K2
      have hs := cl_Bs hF hd he h
      rw [m1_and] at hs
      exact br_f (nI_ge he (by omega)) (nm_e (nm_r (nI_1 e) (K2 _ hs)))
theorem i_vc0 (k0 : Int32) (k1 : Int32) (k2 : Int32) (k3 : Int32) : wpX_init (fun u => wpY_init (fun v => i_Rel 4 u v) k0 k1 k2 k3) k0 k1 k2 k3 := by
  obtain ⟨mp, p1, p2, pX, pY⟩ := cp_out k0 (lo := 1) (hi := 8) (by omega) (by omega)
  obtain ⟨mn, n1, n2, nX, nY⟩ := cp_out k1 (lo := 4) (hi := 16) (by omega) (by omega)
  obtain ⟨F, f1, f2, fX, fY⟩ := cp_out k2 (lo := 2) (hi := 4) (by omega) (by omega)
  obtain ⟨ml, l1, l2, lX, lY⟩ := cp_out k3 (lo := 4) (hi := 24) (by omega) (by omega)
  unfold wpX_init
  refine pX _ _ (nX _ _ (fX _ _ (lX _ _ (in_X f2 (fun cm hcm => ?_)))))
  unfold wpY_init
  refine pY _ _ (nY _ _ (fY _ _ (lY _ _ ?_)))
  refine re_in (k := 4) (mp := mp) (mn := mn) (ml := ml) (cm := cm) (so := 0) (rc := 0) (tl := -5) (wc := 0) (C := fun _ => 0) (H := fun _ => 0) (K := fun _ => 0) (Lk := fun _ => 0) (M := fun _ => 0) (W := fun _ => 0) (PN := fun _ => 0) (PF := fun _ => 0) (PD := fun _ => 0) (K1 := fun _ => 0) (Lk1 := fun _ => 0) (OC := fun _ => 0) (g := g0_g F) (L := 0) (dn := fun _ => 0) (s := s0_s) (y := y0_y) ⟨⟨⟨f1, f2, ?_, ?_, ?_⟩, ?_, ?_, ?_⟩, ?_, ⟨?_, p2⟩, ⟨?_, n2⟩, ⟨?_, l2⟩, hcm⟩ (Or.inl rfl) (Or.inl rfl)
  · exact Nat.zero_le _
  · exact Nat.zero_le _
  · exact Nat.zero_le _
  · intro p hp
    exact absurd hp (Nat.not_lt_zero _)
  · intro p hp
    exact absurd hp (Nat.not_lt_zero _)
  · intro p hp
    exact absurd hp (Nat.not_lt_zero _)
  · intro p hp
    exact absurd hp (Nat.not_lt_zero _)
  · exact Nat.zero_le _
  · exact Nat.zero_le _
  · exact Nat.zero_le _
end S26
end
