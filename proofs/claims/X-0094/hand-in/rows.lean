section
theorem pk_us {f : Nat → Int32} {k : Nat} {x : Int32} : upd f k x k = x := if_pos rfl
theorem pk_un {f : Nat → Int32} {k j : Nat} {x : Int32} (h : j ≠ k) : upd f k x j = f j := if_neg h
theorem pk_sub {a b : Nat} (h : b ≤ a) : nI a - nI b = nI (a - b) := by
  obtain ⟨c, rfl⟩ : ∃ c, a = c + b := ⟨a - b, by omega⟩
  rw [← nI_add, Int32.add_sub_cancel, Nat.add_sub_cancel]
theorem pk_m1 (n : Nat) : nI (n + 1) + (-1) = nI n := by
  rw [← nI_1, Int32.add_assoc, show (1 : Int32) + (-1) = 0 from rfl, Int32.add_zero]
theorem pk_mul (a b : Nat) : nI a * nI b = nI (a * b) := (Int32.ofNat_mul a b).symm
theorem pk_sub_toInt {a b : Nat} (ha : a < 2 ^ 30) (hb : b < 2 ^ 30) : (nI a - nI b).toInt = (a : Int) - b := by
  rw [Int32.toInt_sub, nI_toInt (by omega), nI_toInt (by omega)]
  exact Int.bmod_eq_of_le (by omega) (by omega)
theorem pk_sneg {a b : Nat} (hb : b < 2 ^ 30) (h : a < b) : nI a - nI b < 0 := by
  rw [Int32.lt_iff_toInt_lt, pk_sub_toInt (by omega) hb, show (0 : Int32).toInt = 0 from by decide]
  omega
theorem pk_ix (x : Int32) {n : Nat} (hn : n < 2 ^ 31) : x < 0 ∨ nI n ≤ x ∨ ∃ j : Nat, j < n ∧ x = nI j := by
  by_cases h : x < 0
  · exact Or.inl h
  · obtain ⟨j, hj, rfl⟩ := nI_of h
    by_cases h2 : j < n
    · exact Or.inr (Or.inr ⟨j, h2, rfl⟩)
    · exact Or.inr (Or.inl (nI_le (by omega) hj))
theorem pk_le {x y : Int32} {A B : Prop} (a b : Nat) (f : a ≤ b → A) (g : b < a → B) (hx : x = nI a := by rfl) (hy : y = nI b := by rfl) (ha : a < 2 ^ 31 := by omega) (hb : b < 2 ^ 31 := by omega) : (x ≤ y → A) ∧ (¬ x ≤ y → B) := by
  subst hx hy
  rw [nI_leI ha hb]
  exact ⟨f, fun z => g (by omega)⟩
theorem pk_lt {x y : Int32} {A B : Prop} (a b : Nat) (f : a < b → A) (g : b ≤ a → B) (hx : x = nI a := by rfl) (hy : y = nI b := by rfl) (ha : a < 2 ^ 31 := by omega) (hb : b < 2 ^ 31 := by omega) : (x < y → A) ∧ (¬ x < y → B) := by
  subst hx hy
  rw [nI_ltI ha hb]
  exact ⟨f, fun z => g (by omega)⟩
theorem pk_eq {x y : Int32} {A B : Prop} (a b : Nat) (f : a = b → A) (g : a ≠ b → B) (hx : x = nI a := by rfl) (hy : y = nI b := by rfl) (ha : a < 2 ^ 31 := by omega) (hb : b < 2 ^ 31 := by omega) : (x = y → A) ∧ (¬ x = y → B) := by
  subst hx hy
  rw [nI_eq ha hb]
  exact ⟨f, g⟩
theorem pk_in {x : Int32} (n N : Nat) (h : n < N) (hx : x = nI n := by rfl) (hN : N < 2 ^ 31 := by omega) : vp_in x N := by
  subst hx
  exact vp_in_nI h hN
theorem pk_cl {x : Int32} (n : Nat) (hx : x = nI n := by rfl) (h : n < 2 ^ 31 := by omega) : x.toNatClampNeg = n := by
  subst hx
  exact nI_clamp h
theorem pk_tn {n : Nat} (h : n < 2 ^ 32) : (nI n).toBitVec.toNat = n := Nat.mod_eq_of_lt h
theorem pk_and (x : Int32) {m : Int32} (k : Nat) (hm : m.toBitVec.toNat = 2 ^ k - 1) : x &&& m = nI (x.toBitVec.toNat % 2 ^ k) := by
  apply Int32.toBitVec_inj.mp
  apply BitVec.eq_of_toNat_eq
  rw [Int32.toBitVec_and, BitVec.toNat_and, hm, Nat.and_two_pow_sub_one_eq_mod]
  show _ = (BitVec.ofNat 32 _).toNat
  rw [BitVec.toNat_ofNat]
  exact (Nat.mod_eq_of_lt (Nat.lt_of_le_of_lt (Nat.mod_le _ _) x.toBitVec.isLt)).symm
theorem pk_andN {n : Nat} (h : n < 2 ^ 32) {m : Int32} (k : Nat) (hm : m.toBitVec.toNat = 2 ^ k - 1) : nI n &&& m = nI (n % 2 ^ k) := by
  rw [pk_and _ k hm, pk_tn h]
theorem pk_andE (x : Int32) {m : Int32} (k : Nat) (hm : m.toBitVec.toNat = 2 ^ k - 1) : ∃ j : Nat, j < 2 ^ k ∧ x &&& m = nI j := ⟨_, Nat.mod_lt _ (Nat.two_pow_pos k), pk_and x k hm⟩
theorem pk_andIn (x : Int32) {m : Int32} (k : Nat) (hm : m.toBitVec.toNat = 2 ^ k - 1) (hk : k ≤ 30) : vp_in (x &&& m) (2 ^ k) := by
  obtain ⟨j, hj, e⟩ := pk_andE x k hm
  rw [e]
  exact vp_in_nI hj (Nat.lt_of_le_of_lt (Nat.pow_le_pow_right (by decide) hk) (by decide))
theorem pk_shl (a s : Int32) (k : Nat) (hs : (s.toBitVec.smod 32).toNat = k) : (a <<< s).toBitVec.toNat = a.toBitVec.toNat * 2 ^ k % 2 ^ 32 := by
  show (a.toBitVec <<< (s.toBitVec.smod 32).toNat).toNat = _
  rw [hs, BitVec.toNat_shiftLeft, Nat.shiftLeft_eq]
theorem pk_shlN {n : Nat} (s : Int32) (k : Nat) (hs : (s.toBitVec.smod 32).toNat = k) (h : n * 2 ^ k < 2 ^ 32) : nI n <<< s = nI (n * 2 ^ k) := by
  apply Int32.toBitVec_inj.mp
  apply BitVec.eq_of_toNat_eq
  have hn : n < 2 ^ 32 := Nat.lt_of_le_of_lt (Nat.le_mul_of_pos_right n (Nat.two_pow_pos k)) h
  rw [pk_shl _ _ k hs, pk_tn hn, pk_tn h, Nat.mod_eq_of_lt h]
theorem pk_shr (a s : Int32) (k : Nat) (hs : (s.toBitVec.smod 32).toNat = k) : (a >>> s).toInt = a.toInt >>> k := by
  show (a.toBitVec.sshiftRight (s.toBitVec.smod 32).toNat).toInt = _
  rw [hs, BitVec.toInt_sshiftRight]
  rfl
theorem pk_shrN {n : Nat} (h : n < 2 ^ 31) (s : Int32) (k : Nat) (hs : (s.toBitVec.smod 32).toNat = k) : nI n >>> s = nI (n / 2 ^ k) := by
  apply Int32.toInt_inj.mp
  have h2 : n / 2 ^ k ≤ n := Nat.div_le_self _ _
  rw [pk_shr _ _ k hs, nI_toInt h, nI_toInt (by omega), Int.shiftRight_eq_div_pow]
  rfl
def bt (x : Int32) (i : Nat) : Bool := x.toBitVec.getLsbD i
theorem b_ext {x y : Int32} (h : ∀ i, i < 32 → bt x i = bt y i) : x = y := Int32.toBitVec_inj.mp (BitVec.eq_of_getLsbD_eq (fun i hi => h i hi))
theorem b_or (x y : Int32) (i : Nat) : bt (x ||| y) i = (bt x i || bt y i) := by unfold bt; rw [Int32.toBitVec_or, BitVec.getLsbD_or]
theorem b_and (x y : Int32) (i : Nat) : bt (x &&& y) i = (bt x i && bt y i) := by unfold bt; rw [Int32.toBitVec_and, BitVec.getLsbD_and]
theorem b_xor (x y : Int32) (i : Nat) : bt (x ^^^ y) i = (bt x i ^^ bt y i) := by unfold bt; rw [Int32.toBitVec_xor, BitVec.getLsbD_xor]
theorem b_big {x : Int32} {i : Nat} (h : 32 ≤ i) : bt x i = false := BitVec.getLsbD_of_ge _ _ h
theorem b_255 (i : Nat) : bt 255 i = decide (i < 8) := by
  rcases Nat.lt_or_ge i 32 with h | h
  · exact (by decide +kernel : ∀ i, i < 32 → bt 255 i = decide (i < 8)) i h
  · rw [b_big h, decide_eq_false (by omega)]
theorem b_65535 (i : Nat) : bt 65535 i = decide (i < 16) := by
  rcases Nat.lt_or_ge i 32 with h | h
  · exact (by decide +kernel : ∀ i, i < 32 → bt 65535 i = decide (i < 16)) i h
  · rw [b_big h, decide_eq_false (by omega)]
theorem b_m1 : ∀ i, i < 32 → bt (-1) i = true := by decide +kernel
theorem b_0 (i : Nat) : bt 0 i = false := BitVec.getLsbD_zero
theorem s_l : ∀ n, n < 32 → ((nI n &&& 31).toBitVec.smod 32).toNat = n := by decide +kernel
theorem b_shl (n : Nat) (hn : n < 32) (x : Int32) {i : Nat} (hi : i < 32) : bt (x <<< (nI n &&& 31)) i = (decide (n ≤ i) && bt x (i - n)) := by
  unfold bt
  rw [Int32.toBitVec_shiftLeft]
  show (x.toBitVec <<< ((nI n &&& 31).toBitVec.smod 32).toNat).getLsbD i = _
  rw [s_l n hn, BitVec.getLsbD_shiftLeft]
  rcases Nat.lt_or_ge i n with h | h
  · simp [h, Nat.not_le.mpr h]
  · simp [hi, h, Nat.not_lt.mpr h]
theorem b_sshr (n : Nat) (hn : n < 32) (x : Int32) {i : Nat} (hi : i < 32) : bt (x >>> (nI n &&& 31)) i = if n + i < 32 then bt x (n + i) else bt x 31 := by
  unfold bt
  rw [Int32.toBitVec_shiftRight]
  show (x.toBitVec.sshiftRight ((nI n &&& 31).toBitVec.smod 32).toNat).getLsbD i = _
  rw [s_l n hn, BitVec.getLsbD_sshiftRight, BitVec.msb_eq_getLsbD_last]
  simp [hi]
theorem b_shl8 (x : Int32) {i : Nat} (hi : i < 32) : bt (x <<< ((8 : Int32) &&& 31)) i = (decide (8 ≤ i) && bt x (i - 8)) := b_shl 8 (by omega) x hi
theorem b_sshr8 (x : Int32) {i : Nat} (hi : i < 32) : bt (x >>> ((8 : Int32) &&& 31)) i = if 8 + i < 32 then bt x (8 + i) else bt x 31 := b_sshr 8 (by omega) x hi
theorem nx_and (a b : Nat) : nI a &&& nI b = nI (a &&& b) := by
  apply Int32.toBitVec_inj.1
  show BitVec.ofNat 32 a &&& BitVec.ofNat 32 b = BitVec.ofNat 32 (a &&& b)
  apply BitVec.eq_of_getLsbD_eq
  intro i hi
  simp [hi]
theorem nx_xor (a b : Nat) : nI a ^^^ nI b = nI (a ^^^ b) := by
  apply Int32.toBitVec_inj.1
  show BitVec.ofNat 32 a ^^^ BitVec.ofNat 32 b = BitVec.ofNat 32 (a ^^^ b)
  apply BitVec.eq_of_getLsbD_eq
  intro i hi
  simp [hi]
theorem nx_mod (k : Nat) : nI k &&& 65535 = nI (k % 65536) := by
  show nI k &&& nI 65535 = _
  rw [nx_and, show (65535 : Nat) = 2 ^ 16 - 1 from rfl, Nat.and_two_pow_sub_one_eq_mod]
theorem nx_m16 {k : Nat} (h : k < 65536) : nI k &&& 65535 = nI k := by rw [nx_mod, Nat.mod_eq_of_lt h]
theorem nx_mask (x : Int32) : ∃ k, k < 65536 ∧ x &&& 65535 = nI k := by
  have e : x = nI x.toBitVec.toNat := by
    apply Int32.toBitVec_inj.1
    show x.toBitVec = BitVec.ofNat 32 x.toBitVec.toNat
    simp
  refine ⟨x.toBitVec.toNat % 65536, Nat.mod_lt _ (by omega), ?_⟩
  rw [← nx_mod, ← e]
end
section
def pd_w (x : Int32) : Prop := ∃ n : Nat, n < 65536 ∧ x = nI n
def pd_M (b : Int32) : Nat := if b = 0 then 65536 else 256
def pd_b (b x : Int32) : Prop := ∃ n : Nat, n < pd_M b ∧ x = nI n
def pd_o (f : Int32) : Prop := ∃ n : Nat, n < 64 ∧ f = nI n
def pd_R (a : Nat → Int32) : Prop := ∀ i, pd_w (a i)
def pd_S (s : Int32) : Prop := s &&& 40975 = s
def pd_G (sB sL : Nat → Int32) : Prop := ∀ i, i < 16 → ∃ b l : Nat, b + l ≤ 128 ∧ sB i = nI b ∧ sL i = nI l
def pd_y (m : Nat → Int32) : Nat → Int32 := fun j => if j % 2 = 0 then m (j / 2) &&& 255 else m (j / 2) >>> ((8 : Int32) &&& 31)
def pd_x (md r : Int32) : Int32 := if r = 6 then 6 + 2 * md else r
theorem pd_w_and (x : Int32) : pd_w (x &&& 65535) := nx_mask x
theorem pd_w_of {x : Int32} (h : x &&& 65535 = x) : pd_w x := h ▸ pd_w_and x
theorem pd_w_ge {x : Int32} (h : pd_w x) : 0 ≤ x := by
  obtain ⟨n, hn, rfl⟩ := h
  exact nI_pos' (by omega)
theorem pd_w_nl {x : Int32} (h : pd_w x) : ¬ x < 0 := by
  obtain ⟨n, hn, rfl⟩ := h
  exact nI_pos (by omega)
theorem pd_w_lt {x : Int32} (h : pd_w x) : ¬ 65536 ≤ x := by
  obtain ⟨n, hn, rfl⟩ := h
  exact nI_ge (b := 65536) hn (by decide)
theorem pd_w_lt' {x : Int32} (h : pd_w x) : x < 65536 := by
  obtain ⟨n, hn, rfl⟩ := h
  exact nI_lt (b := 65536) hn (by decide)
theorem pd_w_id {x : Int32} (h : pd_w x) : x &&& 65535 = x := by
  obtain ⟨n, hn, rfl⟩ := h
  exact nx_m16 hn
theorem pd_M_0 : pd_M 0 = 65536 := if_pos rfl
theorem pd_M_n {b : Int32} (h : ¬ b = 0) : pd_M b = 256 := if_neg h
theorem pd_M_le (b : Int32) : pd_M b ≤ 65536 := by
  unfold pd_M
  split <;> omega
theorem pd_b_w {b x : Int32} (h : pd_b b x) : pd_w x := by
  obtain ⟨n, hn, e⟩ := h
  exact ⟨n, Nat.lt_of_lt_of_le hn (pd_M_le b), e⟩
theorem pd_w_b {x : Int32} (h : pd_w x) : pd_b 0 x := by
  obtain ⟨n, hn, e⟩ := h
  exact ⟨n, by rw [pd_M_0]; exact hn, e⟩
theorem pd_R_upd {a : Nat → Int32} {k : Nat} {x : Int32} (h : pd_R a) (hx : pd_w x) : pd_R (upd a k x) := by
  intro i
  by_cases e : i = k
  · rw [e, pk_us]; exact hx
  · rw [pk_un e]; exact h i
theorem pd_of (x : Int32) : x = nI x.toBitVec.toNat := by
  apply Int32.toBitVec_inj.1
  show x.toBitVec = BitVec.ofNat 32 x.toBitVec.toNat
  simp
theorem pd_S_le {s : Int32} (h : pd_S s) : ∃ n : Nat, n ≤ 40975 ∧ s = nI n := by
  refine ⟨s.toBitVec.toNat &&& 40975, Nat.and_le_right, ?_⟩
  rw [← nx_and, ← pd_of s]
  exact h.symm
theorem pd_S_w {s : Int32} (h : pd_S s) : pd_w s := by
  obtain ⟨n, hn, e⟩ := pd_S_le h
  exact ⟨n, by omega, e⟩
theorem pd_S_md {s : Int32} (h : pd_S s) : s >>> ((15 : Int32) &&& 31) = 0 ∨ s >>> ((15 : Int32) &&& 31) = 1 := by
  obtain ⟨n, hn, rfl⟩ := pd_S_le h
  rw [pk_shrN (by omega) _ 15 (by decide)]
  have h2 : n / 2 ^ 15 = 0 ∨ n / 2 ^ 15 = 1 := by omega
  rcases h2 with e | e
  · exact Or.inl (by rw [e]; rfl)
  · exact Or.inr (by rw [e]; rfl)
theorem pd_md1 (x : Int32) : x &&& 1 = 0 ∨ x &&& 1 = 1 := by
  obtain ⟨j, hj, e⟩ := pk_andE x (m := 1) 1 (by decide)
  have h2 : j = 0 ∨ j = 1 := by omega
  rcases h2 with rfl | rfl
  · exact Or.inl e
  · exact Or.inr e
theorem pd_S_and (x : Int32) : pd_S (x &&& 40975) := by
  unfold pd_S
  rw [Int32.and_assoc, Int32.and_self]
theorem pd_bits1 : ∀ i, i < 32 → (bt 40960 i = true → bt 40975 i = true) ∧ (bt 15 i = true → bt 40975 i = true) := by decide +kernel
theorem pd_S_or (s w : Int32) : pd_S ((s &&& 40960) ||| (w &&& 15)) := by
  apply b_ext
  intro i hi
  have ⟨h1, h2⟩ := pd_bits1 i hi
  rw [b_and, b_or, b_and, b_and]
  revert h1 h2
  cases bt s i <;> cases bt w i <;> cases bt 40960 i <;> cases bt 15 i <;> cases bt 40975 i <;> simp
theorem pd_lo : ∀ n, n < 16 → nI n &&& 15 = nI n := by decide +kernel
theorem pd_S_cod (s : Int32) {n : Nat} (h : n < 16) : pd_S ((s &&& 40960) ||| nI n) := by
  rw [← pd_lo n h]
  exact pd_S_or s _
theorem pd_S_tr0 : ∀ n, n < 16 → nI n + 0 &&& 40975 = nI n + 0 := by decide +kernel
theorem pd_S_tr1 : ∀ n, n < 16 → nI n + 8192 &&& 40975 = nI n + 8192 := by decide +kernel
theorem pd_x_k {md : Int32} (hm : md = 0 ∨ md = 1) {j : Nat} (hj : j < 8) : ∃ k : Nat, k < 9 ∧ pd_x md (nI j) = nI k := by
  by_cases e : j = 6
  · subst e
    rcases hm with rfl | rfl
    · exact ⟨6, by decide, by decide +kernel⟩
    · exact ⟨8, by decide, by decide +kernel⟩
  · refine ⟨j, by omega, ?_⟩
    unfold pd_x
    rw [if_neg]
    intro z
    exact e ((nI_eq (a := j) (b := 6) (by omega) (by omega)).mp z)
theorem pd_x_in {md r : Int32} (hm : md = 0 ∨ md = 1) (hr : ∃ j : Nat, j < 8 ∧ r = nI j) : vp_in (pd_x md r) 9 := by
  obtain ⟨j, hj, rfl⟩ := hr
  obtain ⟨k, hk, e⟩ := pd_x_k hm hj
  rw [e]
  exact vp_in_nI hk (by decide)
theorem pd_a7 (x : Int32) : ∃ j : Nat, j < 8 ∧ x &&& 7 = nI j := pk_andE x (m := 7) 3 (by decide)
theorem pd_a63 (x : Int32) : pd_o (x &&& 63) := pk_andE x (m := 63) 6 (by decide)
theorem pd_6 : ∃ j : Nat, j < 8 ∧ (6 : Int32) = nI j := ⟨6, by decide, rfl⟩
theorem pd_in7 : vp_in 7 9 := vp_in_iff.mpr (by decide)
theorem pd_in6 : vp_in 6 9 := vp_in_iff.mpr (by decide)
theorem pd_cl7 : (7 : Int32).toNatClampNeg = 7 := by decide
theorem pd_cl6 : (6 : Int32).toNatClampNeg = 6 := by decide
/-! bytes -/
theorem pd_y_e (m : Nat → Int32) (i : Nat) : pd_y m (2 * i) = m i &&& 255 := by
  show (if (2 * i) % 2 = 0 then m (2 * i / 2) &&& 255 else m (2 * i / 2) >>> ((8 : Int32) &&& 31)) = _
  rw [if_pos (by omega), show 2 * i / 2 = i by omega]
theorem pd_y_o (m : Nat → Int32) (i : Nat) : pd_y m (2 * i + 1) = m i >>> ((8 : Int32) &&& 31) := by
  show (if (2 * i + 1) % 2 = 0 then m ((2 * i + 1) / 2) &&& 255 else m ((2 * i + 1) / 2) >>> ((8 : Int32) &&& 31)) = _
  rw [if_neg (by omega), show (2 * i + 1) / 2 = i by omega]
theorem pd_y_upd (m : Nat → Int32) (i : Nat) (x : Int32) (j : Nat) : pd_y (upd m i x) j = if j = 2 * i then x &&& 255 else if j = 2 * i + 1 then x >>> ((8 : Int32) &&& 31) else pd_y m j := by
  show (if j % 2 = 0 then upd m i x (j / 2) &&& 255 else upd m i x (j / 2) >>> ((8 : Int32) &&& 31)) = _
  by_cases h1 : j = 2 * i
  · subst h1
    rw [if_pos rfl, if_pos (by omega), show 2 * i / 2 = i by omega, pk_us]
  · by_cases h2 : j = 2 * i + 1
    · subst h2
      rw [if_neg h1, if_pos rfl, if_neg (by omega), show (2 * i + 1) / 2 = i by omega, pk_us]
    · rw [if_neg h1, if_neg h2, pk_un (by omega)]
      rfl
theorem pd_w_sh {x : Int32} (h : pd_w x) : ∃ n : Nat, n < 256 ∧ x >>> ((8 : Int32) &&& 31) = nI n := by
  obtain ⟨n, hn, rfl⟩ := h
  exact ⟨n / 2 ^ 8, by omega, pk_shrN (by omega) _ 8 (by decide)⟩
theorem pd_255 {n : Nat} (h : n < 256) : nI n &&& 255 = nI n := by
  rw [pk_andN (by omega) 8 (by decide), Nat.mod_eq_of_lt h]
theorem pd_sh255 {x : Int32} (h : pd_w x) : x >>> ((8 : Int32) &&& 31) &&& 255 = x >>> ((8 : Int32) &&& 31) := by
  obtain ⟨n, hn, e⟩ := pd_w_sh h
  rw [e]
  exact pd_255 hn
theorem pd_y_rd {m : Nat → Int32} {i : Nat} (h : pd_w (m i)) : pd_y m (2 * i) + 256 * pd_y m (2 * i + 1) = m i := by
  rw [pd_y_e, pd_y_o]
  obtain ⟨n, hn, e⟩ := h
  rw [e, pk_andN (by omega) 8 (by decide), pk_shrN (by omega) _ 8 (by decide), show (256 : Int32) = nI 256 from rfl, pk_mul, nI_add]
  congr 1
  omega
theorem pd_y_w {m : Nat → Int32} {i : Nat} {x : Int32} (h : pd_w x) : upd (upd (pd_y m) (2 * i) (x &&& 255)) (2 * i + 1) (x >>> ((8 : Int32) &&& 31) &&& 255) = pd_y (upd m i x) := by
  funext j
  rw [pd_y_upd, pd_sh255 h]
  by_cases h2 : j = 2 * i + 1
  · subst h2
    rw [pk_us, if_neg (by omega), if_pos rfl]
  · rw [pk_un h2, if_neg h2]
    by_cases h1 : j = 2 * i
    · subst h1
      rw [pk_us, if_pos rfl]
    · rw [pk_un h1, if_neg h1]
theorem pd_bits2 : ∀ i, i < 32 → bt 65280 i = (decide (8 ≤ i) && decide (i < 16)) := by decide +kernel
theorem pd_bt16 {a : Int32} (h : pd_w a) {i : Nat} (hi : 16 ≤ i) : bt a i = false := by
  rw [← pd_w_id h, b_and, b_65535, decide_eq_false (by omega), Bool.and_false]
theorem pd_bt8 {a : Int32} (h : ∃ n : Nat, n < 256 ∧ a = nI n) {i : Nat} (hi : 8 ≤ i) : bt a i = false := by
  obtain ⟨n, hn, rfl⟩ := h
  rw [← pd_255 hn, b_and, b_255, decide_eq_false (by omega), Bool.and_false]
theorem pd_be1 {a x : Int32} : x &&& 255 = ((a &&& 65280) ||| x) &&& 255 := by
  apply b_ext
  intro i hi
  rw [b_and, b_and, b_or, b_and, b_255, pd_bits2 i hi]
  by_cases h : i < 8
  · simp [h, Nat.not_le.mpr h]
  · simp [h]
theorem pd_be2 {a x : Int32} (ha : pd_w a) (hx : ∃ n : Nat, n < 256 ∧ x = nI n) : a >>> ((8 : Int32) &&& 31) = ((a &&& 65280) ||| x) >>> ((8 : Int32) &&& 31) := by
  apply b_ext
  intro i hi
  rw [b_sshr8 _ hi, b_sshr8 _ hi]
  by_cases h : 8 + i < 32
  · rw [if_pos h, if_pos h, b_or, b_and, pd_bits2 _ h, pd_bt8 hx (by omega)]
    by_cases h2 : 8 + i < 16
    · simp [h2]
    · rw [pd_bt16 ha (by omega)]; simp
  · rw [if_neg h, if_neg h, b_or, b_and, pd_bt8 hx (by omega), pd_bt16 ha (by omega)]; simp
theorem pd_be3 {a x : Int32} (hx : ∃ n : Nat, n < 256 ∧ x = nI n) : pd_w ((a &&& 65280) ||| x) := by
  apply pd_w_of
  apply b_ext
  intro i hi
  rw [b_and, b_or, b_and, b_65535, pd_bits2 i hi]
  by_cases h : i < 16
  · simp [h]
  · rw [pd_bt8 hx (by omega)]; simp [h]
theorem pd_bo1 {a x : Int32} : a &&& 255 = ((a &&& 255) ||| (x <<< ((8 : Int32) &&& 31))) &&& 255 := by
  apply b_ext
  intro i hi
  rw [b_and, b_and, b_or, b_and, b_255, b_shl8 _ hi]
  by_cases h : i < 8
  · simp [h, Nat.not_le.mpr h]
  · simp [h]
theorem pd_bo2 {a x : Int32} (hx : ∃ n : Nat, n < 256 ∧ x = nI n) : x &&& 255 = ((a &&& 255) ||| (x <<< ((8 : Int32) &&& 31))) >>> ((8 : Int32) &&& 31) := by
  apply b_ext
  intro i hi
  rw [b_sshr8 _ hi, b_and, b_255]
  by_cases h : 8 + i < 32
  · rw [if_pos h, b_or, b_and, b_255, b_shl8 _ h, show 8 + i - 8 = i by omega]
    have h3 : ¬ 8 + i < 8 := by omega
    by_cases h2 : i < 8
    · simp [h2, h3]
    · rw [pd_bt8 hx (by omega)]; simp
  · rw [if_neg h, b_or, b_and, b_255, b_shl8 _ (by omega : 31 < 32), pd_bt8 hx (by omega : 8 ≤ 31 - 8), pd_bt8 hx (by omega : 8 ≤ i)]; simp
theorem pd_bo3 {a x : Int32} (hx : ∃ n : Nat, n < 256 ∧ x = nI n) : pd_w ((a &&& 255) ||| (x <<< ((8 : Int32) &&& 31))) := by
  apply pd_w_of
  apply b_ext
  intro i hi
  rw [b_and, b_or, b_and, b_65535, b_255, b_shl8 _ hi]
  by_cases h : i < 16
  · simp [h]
  · rw [pd_bt8 hx (by omega : 8 ≤ i - 8)]
    have h2 : ¬ i < 8 := by omega
    simp [h2]
theorem pd_y_be {m : Nat → Int32} {i : Nat} {x : Int32} (ha : pd_w (m i)) (hx : ∃ n : Nat, n < 256 ∧ x = nI n) : upd (pd_y m) (2 * i) (x &&& 255) = pd_y (upd m i ((m i &&& 65280) ||| x)) := by
  funext j
  rw [pd_y_upd, ← pd_be1, ← pd_be2 ha hx]
  by_cases h1 : j = 2 * i
  · subst h1
    rw [pk_us, if_pos rfl]
  · rw [pk_un h1, if_neg h1]
    by_cases h2 : j = 2 * i + 1
    · subst h2
      rw [if_pos rfl, pd_y_o]
    · rw [if_neg h2]
theorem pd_y_bo {m : Nat → Int32} {i : Nat} {x : Int32} (hx : ∃ n : Nat, n < 256 ∧ x = nI n) : upd (pd_y m) (2 * i + 1) (x &&& 255) = pd_y (upd m i ((m i &&& 255) ||| (x <<< ((8 : Int32) &&& 31)))) := by
  funext j
  rw [pd_y_upd, ← pd_bo1, ← pd_bo2 hx]
  by_cases h2 : j = 2 * i + 1
  · subst h2
    rw [pk_us, if_neg (by omega), if_pos rfl]
  · rw [pk_un h2, if_neg h2]
    by_cases h1 : j = 2 * i
    · subst h1
      rw [if_pos rfl, pd_y_e]
    · rw [if_neg h1]
/-! poke -/
theorem pd_pk1 (v : Int32) : v &&& 255 = (v &&& 65535) &&& 255 := by
  rw [Int32.and_assoc]
  rfl
theorem pd_pk2 (v : Int32) : v >>> ((8 : Int32) &&& 31) &&& 255 = (v &&& 65535) >>> ((8 : Int32) &&& 31) &&& 255 := by
  apply b_ext
  intro i hi
  rw [b_and, b_and, b_sshr8 _ hi, b_sshr8 _ hi, b_255, b_and, b_and, b_65535, b_65535]
  by_cases h : i < 8
  · have h1 : 8 + i < 32 := by omega
    have h2 : 8 + i < 16 := by omega
    simp [h1, h2]
  · simp [h]
end
section
def pd_sl (sp v : Int32) : Int32 := 8 * sp + v >>> ((13 : Int32) &&& 31)
def pd_q (sB : Nat → Int32) (sp v : Int32) : Int32 := 2 * sB (pd_sl sp v).toNatClampNeg + (v &&& 8191)
def pd_f (sL sA : Nat → Int32) (sp v b wr : Int32) : Int32 :=
  if b = 0 ∧ ¬ (v &&& 1) = 0 then 1
  else if sA (pd_sl sp v).toNatClampNeg = 0 then 2
  else if ¬ (v &&& 8191) < 2 * sL (pd_sl sp v).toNatClampNeg then 3
  else if ¬ wr = 0 ∧ sA (pd_sl sp v).toNatClampNeg = 1 then 4 else 0
theorem pd_sl_n {sp v : Int32} (hs : sp = 0 ∨ sp = 1) (hv : pd_w v) : ∃ j : Nat, j < 16 ∧ pd_sl sp v = nI j := by
  obtain ⟨n, hn, rfl⟩ := hv
  unfold pd_sl
  rw [pk_shrN (by omega) _ 13 (by decide)]
  rcases hs with rfl | rfl
  · refine ⟨n / 2 ^ 13, by omega, ?_⟩
    rw [show (8 : Int32) * 0 = nI 0 from rfl, nI_add]
    congr 1
    omega
  · refine ⟨8 + n / 2 ^ 13, by omega, ?_⟩
    rw [show (8 : Int32) * 1 = nI 8 from rfl, nI_add]
theorem pd_sl_in {sp v : Int32} (hs : sp = 0 ∨ sp = 1) (hv : pd_w v) : vp_in (pd_sl sp v) 16 := by
  obtain ⟨j, hj, e⟩ := pd_sl_n hs hv
  rw [e]
  exact vp_in_nI hj (by decide)
theorem pd_sl_15 {sp v : Int32} (hs : sp = 0 ∨ sp = 1) (hv : pd_w v) : pd_sl sp v &&& 15 = pd_sl sp v := by
  obtain ⟨j, hj, e⟩ := pd_sl_n hs hv
  rw [e]
  exact pd_lo j hj
theorem pd_ph {sB sL sA : Nat → Int32} {sp v b wr : Int32} (G : pd_G sB sL) (hs : sp = 0 ∨ sp = 1) (hv : pd_w v) (hf : pd_f sL sA sp v b wr = 0) : ∃ q : Nat, q < 256 ∧ pd_q sB sp v = nI q ∧ (b = 0 → q % 2 = 0) := by
  obtain ⟨j, hj, e⟩ := pd_sl_n hs hv
  unfold pd_f at hf
  unfold pd_q
  rw [e, nI_clamp (by omega)] at hf ⊢
  obtain ⟨bs, l, hbl, eb, el⟩ := G j hj
  rw [eb]
  rw [el] at hf
  obtain ⟨n, hn, rfl⟩ := hv
  have e1 : nI n &&& 8191 = nI (n % 8192) := pk_andN (by omega) 13 (by decide)
  have e2 : nI n &&& 1 = nI (n % 2) := pk_andN (by omega) 1 (by decide)
  have e3 : (2 : Int32) * nI l = nI (2 * l) := pk_mul 2 l
  have e4 : (2 : Int32) * nI bs = nI (2 * bs) := pk_mul 2 bs
  rw [e1, e2, e3] at hf
  rw [e1, e4, nI_add]
  split at hf
  · exact absurd hf (by decide)
  · rename_i h1
    split at hf
    · exact absurd hf (by decide)
    · split at hf
      · exact absurd hf (by decide)
      · rename_i h3
        have h6 := (nI_ltI (by omega) (by omega)).mp (Decidable.not_not.mp h3)
        refine ⟨2 * bs + n % 8192, by omega, rfl, fun hb => ?_⟩
        have h4 : nI (n % 2) = nI 0 := Decidable.not_not.mp (fun z => h1 ⟨hb, z⟩)
        have h5 := (nI_eq (by omega) (by omega)).mp h4
        omega
section
variable {w st c fa wh ov ca : Int32} {rg sv m sB sL sA : Nat → Int32}
theorem pd_X_tr {p : Int32 → SX → Prop} {sp v b wr : Int32} (hs : sp = 0 ∨ sp = 1) (hv : pd_w v)
    (h0 : pd_f sL sA sp v b wr = 0 → p (pd_q sB sp v) (w, st, c, 0, fa, ov, ca, rg, sv, m, sB, sL, sA))
    (h1 : ¬ pd_f sL sA sp v b wr = 0 → p (-1) (w, st, c, pd_f sL sA sp v b wr, 65536 * sp + v, ov, ca, rg, sv, m, sB, sL, sA)) :
    wpX_translate p (w, st, c, 0, fa, ov, ca, rg, sv, m, sB, sL, sA) sp v b wr := by
  have hj := pd_sl_in hs hv
  have K : ∀ cd, pd_f sL sA sp v b wr = cd → wX_translate_92 p sp v (pd_sl sp v) (v &&& 8191) cd w st c 0 fa ov ca rg sv m sB sL sA := by
    intro cd e
    subst e
    exact And.intro (fun z => ⟨hj, h0 z⟩) (fun z => nm_e (h1 z))
  have K37 : ¬ (b = 0 ∧ ¬ (v &&& 1) = 0) → wX_translate_37 p sp v wr (pd_sl sp v) (v &&& 8191) 0 w st c 0 fa ov ca rg sv m sB sL sA := by
    intro hn
    refine And.intro hj (br_c (fun h => K _ ?_) (fun ha => And.intro hj (br_c (fun hl => br_c (fun hw => K _ ?_) (fun hw => And.intro hj (br_c (fun h1 => K _ ?_) (fun h1 => K _ ?_)))) (fun hl => K _ ?_))))
    · rw [pd_f, if_neg hn, if_pos h]
    · rw [pd_f, if_neg hn, if_neg ha, if_neg (fun z => z hl), if_neg (fun z => z.1 hw)]
    · rw [pd_f, if_neg hn, if_neg ha, if_neg (fun z => z hl), if_pos ⟨hw, h1⟩]
    · rw [pd_f, if_neg hn, if_neg ha, if_neg (fun z => z hl), if_neg (fun z => h1 z.2)]
    · rw [pd_f, if_neg hn, if_neg ha, if_pos hl]
  unfold wpX_translate
  refine nm_e (nm_e ?_)
  exact br_c (fun hb => br_c (fun hv => K37 (fun z => z.2 hv)) (fun hv => K _ (by rw [pd_f, if_pos ⟨hb, hv⟩]))) (fun hb => K37 (fun z => hb z.1))
theorem pd_Y_pl {p : Int32 → SY → Prop} {y : Nat → Int32} {sp v b wr : Int32} (hs : sp = 0 ∨ sp = 1) (hv : pd_w v)
    (h0 : pd_f sL sA sp v b wr = 0 → p (pd_q sB sp v) (w, st, c, 0, wh, rg, sv, y, sB, sL, sA))
    (h1 : ¬ pd_f sL sA sp v b wr = 0 → p (-1) (w, st, c, pd_f sL sA sp v b wr, 65536 * sp + v, rg, sv, y, sB, sL, sA)) :
    wpY_place p (w, st, c, 0, wh, rg, sv, y, sB, sL, sA) sp v b wr := by
  have hj := pd_sl_in hs hv
  have K : ∀ cd, pd_f sL sA sp v b wr = cd → wY_place_110 p sp v (pd_sl sp v) (v &&& 8191) w st c cd wh rg sv y sB sL sA := by
    intro cd e
    by_cases z : cd = 0
    · subst z
      exact br_t rfl (br_t rfl ⟨hj, h0 e⟩)
    · subst e
      exact br_f z (nm_e (br_f z (h1 z)))
  have K49 : ¬ (b = 0 ∧ ¬ (v &&& 1) = 0) → wY_place_49 p sp v wr (pd_sl sp v) (v &&& 8191) w st c 0 wh rg sv y sB sL sA := by
    intro hn
    refine And.intro hj (br_c (fun h => K _ ?_) (fun ha => And.intro hj (br_c (fun hl => br_c (fun hw => K _ ?_) (fun hw => And.intro hj (br_c (fun h1 => K _ ?_) (fun h1 => K _ ?_)))) (fun hl => K _ ?_))))
    · rw [pd_f, if_neg hn, if_pos h]
    · rw [pd_f, if_neg hn, if_neg ha, if_neg (fun z => z hl), if_neg (fun z => z.1 hw)]
    · rw [pd_f, if_neg hn, if_neg ha, if_neg (fun z => z hl), if_pos ⟨hw, h1⟩]
    · rw [pd_f, if_neg hn, if_neg ha, if_neg (fun z => z hl), if_neg (fun z => h1 z.2)]
    · rw [pd_f, if_neg hn, if_neg ha, if_pos hl]
  have h01 : ¬ v &&& 1 = 1 → v &&& 1 = 0 := fun z => (pd_md1 v).resolve_right z
  have h10 : v &&& 1 = 1 → ¬ v &&& 1 = 0 := fun z z0 => absurd (z.symm.trans z0) (by decide)
  unfold wpY_place
  refine br_t rfl (nm_r (pd_sl_15 hs hv) (nm_e ?_))
  exact br_c (fun hb => br_c (fun hv => K _ (by rw [pd_f, if_pos ⟨hb, h10 hv⟩])) (fun hv => K49 (fun z => z.2 (h01 hv)))) (fun hb => K49 (fun z => hb z.1))
/-! reading -/
def pd_rd (sB m : Nat → Int32) (sp v b : Int32) : Int32 := if b = 0 then m ((pd_q sB sp v).toNatClampNeg / 2) else pd_y m (pd_q sB sp v).toNatClampNeg
theorem pd_rd_b {sp v b : Int32} (hm : pd_R m) : pd_b b (pd_rd sB m sp v b) := by
  unfold pd_rd
  by_cases hb : b = 0
  · subst hb
    rw [if_pos rfl]
    exact pd_w_b (hm _)
  · rw [if_neg hb]
    unfold pd_b
    rw [pd_M_n hb]
    unfold pd_y
    split
    · exact pk_andE _ (m := 255) 8 (by decide)
    · exact pd_w_sh (hm _)
theorem pd_X_rd {p : Int32 → SX → Prop} {sp v b : Int32} (G : pd_G sB sL) (hs : sp = 0 ∨ sp = 1) (hv : pd_w v)
    (h0 : pd_f sL sA sp v b 0 = 0 → p (pd_rd sB m sp v b) (w, st, c, 0, fa, ov, ca, rg, sv, m, sB, sL, sA))
    (h1 : ¬ pd_f sL sA sp v b 0 = 0 → p (-1) (w, st, c, pd_f sL sA sp v b 0, 65536 * sp + v, ov, ca, rg, sv, m, sB, sL, sA)) :
    wpX_read p (w, st, c, 0, fa, ov, ca, rg, sv, m, sB, sL, sA) sp v b := by
  unfold wpX_read
  refine pd_X_tr hs hv (fun z => ?_) (fun z => ?_)
  · obtain ⟨q, hq, eq, ev⟩ := pd_ph G hs hv z
    have h2 := h0 z
    unfold pd_rd at h2
    rw [eq, nI_clamp (by omega)] at h2
    rw [eq]
    have e1 : nI q >>> ((1 : Int32) &&& 31) = nI (q / 2) := pk_shrN (by omega) _ 1 (by decide)
    have e2 : nI q &&& 1 = nI (q % 2) := pk_andN (by omega) 1 (by decide)
    dsimp only
    refine br_t (nI_pos' (by omega)) ?_
    rw [e1, e2, nI_clamp (by omega)]
    refine And.intro (vp_in_nI (by omega) (by decide)) (nm_e (br_c (fun hb => ?_) (fun hb => ?_)))
    · rw [if_pos hb] at h2
      exact h2
    · rw [if_neg hb] at h2
      refine pk_eq (q % 2) 0 (fun h3 => ?_) (fun h3 => ?_)
      · obtain ⟨i, rfl⟩ : ∃ i, q = 2 * i := ⟨q / 2, by omega⟩
        rw [pd_y_e] at h2
        rw [show 2 * i / 2 = i by omega]
        exact h2
      · obtain ⟨i, rfl⟩ : ∃ i, q = 2 * i + 1 := ⟨q / 2, by omega⟩
        rw [pd_y_o] at h2
        rw [show (2 * i + 1) / 2 = i by omega]
        exact h2
  · exact br_f (by decide) (h1 z)
theorem pd_Y_rd {p : Int32 → SY → Prop} {sp v b : Int32} (G : pd_G sB sL) (hm : pd_R m) (hs : sp = 0 ∨ sp = 1) (hv : pd_w v)
    (h0 : pd_f sL sA sp v b 0 = 0 → p (pd_rd sB m sp v b) (w, st, c, 0, wh, rg, sv, pd_y m, sB, sL, sA))
    (h1 : ¬ pd_f sL sA sp v b 0 = 0 → p 0 (w, st, c, pd_f sL sA sp v b 0, 65536 * sp + v, rg, sv, pd_y m, sB, sL, sA)) :
    wpY_read p (w, st, c, 0, wh, rg, sv, pd_y m, sB, sL, sA) sp v b := by
  unfold wpY_read
  refine pd_Y_pl hs hv (fun z => ?_) (fun z => ?_)
  · obtain ⟨q, hq, eq, ev⟩ := pd_ph G hs hv z
    have h2 := h0 z
    unfold pd_rd at h2
    rw [eq, nI_clamp (by omega)] at h2
    rw [eq]
    dsimp only
    refine br_t (nI_pos' (by omega)) (br_c (fun hb => ?_) (fun hb => ?_))
    · rw [if_pos hb] at h2
      obtain ⟨i, rfl⟩ : ∃ i, q = 2 * i := ⟨q / 2, by have := ev hb; omega⟩
      rw [show 2 * i / 2 = i by omega] at h2
      rw [nI_1 (2 * i), nI_clamp (by omega), nI_clamp (by omega), pd_y_rd (hm i)]
      exact And.intro (vp_in_nI (by omega) (by decide)) (And.intro (vp_in_nI (by omega) (by decide)) h2)
    · rw [if_neg hb] at h2
      rw [nI_clamp (by omega)]
      exact And.intro (vp_in_nI (by omega) (by decide)) h2
  · exact br_f (by decide) (h1 z)
/-! writing -/
def pd_wr (sB m : Nat → Int32) (sp v b x : Int32) : Nat → Int32 :=
  upd m ((pd_q sB sp v).toNatClampNeg / 2) (if b = 0 then x else if (pd_q sB sp v).toNatClampNeg % 2 = 0 then (m ((pd_q sB sp v).toNatClampNeg / 2) &&& 65280) ||| x else (m ((pd_q sB sp v).toNatClampNeg / 2) &&& 255) ||| (x <<< ((8 : Int32) &&& 31)))
theorem pd_b_8 {b x : Int32} (h : ¬ b = 0) (hx : pd_b b x) : ∃ n : Nat, n < 256 ∧ x = nI n := by
  unfold pd_b at hx
  rw [pd_M_n h] at hx
  exact hx
theorem pd_wr_R {sp v b x : Int32} (hm : pd_R m) (hx : pd_b b x) : pd_R (pd_wr sB m sp v b x) := by
  unfold pd_wr
  apply pd_R_upd hm
  by_cases hb : b = 0
  · rw [if_pos hb]
    exact pd_b_w hx
  · rw [if_neg hb]
    split
    · exact pd_be3 (pd_b_8 hb hx)
    · exact pd_bo3 (pd_b_8 hb hx)
theorem pd_X_wr {p : Int32 → SX → Prop} {sp v b x : Int32} (G : pd_G sB sL) (hs : sp = 0 ∨ sp = 1) (hv : pd_w v)
    (h0 : pd_f sL sA sp v b 1 = 0 → p 1 (w, st, c, 0, fa, ov, ca, rg, sv, pd_wr sB m sp v b x, sB, sL, sA))
    (h1 : ¬ pd_f sL sA sp v b 1 = 0 → p 0 (w, st, c, pd_f sL sA sp v b 1, 65536 * sp + v, ov, ca, rg, sv, m, sB, sL, sA)) :
    wpX_write p (w, st, c, 0, fa, ov, ca, rg, sv, m, sB, sL, sA) sp v x b := by
  unfold wpX_write
  refine pd_X_tr hs hv (fun z => ?_) (fun z => ?_)
  · obtain ⟨q, hq, eq, ev⟩ := pd_ph G hs hv z
    have h2 := h0 z
    unfold pd_wr at h2
    rw [eq, nI_clamp (by omega)] at h2
    rw [eq]
    have e1 : nI q >>> ((1 : Int32) &&& 31) = nI (q / 2) := pk_shrN (by omega) _ 1 (by decide)
    have e2 : nI q &&& 1 = nI (q % 2) := pk_andN (by omega) 1 (by decide)
    have hi : vp_in (nI (q / 2)) 128 := vp_in_nI (by omega) (by decide)
    dsimp only
    refine br_t (nI_pos' (by omega)) (nm_r e1 ?_)
    rw [e2, nI_clamp (by omega)]
    refine br_c (fun hb => ?_) (fun hb => ?_)
    · rw [if_pos hb] at h2
      exact And.intro hi (nm_e h2)
    · rw [if_neg hb] at h2
      refine pk_eq (q % 2) 0 (fun h3 => ?_) (fun h3 => ?_)
      · rw [if_pos h3] at h2
        exact And.intro hi (And.intro hi (nm_e h2))
      · rw [if_neg h3] at h2
        exact And.intro hi (And.intro hi (nm_e h2))
  · exact br_f (by decide) (h1 z)
theorem pd_Y_wr {p : SY → Prop} {sp v b x : Int32} (G : pd_G sB sL) (hm : pd_R m) (hs : sp = 0 ∨ sp = 1) (hv : pd_w v) (hx : pd_b b x)
    (h0 : pd_f sL sA sp v b 1 = 0 → p (w, st, c, 0, wh, rg, sv, pd_y (pd_wr sB m sp v b x), sB, sL, sA))
    (h1 : ¬ pd_f sL sA sp v b 1 = 0 → p (w, st, c, pd_f sL sA sp v b 1, 65536 * sp + v, rg, sv, pd_y m, sB, sL, sA)) :
    wpY_write p (w, st, c, 0, wh, rg, sv, pd_y m, sB, sL, sA) sp v b x := by
  unfold wpY_write
  refine pd_Y_pl hs hv (fun z => ?_) (fun z => ?_)
  · obtain ⟨q, hq, eq, ev⟩ := pd_ph G hs hv z
    have h2 := h0 z
    unfold pd_wr at h2
    rw [eq, nI_clamp (by omega)] at h2
    rw [eq]
    have hi : vp_in (nI q) 256 := vp_in_nI (by omega) (by decide)
    have hn : ¬ nI q < 0 := nI_pos (by omega)
    dsimp only
    rw [nI_clamp (by omega)]
    refine br_f hn (And.intro hi (nm_e (br_f hn (br_c (fun hb => ?_) (fun hb => ?_)))))
    · rw [if_pos hb] at h2
      obtain ⟨i, rfl⟩ : ∃ i, q = 2 * i := ⟨q / 2, by have := ev hb; omega⟩
      rw [show 2 * i / 2 = i by omega, ← pd_y_w (pd_b_w hx)] at h2
      rw [nI_1 (2 * i), nI_clamp (by omega)]
      exact And.intro (vp_in_nI (by omega) (by decide)) (nm_e h2)
    · rw [if_neg hb] at h2
      have h8 := pd_b_8 hb hx
      by_cases h3 : q % 2 = 0
      · rw [if_pos h3] at h2
        obtain ⟨i, rfl⟩ : ∃ i, q = 2 * i := ⟨q / 2, by omega⟩
        rw [show 2 * i / 2 = i by omega, ← pd_y_be (hm i) h8] at h2
        exact h2
      · rw [if_neg h3] at h2
        obtain ⟨i, rfl⟩ : ∃ i, q = 2 * i + 1 := ⟨q / 2, by omega⟩
        rw [show (2 * i + 1) / 2 = i by omega, ← pd_y_bo h8] at h2
        exact h2
  · have hm1 : (-1 : Int32) < 0 := by decide
    exact br_t hm1 (br_t hm1 (h1 z))
end
end
section
/-- one outcome of an access that gives a number: alive on both sides (X's rX, Y's rY), or dead on both -/
def pd_L (w st c fa wh ov ca : Int32) (sv m sB sL sA : Nat → Int32) (Q : Int32 → Int32 → Prop) (PX : (Int32 → SX → Prop) → Prop) (PY : (Int32 → SY → Prop) → Prop) : Prop :=
  (∃ (rX rY : Int32) (rg : Nat → Int32), Q rX rY ∧ pd_R rg ∧ (∀ p : Int32 → SX → Prop, p rX (w, st, c, 0, fa, ov, ca, rg, sv, m, sB, sL, sA) → PX p) ∧ (∀ p : Int32 → SY → Prop, p rY (w, st, c, 0, wh, rg, sv, pd_y m, sB, sL, sA) → PY p)) ∨
  (∃ (re ad : Int32) (rg : Nat → Int32), ¬ re = 0 ∧ pd_R rg ∧ (∀ p : Int32 → SX → Prop, p (-1) (w, st, c, re, ad, ov, ca, rg, sv, m, sB, sL, sA) → PX p) ∧ (∀ p : Int32 → SY → Prop, (∀ r, p r (w, st, c, re, ad, rg, sv, pd_y m, sB, sL, sA)) → PY p))
/-- one outcome of a write -/
def pd_W (w st c fa wh ov ca : Int32) (sv m sB sL sA : Nat → Int32) (PX : (Int32 → SX → Prop) → Prop) (PY : (SY → Prop) → Prop) : Prop :=
  (∃ rg m' : Nat → Int32, pd_R rg ∧ pd_R m' ∧ (∀ p : Int32 → SX → Prop, p 1 (w, st, c, 0, fa, ov, ca, rg, sv, m', sB, sL, sA) → PX p) ∧ (∀ p : SY → Prop, p (w, st, c, 0, wh, rg, sv, pd_y m', sB, sL, sA) → PY p)) ∨
  (∃ (re ad : Int32) (rg : Nat → Int32), ¬ re = 0 ∧ pd_R rg ∧ (∀ p : Int32 → SX → Prop, p 0 (w, st, c, re, ad, ov, ca, rg, sv, m, sB, sL, sA) → PX p) ∧ (∀ p : SY → Prop, p (w, st, c, re, ad, rg, sv, pd_y m, sB, sL, sA) → PY p))
/-- one outcome of an instruction -/
def pd_E (w st c fa wh : Int32) (sv m sB sL sA : Nat → Int32) (PX : (Int32 → SX → Prop) → Prop) (PY : (SY → Prop) → Prop) : Prop :=
  (∃ (st' ov ca : Int32) (rg m' : Nat → Int32), pd_S st' ∧ pd_R rg ∧ pd_R m' ∧ (∀ p : Int32 → SX → Prop, p 0 (w, st', c, 0, fa, ov, ca, rg, sv, m', sB, sL, sA) → PX p) ∧ (∀ p : SY → Prop, p (w, st', c, 0, wh, rg, sv, pd_y m', sB, sL, sA) → PY p)) ∨
  (∃ (re ad ov ca : Int32) (rg : Nat → Int32), ¬ re = 0 ∧ pd_R rg ∧ (∀ p : Int32 → SX → Prop, p 3 (w, st, c, re, ad, ov, ca, rg, sv, m, sB, sL, sA) → PX p) ∧ (∀ p : SY → Prop, (∀ st', p (w, st', c, re, ad, rg, sv, pd_y m, sB, sL, sA)) → PY p))
def pd_Q (b rX rY : Int32) : Prop := rY = rX ∧ pd_b b rX
section
variable {w st c fa wh ov ca re ad : Int32} {rg sv m y sB sL sA : Nat → Int32}
/-! index, cell, stackOf -/
theorem pd_X_ix {p : Int32 → Prop} {u : SX} {md r : Int32} (hm : md = 0 ∨ md = 1) (h : p (pd_x md r)) : wpX_index p u r md := by
  obtain ⟨w, st, c, re, fa, ov, ca, rg, sv, m, sB, sL, sA⟩ := u
  unfold wpX_index
  by_cases e : r = 6
  · subst e
    rcases hm with rfl | rfl
    · rw [show pd_x 0 6 = 6 by decide +kernel] at h
      exact br_t rfl (br_f (by decide) h)
    · rw [show pd_x 1 6 = 8 by decide +kernel] at h
      exact br_t rfl (br_t rfl h)
  · unfold pd_x at h
    rw [if_neg e] at h
    exact br_f e h
theorem pd_X_so {p : Int32 → Prop} {u : SX} {md : Int32} (hm : md = 0 ∨ md = 1) (h : p (pd_x md 6)) : wpX_stackOf p u md := by
  obtain ⟨w, st, c, re, fa, ov, ca, rg, sv, m, sB, sL, sA⟩ := u
  unfold wpX_stackOf
  rcases hm with rfl | rfl
  · rw [show pd_x 0 6 = 6 by decide +kernel] at h
    exact br_t rfl h
  · rw [show pd_x 1 6 = 8 by decide +kernel] at h
    exact br_f (by decide) h
theorem pd_Y_ce {p : Int32 → Prop} {r : Int32} (h : p (pd_x (st >>> ((15 : Int32) &&& 31)) r)) : wpY_cell p (w, st, c, re, ad, rg, sv, y, sB, sL, sA) r := by
  unfold wpY_cell
  unfold pd_x at h
  by_cases e : r = 6
  · rw [if_pos e] at h
    exact br_t e h
  · rw [if_neg e] at h
    exact br_f e h
/-! the dead reference: every effect is a no-op -/
theorem pd_D_pl {p : Int32 → SY → Prop} {a b d e : Int32} (hr : ¬ re = 0) (h : p (-1) (w, st, c, re, ad, rg, sv, y, sB, sL, sA)) : wpY_place p (w, st, c, re, ad, rg, sv, y, sB, sL, sA) a b d e := br_f hr h
theorem pd_D_rd {p : Int32 → SY → Prop} {a b d : Int32} (hr : ¬ re = 0) (h : p 0 (w, st, c, re, ad, rg, sv, y, sB, sL, sA)) : wpY_read p (w, st, c, re, ad, rg, sv, y, sB, sL, sA) a b d := by
  unfold wpY_read
  exact pd_D_pl hr (br_f (by decide) h)
theorem pd_D_wr {p : SY → Prop} {a b d e : Int32} (hr : ¬ re = 0) (h : p (w, st, c, re, ad, rg, sv, y, sB, sL, sA)) : wpY_write p (w, st, c, re, ad, rg, sv, y, sB, sL, sA) a b d e := by
  unfold wpY_write
  have hm1 : (-1 : Int32) < 0 := by decide
  exact pd_D_pl hr (br_t hm1 (br_t hm1 h))
theorem pd_D_pu {p : SY → Prop} {a b : Int32} (hr : ¬ re = 0) (h : p (w, st, c, re, ad, rg, sv, y, sB, sL, sA)) : wpY_put p (w, st, c, re, ad, rg, sv, y, sB, sL, sA) a b := br_f hr h
theorem pd_Y_pu {p : SY → Prop} {a b : Int32} (ha : vp_in a 9) (h : p (w, st, c, 0, wh, upd rg a.toNatClampNeg (b &&& 65535), sv, y, sB, sL, sA)) : wpY_put p (w, st, c, 0, wh, rg, sv, y, sB, sL, sA) a b := br_t rfl (And.intro ha (nm_e h))
theorem pd_D_nx {p : Int32 → SY → Prop} {a : Int32} (hr : ¬ re = 0) (ha : vp_in a 9) (h : p 0 (w, st, c, re, ad, rg, sv, y, sB, sL, sA)) : wpY_next p (w, st, c, re, ad, rg, sv, y, sB, sL, sA) a := by
  unfold wpY_next
  exact And.intro ha (nm_e (pd_D_pu hr (pd_D_rd hr h)))
theorem pd_D_ps {p : SY → Prop} {a : Int32} (hr : ¬ re = 0) (hst : pd_S st) (h : p (w, st, c, re, ad, rg, sv, y, sB, sL, sA)) : wpY_push p (w, st, c, re, ad, rg, sv, y, sB, sL, sA) a := by
  have hk := pd_x_in (pd_S_md hst) pd_6
  unfold wpY_push
  refine pd_Y_ce (And.intro hk (pd_D_pu hr (And.intro hk (pd_D_wr hr h))))
theorem pd_D_149 {p : Int32 → SY → Prop} {x6 : Int32} (hr : ¬ re = 0) (h : ∀ r, p r (w, st, c, re, ad, rg, sv, y, sB, sL, sA)) : wY_address_149 p x6 w st c re ad rg sv y sB sL sA := by
  unfold wY_address_149
  exact pd_D_rd hr (h _)
theorem pd_D_133 {p : Int32 → SY → Prop} {x3 x6 : Int32} (hr : ¬ re = 0) (h : ∀ r, p r (w, st, c, re, ad, rg, sv, y, sB, sL, sA)) : wY_address_133 p x3 x6 w st c re ad rg sv y sB sL sA := by
  unfold wY_address_133
  exact br_c (fun _ => pd_D_149 hr h) (fun _ => br_c (fun _ => pd_D_149 hr h) (fun _ => br_c (fun _ => pd_D_149 hr h) (fun _ => h _)))
theorem pd_D_104 {p : Int32 → SY → Prop} {x3 x4 x6 : Int32} (hr : ¬ re = 0) (hk : vp_in x4 9) (h : ∀ r, p r (w, st, c, re, ad, rg, sv, y, sB, sL, sA)) : wY_address_104 p x3 x4 x6 w st c re ad rg sv y sB sL sA := by
  unfold wY_address_104
  exact br_c (fun _ => pd_D_133 hr h) (fun _ => pd_D_nx hr pd_in7 (And.intro hk (nm_e (pd_D_133 hr h))))
theorem pd_D_84 {p : Int32 → SY → Prop} {x3 x4 x5 x6 : Int32} (hr : ¬ re = 0) (hk : vp_in x4 9) (h : ∀ r, p r (w, st, c, re, ad, rg, sv, y, sB, sL, sA)) : wY_address_84 p x3 x4 x5 x6 w st c re ad rg sv y sB sL sA := by
  unfold wY_address_84
  exact pd_D_pu hr (And.intro hk (nm_e (pd_D_104 hr hk h)))
theorem pd_D_74 {p : Int32 → SY → Prop} {x3 x4 x5 x6 : Int32} (hr : ¬ re = 0) (hk : vp_in x4 9) (h : ∀ r, p r (w, st, c, re, ad, rg, sv, y, sB, sL, sA)) : wY_address_74 p x3 x4 x5 x6 w st c re ad rg sv y sB sL sA := by
  unfold wY_address_74
  exact br_c (fun _ => pd_D_84 hr hk h) (fun _ => br_c (fun _ => pd_D_84 hr hk h) (fun _ => pd_D_104 hr hk h))
theorem pd_D_42 {p : Int32 → SY → Prop} {x3 x4 z0 : Int32} (hr : ¬ re = 0) (hk : vp_in x4 9) (h : ∀ r, p r (w, st, c, re, ad, rg, sv, y, sB, sL, sA)) : wY_address_42 p x3 x4 z0 w st c re ad rg sv y sB sL sA := by
  unfold wY_address_42
  have K : ∀ x6, wY_address_63 p x3 x4 z0 x6 w st c re ad rg sv y sB sL sA := by
    intro x6
    unfold wY_address_63
    exact pd_D_pu hr (pd_D_74 hr hk h)
  exact And.intro hk (nm_e (br_c (fun _ => K _) (fun _ => br_c (fun _ => K _) (fun _ => pd_D_74 hr hk h))))
theorem pd_D_ad {p : Int32 → SY → Prop} {f b : Int32} (hr : ¬ re = 0) (hst : pd_S st) (h : ∀ r, p r (w, st, c, re, ad, rg, sv, y, sB, sL, sA)) : wpY_address p (w, st, c, re, ad, rg, sv, y, sB, sL, sA) f b := by
  have hk := pd_x_in (pd_S_md hst) (pd_a7 f)
  have K : ∀ x3 z0, wY_address_42 p x3 (pd_x (st >>> ((15 : Int32) &&& 31)) (f &&& 7)) z0 w st c re ad rg sv y sB sL sA := fun x3 z0 => pd_D_42 hr hk h
  unfold wpY_address
  refine nm_e (pd_Y_ce ?_)
  exact br_c (fun _ => K _ _) (fun _ => br_c (fun _ => K _ _) (fun _ => br_c (fun _ => K _ _) (fun _ => br_c (fun _ => K _ _) (fun _ => K _ _))))
theorem pd_7 {f : Int32} (hf : pd_o f) : (f >>> ((3 : Int32) &&& 31) = 0 ∧ f ≤ 7 ∧ ¬ 8 ≤ f ∧ f &&& 7 = f ∧ ∃ j : Nat, j < 8 ∧ f = nI j) ∨ (¬ f >>> ((3 : Int32) &&& 31) = 0 ∧ ¬ f ≤ 7 ∧ 8 ≤ f) := by
  obtain ⟨n, hn, rfl⟩ := hf
  have e1 : nI n >>> ((3 : Int32) &&& 31) = nI (n / 2 ^ 3) := pk_shrN (by omega) _ 3 (by decide)
  have e2 : nI n &&& 7 = nI (n % 2 ^ 3) := pk_andN (by omega) 3 (by decide)
  rw [e1]
  by_cases h : n < 8
  · refine Or.inl ⟨?_, nI_le (b := 7) (by omega) (by decide), nI_ge (b := 8) h (by decide), ?_, n, h, rfl⟩
    · rw [show n / 2 ^ 3 = 0 by omega]; rfl
    · rw [e2, Nat.mod_eq_of_lt (by omega)]
  · refine Or.inr ⟨nI_ne0 (by omega) (by omega), nI_ge (a := 7) (by omega) (by omega), nI_le (a := 8) (by omega) (by omega)⟩
theorem pd_D_ld {p : Int32 → SY → Prop} {f a b : Int32} (hr : ¬ re = 0) (hst : pd_S st) (hf : pd_o f) (h : ∀ r, p r (w, st, c, re, ad, rg, sv, y, sB, sL, sA)) : wpY_load p (w, st, c, re, ad, rg, sv, y, sB, sL, sA) f a b := by
  unfold wpY_load
  rcases pd_7 hf with ⟨_, h7, _, _, hj⟩ | ⟨_, h7, _⟩
  · have hk := pd_x_in (pd_S_md hst) hj
    exact br_t h7 (pd_Y_ce (br_c (fun _ => And.intro hk (h _)) (fun _ => And.intro hk (h _))))
  · exact br_f h7 (pd_D_rd hr (h _))
theorem pd_D_so {p : SY → Prop} {f a b x : Int32} (hr : ¬ re = 0) (hst : pd_S st) (h : p (w, st, c, re, ad, rg, sv, y, sB, sL, sA)) : wpY_store p (w, st, c, re, ad, rg, sv, y, sB, sL, sA) f a b x := by
  have hk := pd_x_in (pd_S_md hst) (pd_a7 f)
  have K : ∀ z0, wY_store_59 p z0 (pd_x (st >>> ((15 : Int32) &&& 31)) (f &&& 7)) w st c re ad rg sv y sB sL sA := by
    intro z0
    unfold wY_store_59
    exact pd_D_pu hr h
  unfold wpY_store
  refine pd_Y_ce ?_
  exact br_c (fun _ => br_c (fun _ => K _) (fun _ => And.intro hk (K _))) (fun _ => pd_D_wr hr h)
theorem pd_D_co {p : SY → Prop} {a b d e : Int32} (h : ∀ st', p (w, st', c, re, ad, rg, sv, y, sB, sL, sA)) : wpY_codes p (w, st, c, re, ad, rg, sv, y, sB, sL, sA) a b d e := by
  have K1 : ∀ x4 z0 z1, wY_codes_38 p x4 z0 z1 w st c re ad rg sv y sB sL sA := fun x4 z0 z1 => br_c (fun _ => nm_e (h _)) (fun _ => nm_e (h _))
  have K2 : ∀ x3 x4 z0 z1, wY_codes_28 p x3 x4 z0 z1 w st c re ad rg sv y sB sL sA := fun x3 x4 z0 z1 => br_c (fun _ => K1 _ _ _) (fun _ => K1 _ _ _)
  have K3 : ∀ x2 x3 x4 z0 z1, wY_codes_18 p x2 x3 x4 z0 z1 w st c re ad rg sv y sB sL sA := fun x2 x3 x4 z0 z1 => br_c (fun _ => K2 _ _ _ _) (fun _ => K2 _ _ _ _)
  unfold wpY_codes
  exact br_c (fun _ => K3 _ _ _ _ _) (fun _ => K3 _ _ _ _ _)
/-! lockstep: read, write, fetch, pop, push -/
theorem pd_l_rd {sp v b : Int32} (G : pd_G sB sL) (hR : pd_R rg) (hm : pd_R m) (hs : sp = 0 ∨ sp = 1) (hv : pd_w v) :
    pd_L w st c fa wh ov ca sv m sB sL sA (pd_Q b) (fun p => wpX_read p (w, st, c, 0, fa, ov, ca, rg, sv, m, sB, sL, sA) sp v b) (fun p => wpY_read p (w, st, c, 0, wh, rg, sv, pd_y m, sB, sL, sA) sp v b) := by
  by_cases z : pd_f sL sA sp v b 0 = 0
  · exact Or.inl ⟨pd_rd sB m sp v b, pd_rd sB m sp v b, rg, ⟨rfl, pd_rd_b hm⟩, hR, fun p hp => pd_X_rd G hs hv (fun _ => hp) (fun n => absurd z n), fun p hp => pd_Y_rd G hm hs hv (fun _ => hp) (fun n => absurd z n)⟩
  · exact Or.inr ⟨_, _, rg, z, hR, fun p hp => pd_X_rd G hs hv (fun n => absurd n z) (fun _ => hp), fun p hp => pd_Y_rd G hm hs hv (fun n => absurd n z) (fun _ => hp 0)⟩
theorem pd_l_wr {sp v b x : Int32} (G : pd_G sB sL) (hR : pd_R rg) (hm : pd_R m) (hs : sp = 0 ∨ sp = 1) (hv : pd_w v) (hx : pd_b b x) :
    pd_W w st c fa wh ov ca sv m sB sL sA (fun p => wpX_write p (w, st, c, 0, fa, ov, ca, rg, sv, m, sB, sL, sA) sp v x b) (fun p => wpY_write p (w, st, c, 0, wh, rg, sv, pd_y m, sB, sL, sA) sp v b x) := by
  by_cases z : pd_f sL sA sp v b 1 = 0
  · exact Or.inl ⟨rg, pd_wr sB m sp v b x, hR, pd_wr_R hm hx, fun p hp => pd_X_wr G hs hv (fun _ => hp) (fun n => absurd z n), fun p hp => pd_Y_wr G hm hs hv hx (fun _ => hp) (fun n => absurd z n)⟩
  · exact Or.inr ⟨_, _, rg, z, hR, fun p hp => pd_X_wr G hs hv (fun n => absurd n z) (fun _ => hp), fun p hp => pd_Y_wr G hm hs hv hx (fun n => absurd n z) (fun _ => hp)⟩
/-- postIncrement k 2, then read: X's fetch (k = 7) and pop (k = the SP), Y's next -/
theorem pd_l_nx {k : Int32} (G : pd_G sB sL) (hst : pd_S st) (hR : pd_R rg) (hm : pd_R m) (hk : vp_in k 9) :
    pd_L w st c fa wh ov ca sv m sB sL sA (pd_Q 0) (fun p => wpX_read p (w, st, c, 0, fa, ov, ca, upd rg k.toNatClampNeg ((rg k.toNatClampNeg + 2) &&& 65535), sv, m, sB, sL, sA) (st >>> ((15 : Int32) &&& 31)) (rg k.toNatClampNeg) 0) (fun p => wpY_next p (w, st, c, 0, wh, rg, sv, pd_y m, sB, sL, sA) k) := by
  have h := pd_l_rd (w := w) (st := st) (c := c) (fa := fa) (wh := wh) (ov := ov) (ca := ca) (sv := sv) (sA := sA) (b := 0) G (pd_R_upd (k := k.toNatClampNeg) hR (pd_w_and (rg k.toNatClampNeg + 2))) hm (pd_S_md hst) (hR k.toNatClampNeg)
  rcases h with ⟨rX, rY, rg', hQ, hR', hX, hY⟩ | ⟨re, ad, rg', hr, hR', hX, hY⟩
  · refine Or.inl ⟨rX, rY, rg', hQ, hR', hX, fun p hp => ?_⟩
    unfold wpY_next
    exact And.intro hk (nm_e (pd_Y_pu hk (hY _ hp)))
  · refine Or.inr ⟨re, ad, rg', hr, hR', hX, fun p hp => ?_⟩
    unfold wpY_next
    exact And.intro hk (nm_e (pd_Y_pu hk (hY _ hp)))
theorem pd_l_fe (G : pd_G sB sL) (hst : pd_S st) (hR : pd_R rg) (hm : pd_R m) :
    pd_L w st c fa wh ov ca sv m sB sL sA (pd_Q 0) (fun p => wpX_fetch p (w, st, c, 0, fa, ov, ca, rg, sv, m, sB, sL, sA)) (fun p => wpY_next p (w, st, c, 0, wh, rg, sv, pd_y m, sB, sL, sA) 7) := by
  have h := pd_l_nx (w := w) (c := c) (fa := fa) (wh := wh) (ov := ov) (ca := ca) (sv := sv) (sA := sA) G hst hR hm pd_in7
  rcases h with ⟨rX, rY, rg', hQ, hR', hX, hY⟩ | ⟨re, ad, rg', hr, hR', hX, hY⟩
  · refine Or.inl ⟨rX, rY, rg', hQ, hR', fun p hp => ?_, hY⟩
    unfold wpX_fetch
    exact And.intro pd_in7 (nm_e (And.intro pd_in7 (nm_e (hX _ hp))))
  · refine Or.inr ⟨re, ad, rg', hr, hR', fun p hp => ?_, hY⟩
    unfold wpX_fetch
    exact And.intro pd_in7 (nm_e (And.intro pd_in7 (nm_e (hX _ hp))))
theorem pd_l_po (G : pd_G sB sL) (hst : pd_S st) (hR : pd_R rg) (hm : pd_R m) :
    pd_L w st c fa wh ov ca sv m sB sL sA (pd_Q 0) (fun p => wpX_pop p (w, st, c, 0, fa, ov, ca, rg, sv, m, sB, sL, sA)) (fun p => wpY_next p (w, st, c, 0, wh, rg, sv, pd_y m, sB, sL, sA) (pd_x (st >>> ((15 : Int32) &&& 31)) 6)) := by
  have hk := pd_x_in (pd_S_md hst) pd_6
  have h := pd_l_nx (w := w) (c := c) (fa := fa) (wh := wh) (ov := ov) (ca := ca) (sv := sv) (sA := sA) G hst hR hm hk
  rcases h with ⟨rX, rY, rg', hQ, hR', hX, hY⟩ | ⟨re, ad, rg', hr, hR', hX, hY⟩
  · refine Or.inl ⟨rX, rY, rg', hQ, hR', fun p hp => ?_, hY⟩
    unfold wpX_pop
    refine pd_X_so (pd_S_md hst) ?_
    exact And.intro hk (nm_e (And.intro hk (nm_e (hX _ hp))))
  · refine Or.inr ⟨re, ad, rg', hr, hR', fun p hp => ?_, hY⟩
    unfold wpX_pop
    refine pd_X_so (pd_S_md hst) ?_
    exact And.intro hk (nm_e (And.intro hk (nm_e (hX _ hp))))
theorem pd_l_ps {x : Int32} (G : pd_G sB sL) (hst : pd_S st) (hR : pd_R rg) (hm : pd_R m) (hx : pd_w x) :
    pd_W w st c fa wh ov ca sv m sB sL sA (fun p => wpX_push p (w, st, c, 0, fa, ov, ca, rg, sv, m, sB, sL, sA) x) (fun p => wpY_push p (w, st, c, 0, wh, rg, sv, pd_y m, sB, sL, sA) x) := by
  have hk := pd_x_in (pd_S_md hst) pd_6
  generalize ek : pd_x (st >>> ((15 : Int32) &&& 31)) 6 = k at hk
  have hR2 := pd_R_upd (k := k.toNatClampNeg) hR (pd_w_and (rg k.toNatClampNeg - 2))
  have h := pd_l_wr (w := w) (st := st) (c := c) (fa := fa) (wh := wh) (ov := ov) (ca := ca) (sv := sv) (sA := sA) G hR2 hm (pd_S_md hst) (hR2 k.toNatClampNeg) (pd_w_b hx)
  rcases h with ⟨rg', m', hR', hm', hX, hY⟩ | ⟨re, ad, rg', hr, hR', hX, hY⟩
  · refine Or.inl ⟨rg', m', hR', hm', fun p hp => ?_, fun p hp => ?_⟩
    · unfold wpX_push
      refine pd_X_so (pd_S_md hst) ?_
      rw [ek]
      exact And.intro hk (And.intro hk (nm_e (And.intro hk (hX _ (And.intro rfl hp)))))
    · unfold wpY_push
      refine pd_Y_ce ?_
      rw [ek]
      exact And.intro hk (pd_Y_pu hk (And.intro hk (hY _ hp)))
  · refine Or.inr ⟨re, ad, rg', hr, hR', fun p hp => ?_, fun p hp => ?_⟩
    · unfold wpX_push
      refine pd_X_so (pd_S_md hst) ?_
      rw [ek]
      exact And.intro hk (And.intro hk (nm_e (And.intro hk (hX _ (And.intro rfl hp)))))
    · unfold wpY_push
      refine pd_Y_ce ?_
      rw [ek]
      exact And.intro hk (pd_Y_pu hk (And.intro hk (hY _ hp)))
end
end
section
section
variable {w st c fa wh ov ca re ad : Int32} {rg sv m y sB sL sA : Nat → Int32}
theorem pd_l_39 {md k zX zY : Int32} (G : pd_G sB sL) (hst : pd_S st) (hR : pd_R rg) (hm : pd_R m) (hk : vp_in k 9)
    (h : md = 1 ∨ md = 2 ∨ md = 3 ∨ md = 4 ∨ md = 5 ∨ md = 6 ∨ md = 7) (h24 : md = 2 ∨ md = 4 → zY = zX) (h35 : md = 3 ∨ md = 5 → zY = 2) :
    pd_L w st c fa wh ov ca sv m sB sL sA (pd_Q 0) (fun p => wX_address_39 p md k zX w st c 0 fa ov ca rg sv m sB sL sA) (fun p => wY_address_42 p md k zY w st c 0 wh rg sv (pd_y m) sB sL sA) := by
  have hs := pd_S_md hst
  rcases h with rfl | rfl | rfl | rfl | rfl | rfl | rfl
  · exact Or.inl ⟨rg k.toNatClampNeg, _, rg, ⟨rfl, pd_w_b (hR _)⟩, hR, fun p hp => br_t rfl (And.intro hk hp),
      fun p hp => And.intro hk (nm_e (br_f (by decide) (br_f (by decide) (br_f (by decide) (br_f (by decide) (br_t (by decide) (br_f (by decide) (br_f (by decide) (br_f (by decide) hp)))))))))⟩
  · cases h24 (Or.inl rfl)
    exact Or.inl ⟨rg k.toNatClampNeg, _, upd rg k.toNatClampNeg ((rg k.toNatClampNeg + zX) &&& 65535), ⟨rfl, pd_w_b (hR _)⟩, pd_R_upd hR (pd_w_and _), fun p hp => br_f (by decide) (br_t rfl (And.intro hk (nm_e (And.intro hk (nm_e hp))))),
      fun p hp => And.intro hk (nm_e (br_t rfl (pd_Y_pu hk (br_f (by decide) (br_f (by decide) (br_t (by decide) (br_f (by decide) (br_f (by decide) (br_f (by decide) hp)))))))))⟩
  · cases h35 (Or.inl rfl)
    have hR2 := pd_R_upd (k := k.toNatClampNeg) hR (pd_w_and (rg k.toNatClampNeg + 2))
    have hL := pd_l_rd (w := w) (st := st) (c := c) (fa := fa) (wh := wh) (ov := ov) (ca := ca) (sv := sv) (sA := sA) (b := 0) G hR2 hm hs (hR k.toNatClampNeg)
    rcases hL with ⟨rX, rY, rg', hQ, hR', hX, hY⟩ | ⟨re, ad, rg', hr, hR', hX, hY⟩
    · exact Or.inl ⟨rX, rY, rg', hQ, hR', fun p hp => br_f (by decide) (br_f (by decide) (br_f (by decide) (br_t (by decide) (br_t rfl (And.intro hk (nm_e (And.intro hk (nm_e (hX _ hp))))))))),
        fun p hp => And.intro hk (nm_e (br_f (by decide) (br_t rfl (pd_Y_pu hk (br_f (by decide) (br_f (by decide) (br_t (by decide) (br_t rfl (hY _ hp)))))))))⟩
    · exact Or.inr ⟨re, ad, rg', hr, hR', fun p hp => br_f (by decide) (br_f (by decide) (br_f (by decide) (br_t (by decide) (br_t rfl (And.intro hk (nm_e (And.intro hk (nm_e (hX _ hp))))))))),
        fun p hp => And.intro hk (nm_e (br_f (by decide) (br_t rfl (pd_Y_pu hk (br_f (by decide) (br_f (by decide) (br_t (by decide) (br_t rfl (hY _ hp)))))))))⟩
  · cases h24 (Or.inr rfl)
    have hR2 := pd_R_upd (k := k.toNatClampNeg) hR (pd_w_and (rg k.toNatClampNeg - zX))
    exact Or.inl ⟨_, _, upd rg k.toNatClampNeg ((rg k.toNatClampNeg - zX) &&& 65535), ⟨rfl, pd_w_b (hR2 k.toNatClampNeg)⟩, hR2, fun p hp => br_f (by decide) (br_f (by decide) (br_t rfl (And.intro hk (And.intro hk (nm_e (And.intro hk hp)))))),
      fun p hp => And.intro hk (nm_e (br_f (by decide) (br_f (by decide) (br_t rfl (pd_Y_pu hk (And.intro hk (nm_e (br_t (by decide) (br_f (by decide) (br_f (by decide) (br_f (by decide) hp)))))))))))⟩
  · cases h35 (Or.inr rfl)
    have hR2 := pd_R_upd (k := k.toNatClampNeg) hR (pd_w_and (rg k.toNatClampNeg - 2))
    have hL := pd_l_rd (w := w) (st := st) (c := c) (fa := fa) (wh := wh) (ov := ov) (ca := ca) (sv := sv) (sA := sA) (b := 0) G hR2 hm hs (hR2 k.toNatClampNeg)
    rcases hL with ⟨rX, rY, rg', hQ, hR', hX, hY⟩ | ⟨re, ad, rg', hr, hR', hX, hY⟩
    · exact Or.inl ⟨rX, rY, rg', hQ, hR', fun p hp => br_f (by decide) (br_f (by decide) (br_f (by decide) (br_t (by decide) (br_f (by decide) (And.intro hk (And.intro hk (nm_e (And.intro hk (hX _ hp))))))))),
        fun p hp => And.intro hk (nm_e (br_f (by decide) (br_f (by decide) (br_f (by decide) (br_t rfl (pd_Y_pu hk (And.intro hk (nm_e (br_t (by decide) (br_f (by decide) (br_t rfl (hY _ hp)))))))))))) ⟩
    · exact Or.inr ⟨re, ad, rg', hr, hR', fun p hp => br_f (by decide) (br_f (by decide) (br_f (by decide) (br_t (by decide) (br_f (by decide) (And.intro hk (And.intro hk (nm_e (And.intro hk (hX _ hp))))))))),
        fun p hp => And.intro hk (nm_e (br_f (by decide) (br_f (by decide) (br_f (by decide) (br_t rfl (pd_Y_pu hk (And.intro hk (nm_e (br_t (by decide) (br_f (by decide) (br_t rfl (hY _ hp)))))))))))) ⟩
  · have hL := pd_l_fe (w := w) (st := st) (c := c) (fa := fa) (wh := wh) (ov := ov) (ca := ca) (sv := sv) (sA := sA) G hst hR hm
    rcases hL with ⟨rX, rY, rg', ⟨hQ, hb⟩, hR', hX, hY⟩ | ⟨re, ad, rg', hr, hR', hX, hY⟩
    · cases hQ
      refine Or.inl ⟨(rX + rg' k.toNatClampNeg) &&& 65535, _, rg', ⟨rfl, pd_w_b (pd_w_and _)⟩, hR', fun p hp => br_f (by decide) (br_f (by decide) (br_f (by decide) (br_f (by decide) (br_f (by decide) (?_))))), fun p hp => And.intro hk (nm_e (br_f (by decide) (br_f (by decide) (br_f (by decide) (br_f (by decide) (br_f (by decide) (hY _ (And.intro hk (nm_e (br_f (by decide) (br_f (by decide) (br_f (by decide) (hp)))))))))))))⟩
      unfold wX_address_102 wpX_indexed
      exact hX _ (br_t (pd_w_ge (pd_b_w hb)) (And.intro hk (nm_e (br_t rfl hp))))
    · refine Or.inr ⟨re, ad, rg', hr, hR', fun p hp => br_f (by decide) (br_f (by decide) (br_f (by decide) (br_f (by decide) (br_f (by decide) (?_))))), fun p hp => And.intro hk (nm_e (br_f (by decide) (br_f (by decide) (br_f (by decide) (br_f (by decide) (br_f (by decide) (hY _ (fun r => And.intro hk (nm_e (pd_D_133 hr hp))))))))))⟩
      unfold wX_address_102 wpX_indexed
      exact hX _ (br_f (by decide) hp)
  · have hL := pd_l_fe (w := w) (st := st) (c := c) (fa := fa) (wh := wh) (ov := ov) (ca := ca) (sv := sv) (sA := sA) G hst hR hm
    rcases hL with ⟨rX, rY, rg', ⟨hQ, hb⟩, hR', hX, hY⟩ | ⟨re, ad, rg', hr, hR', hX, hY⟩
    · cases hQ
      have hL2 := pd_l_rd (w := w) (st := st) (c := c) (fa := fa) (wh := wh) (ov := ov) (ca := ca) (sv := sv) (sA := sA) (b := 0) G hR' hm hs (pd_w_and (rX + rg' k.toNatClampNeg))
      rcases hL2 with ⟨rX2, rY2, rg2, hQ2, hR2, hX2, hY2⟩ | ⟨re, ad, rg2, hr, hR2, hX2, hY2⟩
      · refine Or.inl ⟨rX2, rY2, rg2, hQ2, hR2, fun p hp => br_f (by decide) (br_f (by decide) (br_f (by decide) (br_f (by decide) (br_t rfl ?_)))), fun p hp => And.intro hk (nm_e (br_f (by decide) (br_f (by decide) (br_f (by decide) (br_f (by decide) (br_f (by decide) (hY _ (And.intro hk (nm_e (br_f (by decide) (br_f (by decide) (br_t rfl (hY2 _ hp)))))))))))))⟩
        unfold wX_address_102 wpX_indexed
        exact hX _ (br_t (pd_w_ge (pd_b_w hb)) (And.intro hk (nm_e (br_f (by decide) (hX2 _ hp)))))
      · refine Or.inr ⟨re, ad, rg2, hr, hR2, fun p hp => br_f (by decide) (br_f (by decide) (br_f (by decide) (br_f (by decide) (br_t rfl ?_)))), fun p hp => And.intro hk (nm_e (br_f (by decide) (br_f (by decide) (br_f (by decide) (br_f (by decide) (br_f (by decide) (hY _ (And.intro hk (nm_e (br_f (by decide) (br_f (by decide) (br_t rfl (hY2 _ hp)))))))))))))⟩
        unfold wX_address_102 wpX_indexed
        exact hX _ (br_t (pd_w_ge (pd_b_w hb)) (And.intro hk (nm_e (br_f (by decide) (hX2 _ hp)))))
    · refine Or.inr ⟨re, ad, rg', hr, hR', fun p hp => br_f (by decide) (br_f (by decide) (br_f (by decide) (br_f (by decide) (br_t rfl ?_)))), fun p hp => And.intro hk (nm_e (br_f (by decide) (br_f (by decide) (br_f (by decide) (br_f (by decide) (br_f (by decide) (hY _ (fun r => And.intro hk (nm_e (pd_D_133 hr hp))))))))))⟩
      unfold wX_address_102 wpX_indexed
      exact hX _ (br_f (by decide) hp)
theorem pd_mo {f : Int32} (hf : pd_o f) (h0 : ¬ f >>> ((3 : Int32) &&& 31) = 0) : f >>> ((3 : Int32) &&& 31) = 1 ∨ f >>> ((3 : Int32) &&& 31) = 2 ∨ f >>> ((3 : Int32) &&& 31) = 3 ∨ f >>> ((3 : Int32) &&& 31) = 4 ∨ f >>> ((3 : Int32) &&& 31) = 5 ∨ f >>> ((3 : Int32) &&& 31) = 6 ∨ f >>> ((3 : Int32) &&& 31) = 7 := by
  obtain ⟨n, hn, rfl⟩ := hf
  have e1 : nI n >>> ((3 : Int32) &&& 31) = nI (n / 2 ^ 3) := pk_shrN (by omega) _ 3 (by decide)
  rw [e1] at h0 ⊢
  have h8 : n / 2 ^ 3 < 8 := by omega
  clear e1
  generalize n / 2 ^ 3 = d at h0 h8 ⊢
  have h9 : d ≠ 0 := fun z => h0 (by rw [z]; rfl)
  have : d = 1 ∨ d = 2 ∨ d = 3 ∨ d = 4 ∨ d = 5 ∨ d = 6 ∨ d = 7 := by omega
  rcases this with rfl | rfl | rfl | rfl | rfl | rfl | rfl
  · exact Or.inl rfl
  · exact Or.inr (Or.inl rfl)
  · exact Or.inr (Or.inr (Or.inl rfl))
  · exact Or.inr (Or.inr (Or.inr (Or.inl rfl)))
  · exact Or.inr (Or.inr (Or.inr (Or.inr (Or.inl rfl))))
  · exact Or.inr (Or.inr (Or.inr (Or.inr (Or.inr (Or.inl rfl)))))
  · exact Or.inr (Or.inr (Or.inr (Or.inr (Or.inr (Or.inr rfl)))))
def pd_zX (f b : Int32) : Int32 := if b = 0 then 2 else if 6 ≤ f &&& 7 then 2 else 1
def pd_zY (f b : Int32) : Int32 := if b = 0 then 2 else if 6 ≤ f &&& 7 then 2 else if f >>> ((3 : Int32) &&& 31) = 2 then 1 else if f >>> ((3 : Int32) &&& 31) = 4 then 1 else 2
theorem pd_X_ad {p : Int32 → SX → Prop} {f b : Int32} (hst : pd_S st) (h : wX_address_39 p (f >>> ((3 : Int32) &&& 31)) (pd_x (st >>> ((15 : Int32) &&& 31)) (f &&& 7)) (pd_zX f b) w st c 0 fa ov ca rg sv m sB sL sA) : wpX_address p (w, st, c, 0, fa, ov, ca, rg, sv, m, sB, sL, sA) f b := by
  unfold wpX_address
  refine nm_e (pd_X_ix (pd_S_md hst) ?_)
  unfold pd_zX at h
  by_cases hb : b = 0
  · rw [if_pos hb] at h
    exact br_t hb h
  · rw [if_neg hb] at h
    by_cases h6 : 6 ≤ f &&& 7
    · rw [if_pos h6] at h
      exact br_f hb (br_t h6 h)
    · rw [if_neg h6] at h
      exact br_f hb (br_f h6 h)
theorem pd_Y_ad {p : Int32 → SY → Prop} {f b : Int32} (h : wY_address_42 p (f >>> ((3 : Int32) &&& 31)) (pd_x (st >>> ((15 : Int32) &&& 31)) (f &&& 7)) (pd_zY f b) w st c 0 wh rg sv y sB sL sA) : wpY_address p (w, st, c, 0, wh, rg, sv, y, sB, sL, sA) f b := by
  unfold wpY_address
  refine nm_e (pd_Y_ce ?_)
  unfold pd_zY at h
  by_cases hb : b = 0
  · rw [if_pos hb] at h
    exact br_t hb h
  · rw [if_neg hb] at h
    by_cases h6 : 6 ≤ f &&& 7
    · rw [if_pos h6] at h
      exact br_f hb (br_t h6 h)
    · rw [if_neg h6] at h
      by_cases h2 : f >>> ((3 : Int32) &&& 31) = 2
      · rw [if_pos h2] at h
        exact br_f hb (br_f h6 (br_t h2 h))
      · rw [if_neg h2] at h
        by_cases h4 : f >>> ((3 : Int32) &&& 31) = 4
        · rw [if_pos h4] at h
          exact br_f hb (br_f h6 (br_f h2 (br_t h4 h)))
        · rw [if_neg h4] at h
          exact br_f hb (br_f h6 (br_f h2 (br_f h4 h)))
theorem pd_z24 {f b : Int32} (h : f >>> ((3 : Int32) &&& 31) = 2 ∨ f >>> ((3 : Int32) &&& 31) = 4) : pd_zY f b = pd_zX f b := by
  unfold pd_zX pd_zY
  by_cases hb : b = 0
  · rw [if_pos hb, if_pos hb]
  · rw [if_neg hb, if_neg hb]
    by_cases h6 : 6 ≤ f &&& 7
    · rw [if_pos h6, if_pos h6]
    · rw [if_neg h6, if_neg h6]
      rcases h with h | h
      · rw [if_pos h]
      · rw [h]; rfl
theorem pd_z35 {f b : Int32} (h : f >>> ((3 : Int32) &&& 31) = 3 ∨ f >>> ((3 : Int32) &&& 31) = 5) : pd_zY f b = 2 := by
  unfold pd_zY
  rcases h with h | h
  · rw [h]
    split
    · rfl
    · split <;> rfl
  · rw [h]
    split
    · rfl
    · split <;> rfl
theorem pd_l_ad {f b : Int32} (G : pd_G sB sL) (hst : pd_S st) (hR : pd_R rg) (hm : pd_R m) (hf : pd_o f) (h0 : ¬ f >>> ((3 : Int32) &&& 31) = 0) :
    pd_L w st c fa wh ov ca sv m sB sL sA (pd_Q 0) (fun p => wpX_address p (w, st, c, 0, fa, ov, ca, rg, sv, m, sB, sL, sA) f b) (fun p => wpY_address p (w, st, c, 0, wh, rg, sv, pd_y m, sB, sL, sA) f b) := by
  have hL := pd_l_39 (w := w) (c := c) (fa := fa) (wh := wh) (ov := ov) (ca := ca) (sv := sv) (sA := sA) (zX := pd_zX f b) (zY := pd_zY f b) G hst hR hm (pd_x_in (pd_S_md hst) (pd_a7 f)) (pd_mo hf h0) pd_z24 pd_z35
  rcases hL with ⟨rX, rY, rg', hQ, hR', hX, hY⟩ | ⟨re, ad, rg', hr, hR', hX, hY⟩
  · exact Or.inl ⟨rX, rY, rg', hQ, hR', fun p hp => pd_X_ad hst (hX p hp), fun p hp => pd_Y_ad (hY p hp)⟩
  · exact Or.inr ⟨re, ad, rg', hr, hR', fun p hp => pd_X_ad hst (hX p hp), fun p hp => pd_Y_ad (hY p hp)⟩
/-! places -/
def pd_P (st f rX rY : Int32) : Prop := (f >>> ((3 : Int32) &&& 31) = 0 ∧ rX = 65536 + pd_x (st >>> ((15 : Int32) &&& 31)) f) ∨ (¬ f >>> ((3 : Int32) &&& 31) = 0 ∧ rY = rX ∧ pd_w rX)
theorem pd_65 {j : Nat} (hj : j < 9) : 65536 ≤ 65536 + nI j ∧ ¬ 65536 + nI j < 65536 ∧ 0 ≤ 65536 + nI j ∧ 65536 + nI j - 65536 = nI j := by
  have e : (65536 : Int32) + nI j = nI (65536 + j) := nI_add 65536 j
  rw [e]
  refine ⟨nI_le (a := 65536) (by omega) (by omega), nI_nlt (b := 65536) (by omega) (by omega), nI_pos' (by omega), ?_⟩
  rw [show (65536 : Int32) = nI 65536 from rfl, pk_sub (by omega)]
  exact congrArg nI (by omega)
theorem pd_Y_a0 {p : Int32 → SY → Prop} {k z : Int32} (hk : vp_in k 9) (hp : p (rg k.toNatClampNeg) (w, st, c, 0, wh, rg, sv, y, sB, sL, sA)) : wY_address_42 p 0 k z w st c 0 wh rg sv y sB sL sA :=
  And.intro hk (nm_e (br_f (by decide) (br_f (by decide) (br_f (by decide) (br_f (by decide) (br_t (by decide) (br_f (by decide) (br_f (by decide) (br_f (by decide) hp)))))))))
theorem pd_l_pl {f b : Int32} (G : pd_G sB sL) (hst : pd_S st) (hR : pd_R rg) (hm : pd_R m) (hf : pd_o f) :
    pd_L w st c fa wh ov ca sv m sB sL sA (pd_P st f) (fun p => wpX_place p (w, st, c, 0, fa, ov, ca, rg, sv, m, sB, sL, sA) f b) (fun p => wpY_address p (w, st, c, 0, wh, rg, sv, pd_y m, sB, sL, sA) f b) := by
  by_cases h0 : f >>> ((3 : Int32) &&& 31) = 0
  · refine Or.inl ⟨_, rg (pd_x (st >>> ((15 : Int32) &&& 31)) (f &&& 7)).toNatClampNeg, rg, Or.inl ⟨h0, rfl⟩, hR, fun p hp => ?_, fun p hp => pd_Y_ad ?_⟩
    · unfold wpX_place
      exact br_t h0 (pd_X_ix (pd_S_md hst) hp)
    · rw [h0]
      exact pd_Y_a0 (pd_x_in (pd_S_md hst) (pd_a7 f)) hp
  · have hL := pd_l_ad (w := w) (c := c) (fa := fa) (wh := wh) (ov := ov) (ca := ca) (sv := sv) (sA := sA) (b := b) G hst hR hm hf h0
    rcases hL with ⟨rX, rY, rg', hQ, hR', hX, hY⟩ | ⟨re, ad, rg', hr, hR', hX, hY⟩
    · refine Or.inl ⟨rX, rY, rg', Or.inr ⟨h0, hQ.1, pd_b_w hQ.2⟩, hR', fun p hp => ?_, hY⟩
      unfold wpX_place
      exact br_f h0 (hX _ hp)
    · refine Or.inr ⟨re, ad, rg', hr, hR', fun p hp => ?_, hY⟩
      unfold wpX_place
      exact br_f h0 (hX _ hp)
theorem pd_P_ge {f rX rY : Int32} (hst : pd_S st) (hf : pd_o f) (h : pd_P st f rX rY) : 0 ≤ rX := by
  rcases h with ⟨h0, rfl⟩ | ⟨h0, _, hw⟩
  · rcases pd_7 hf with ⟨_, _, _, _, j, hj, rfl⟩ | ⟨h1, _⟩
    · obtain ⟨k, hk, e⟩ := pd_x_k (pd_S_md hst) hj
      rw [e]
      exact (pd_65 hk).2.2.1
    · exact absurd h0 h1
  · exact pd_w_ge hw
theorem pd_and255 (b x : Int32) (h : ¬ b = 0) : pd_b b (x &&& 255) := by
  unfold pd_b
  rw [pd_M_n h]
  exact pk_andE _ (m := 255) 8 (by decide)
theorem pd_l_rp {f b rX rY : Int32} (G : pd_G sB sL) (hst : pd_S st) (hR : pd_R rg) (hm : pd_R m) (hf : pd_o f) (hP : pd_P st f rX rY) :
    pd_L w st c fa wh ov ca sv m sB sL sA (pd_Q b) (fun p => wpX_readPlace p (w, st, c, 0, fa, ov, ca, rg, sv, m, sB, sL, sA) rX b) (fun p => wpY_load p (w, st, c, 0, wh, rg, sv, pd_y m, sB, sL, sA) f rY b) := by
  rcases hP with ⟨h0, rfl⟩ | ⟨h0, e, hw⟩
  · rcases pd_7 hf with ⟨_, h7, _, _, j, hj, ej⟩ | ⟨h1, _⟩
    · obtain ⟨k, hk, e⟩ := pd_x_k (pd_S_md hst) hj
      rw [← ej] at e
      have hi : vp_in (nI k) 9 := vp_in_nI hk (by decide)
      obtain ⟨e1, e2, e3, e4⟩ := pd_65 hk
      by_cases hb : b = 0
      · refine Or.inl ⟨rg (nI k).toNatClampNeg, _, rg, ⟨rfl, by rw [hb]; exact pd_w_b (hR _)⟩, hR, fun p hp => ?_, fun p hp => ?_⟩
        · unfold wpX_readPlace
          rw [e]
          dsimp only
          rw [e4]
          exact br_t e1 (And.intro hi (nm_e (br_t hb hp)))
        · unfold wpY_load
          refine br_t h7 (pd_Y_ce ?_)
          rw [e]
          exact br_t hb (And.intro hi hp)
      · refine Or.inl ⟨rg (nI k).toNatClampNeg &&& 255, _, rg, ⟨rfl, pd_and255 b _ hb⟩, hR, fun p hp => ?_, fun p hp => ?_⟩
        · unfold wpX_readPlace
          rw [e]
          dsimp only
          rw [e4]
          exact br_t e1 (And.intro hi (nm_e (br_f hb hp)))
        · unfold wpY_load
          refine br_t h7 (pd_Y_ce ?_)
          rw [e]
          exact br_f hb (And.intro hi hp)
    · exact absurd h0 h1
  · rcases pd_7 hf with ⟨h1, _⟩ | ⟨_, h7, _⟩
    · exact absurd h1 h0
    · cases e
      have hL := pd_l_rd (w := w) (st := st) (c := c) (fa := fa) (wh := wh) (ov := ov) (ca := ca) (sv := sv) (sA := sA) (b := b) G hR hm (pd_S_md hst) hw
      rcases hL with ⟨rX', rY', rg', hQ, hR', hX, hY⟩ | ⟨re, ad, rg', hr, hR', hX, hY⟩
      · refine Or.inl ⟨rX', rY', rg', hQ, hR', fun p hp => ?_, fun p hp => ?_⟩
        · unfold wpX_readPlace
          exact br_f (pd_w_lt hw) (hX _ hp)
        · unfold wpY_load
          exact br_f h7 (hY _ hp)
      · refine Or.inr ⟨re, ad, rg', hr, hR', fun p hp => ?_, fun p hp => ?_⟩
        · unfold wpX_readPlace
          exact br_f (pd_w_lt hw) (hX _ hp)
        · unfold wpY_load
          exact br_f h7 (hY _ hp)
theorem pd_l_wp {f b x rX rY : Int32} (G : pd_G sB sL) (hst : pd_S st) (hR : pd_R rg) (hm : pd_R m) (hf : pd_o f) (hP : pd_P st f rX rY) (hx : pd_b b x) :
    pd_W w st c fa wh ov ca sv m sB sL sA (fun p => wpX_writePlace p (w, st, c, 0, fa, ov, ca, rg, sv, m, sB, sL, sA) rX x b) (fun p => wpY_store p (w, st, c, 0, wh, rg, sv, pd_y m, sB, sL, sA) f rY b x) := by
  rcases hP with ⟨h0, rfl⟩ | ⟨h0, e, hw⟩
  · rcases pd_7 hf with ⟨_, h7, _, e7, j, hj, ej⟩ | ⟨h1, _⟩
    · obtain ⟨k, hk, e⟩ := pd_x_k (pd_S_md hst) hj
      rw [← ej] at e
      have hi : vp_in (nI k) 9 := vp_in_nI hk (by decide)
      obtain ⟨e1, e2, e3, e4⟩ := pd_65 hk
      by_cases hb : b = 0
      · have hxw := pd_b_w hx
        refine Or.inl ⟨upd rg (nI k).toNatClampNeg x, m, pd_R_upd hR hxw, hm, fun p hp => ?_, fun p hp => ?_⟩
        · unfold wpX_writePlace
          rw [e]
          exact br_t e1 (nm_r e4 (br_t hb (And.intro hi (nm_e hp))))
        · unfold wpY_store
          refine pd_Y_ce ?_
          rw [e7, e]
          refine br_t h7 (br_t hb ?_)
          unfold wY_store_59
          refine pd_Y_pu hi ?_
          rw [pd_w_id hxw]
          exact hp
      · have hxw : pd_w ((rg (nI k).toNatClampNeg &&& 65280) ||| x) := pd_be3 (pd_b_8 hb hx)
        refine Or.inl ⟨upd rg (nI k).toNatClampNeg ((rg (nI k).toNatClampNeg &&& 65280) ||| x), m, pd_R_upd hR hxw, hm, fun p hp => ?_, fun p hp => ?_⟩
        · unfold wpX_writePlace
          rw [e]
          exact br_t e1 (nm_r e4 (br_f hb (And.intro hi (And.intro hi (nm_e hp)))))
        · unfold wpY_store
          refine pd_Y_ce ?_
          rw [e7, e]
          refine br_t h7 (br_f hb (And.intro hi ?_))
          unfold wY_store_59
          refine pd_Y_pu hi ?_
          rw [pd_w_id hxw]
          exact hp
    · exact absurd h0 h1
  · rcases pd_7 hf with ⟨h1, _⟩ | ⟨_, h7, _⟩
    · exact absurd h1 h0
    · cases e
      have hL := pd_l_wr (w := w) (st := st) (c := c) (fa := fa) (wh := wh) (ov := ov) (ca := ca) (sv := sv) (sA := sA) G hR hm (pd_S_md hst) hw hx
      rcases hL with ⟨rg', m', hR', hm', hX, hY⟩ | ⟨re, ad, rg', hr, hR', hX, hY⟩
      · refine Or.inl ⟨rg', m', hR', hm', fun p hp => ?_, fun p hp => ?_⟩
        · unfold wpX_writePlace
          exact br_f (pd_w_lt hw) (hX _ (And.intro rfl hp))
        · unfold wpY_store
          exact pd_Y_ce (br_f h7 (hY _ hp))
      · refine Or.inr ⟨re, ad, rg', hr, hR', fun p hp => ?_, fun p hp => ?_⟩
        · unfold wpX_writePlace
          exact br_f (pd_w_lt hw) (hX _ (And.intro rfl hp))
        · unfold wpY_store
          exact pd_Y_ce (br_f h7 (hY _ hp))
end
end
section
noncomputable def pd_n (P : Prop) : Nat := @ite Nat P (Classical.propDecidable P) 1 0
theorem pd_n_t {P : Prop} (h : P) : pd_n P = 1 := if_pos h
theorem pd_n_f {P : Prop} (h : ¬ P) : pd_n P = 0 := if_neg h
theorem pd_n_2 (P : Prop) : pd_n P = 0 ∨ pd_n P = 1 := by
  by_cases h : P
  · exact Or.inr (pd_n_t h)
  · exact Or.inl (pd_n_f h)
theorem pd_n_1 {P : Prop} : pd_n P = 1 ↔ P := by
  by_cases h : P
  · rw [pd_n_t h]; exact ⟨fun _ => h, fun _ => rfl⟩
  · rw [pd_n_f h]; exact ⟨fun z => absurd z (by decide), fun z => absurd z h⟩
theorem pd_n_0 {P : Prop} : pd_n P = 0 ↔ ¬ P := by
  by_cases h : P
  · rw [pd_n_t h]; exact ⟨fun z => absurd z (by decide), fun z => absurd h z⟩
  · rw [pd_n_f h]; exact ⟨fun _ => h, fun _ => rfl⟩
def pd_top (b : Int32) : Int32 := if b = 0 then 32768 else 128
def pd_k (b : Int32) : Int32 := if b = 0 then 65535 else 255
def pd_H (b : Int32) : Nat := if b = 0 then 32768 else 128
theorem pd_top_H (b : Int32) : pd_top b = nI (pd_H b) := by
  unfold pd_top pd_H
  by_cases h : b = 0
  · rw [if_pos h, if_pos h]; rfl
  · rw [if_neg h, if_neg h]; rfl
theorem pd_MH (b : Int32) : pd_M b = 2 * pd_H b := by
  unfold pd_M pd_H
  by_cases h : b = 0
  · rw [if_pos h, if_pos h]
  · rw [if_neg h, if_neg h]
theorem pd_H_le (b : Int32) : 128 ≤ pd_H b ∧ pd_H b ≤ 32768 := by
  unfold pd_H
  split <;> omega
theorem pd_k_top (b : Int32) : 2 * pd_top b - 1 = pd_k b := by
  unfold pd_top pd_k
  by_cases h : b = 0
  · rw [if_pos h, if_pos h]; decide
  · rw [if_neg h, if_neg h]; decide
theorem pd_k_E (b x : Int32) : ∃ n : Nat, n < pd_M b ∧ x &&& pd_k b = nI n := by
  unfold pd_k pd_M
  by_cases h : b = 0
  · rw [if_pos h, if_pos h]; exact pk_andE _ (m := 65535) 16 (by decide)
  · rw [if_neg h, if_neg h]; exact pk_andE _ (m := 255) 8 (by decide)
theorem pd_k_id {b x : Int32} (h : pd_b b x) : x &&& pd_k b = x := by
  by_cases hb : b = 0
  · unfold pd_k
    rw [if_pos hb]
    exact pd_w_id (pd_b_w h)
  · obtain ⟨n, hn, rfl⟩ := pd_b_8 hb h
    unfold pd_k
    rw [if_neg hb]
    exact pd_255 hn
/-- the sign of a byte or word -/
def pd_g (b : Int32) (n : Nat) : Nat := if n < pd_H b then 0 else 1
theorem pd_g_2 (b : Int32) (n : Nat) : pd_g b n = 0 ∨ pd_g b n = 1 := by
  unfold pd_g
  split
  · exact Or.inl rfl
  · exact Or.inr rfl
theorem pd_tb {b : Int32} {n : Nat} (h : n < pd_M b) : n.testBit (if b = 0 then 15 else 7) = decide (pd_g b n = 1) := by
  unfold pd_g pd_H
  unfold pd_M at h
  by_cases hb : b = 0
  · rw [if_pos hb] at h
    rw [if_pos hb, if_pos hb, Nat.testBit_eq_decide_div_mod_eq]
    apply decide_eq_decide.mpr
    split <;> omega
  · rw [if_neg hb] at h
    rw [if_neg hb, if_neg hb, Nat.testBit_eq_decide_div_mod_eq]
    apply decide_eq_decide.mpr
    split <;> omega
theorem pd_H2 (b : Int32) : pd_H b = 2 ^ (if b = 0 then 15 else 7) := by
  unfold pd_H
  split <;> rfl
theorem pd_and2 (n i : Nat) : n &&& 2 ^ i = 0 ↔ n.testBit i = false := by
  constructor
  · intro h
    have h2 := congrArg (fun z => Nat.testBit z i) h
    simp only [Nat.testBit_and, Nat.testBit_two_pow_self, Nat.zero_testBit, Bool.and_true] at h2
    exact h2
  · intro h
    apply Nat.eq_of_testBit_eq
    intro j
    rw [Nat.testBit_and, Nat.zero_testBit, Nat.testBit_two_pow]
    by_cases e : i = j
    · subst e
      rw [h, Bool.false_and]
    · rw [decide_eq_false e, Bool.and_false]
theorem pd_nI0 {n : Nat} (h : n < 2 ^ 31) : nI n = 0 ↔ n = 0 := nI_eq (b := 0) h (by decide)
theorem pd_top0 {b : Int32} {n : Nat} (h : n < pd_M b) : nI n &&& pd_top b = 0 ↔ pd_g b n = 0 := by
  have hM := pd_M_le b
  rw [pd_top_H, nx_and, pd_nI0 (Nat.lt_of_le_of_lt Nat.and_le_left (by omega)), pd_H2, pd_and2, pd_tb h]
  rcases pd_g_2 b n with e | e
  · rw [e]; decide
  · rw [e]; decide
theorem pd_sgn {b : Int32} {a e a' x : Nat} (ha : a < pd_M b) (he : e < pd_M b) (ha' : a' < pd_M b) (hx : x < pd_M b) : ((nI a ^^^ nI e) &&& (nI a' ^^^ nI x)) &&& pd_top b = 0 ↔ ¬ (pd_g b a ≠ pd_g b e ∧ pd_g b a' ≠ pd_g b x) := by
  have hM := pd_M_le b
  rw [pd_top_H, nx_xor, nx_xor, nx_and, nx_and, pd_nI0 (Nat.lt_of_le_of_lt Nat.and_le_right (by have := pd_H_le b; omega)), pd_H2, pd_and2, Nat.testBit_and, Nat.testBit_xor, Nat.testBit_xor, pd_tb ha, pd_tb he, pd_tb ha', pd_tb hx]
  rcases pd_g_2 b a with h1 | h1 <;> rcases pd_g_2 b e with h2 | h2 <;> rcases pd_g_2 b a' with h3 | h3 <;> rcases pd_g_2 b x with h4 | h4 <;> rw [h1, h2, h3, h4] <;> decide
section
variable {w st c fa wh ov ca re ad : Int32} {rg sv m y sB sL sA : Nat → Int32}
theorem pd_st1 (st : Int32) : ∃ n : Nat, (n = 0 ∨ n = 1) ∧ st &&& 1 = nI n := by
  rcases pd_md1 st with h | h
  · exact ⟨0, Or.inl rfl, h⟩
  · exact ⟨1, Or.inr rfl, h⟩
theorem pd_X_kc {p : SX → Prop} {n : Nat} (hn : n = 0 ∨ n = 1) (e : st &&& 1 = nI n) (hp : p (w, st, c, re, fa, nI 0, nI n, rg, sv, m, sB, sL, sA)) : wpX_keepCarry p (w, st, c, re, fa, ov, ca, rg, sv, m, sB, sL, sA) := by
  unfold wpX_keepCarry
  rcases hn with rfl | rfl
  · exact br_t e hp
  · exact br_f (fun z => absurd (e.symm.trans z) (by decide)) hp
/-! X's setCodes -/
theorem pd_X_43 {p : SX → Prop} {x z0 : Int32} {a n : Nat} (hn : n = 0 ∨ n = 1) (h : x &&& z0 = 0 ↔ n = 0) (hp : p (w, (st &&& 40960) ||| nI (a + 8 * n), c, re, fa, ov, ca, rg, sv, m, sB, sL, sA)) : wX_setCodes_43 p (nI a) z0 x w st c re fa ov ca rg sv m sB sL sA := by
  unfold wX_setCodes_43
  rcases hn with rfl | rfl
  · exact br_t (h.mpr rfl) (nm_e hp)
  · refine br_f (fun z => absurd (h.mp z) (by decide)) (nm_r (nI_add a 8) (nm_e hp))
theorem pd_X_23 {p : SX → Prop} {x b : Int32} {a n z : Nat} (hn : n = 0 ∨ n = 1) (h : x &&& pd_top b = 0 ↔ n = 0) (hz : z = 0 ∨ z = 1) (hx : x = 0 ↔ z = 1) (hp : p (w, (st &&& 40960) ||| nI (a + 4 * z + 8 * n), c, re, fa, ov, ca, rg, sv, m, sB, sL, sA)) : wX_setCodes_23 p x b (nI a) w st c re fa ov ca rg sv m sB sL sA := by
  have K : ∀ a', p (w, (st &&& 40960) ||| nI (a' + 8 * n), c, re, fa, ov, ca, rg, sv, m, sB, sL, sA) → wX_setCodes_30 p x b (nI a') w st c re fa ov ca rg sv m sB sL sA := by
    intro a' hp'
    unfold wX_setCodes_30
    unfold pd_top at h
    by_cases hb : b = 0
    · rw [if_pos hb] at h
      exact br_t hb (pd_X_43 hn h hp')
    · rw [if_neg hb] at h
      exact br_f hb (pd_X_43 hn h hp')
  unfold wX_setCodes_23
  rcases hz with rfl | rfl
  · exact br_f (fun z => absurd (hx.mp z) (by decide)) (K a hp)
  · exact br_t (hx.mpr rfl) (nm_r (nI_add a 4) (K (a + 4) hp))
theorem pd_X_co {p : SX → Prop} {x b : Int32} {n z v e : Nat} (hn : n = 0 ∨ n = 1) (h : x &&& pd_top b = 0 ↔ n = 0) (hz : z = 0 ∨ z = 1) (hx : x = 0 ↔ z = 1) (hv : v = 0 ∨ v = 1) (he : e = 0 ∨ e = 1) (hp : p (w, (st &&& 40960) ||| nI (e + 2 * v + 4 * z + 8 * n), c, re, fa, nI v, nI e, rg, sv, m, sB, sL, sA)) : wpX_setCodes p (w, st, c, re, fa, nI v, nI e, rg, sv, m, sB, sL, sA) x b := by
  have K : wX_setCodes_12 p x b (nI e) w st c re fa (nI v) (nI e) rg sv m sB sL sA := by
    unfold wX_setCodes_12
    rcases hv with rfl | rfl
    · exact br_t rfl (pd_X_23 hn h hz hx hp)
    · exact br_f (by decide) (nm_r (nI_add e 2) (pd_X_23 hn h hz hx hp))
  unfold wpX_setCodes
  rcases he with rfl | rfl
  · exact br_t rfl K
  · exact br_f (by decide) K
/-! Y's codes -/
theorem pd_or4 (A a b c d : Int32) : (((A ||| a) ||| b) ||| c) ||| d = A ||| (a ||| (b ||| (c ||| d))) := by
  rw [Int32.or_assoc, Int32.or_assoc, Int32.or_assoc]
theorem pd_cod_e {n z v e : Nat} (hn : n = 0 ∨ n = 1) (hz : z = 0 ∨ z = 1) (hv : v = 0 ∨ v = 1) (he : e = 0 ∨ e = 1) (A : Int32) : (((A ||| nI (8 * n)) ||| nI (4 * z)) ||| nI (2 * v)) ||| nI e = A ||| nI (e + 2 * v + 4 * z + 8 * n) := by
  rw [pd_or4]
  congr 1
  rcases hn with rfl | rfl <;> rcases hz with rfl | rfl <;> rcases hv with rfl | rfl <;> rcases he with rfl | rfl <;> decide
theorem pd_Y_38 {p : SY → Prop} {z0 z1 : Int32} {e : Nat} (he : e = 0 ∨ e = 1) (hp : p (w, (z1 ||| z0) ||| nI e, c, re, ad, rg, sv, y, sB, sL, sA)) : wY_codes_38 p (nI e) z0 z1 w st c re ad rg sv y sB sL sA := by
  unfold wY_codes_38
  rcases he with rfl | rfl
  · exact br_t rfl (nm_e hp)
  · exact br_f (by decide) (nm_e hp)
theorem pd_Y_28 {p : SY → Prop} {z0 z1 : Int32} {v e : Nat} (hv : v = 0 ∨ v = 1) (he : e = 0 ∨ e = 1) (hp : p (w, ((z1 ||| z0) ||| nI (2 * v)) ||| nI e, c, re, ad, rg, sv, y, sB, sL, sA)) : wY_codes_28 p (nI v) (nI e) z0 z1 w st c re ad rg sv y sB sL sA := by
  unfold wY_codes_28
  rcases hv with rfl | rfl
  · exact br_t rfl (pd_Y_38 he hp)
  · exact br_f (by decide) (pd_Y_38 he hp)
theorem pd_Y_18 {p : SY → Prop} {z0 z1 : Int32} {z v e : Nat} (hz : z = 0 ∨ z = 1) (hv : v = 0 ∨ v = 1) (he : e = 0 ∨ e = 1) (hp : p (w, (((z1 ||| z0) ||| nI (4 * z)) ||| nI (2 * v)) ||| nI e, c, re, ad, rg, sv, y, sB, sL, sA)) : wY_codes_18 p (nI z) (nI v) (nI e) z0 z1 w st c re ad rg sv y sB sL sA := by
  unfold wY_codes_18
  rcases hz with rfl | rfl
  · exact br_t rfl (pd_Y_28 hv he hp)
  · exact br_f (by decide) (pd_Y_28 hv he hp)
theorem pd_Y_co {p : SY → Prop} {n z v e : Nat} (hn : n = 0 ∨ n = 1) (hz : z = 0 ∨ z = 1) (hv : v = 0 ∨ v = 1) (he : e = 0 ∨ e = 1) (hp : p (w, (st &&& 40960) ||| nI (e + 2 * v + 4 * z + 8 * n), c, re, ad, rg, sv, y, sB, sL, sA)) : wpY_codes p (w, st, c, re, ad, rg, sv, y, sB, sL, sA) (nI n) (nI z) (nI v) (nI e) := by
  rw [← pd_cod_e hn hz hv he] at hp
  unfold wpY_codes
  rcases hn with rfl | rfl
  · exact br_t rfl (pd_Y_18 hz hv he hp)
  · exact br_f (by decide) (pd_Y_18 hz hv he hp)
theorem pd_S_4 {n z v e : Nat} (hn : n = 0 ∨ n = 1) (hz : z = 0 ∨ z = 1) (hv : v = 0 ∨ v = 1) (he : e = 0 ∨ e = 1) (s : Int32) : pd_S ((s &&& 40960) ||| nI (e + 2 * v + 4 * z + 8 * n)) := pd_S_cod s (by omega)
/-! Y's two operands, dead -/
theorem pd_D_484 {p : SY → Prop} {x13 x16 x17 x18 : Int32} (h : ∀ st', p (w, st', c, re, ad, rg, sv, y, sB, sL, sA)) : wY_twoOperands_484 p x13 x16 x17 x18 w st c re ad rg sv y sB sL sA := by
  have K : ∀ z0 z1, wY_twoOperands_497 p x17 x18 z0 z1 w st c re ad rg sv y sB sL sA := by
    intro z0 z1
    unfold wY_twoOperands_497
    exact pd_D_co h
  unfold wY_twoOperands_484
  exact br_c (fun _ => K _ _) (fun _ => K _ _)
theorem pd_D_423 {p : SY → Prop} {x2 x3 x5 x6 x8 x11 x13 x16 x17 z0 : Int32} (hr : ¬ re = 0) (hst : pd_S st) (h : ∀ st', p (w, st', c, re, ad, rg, sv, y, sB, sL, sA)) : wY_twoOperands_423 p x2 x3 x5 x6 x8 x11 x13 x16 x17 z0 w st c re ad rg sv y sB sL sA := by
  have K : wY_twoOperands_462 p x3 x5 x6 x11 x13 x16 x17 z0 w st c re ad rg sv y sB sL sA := by
    unfold wY_twoOperands_462
    exact br_c (fun _ => pd_D_484 h) (fun _ => br_c (fun _ => pd_D_484 h) (fun _ => pd_D_so hr hst (pd_D_484 h)))
  have K2 : ∀ z0' z1', wY_twoOperands_456 p x13 x16 x17 z0 z0' z1' w st c re ad rg sv y sB sL sA := by
    intro z0' z1'
    unfold wY_twoOperands_456
    exact pd_D_pu hr (pd_D_484 h)
  unfold wY_twoOperands_423
  exact br_c (fun _ => br_c (fun _ => K) (fun _ => br_c (fun _ => K2 _ _) (fun _ => K2 _ _))) (fun _ => K)
theorem pd_D_259 {p : SY → Prop} {x2 x3 x5 x6 x8 x10 x11 x12 x13 x14 x15 z0 : Int32} (hr : ¬ re = 0) (hst : pd_S st) (h : ∀ st', p (w, st', c, re, ad, rg, sv, y, sB, sL, sA)) : wY_twoOperands_259 p x2 x3 x5 x6 x8 x10 x11 x12 x13 x14 x15 z0 w st c re ad rg sv y sB sL sA := by
  have K : ∀ v, wY_twoOperands_341 p x2 x3 x5 x6 x8 x10 x11 x12 x13 z0 v w st c re ad rg sv y sB sL sA := by
    intro v
    have k : ∀ e, wY_twoOperands_423 p x2 x3 x5 x6 x8 x11 x13 z0 v e w st c re ad rg sv y sB sL sA := fun e => pd_D_423 hr hst h
    unfold wY_twoOperands_341
    exact br_c (fun _ => br_c (fun _ => k _) (fun _ => k _)) (fun _ => br_c (fun _ => br_c (fun _ => k _) (fun _ => k _)) (fun _ => br_c (fun _ => br_c (fun _ => k _) (fun _ => k _)) (fun _ => br_c (fun _ => k _) (fun _ => k _))))
  unfold wY_twoOperands_259
  exact br_c (fun _ => br_c (fun _ => K _) (fun _ => br_c (fun _ => K _) (fun _ => K _))) (fun _ => br_c (fun _ => br_c (fun _ => br_c (fun _ => K _) (fun _ => K _)) (fun _ => K _)) (fun _ => br_c (fun _ => br_c (fun _ => K _) (fun _ => br_c (fun _ => K _) (fun _ => K _))) (fun _ => K _)))
theorem pd_D_121 {p : SY → Prop} {x2 x3 x5 x6 x7 x8 x10 x11 z0 : Int32} (hr : ¬ re = 0) (hst : pd_S st) (h : ∀ st', p (w, st', c, re, ad, rg, sv, y, sB, sL, sA)) : wY_twoOperands_121 p x2 x3 x5 x6 x7 x8 x10 x11 z0 w st c re ad rg sv y sB sL sA := by
  have K : ∀ x, wY_twoOperands_206 p x2 x3 x5 x6 x7 x8 x10 x11 z0 x w st c re ad rg sv y sB sL sA := by
    intro x
    have k1 : ∀ sn dn xn, wY_twoOperands_259 p x2 x3 x5 x6 x8 x10 x11 z0 (x &&& (2 * x7 - 1)) sn dn xn w st c re ad rg sv y sB sL sA := fun sn dn xn => pd_D_259 hr hst h
    have k2 : ∀ sn dn, wY_twoOperands_245 p x2 x3 x5 x6 x7 x8 x10 x11 z0 (x &&& (2 * x7 - 1)) sn dn w st c re ad rg sv y sB sL sA := fun sn dn => br_c (fun _ => k1 _ _ _) (fun _ => k1 _ _ _)
    have k3 : ∀ sn, wY_twoOperands_231 p x2 x3 x5 x6 x7 x8 x10 x11 z0 (x &&& (2 * x7 - 1)) sn w st c re ad rg sv y sB sL sA := fun sn => br_c (fun _ => k2 _ _) (fun _ => k2 _ _)
    unfold wY_twoOperands_206
    exact nm_e (br_c (fun _ => k3 _) (fun _ => k3 _))
  unfold wY_twoOperands_121
  exact br_c (fun _ => K _) (fun _ => br_c (fun _ => K _) (fun _ => br_c (fun _ => K _) (fun _ => br_c (fun _ => K _) (fun _ => br_c (fun _ => K _) (fun _ => br_c (fun _ => K _) (fun _ => K _))))))
end
end
section
section
variable {w st c fa wh ov ca re ad : Int32} {rg sv m y sB sL sA : Nat → Int32}
theorem pd_Y_206 {p : SY → Prop} {x2 x3 x5 b x8 x11 raw : Int32} {a e x : Nat} (ha : a < pd_M b) (he : e < pd_M b) (hx : x < pd_M b) (ex : raw &&& pd_k b = nI x)
    (h : wY_twoOperands_259 p x2 x3 x5 b x8 (nI a) x11 (nI e) (nI x) (nI (pd_g b a)) (nI (pd_g b e)) (nI (pd_g b x)) w st c re ad rg sv y sB sL sA) :
    wY_twoOperands_206 p x2 x3 x5 b (pd_top b) x8 (nI a) x11 (nI e) raw w st c re ad rg sv y sB sL sA := by
  have hM := pd_M_le b
  have hH := pd_H_le b
  have T : ∀ n, n < pd_M b → (nI n < pd_top b ↔ n < pd_H b) := by
    intro n hn
    rw [pd_top_H]
    exact nI_ltI (by omega) (by omega)
  unfold wY_twoOperands_206
  refine nm_r (e' := nI x) (by rw [pd_k_top, ex]) ?_
  refine br_c (fun h1 => br_c (fun h2 => br_c (fun h3 => ?_) (fun h3 => ?_)) (fun h2 => br_c (fun h3 => ?_) (fun h3 => ?_))) (fun h1 => br_c (fun h2 => br_c (fun h3 => ?_) (fun h3 => ?_)) (fun h2 => br_c (fun h3 => ?_) (fun h3 => ?_)))
  all_goals
    rw [T _ ha] at h1
    rw [T _ he] at h2
    rw [T _ hx] at h3
    simp only [pd_g, h1, h2, h3, if_true, if_false] at h
    exact h
theorem pd_Y_k2 {p : SY → Prop} {x2 x5 b x8 x10 x11 x12 x13 sn dn xn : Int32}
    (h : wY_twoOperands_423 p x2 2 x5 b x8 x11 x13 xn (nI (pd_n (¬ sn = dn ∧ xn = dn))) (nI (pd_n (¬ x12 ≤ x10))) w st c re ad rg sv y sB sL sA) :
    wY_twoOperands_259 p x2 2 x5 b x8 x10 x11 x12 x13 sn dn xn w st c re ad rg sv y sB sL sA := by
  have K : ∀ v, nI (pd_n (¬ sn = dn ∧ xn = dn)) = v → wY_twoOperands_341 p x2 2 x5 b x8 x10 x11 x12 x13 xn v w st c re ad rg sv y sB sL sA := by
    intro v hv
    subst hv
    unfold wY_twoOperands_341
    refine br_t rfl (br_c (fun h1 => ?_) (fun h1 => ?_))
    · rw [pd_n_f (P := ¬ x12 ≤ x10) (fun z => z h1)] at h
      exact h
    · rw [pd_n_t (P := ¬ x12 ≤ x10) h1] at h
      exact h
  unfold wY_twoOperands_259
  exact br_t rfl (br_c (fun h1 => K _ (congrArg nI (pd_n_f (fun z => z.1 h1)))) (fun h1 => br_c (fun h2 => K _ (congrArg nI (pd_n_t ⟨h1, h2⟩))) (fun h2 => K _ (congrArg nI (pd_n_f (fun z => h2 z.2))))))
theorem pd_Y_kk {p : SY → Prop} {x2 x3 x5 b x8 x10 x11 x12 x13 sn dn xn : Int32} {n : Nat} (h2 : ¬ x3 = 2) (h6 : ¬ x2 = 6) (h14 : ¬ x2 = 14) (hn : n = 0 ∨ n = 1) (e : st &&& 1 = nI n)
    (h : wY_twoOperands_423 p x2 x3 x5 b x8 x11 x13 xn (nI 0) (nI n) w st c re ad rg sv y sB sL sA) :
    wY_twoOperands_259 p x2 x3 x5 b x8 x10 x11 x12 x13 sn dn xn w st c re ad rg sv y sB sL sA := by
  have K : wY_twoOperands_341 p x2 x3 x5 b x8 x10 x11 x12 x13 xn 0 w st c re ad rg sv y sB sL sA := by
    unfold wY_twoOperands_341
    refine br_f h2 (br_f h6 (br_f h14 ?_))
    rcases hn with rfl | rfl
    · exact br_f (fun z => absurd (e.symm.trans z) (by decide)) h
    · exact br_t e h
  unfold wY_twoOperands_259
  exact br_f h2 (br_f h6 (br_f h14 K))
theorem pd_Y_k6 {p : SY → Prop} {x5 b x8 x10 x11 x12 x13 sn dn xn : Int32}
    (h : wY_twoOperands_423 p 6 6 x5 b x8 x11 x13 xn (nI (pd_n (sn = dn ∧ ¬ xn = sn))) (nI (pd_n (¬ x12 + x10 ≤ 65535))) w st c re ad rg sv y sB sL sA) :
    wY_twoOperands_259 p 6 6 x5 b x8 x10 x11 x12 x13 sn dn xn w st c re ad rg sv y sB sL sA := by
  have K : ∀ v, nI (pd_n (sn = dn ∧ ¬ xn = sn)) = v → wY_twoOperands_341 p 6 6 x5 b x8 x10 x11 x12 x13 xn v w st c re ad rg sv y sB sL sA := by
    intro v hv
    subst hv
    unfold wY_twoOperands_341
    refine br_f (by decide) (br_t rfl (br_c (fun h1 => ?_) (fun h1 => ?_)))
    · rw [pd_n_f (P := ¬ x12 + x10 ≤ 65535) (fun z => z h1)] at h
      exact h
    · rw [pd_n_t (P := ¬ x12 + x10 ≤ 65535) h1] at h
      exact h
  unfold wY_twoOperands_259
  exact br_f (by decide) (br_t rfl (br_c (fun h1 => br_c (fun h2 => K _ (congrArg nI (pd_n_f (fun z => z.2 h2)))) (fun h2 => K _ (congrArg nI (pd_n_t ⟨h1, h2⟩)))) (fun h1 => K _ (congrArg nI (pd_n_f (fun z => h1 z.1))))))
theorem pd_Y_k14 {p : SY → Prop} {x5 b x8 x10 x11 x12 x13 sn dn xn : Int32}
    (h : wY_twoOperands_423 p 14 6 x5 b x8 x11 x13 xn (nI (pd_n (¬ sn = dn ∧ xn = sn))) (nI (pd_n (¬ x10 ≤ x12))) w st c re ad rg sv y sB sL sA) :
    wY_twoOperands_259 p 14 6 x5 b x8 x10 x11 x12 x13 sn dn xn w st c re ad rg sv y sB sL sA := by
  have K : ∀ v, nI (pd_n (¬ sn = dn ∧ xn = sn)) = v → wY_twoOperands_341 p 14 6 x5 b x8 x10 x11 x12 x13 xn v w st c re ad rg sv y sB sL sA := by
    intro v hv
    subst hv
    unfold wY_twoOperands_341
    refine br_f (by decide) (br_f (by decide) (br_t rfl (br_c (fun h1 => ?_) (fun h1 => ?_))))
    · rw [pd_n_f (P := ¬ x10 ≤ x12) (fun z => z h1)] at h
      exact h
    · rw [pd_n_t (P := ¬ x10 ≤ x12) h1] at h
      exact h
  unfold wY_twoOperands_259
  exact br_f (by decide) (br_f (by decide) (br_t rfl (br_c (fun h1 => K _ (congrArg nI (pd_n_f (fun z => z.1 h1)))) (fun h1 => br_c (fun h2 => K _ (congrArg nI (pd_n_t ⟨h1, h2⟩))) (fun h2 => K _ (congrArg nI (pd_n_f (fun z => h2 z.2))))))))
/-! X's arithmetic -/
theorem pd_X_sub {p : Int32 → SX → Prop} {x y b r : Int32} {v e : Nat} (v2 : v = 0 ∨ v = 1) (e2 : e = 0 ∨ e = 1) (er : (x - y) &&& pd_k b = r) (hv : ((x ^^^ y) &&& (x ^^^ r)) &&& pd_top b = 0 ↔ v = 0) (he : y ≤ x ↔ e = 0)
    (hp : p r (w, st, c, re, fa, nI v, nI e, rg, sv, m, sB, sL, sA)) : wpX_subtract p (w, st, c, re, fa, ov, ca, rg, sv, m, sB, sL, sA) x y b := by
  have K52 : ∀ z0, nI v = z0 → wX_subtract_52 p x y r z0 w st c re fa ov ca rg sv m sB sL sA := by
    intro z0 hz
    subst hz
    have k : (y ≤ x → p r (w, st, c, re, fa, nI v, 0, rg, sv, m, sB, sL, sA)) ∧ (¬ y ≤ x → p r (w, st, c, re, fa, nI v, 1, rg, sv, m, sB, sL, sA)) := by
      rcases e2 with rfl | rfl
      · exact br_t (he.mpr rfl) hp
      · exact br_f (fun z => absurd (he.mp z) (by decide)) hp
    unfold wX_subtract_52
    rcases v2 with rfl | rfl
    · exact And.intro rfl (And.intro rfl k)
    · exact And.intro rfl (And.intro rfl k)
  have K30 : ∀ z0, z0 = pd_top b → wX_subtract_30 p x y r z0 w st c re fa ov ca rg sv m sB sL sA := by
    intro z0 hz
    subst hz
    unfold wX_subtract_30
    rcases v2 with rfl | rfl
    · exact br_t (hv.mpr rfl) (K52 _ rfl)
    · exact br_f (fun z => absurd (hv.mp z) (by decide)) (K52 _ rfl)
  unfold wpX_subtract
  unfold pd_k at er
  by_cases hb : b = 0
  · rw [if_pos hb] at er
    exact br_t hb (nm_r er (br_t hb (K30 _ (if_pos hb).symm)))
  · rw [if_neg hb] at er
    exact br_f hb (nm_r er (br_f hb (K30 _ (if_neg hb).symm)))
theorem pd_X_add {p : Int32 → SX → Prop} {x y r : Int32} {v e : Nat} (v2 : v = 0 ∨ v = 1) (e2 : e = 0 ∨ e = 1) (er : (x + y) &&& 65535 = r) (hv : ((x ^^^ r) &&& (y ^^^ r)) &&& 32768 = 0 ↔ v = 0) (he : x + y ≤ 65535 ↔ e = 0)
    (hp : p r (w, st, c, re, fa, nI v, nI e, rg, sv, m, sB, sL, sA)) : wpX_add p (w, st, c, re, fa, ov, ca, rg, sv, m, sB, sL, sA) x y := by
  have K26 : ∀ z0, nI v = z0 → wX_add_26 p x y r z0 w st c re fa ov ca rg sv m sB sL sA := by
    intro z0 hz
    subst hz
    have k : (x + y ≤ 65535 → p r (w, st, c, re, fa, nI v, 0, rg, sv, m, sB, sL, sA)) ∧ (¬ x + y ≤ 65535 → p r (w, st, c, re, fa, nI v, 1, rg, sv, m, sB, sL, sA)) := by
      rcases e2 with rfl | rfl
      · exact br_t (he.mpr rfl) hp
      · exact br_f (fun z => absurd (he.mp z) (by decide)) hp
    unfold wX_add_26
    rcases v2 with rfl | rfl
    · exact And.intro rfl (And.intro rfl k)
    · exact And.intro rfl (And.intro rfl k)
  unfold wpX_add
  refine nm_r er ?_
  rcases v2 with rfl | rfl
  · exact br_t (hv.mpr rfl) (K26 _ rfl)
  · exact br_f (fun z => absurd (hv.mp z) (by decide)) (K26 _ rfl)
/-- the two sides' combination of two operands: one result, one V, one C -/
def pd_C (w st c fa wh ov ca : Int32) (rg sv m sB sL sA : Nat → Int32) (fn x2 x3 x5 b x8 x11 : Int32) (a e : Nat) : Prop :=
  ∃ x v z : Nat, x < pd_M b ∧ (v = 0 ∨ v = 1) ∧ (z = 0 ∨ z = 1) ∧
    (∀ p : Int32 → SX → Prop, p (nI x) (w, st, c, 0, fa, nI v, nI z, rg, sv, m, sB, sL, sA) → wpX_combine p (w, st, c, 0, fa, ov, ca, rg, sv, m, sB, sL, sA) fn (nI a) (nI e) b) ∧
    (∀ p : SY → Prop, wY_twoOperands_423 p x2 x3 x5 b x8 x11 (nI x) (nI (pd_g b x)) (nI v) (nI z) w st c 0 wh rg sv (pd_y m) sB sL sA → wY_twoOperands_121 p x2 x3 x5 b (pd_top b) x8 (nI a) x11 (nI e) w st c 0 wh rg sv (pd_y m) sB sL sA)
theorem pd_gI (b : Int32) (n k : Nat) : nI (pd_g b n) = nI (pd_g b k) ↔ pd_g b n = pd_g b k := by
  have h1 := pd_g_2 b n
  have h2 := pd_g_2 b k
  exact nI_eq (by omega) (by omega)
theorem pd_C_2 {x2 x5 b x8 x11 : Int32} {a e : Nat} (ha : a < pd_M b) (he : e < pd_M b) : pd_C w st c fa wh ov ca rg sv m sB sL sA 2 x2 2 x5 b x8 x11 a e := by
  obtain ⟨n, hn, en⟩ := pd_st1 st
  obtain ⟨x, hx, ex⟩ := pd_k_E b (nI a - nI e)
  refine ⟨x, pd_n (¬ nI (pd_g b a) = nI (pd_g b e) ∧ nI (pd_g b x) = nI (pd_g b e)), pd_n (¬ nI e ≤ nI a), hx, pd_n_2 _, pd_n_2 _, fun p hp => ?_, fun p hp => ?_⟩
  · unfold wpX_combine
    refine pd_X_kc hn en (br_f (by decide) (br_f (by decide) (br_t rfl (pd_X_sub (pd_n_2 _) (pd_n_2 _) ex ?_ ?_ hp))))
    · rw [pd_sgn ha he ha hx, pd_n_0, pd_gI, pd_gI]
      have h1 := pd_g_2 b a
      have h2 := pd_g_2 b e
      have h3 := pd_g_2 b x
      omega
    · rw [pd_n_0, Classical.not_not]
  · unfold wY_twoOperands_121
    exact br_f (by decide) (br_t rfl (pd_Y_206 ha he hx ex (pd_Y_k2 hp)))
theorem pd_C_3 {x2 x5 b x8 x11 : Int32} {a e : Nat} (ha : a < pd_M b) (he : e < pd_M b) (h6 : ¬ x2 = 6) (h14 : ¬ x2 = 14) : pd_C w st c fa wh ov ca rg sv m sB sL sA 3 x2 3 x5 b x8 x11 a e := by
  obtain ⟨n, hn, en⟩ := pd_st1 st
  obtain ⟨x, hx, ex⟩ := pd_k_E b (nI a &&& nI e)
  have e0 : (nI a &&& nI e) &&& pd_k b = nI a &&& nI e := by
    rw [Int32.and_assoc, Int32.and_comm (nI e), ← Int32.and_assoc, pd_k_id ⟨a, ha, rfl⟩]
  have e1 := e0.symm.trans ex
  refine ⟨x, 0, n, hx, Or.inl rfl, hn, fun p hp => ?_, fun p hp => ?_⟩
  · unfold wpX_combine
    rw [← e1] at hp
    exact pd_X_kc hn en (br_f (by decide) (br_f (by decide) (br_f (by decide) (br_t rfl hp))))
  · unfold wY_twoOperands_121
    exact br_f (by decide) (br_f (by decide) (br_t rfl (pd_Y_206 ha he hx ex (pd_Y_kk (by decide) h6 h14 hn en hp))))
theorem pd_C_4 {x2 x5 b x8 x11 : Int32} {a e : Nat} (ha : a < pd_M b) (he : e < pd_M b) (h6 : ¬ x2 = 6) (h14 : ¬ x2 = 14) : pd_C w st c fa wh ov ca rg sv m sB sL sA 4 x2 4 x5 b x8 x11 a e := by
  obtain ⟨n, hn, en⟩ := pd_st1 st
  obtain ⟨x, hx, ex⟩ := pd_k_E b (nI e &&& (nI a ^^^ (-1)))
  have e0 : (nI e &&& (nI a ^^^ (-1))) &&& pd_k b = nI e &&& (nI a ^^^ (-1)) := by
    rw [Int32.and_assoc, Int32.and_comm (nI a ^^^ (-1)), ← Int32.and_assoc, pd_k_id ⟨e, he, rfl⟩]
  have e1 := e0.symm.trans ex
  refine ⟨x, 0, n, hx, Or.inl rfl, hn, fun p hp => ?_, fun p hp => ?_⟩
  · unfold wpX_combine
    rw [← e1] at hp
    exact pd_X_kc hn en (br_f (by decide) (br_f (by decide) (br_f (by decide) (br_f (by decide) (br_t rfl hp)))))
  · unfold wY_twoOperands_121
    exact br_f (by decide) (br_f (by decide) (br_f (by decide) (br_t rfl (pd_Y_206 ha he hx ex (pd_Y_kk (by decide) h6 h14 hn en hp)))))
theorem pd_orM {x z k : Int32} (hx : x &&& k = x) (hz : z &&& k = z) : (x ||| z) &&& k = x ||| z := by
  apply b_ext
  intro i hi
  have h1 := congrArg (fun t => bt t i) hx
  have h2 := congrArg (fun t => bt t i) hz
  simp only [b_and] at h1 h2
  rw [b_and, b_or]
  revert h1 h2
  cases bt x i <;> cases bt z i <;> cases bt k i <;> simp
theorem pd_C_5 {x2 x5 b x8 x11 : Int32} {a e : Nat} (ha : a < pd_M b) (he : e < pd_M b) (h6 : ¬ x2 = 6) (h14 : ¬ x2 = 14) : pd_C w st c fa wh ov ca rg sv m sB sL sA 5 x2 5 x5 b x8 x11 a e := by
  obtain ⟨n, hn, en⟩ := pd_st1 st
  obtain ⟨x, hx, ex⟩ := pd_k_E b (nI e ||| nI a)
  have e1 := (pd_orM (pd_k_id (b := b) ⟨e, he, rfl⟩) (pd_k_id (b := b) ⟨a, ha, rfl⟩)).symm.trans ex
  refine ⟨x, 0, n, hx, Or.inl rfl, hn, fun p hp => ?_, fun p hp => ?_⟩
  · unfold wpX_combine
    rw [← e1] at hp
    exact pd_X_kc hn en (br_f (by decide) (br_f (by decide) (br_f (by decide) (br_f (by decide) (br_f (by decide) (br_t rfl hp))))))
  · unfold wY_twoOperands_121
    exact br_f (by decide) (br_f (by decide) (br_f (by decide) (br_f (by decide) (br_t rfl (pd_Y_206 ha he hx ex (pd_Y_kk (by decide) h6 h14 hn en hp))))))
theorem pd_C_6 {x5 x8 x11 : Int32} {a e : Nat} (ha : a < pd_M 0) (he : e < pd_M 0) : pd_C w st c fa wh ov ca rg sv m sB sL sA 6 6 6 x5 0 x8 x11 a e := by
  obtain ⟨n, hn, en⟩ := pd_st1 st
  obtain ⟨x, hx, ex⟩ := pd_k_E 0 (nI e + nI a)
  refine ⟨x, pd_n (nI (pd_g 0 a) = nI (pd_g 0 e) ∧ ¬ nI (pd_g 0 x) = nI (pd_g 0 a)), pd_n (¬ nI e + nI a ≤ 65535), hx, pd_n_2 _, pd_n_2 _, fun p hp => ?_, fun p hp => ?_⟩
  · unfold wpX_combine
    refine pd_X_kc hn en (br_f (by decide) (br_f (by decide) (br_f (by decide) (br_f (by decide) (br_f (by decide) (br_f (by decide) (br_t rfl (pd_X_add (pd_n_2 _) (pd_n_2 _) ?_ ?_ ?_ hp))))))))
    · rw [Int32.add_comm]
      exact ex
    · refine (pd_sgn (b := 0) ha hx he hx).trans ?_
      rw [pd_n_0, pd_gI, pd_gI]
      have h1 := pd_g_2 0 a
      have h2 := pd_g_2 0 e
      have h3 := pd_g_2 0 x
      omega
    · rw [pd_n_0, Classical.not_not, Int32.add_comm]
  · unfold wY_twoOperands_121
    exact br_f (by decide) (br_f (by decide) (br_f (by decide) (br_f (by decide) (br_f (by decide) (br_t rfl (pd_Y_206 ha he hx ex (pd_Y_k6 hp)))))))
theorem pd_C_7 {x5 x8 x11 : Int32} {a e : Nat} (ha : a < pd_M 0) (he : e < pd_M 0) : pd_C w st c fa wh ov ca rg sv m sB sL sA 7 14 6 x5 0 x8 x11 a e := by
  obtain ⟨n, hn, en⟩ := pd_st1 st
  obtain ⟨x, hx, ex⟩ := pd_k_E 0 (nI e - nI a)
  refine ⟨x, pd_n (¬ nI (pd_g 0 a) = nI (pd_g 0 e) ∧ nI (pd_g 0 x) = nI (pd_g 0 a)), pd_n (¬ nI a ≤ nI e), hx, pd_n_2 _, pd_n_2 _, fun p hp => ?_, fun p hp => ?_⟩
  · unfold wpX_combine
    refine pd_X_kc hn en (br_f (by decide) (br_t (by decide) (pd_X_sub (pd_n_2 _) (pd_n_2 _) ex ?_ ?_ hp)))
    · rw [pd_sgn he ha he hx, pd_n_0, pd_gI, pd_gI]
      have h1 := pd_g_2 0 a
      have h2 := pd_g_2 0 e
      have h3 := pd_g_2 0 x
      omega
    · rw [pd_n_0, Classical.not_not]
  · unfold wY_twoOperands_121
    exact br_f (by decide) (br_f (by decide) (br_f (by decide) (br_f (by decide) (br_f (by decide) (br_f (by decide) (pd_Y_206 ha he hx ex (pd_Y_k14 hp)))))))
end
end
section
section
variable {w st c fa wh ov ca re ad : Int32} {rg sv m y sB sL sA : Nat → Int32}
theorem pd_0x {b : Int32} {x : Nat} (hx : x < pd_M b) : (nI x = 0 ↔ pd_n (nI x = 0) = 1) ∧ (nI x &&& pd_top b = 0 ↔ pd_g b x = 0) := ⟨pd_n_1.symm, pd_top0 hx⟩
theorem pd_Y_484 {p : SY → Prop} {b : Int32} {x v z : Nat} (v2 : v = 0 ∨ v = 1) (z2 : z = 0 ∨ z = 1)
    (hp : p (w, (st &&& 40960) ||| nI (z + 2 * v + 4 * pd_n (nI x = 0) + 8 * pd_g b x), c, re, ad, rg, sv, y, sB, sL, sA)) : wY_twoOperands_484 p (nI x) (nI (pd_g b x)) (nI v) (nI z) w st c re ad rg sv y sB sL sA := by
  have K : ∀ k, nI (pd_n (nI x = 0)) = k → wY_twoOperands_497 p (nI v) (nI z) k (nI (pd_g b x)) w st c re ad rg sv y sB sL sA := by
    intro k hk
    subst hk
    unfold wY_twoOperands_497
    exact pd_Y_co (pd_g_2 b x) (pd_n_2 _) v2 z2 hp
  unfold wY_twoOperands_484
  exact br_c (fun h => K _ (congrArg nI (pd_n_t h))) (fun h => K _ (congrArg nI (pd_n_f h)))
theorem pd_l_fin {b x3 x5 rX rY wr : Int32} {x v z : Nat} (G : pd_G sB sL) (hst : pd_S st) (hR : pd_R rg) (hm : pd_R m) (hf : pd_o x5) (hP : pd_P st x5 rX rY) (hx : x < pd_M b) (v2 : v = 0 ∨ v = 1) (z2 : z = 0 ∨ z = 1)
    (hw : ((x3 = 2 ∨ x3 = 3) ∧ wr = 0) ∨ (¬ x3 = 2 ∧ ¬ x3 = 3 ∧ ¬ wr = 0)) :
    pd_E w st c fa wh sv m sB sL sA (fun p => wpX_finish p (w, st, c, 0, fa, nI v, nI z, rg, sv, m, sB, sL, sA) rX (nI x) b wr) (fun p => wY_twoOperands_462 p x3 x5 b rY (nI x) (nI (pd_g b x)) (nI v) (nI z) w st c 0 wh rg sv (pd_y m) sB sL sA) := by
  obtain ⟨h0, h1⟩ := pd_0x hx
  have hS : pd_S ((st &&& 40960) ||| nI (z + 2 * v + 4 * pd_n (nI x = 0) + 8 * pd_g b x)) := pd_S_4 (pd_g_2 b x) (pd_n_2 _) v2 z2 st
  rcases hw with ⟨h3, hw⟩ | ⟨h2, h3, hw⟩
  · refine Or.inl ⟨_, nI v, nI z, rg, m, hS, hR, hm, fun p hp => ?_, fun p hp => ?_⟩
    · unfold wpX_finish
      refine br_t hw ?_
      unfold wX_finish_17
      exact pd_X_co (pd_g_2 b x) h1 (pd_n_2 _) h0 v2 z2 hp
    · unfold wY_twoOperands_462
      rcases h3 with h3 | h3
      · exact br_t h3 (pd_Y_484 v2 z2 hp)
      · exact br_f (fun z => absurd (h3.symm.trans z) (by decide)) (br_t h3 (pd_Y_484 v2 z2 hp))
  · have hL := pd_l_wp (w := w) (c := c) (fa := fa) (wh := wh) (ov := nI v) (ca := nI z) (sv := sv) (sA := sA) (b := b) (x := nI x) G hst hR hm hf hP ⟨x, hx, rfl⟩
    rcases hL with ⟨rg', m', hR', hm', hX, hY⟩ | ⟨re, ad, rg', hr, hR', hX, hY⟩
    · refine Or.inl ⟨_, nI v, nI z, rg', m', hS, hR', hm', fun p hp => ?_, fun p hp => ?_⟩
      · unfold wpX_finish
        refine br_f hw (hX _ (br_f (by decide) ?_))
        unfold wX_finish_17
        exact pd_X_co (pd_g_2 b x) h1 (pd_n_2 _) h0 v2 z2 hp
      · unfold wY_twoOperands_462
        exact br_f h2 (br_f h3 (hY _ (pd_Y_484 v2 z2 hp)))
    · refine Or.inr ⟨re, ad, nI v, nI z, rg', hr, hR', fun p hp => ?_, fun p hp => ?_⟩
      · unfold wpX_finish
        exact br_f hw (hX _ (br_t rfl hp))
      · unfold wY_twoOperands_462
        exact br_f h2 (br_f h3 (hY _ (pd_D_484 hp)))
theorem pd_sx : ∀ a, a < 256 → ((nI a ^^^ 128) - 128) &&& 65535 = (if a < 128 then nI a else nI a + 65280) &&& 65535 := by decide +kernel
theorem pd_X_46 {p : Int32 → SX → Prop} {b : Int32} {x n : Nat} (hx : x < pd_M b) (hn : n = 0 ∨ n = 1) (en : st &&& 1 = nI n)
    (hp : p 0 (w, (st &&& 40960) ||| nI (n + 2 * 0 + 4 * pd_n (nI x = 0) + 8 * pd_g b x), c, 0, fa, nI 0, nI n, rg, sv, m, sB, sL, sA)) : wX_move_46 p (nI x) b w st c 0 fa ov ca rg sv m sB sL sA := by
  obtain ⟨h0, h1⟩ := pd_0x hx
  unfold wX_move_46
  exact pd_X_kc hn en (pd_X_co (pd_g_2 b x) h1 (pd_n_2 _) h0 (Or.inl rfl) hn hp)
theorem pd_l_mov {b x2 x5 rX rY : Int32} {x : Nat} (G : pd_G sB sL) (hst : pd_S st) (hR : pd_R rg) (hm : pd_R m) (hf : pd_o x5) (hP : pd_P st x5 rX rY) (hx : x < pd_M b)
    (hb9 : (b = 0 ∧ ¬ x2 = 9) ∨ (¬ b = 0 ∧ x2 = 9)) (h6 : ¬ x2 = 6) (h14 : ¬ x2 = 14) :
    pd_E w st c fa wh sv m sB sL sA (fun p => wpX_move p (w, st, c, 0, fa, ov, ca, rg, sv, m, sB, sL, sA) rX (nI x) b) (fun p => wY_twoOperands_121 p x2 1 x5 b (pd_top b) (pd_x (st >>> ((15 : Int32) &&& 31)) (x5 &&& 7)) (nI x) rY 0 w st c 0 wh rg sv (pd_y m) sB sL sA) := by
  obtain ⟨n, hn, en⟩ := pd_st1 st
  have hS : pd_S ((st &&& 40960) ||| nI (n + 2 * 0 + 4 * pd_n (nI x = 0) + 8 * pd_g b x)) := pd_S_4 (pd_g_2 b x) (pd_n_2 _) (Or.inl rfl) hn st
  have hM : 0 < pd_M b := by have := pd_H_le b; have := pd_MH b; omega
  have Y121 : ∀ p : SY → Prop, wY_twoOperands_423 p x2 1 x5 b (pd_x (st >>> ((15 : Int32) &&& 31)) (x5 &&& 7)) rY (nI x) (nI (pd_g b x)) (nI 0) (nI n) w st c 0 wh rg sv (pd_y m) sB sL sA → wY_twoOperands_121 p x2 1 x5 b (pd_top b) (pd_x (st >>> ((15 : Int32) &&& 31)) (x5 &&& 7)) (nI x) rY 0 w st c 0 wh rg sv (pd_y m) sB sL sA := by
    intro p hp
    unfold wY_twoOperands_121
    exact br_t rfl (pd_Y_206 (e := 0) hx hM hx (pd_k_id ⟨x, hx, rfl⟩) (pd_Y_kk (by decide) h6 h14 hn en hp))
  by_cases hreg : ¬ b = 0 ∧ x5 >>> ((3 : Int32) &&& 31) = 0
  · obtain ⟨hb, h0⟩ := hreg
    have h9 : x2 = 9 := by
      rcases hb9 with h | h
      · exact absurd h.1 hb
      · exact h.2
    rcases hP with ⟨_, rfl⟩ | ⟨h1, _⟩
    · rcases pd_7 hf with ⟨_, _, h8, e7, j, hj, ej⟩ | ⟨h1, _⟩
      · obtain ⟨k, hk, e⟩ := pd_x_k (pd_S_md hst) hj
        rw [← ej] at e
        have hi : vp_in (nI k) 9 := vp_in_nI hk (by decide)
        obtain ⟨e1, e2, e3, e4⟩ := pd_65 hk
        have hx8 : x < 256 := by rw [pd_M_n hb] at hx; exact hx
        have hsx := pd_sx x hx8
        refine Or.inl ⟨_, nI 0, nI n, upd rg (nI k).toNatClampNeg (((nI x ^^^ 128) - 128) &&& 65535), m, hS, pd_R_upd hR (pd_w_and _), hm, fun p hp => ?_, fun p hp => Y121 p ?_⟩
        · unfold wpX_move
          rw [e]
          dsimp only
          rw [e4]
          exact br_f hb (br_f e2 (And.intro hi (nm_e (pd_X_46 hx hn en hp))))
        · unfold wY_twoOperands_423
          rw [e7, e]
          refine br_t h9 (br_f h8 ?_)
          unfold wY_twoOperands_456
          by_cases hs : x < 128
          · rw [if_pos hs] at hsx
            have hg : pd_g b x = 0 := by
              unfold pd_g pd_H
              rw [if_neg hb, if_pos hs]
            rw [hg] at hp ⊢
            refine br_t rfl (pd_Y_pu hi ?_)
            rw [← hsx]
            have := pd_Y_484 (w := w) (st := st) (c := c) (re := 0) (ad := wh) (rg := upd rg (nI k).toNatClampNeg (((nI x ^^^ 128) - 128) &&& 65535)) (sv := sv) (y := pd_y m) (sB := sB) (sL := sL) (sA := sA) (p := p) (b := b) (x := x) (v := 0) (z := n) (Or.inl rfl) hn
            rw [hg] at this
            exact this hp
          · rw [if_neg hs] at hsx
            have hg : pd_g b x = 1 := by
              unfold pd_g pd_H
              rw [if_neg hb, if_neg hs]
            rw [hg] at hp ⊢
            refine br_f (by decide) (pd_Y_pu hi ?_)
            rw [← hsx]
            have := pd_Y_484 (w := w) (st := st) (c := c) (re := 0) (ad := wh) (rg := upd rg (nI k).toNatClampNeg (((nI x ^^^ 128) - 128) &&& 65535)) (sv := sv) (y := pd_y m) (sB := sB) (sL := sL) (sA := sA) (p := p) (b := b) (x := x) (v := 0) (z := n) (Or.inl rfl) hn
            rw [hg] at this
            exact this hp
      · exact absurd h0 h1
    · exact absurd h0 h1
  · have hX34 : ∀ p : Int32 → SX → Prop, wX_move_34 p rX (nI x) b w st c 0 fa ov ca rg sv m sB sL sA → wpX_move p (w, st, c, 0, fa, ov, ca, rg, sv, m, sB, sL, sA) rX (nI x) b := by
      intro p hp
      unfold wpX_move
      by_cases hb : b = 0
      · exact br_t hb hp
      · rcases hP with ⟨h0, _⟩ | ⟨_, _, hw⟩
        · exact absurd ⟨hb, h0⟩ hreg
        · exact br_f hb (br_t (pd_w_lt' hw) hp)
    have hY423 : ∀ p : SY → Prop, wY_twoOperands_462 p 1 x5 b rY (nI x) (nI (pd_g b x)) (nI 0) (nI n) w st c 0 wh rg sv (pd_y m) sB sL sA → wY_twoOperands_423 p x2 1 x5 b (pd_x (st >>> ((15 : Int32) &&& 31)) (x5 &&& 7)) rY (nI x) (nI (pd_g b x)) (nI 0) (nI n) w st c 0 wh rg sv (pd_y m) sB sL sA := by
      intro p hp
      unfold wY_twoOperands_423
      rcases hb9 with ⟨hb, h9⟩ | ⟨hb, h9⟩
      · exact br_f h9 hp
      · rcases pd_7 hf with ⟨h0, _⟩ | ⟨_, _, h8⟩
        · exact absurd ⟨hb, h0⟩ hreg
        · exact br_t h9 (br_t h8 hp)
    have hL := pd_l_wp (w := w) (c := c) (fa := fa) (wh := wh) (ov := ov) (ca := ca) (sv := sv) (sA := sA) (b := b) (x := nI x) G hst hR hm hf hP ⟨x, hx, rfl⟩
    rcases hL with ⟨rg', m', hR', hm', hX, hY⟩ | ⟨re, ad, rg', hr, hR', hX, hY⟩
    · refine Or.inl ⟨_, nI 0, nI n, rg', m', hS, hR', hm', fun p hp => hX34 p ?_, fun p hp => Y121 p (hY423 p ?_)⟩
      · unfold wX_move_34
        exact hX _ (br_f (by decide) (pd_X_46 hx hn en hp))
      · unfold wY_twoOperands_462
        exact br_f (by decide) (br_f (by decide) (hY _ (pd_Y_484 (Or.inl rfl) hn hp)))
    · refine Or.inr ⟨re, ad, ov, ca, rg', hr, hR', fun p hp => hX34 p ?_, fun p hp => Y121 p (hY423 p ?_)⟩
      · unfold wX_move_34
        exact hX _ (br_t rfl hp)
      · unfold wY_twoOperands_462
        exact br_f (by decide) (br_f (by decide) (hY _ (pd_D_484 hp)))
end
end
section
section
variable {w st c fa wh ov ca re ad : Int32} {rg sv m y sB sL sA : Nat → Int32}
/-- what is left behind the two addresses and the source operand -/
def pd_T (w st c fa wh : Int32) (sv m sB sL sA : Nat → Int32) (t x3 fn b dst : Int32) : Prop :=
  (fn = 1 ∧ x3 = 1 ∧ ∀ (ov ca rX rY : Int32) (rg : Nat → Int32) (a : Nat), pd_R rg → a < pd_M b → pd_P st dst rX rY →
    pd_E w st c fa wh sv m sB sL sA (fun p => wpX_move p (w, st, c, 0, fa, ov, ca, rg, sv, m, sB, sL, sA) rX (nI a) b) (fun p => wY_twoOperands_121 p t x3 dst b (pd_top b) (pd_x (st >>> ((15 : Int32) &&& 31)) (dst &&& 7)) (nI a) rY 0 w st c 0 wh rg sv (pd_y m) sB sL sA)) ∨
  (¬ fn = 1 ∧ ¬ x3 = 1 ∧ ¬ t = 9 ∧ (((x3 = 2 ∨ x3 = 3) ∧ fn ≤ 3) ∨ (¬ x3 = 2 ∧ ¬ x3 = 3 ∧ ¬ fn ≤ 3)) ∧ ∀ (ov ca x8 x11 : Int32) (rg : Nat → Int32) (a e : Nat), a < pd_M b → e < pd_M b → pd_C w st c fa wh ov ca rg sv m sB sL sA fn t x3 dst b x8 x11 a e)
theorem pd_l_22 {op t x3 fn b src dst : Int32} (G : pd_G sB sL) (hst : pd_S st) (hR : pd_R rg) (hm : pd_R m) (hs : pd_o src) (hd : pd_o dst) (es : (op >>> ((6 : Int32) &&& 31)) &&& 63 = src) (ed : op &&& 63 = dst)
    (hfn : (t = 14 ∧ fn = 7) ∨ (¬ t = 14 ∧ t &&& 7 = fn)) (hT : pd_T w st c fa wh sv m sB sL sA t x3 fn b dst) :
    pd_E w st c fa wh sv m sB sL sA (fun p => wX_doubleOperand_22 p op t b w st c 0 fa ov ca rg sv m sB sL sA) (fun p => wY_twoOperands_57 p t x3 src dst b (pd_top b) w st c 0 wh rg sv (pd_y m) sB sL sA) := by
  rcases pd_l_pl (w := w) (c := c) (fa := fa) (wh := wh) (ov := ov) (ca := ca) (sv := sv) (sA := sA) (b := b) G hst hR hm hs with ⟨rX1, rY1, rg1, hP1, hR1, hX1, hY1⟩ | ⟨re, ad, rg1, hr, hR1, hX1, hY1⟩
  case inr =>
    refine Or.inr ⟨re, ad, ov, ca, rg1, hr, hR1, fun p hp => ?_, fun p hp => ?_⟩
    · unfold wX_doubleOperand_22
      rw [es]
      exact hX1 _ (br_f (by decide) hp)
    · unfold wY_twoOperands_57
      refine pd_Y_ce (hY1 _ (fun r => pd_D_ld hr hst hs (fun r2 => pd_D_ad hr hst (fun r3 => ?_))))
      exact br_c (fun _ => pd_D_121 hr hst hp) (fun _ => pd_D_ld hr hst hd (fun r4 => pd_D_121 hr hst hp))
  rcases pd_l_rp (w := w) (c := c) (fa := fa) (wh := wh) (ov := ov) (ca := ca) (sv := sv) (sA := sA) (b := b) G hst hR1 hm hs hP1 with ⟨rX2, rY2, rg2, ⟨hQ2, hb2⟩, hR2, hX2, hY2⟩ | ⟨re, ad, rg2, hr, hR2, hX2, hY2⟩
  case inr =>
    refine Or.inr ⟨re, ad, ov, ca, rg2, hr, hR2, fun p hp => ?_, fun p hp => ?_⟩
    · unfold wX_doubleOperand_22
      rw [es]
      exact hX1 _ (br_t (pd_P_ge hst hs hP1) (hX2 _ (br_f (by decide) hp)))
    · unfold wY_twoOperands_57
      refine pd_Y_ce (hY1 _ (hY2 _ (fun r2 => pd_D_ad hr hst (fun r3 => ?_))))
      exact br_c (fun _ => pd_D_121 hr hst hp) (fun _ => pd_D_ld hr hst hd (fun r4 => pd_D_121 hr hst hp))
  cases hQ2
  have hge2 := pd_w_ge (pd_b_w hb2)
  obtain ⟨a, ha, rfl⟩ := hb2
  rcases pd_l_pl (w := w) (c := c) (fa := fa) (wh := wh) (ov := ov) (ca := ca) (sv := sv) (sA := sA) (b := b) G hst hR2 hm hd with ⟨rX3, rY3, rg3, hP3, hR3, hX3, hY3⟩ | ⟨re, ad, rg3, hr, hR3, hX3, hY3⟩
  case inr =>
    refine Or.inr ⟨re, ad, ov, ca, rg3, hr, hR3, fun p hp => ?_, fun p hp => ?_⟩
    · unfold wX_doubleOperand_22
      rw [es, ed]
      exact hX1 _ (br_t (pd_P_ge hst hs hP1) (hX2 _ (br_t hge2 (hX3 _ (br_f (by decide) hp)))))
    · unfold wY_twoOperands_57
      refine pd_Y_ce (hY1 _ (hY2 _ (hY3 _ (fun r3 => ?_))))
      exact br_c (fun _ => pd_D_121 hr hst hp) (fun _ => pd_D_ld hr hst hd (fun r4 => pd_D_121 hr hst hp))
  have X93 : ∀ p : Int32 → SX → Prop, wX_doubleOperand_93 p b (nI a) rX3 fn w st c 0 fa ov ca rg3 sv m sB sL sA → wX_doubleOperand_22 p op t b w st c 0 fa ov ca rg sv m sB sL sA := by
    intro p hp
    unfold wX_doubleOperand_22
    rw [es, ed]
    refine hX1 _ (br_t (pd_P_ge hst hs hP1) (hX2 _ (br_t hge2 (hX3 _ (br_t (pd_P_ge hst hd hP3) ?_)))))
    rcases hfn with ⟨h14, hf⟩ | ⟨h14, hf⟩
    · rw [hf] at hp
      exact br_t h14 hp
    · rw [← hf] at hp
      exact br_f h14 hp
  rcases hT with ⟨hf1, h31, hT⟩ | ⟨hf1, h31, h9, hw, hT⟩
  · rcases hT ov ca rX3 rY3 rg3 a hR3 ha hP3 with ⟨st', ov', ca', rg', m', hS, hR', hm', hX4, hY4⟩ | ⟨re, ad, ov', ca', rg', hr, hR', hX4, hY4⟩
    · refine Or.inl ⟨st', ov', ca', rg', m', hS, hR', hm', fun p hp => X93 p ?_, fun p hp => ?_⟩
      · unfold wX_doubleOperand_93
        exact br_t hf1 (hX4 _ hp)
      · unfold wY_twoOperands_57
        exact pd_Y_ce (hY1 _ (hY2 _ (hY3 _ (br_t h31 (hY4 _ hp)))))
    · refine Or.inr ⟨re, ad, ov', ca', rg', hr, hR', fun p hp => X93 p ?_, fun p hp => ?_⟩
      · unfold wX_doubleOperand_93
        exact br_t hf1 (hX4 _ hp)
      · unfold wY_twoOperands_57
        exact pd_Y_ce (hY1 _ (hY2 _ (hY3 _ (br_t h31 (hY4 _ hp)))))
  · have XC : ∀ p : Int32 → SX → Prop, wpX_combineInto p (w, st, c, 0, fa, ov, ca, rg3, sv, m, sB, sL, sA) fn rX3 (nI a) b → wX_doubleOperand_93 p b (nI a) rX3 fn w st c 0 fa ov ca rg3 sv m sB sL sA := by
      intro p hp
      unfold wX_doubleOperand_93
      exact br_f hf1 hp
    rcases pd_l_rp (w := w) (c := c) (fa := fa) (wh := wh) (ov := ov) (ca := ca) (sv := sv) (sA := sA) (b := b) G hst hR3 hm hd hP3 with ⟨rX4, rY4, rg4, ⟨hQ4, hb4⟩, hR4, hX4, hY4⟩ | ⟨re, ad, rg4, hr, hR4, hX4, hY4⟩
    case inr =>
      refine Or.inr ⟨re, ad, ov, ca, rg4, hr, hR4, fun p hp => X93 p (XC p ?_), fun p hp => ?_⟩
      · unfold wpX_combineInto
        exact hX4 _ (br_f (by decide) hp)
      · unfold wY_twoOperands_57
        exact pd_Y_ce (hY1 _ (hY2 _ (hY3 _ (br_f h31 (hY4 _ (fun r4 => pd_D_121 hr hst hp))))))
    cases hQ4
    have hge4 := pd_w_ge (pd_b_w hb4)
    obtain ⟨e, he, rfl⟩ := hb4
    obtain ⟨x, v, z, hx, v2, z2, hXc, hYc⟩ := hT ov ca (pd_x (st >>> ((15 : Int32) &&& 31)) (dst &&& 7)) rY3 rg4 a e ha he
    have hE : ∃ wr : Int32, ((fn ≤ 3 ∧ wr = 0) ∨ (¬ fn ≤ 3 ∧ wr = 1)) ∧ (((x3 = 2 ∨ x3 = 3) ∧ wr = 0) ∨ (¬ x3 = 2 ∧ ¬ x3 = 3 ∧ ¬ wr = 0)) := by
      rcases hw with ⟨h1, h2⟩ | ⟨h1, h2, h3⟩
      · exact ⟨0, Or.inl ⟨h2, rfl⟩, Or.inl ⟨h1, rfl⟩⟩
      · exact ⟨1, Or.inr ⟨h3, rfl⟩, Or.inr ⟨h1, h2, by decide⟩⟩
    obtain ⟨wr, hwr, hw3⟩ := hE
    have X44 : ∀ p : Int32 → SX → Prop, wX_combineInto_44 p wr b (nI x) rX3 w st c 0 fa (nI v) (nI z) rg4 sv m sB sL sA → wX_doubleOperand_22 p op t b w st c 0 fa ov ca rg sv m sB sL sA := by
      intro p hp
      refine X93 p (XC p ?_)
      unfold wpX_combineInto
      refine hX4 _ (br_t hge4 (hXc _ ?_))
      rcases hwr with ⟨h1, rfl⟩ | ⟨h1, rfl⟩
      · exact br_t h1 hp
      · exact br_f h1 hp
    have Y462 : ∀ p : SY → Prop, wY_twoOperands_462 p x3 dst b rY3 (nI x) (nI (pd_g b x)) (nI v) (nI z) w st c 0 wh rg4 sv (pd_y m) sB sL sA → wY_twoOperands_57 p t x3 src dst b (pd_top b) w st c 0 wh rg sv (pd_y m) sB sL sA := by
      intro p hp
      unfold wY_twoOperands_57
      refine pd_Y_ce (hY1 _ (hY2 _ (hY3 _ (br_f h31 (hY4 _ (hYc _ ?_))))))
      unfold wY_twoOperands_423
      exact br_f h9 hp
    rcases pd_l_fin (w := w) (c := c) (fa := fa) (wh := wh) (sv := sv) (sA := sA) G hst hR4 hm hd hP3 hx v2 z2 hw3 with ⟨st', ov', ca', rg', m', hS, hR', hm', hX5, hY5⟩ | ⟨re, ad, ov', ca', rg', hr, hR', hX5, hY5⟩
    · refine Or.inl ⟨st', ov', ca', rg', m', hS, hR', hm', fun p hp => X44 p ?_, fun p hp => Y462 p (hY5 _ hp)⟩
      unfold wX_combineInto_44
      exact hX5 _ hp
    · refine Or.inr ⟨re, ad, ov', ca', rg', hr, hR', fun p hp => X44 p ?_, fun p hp => Y462 p (hY5 _ hp)⟩
      unfold wX_combineInto_44
      exact hX5 _ hp
/-- the twelve kinds -/
theorem pd_l_two {op : Int32} (G : pd_G sB sL) (hst : pd_S st) (hR : pd_R rg) (hm : pd_R m)
    (h : op >>> ((12 : Int32) &&& 31) = 1 ∨ op >>> ((12 : Int32) &&& 31) = 2 ∨ op >>> ((12 : Int32) &&& 31) = 3 ∨ op >>> ((12 : Int32) &&& 31) = 4 ∨ op >>> ((12 : Int32) &&& 31) = 5 ∨ op >>> ((12 : Int32) &&& 31) = 6 ∨ op >>> ((12 : Int32) &&& 31) = 9 ∨ op >>> ((12 : Int32) &&& 31) = 10 ∨ op >>> ((12 : Int32) &&& 31) = 11 ∨ op >>> ((12 : Int32) &&& 31) = 12 ∨ op >>> ((12 : Int32) &&& 31) = 13 ∨ op >>> ((12 : Int32) &&& 31) = 14) :
    pd_E w st c fa wh sv m sB sL sA (fun p => wpX_doubleOperand p (w, st, c, 0, fa, ov, ca, rg, sv, m, sB, sL, sA) op) (fun p => wpY_twoOperands p (w, st, c, 0, wh, rg, sv, pd_y m, sB, sL, sA) op) := by
  have K : ∀ {t x3 fn b : Int32}, (∀ p : Int32 → SX → Prop, wX_doubleOperand_22 p op t b w st c 0 fa ov ca rg sv m sB sL sA → wpX_doubleOperand p (w, st, c, 0, fa, ov, ca, rg, sv, m, sB, sL, sA) op) →
      (∀ p : SY → Prop, wY_twoOperands_57 p t x3 ((op >>> ((6 : Int32) &&& 31)) &&& 63) (op &&& 63) b (pd_top b) w st c 0 wh rg sv (pd_y m) sB sL sA → wpY_twoOperands p (w, st, c, 0, wh, rg, sv, pd_y m, sB, sL, sA) op) →
      ((t = 14 ∧ fn = 7) ∨ (¬ t = 14 ∧ t &&& 7 = fn)) → pd_T w st c fa wh sv m sB sL sA t x3 fn b (op &&& 63) →
      pd_E w st c fa wh sv m sB sL sA (fun p => wpX_doubleOperand p (w, st, c, 0, fa, ov, ca, rg, sv, m, sB, sL, sA) op) (fun p => wpY_twoOperands p (w, st, c, 0, wh, rg, sv, pd_y m, sB, sL, sA) op) := by
    intro t x3 fn b hX hY hfn hT
    rcases pd_l_22 (w := w) (c := c) (fa := fa) (wh := wh) (ov := ov) (ca := ca) (sv := sv) (sA := sA) (op := op) G hst hR hm (pd_a63 _) (pd_a63 _) rfl rfl hfn hT with ⟨st', ov', ca', rg', m', hS, hR', hm', hX5, hY5⟩ | ⟨re, ad, ov', ca', rg', hr, hR', hX5, hY5⟩
    · exact Or.inl ⟨st', ov', ca', rg', m', hS, hR', hm', fun p hp => hX p (hX5 p hp), fun p hp => hY p (hY5 p hp)⟩
    · exact Or.inr ⟨re, ad, ov', ca', rg', hr, hR', fun p hp => hX p (hX5 p hp), fun p hp => hY p (hY5 p hp)⟩
  have hd : pd_o (op &&& 63) := pd_a63 _
  rcases h with e | e | e | e | e | e | e | e | e | e | e | e
  · refine K (t := 1) (x3 := 1) (fn := 1) (b := 0) (fun p hp => ?_) (fun p hp => ?_) (Or.inr ⟨by decide, by decide⟩) (Or.inl ⟨rfl, rfl, fun ov ca rX rY rg a hR' ha hP => pd_l_mov G hst hR' hm hd hP ha (Or.inl ⟨rfl, by decide⟩) (by decide) (by decide)⟩)
    · unfold wpX_doubleOperand
      refine nm_r e ?_
      exact br_t (by decide) hp
    · unfold wpY_twoOperands
      refine nm_r e (nm_r (e' := 1) (by decide) (nm_e (nm_e ?_)))
      exact br_t (by decide) (br_t rfl hp)
  · refine K (t := 2) (x3 := 2) (fn := 2) (b := 0) (fun p hp => ?_) (fun p hp => ?_) (Or.inr ⟨by decide, by decide⟩) (Or.inr ⟨by decide, by decide, by decide, Or.inl ⟨Or.inl rfl, by decide⟩, fun ov ca x8 x11 rg a e ha he => pd_C_2 ha he⟩)
    · unfold wpX_doubleOperand
      refine nm_r e ?_
      exact br_t (by decide) hp
    · unfold wpY_twoOperands
      refine nm_r e (nm_r (e' := 2) (by decide) (nm_e (nm_e ?_)))
      exact br_t (by decide) (br_t rfl hp)
  · refine K (t := 3) (x3 := 3) (fn := 3) (b := 0) (fun p hp => ?_) (fun p hp => ?_) (Or.inr ⟨by decide, by decide⟩) (Or.inr ⟨by decide, by decide, by decide, Or.inl ⟨Or.inr rfl, by decide⟩, fun ov ca x8 x11 rg a e ha he => pd_C_3 ha he (by decide) (by decide)⟩)
    · unfold wpX_doubleOperand
      refine nm_r e ?_
      exact br_t (by decide) hp
    · unfold wpY_twoOperands
      refine nm_r e (nm_r (e' := 3) (by decide) (nm_e (nm_e ?_)))
      exact br_t (by decide) (br_t rfl hp)
  · refine K (t := 4) (x3 := 4) (fn := 4) (b := 0) (fun p hp => ?_) (fun p hp => ?_) (Or.inr ⟨by decide, by decide⟩) (Or.inr ⟨by decide, by decide, by decide, Or.inr ⟨by decide, by decide, by decide⟩, fun ov ca x8 x11 rg a e ha he => pd_C_4 ha he (by decide) (by decide)⟩)
    · unfold wpX_doubleOperand
      refine nm_r e ?_
      exact br_t (by decide) hp
    · unfold wpY_twoOperands
      refine nm_r e (nm_r (e' := 4) (by decide) (nm_e (nm_e ?_)))
      exact br_t (by decide) (br_t rfl hp)
  · refine K (t := 5) (x3 := 5) (fn := 5) (b := 0) (fun p hp => ?_) (fun p hp => ?_) (Or.inr ⟨by decide, by decide⟩) (Or.inr ⟨by decide, by decide, by decide, Or.inr ⟨by decide, by decide, by decide⟩, fun ov ca x8 x11 rg a e ha he => pd_C_5 ha he (by decide) (by decide)⟩)
    · unfold wpX_doubleOperand
      refine nm_r e ?_
      exact br_t (by decide) hp
    · unfold wpY_twoOperands
      refine nm_r e (nm_r (e' := 5) (by decide) (nm_e (nm_e ?_)))
      exact br_t (by decide) (br_t rfl hp)
  · refine K (t := 6) (x3 := 6) (fn := 6) (b := 0) (fun p hp => ?_) (fun p hp => ?_) (Or.inr ⟨by decide, by decide⟩) (Or.inr ⟨by decide, by decide, by decide, Or.inr ⟨by decide, by decide, by decide⟩, fun ov ca x8 x11 rg a e ha he => pd_C_6 ha he⟩)
    · unfold wpX_doubleOperand
      refine nm_r e ?_
      exact br_t (by decide) hp
    · unfold wpY_twoOperands
      refine nm_r e (nm_r (e' := 6) (by decide) (nm_e (nm_e ?_)))
      exact br_t (by decide) (br_t rfl hp)
  · refine K (t := 9) (x3 := 1) (fn := 1) (b := 1) (fun p hp => ?_) (fun p hp => ?_) (Or.inr ⟨by decide, by decide⟩) (Or.inl ⟨rfl, rfl, fun ov ca rX rY rg a hR' ha hP => pd_l_mov G hst hR' hm hd hP ha (Or.inr ⟨by decide, rfl⟩) (by decide) (by decide)⟩)
    · unfold wpX_doubleOperand
      refine nm_r e ?_
      exact br_f (by decide) (br_f (by decide) hp)
    · unfold wpY_twoOperands
      refine nm_r e (nm_r (e' := 1) (by decide) (nm_e (nm_e ?_)))
      exact br_f (by decide) (br_f (by decide) (br_f (by decide) hp))
  · refine K (t := 10) (x3 := 2) (fn := 2) (b := 1) (fun p hp => ?_) (fun p hp => ?_) (Or.inr ⟨by decide, by decide⟩) (Or.inr ⟨by decide, by decide, by decide, Or.inl ⟨Or.inl rfl, by decide⟩, fun ov ca x8 x11 rg a e ha he => pd_C_2 ha he⟩)
    · unfold wpX_doubleOperand
      refine nm_r e ?_
      exact br_f (by decide) (br_f (by decide) hp)
    · unfold wpY_twoOperands
      refine nm_r e (nm_r (e' := 2) (by decide) (nm_e (nm_e ?_)))
      exact br_f (by decide) (br_f (by decide) (br_f (by decide) hp))
  · refine K (t := 11) (x3 := 3) (fn := 3) (b := 1) (fun p hp => ?_) (fun p hp => ?_) (Or.inr ⟨by decide, by decide⟩) (Or.inr ⟨by decide, by decide, by decide, Or.inl ⟨Or.inr rfl, by decide⟩, fun ov ca x8 x11 rg a e ha he => pd_C_3 ha he (by decide) (by decide)⟩)
    · unfold wpX_doubleOperand
      refine nm_r e ?_
      exact br_f (by decide) (br_f (by decide) hp)
    · unfold wpY_twoOperands
      refine nm_r e (nm_r (e' := 3) (by decide) (nm_e (nm_e ?_)))
      exact br_f (by decide) (br_f (by decide) (br_f (by decide) hp))
  · refine K (t := 12) (x3 := 4) (fn := 4) (b := 1) (fun p hp => ?_) (fun p hp => ?_) (Or.inr ⟨by decide, by decide⟩) (Or.inr ⟨by decide, by decide, by decide, Or.inr ⟨by decide, by decide, by decide⟩, fun ov ca x8 x11 rg a e ha he => pd_C_4 ha he (by decide) (by decide)⟩)
    · unfold wpX_doubleOperand
      refine nm_r e ?_
      exact br_f (by decide) (br_f (by decide) hp)
    · unfold wpY_twoOperands
      refine nm_r e (nm_r (e' := 4) (by decide) (nm_e (nm_e ?_)))
      exact br_f (by decide) (br_f (by decide) (br_f (by decide) hp))
  · refine K (t := 13) (x3 := 5) (fn := 5) (b := 1) (fun p hp => ?_) (fun p hp => ?_) (Or.inr ⟨by decide, by decide⟩) (Or.inr ⟨by decide, by decide, by decide, Or.inr ⟨by decide, by decide, by decide⟩, fun ov ca x8 x11 rg a e ha he => pd_C_5 ha he (by decide) (by decide)⟩)
    · unfold wpX_doubleOperand
      refine nm_r e ?_
      exact br_f (by decide) (br_f (by decide) hp)
    · unfold wpY_twoOperands
      refine nm_r e (nm_r (e' := 5) (by decide) (nm_e (nm_e ?_)))
      exact br_f (by decide) (br_f (by decide) (br_f (by decide) hp))
  · refine K (t := 14) (x3 := 6) (fn := 7) (b := 0) (fun p hp => ?_) (fun p hp => ?_) (Or.inl ⟨rfl, rfl⟩) (Or.inr ⟨by decide, by decide, by decide, Or.inr ⟨by decide, by decide, by decide⟩, fun ov ca x8 x11 rg a e ha he => pd_C_7 ha he⟩)
    · unfold wpX_doubleOperand
      refine nm_r e ?_
      exact br_f (by decide) (br_t rfl hp)
    · unfold wpY_twoOperands
      refine nm_r e (nm_r (e' := 6) (by decide) (nm_e (nm_e ?_)))
      exact br_f (by decide) (br_t (by decide) (br_t rfl hp))
end
end
section
section
variable {w st c fa wh ov ca re ad : Int32} {rg sv m y sB sL sA : Nat → Int32}
theorem pd_D_161 {p : SY → Prop} {x2 x3 x4 x5 x6 x7 x8 z0 : Int32} (hr : ¬ re = 0) (hst : pd_S st) (h : ∀ st', p (w, st', c, re, ad, rg, sv, y, sB, sL, sA)) : wY_oneOperand_161 p x2 x3 x4 x5 x6 x7 x8 z0 w st c re ad rg sv y sB sL sA := by
  have k344 : ∀ x11 x12 a b, wY_oneOperand_344 p x11 x12 a b w st c re ad rg sv y sB sL sA := by
    intro x11 x12 a b
    unfold wY_oneOperand_344
    exact pd_D_co h
  have k334 : ∀ x10 x11 x12 a, wY_oneOperand_334 p x10 x11 x12 a w st c re ad rg sv y sB sL sA := fun x10 x11 x12 a => br_c (fun _ => k344 _ _ _ _) (fun _ => k344 _ _ _ _)
  have k321 : ∀ x10 x11 x12, wY_oneOperand_321 p x5 x10 x11 x12 w st c re ad rg sv y sB sL sA := fun x10 x11 x12 => br_c (fun _ => k334 _ _ _ _) (fun _ => k334 _ _ _ _)
  have k302 : ∀ x10 x11 a, wY_oneOperand_302 p x2 x3 x4 x5 x8 x10 x11 a w st c re ad rg sv y sB sL sA := by
    intro x10 x11 a
    unfold wY_oneOperand_302
    exact br_c (fun _ => k321 _ _ _) (fun _ => pd_D_so hr hst (k321 _ _ _))
  have k297 : ∀ x10 x11, wY_oneOperand_297 p x2 x3 x4 x5 x8 x10 x11 w st c re ad rg sv y sB sL sA := fun x10 x11 => k302 _ _ _
  have k301 : ∀ x10 x11, wY_oneOperand_301 p x2 x3 x4 x5 x8 x10 x11 w st c re ad rg sv y sB sL sA := fun x10 x11 => k302 _ _ _
  have k278 : ∀ x10 x11, wY_oneOperand_278 p x2 x3 x4 x5 x6 x7 x8 x10 x11 w st c re ad rg sv y sB sL sA := fun x10 x11 => br_c (fun _ => br_c (fun _ => br_c (fun _ => k297 _ _) (fun _ => k301 _ _)) (fun _ => k301 _ _)) (fun _ => k301 _ _)
  have k262 : ∀ x10 x11, wY_oneOperand_262 p x2 x3 x4 x5 x6 x7 x8 x10 x11 w st c re ad rg sv y sB sL sA := fun x10 x11 => br_c (fun _ => br_c (fun _ => br_c (fun _ => k297 _ _) (fun _ => k278 _ _)) (fun _ => k278 _ _)) (fun _ => k278 _ _)
  have k252 : ∀ x10 x11, wY_oneOperand_252 p x2 x3 x4 x5 x6 x7 x8 x10 x11 w st c re ad rg sv y sB sL sA := fun x10 x11 => br_c (fun _ => br_c (fun _ => k262 _ _) (fun _ => k297 _ _)) (fun _ => k262 _ _)
  have k246 : ∀ x10 x11, wY_oneOperand_246 p x2 x3 x4 x5 x6 x7 x8 x10 x11 w st c re ad rg sv y sB sL sA := fun x10 x11 => br_c (fun _ => k297 _ _) (fun _ => k252 _ _)
  have k229 : ∀ x10 a, wY_oneOperand_229 p x2 x3 x4 x5 x6 x7 x8 x10 a w st c re ad rg sv y sB sL sA := fun x10 a => br_c (fun _ => k297 _ _) (fun _ => br_c (fun _ => k246 _ _) (fun _ => br_c (fun _ => k246 _ _) (fun _ => k252 _ _)))
  have k224 : ∀ x10, wY_oneOperand_224 p x2 x3 x4 x5 x6 x7 x8 x10 w st c re ad rg sv y sB sL sA := fun x10 => k229 _ _
  have k228 : ∀ x10, wY_oneOperand_228 p x2 x3 x4 x5 x6 x7 x8 x10 w st c re ad rg sv y sB sL sA := fun x10 => k229 _ _
  have k215 : ∀ x10, wY_oneOperand_215 p x2 x3 x4 x5 x6 x7 x8 x10 w st c re ad rg sv y sB sL sA := fun x10 => br_c (fun _ => k224 _) (fun _ => k228 _)
  have k198 : ∀ x10, wY_oneOperand_198 p x2 x3 x4 x5 x6 x7 x8 x10 w st c re ad rg sv y sB sL sA := fun x10 => br_c (fun _ => k215 _) (fun _ => br_c (fun _ => br_c (fun _ => k215 _) (fun _ => k228 _)) (fun _ => k228 _))
  have k191 : ∀ x10, wY_oneOperand_191 p x2 x3 x4 x5 x6 x7 x8 x10 w st c re ad rg sv y sB sL sA := fun x10 => br_c (fun _ => k224 _) (fun _ => k198 _)
  unfold wY_oneOperand_161
  exact nm_e (br_c (fun _ => k191 _) (fun _ => br_c (fun _ => k191 _) (fun _ => br_c (fun _ => br_c (fun _ => k191 _) (fun _ => k198 _)) (fun _ => k198 _))))
def pd_U (w st c fa wh ov ca : Int32) (rg sv m sB sL sA : Nat → Int32) (k b x4 x8 raw : Int32) (e n : Nat) : Prop :=
  ∃ x v z : Nat, x < pd_M b ∧ (v = 0 ∨ v = 1) ∧ (z = 0 ∨ z = 1) ∧
    (∀ p : Int32 → Prop, p (nI x) → wpX_unary p (w, st, c, 0, fa, ov, ca, rg, sv, m, sB, sL, sA) k (nI e) (pd_k b)) ∧
    (∀ p : SX → Prop, p (w, st, c, 0, fa, nI v, nI z, rg, sv, m, sB, sL, sA) → wpX_unaryCodes p (w, st, c, 0, fa, ov, ca, rg, sv, m, sB, sL, sA) k (nI x) (pd_top b)) ∧
    (∀ p : SY → Prop, wY_oneOperand_302 p b k x4 (pd_top b) x8 (nI x) (nI v) (nI z) w st c 0 wh rg sv (pd_y m) sB sL sA → wY_oneOperand_161 p b k x4 (pd_top b) (pd_k b) (nI n) x8 raw w st c 0 wh rg sv (pd_y m) sB sL sA)
theorem pd_X_uc {p : SX → Prop} {k x lo : Int32} {n : Nat} (hn : n = 0 ∨ n = 1) (en : st &&& 1 = nI n) (h : wX_unaryCodes_14 p k x lo (nI n) w st c 0 fa ov ca rg sv m sB sL sA) : wpX_unaryCodes p (w, st, c, 0, fa, ov, ca, rg, sv, m, sB, sL, sA) k x lo := by
  unfold wpX_unaryCodes
  rcases hn with rfl | rfl
  · exact br_t en h
  · exact br_f (fun z => absurd (en.symm.trans z) (by decide)) h
theorem pd_U_0 {b x4 x8 : Int32} {e n : Nat} (he : e < pd_M b) (hn : n = 0 ∨ n = 1) (en : st &&& 1 = nI n) : pd_U w st c fa wh ov ca rg sv m sB sL sA 0 b x4 x8 0 e n := by
  obtain ⟨x, hx, ex⟩ := pd_k_E b 0
  have e1 : nI x = 0 := ex.symm.trans (Int32.zero_and)
  have hn' := hn
  rcases hn with rfl | rfl
  · refine ⟨x, 0, 0, hx, Or.inl rfl, Or.inl rfl, fun p hp => ?_, fun p hp => pd_X_uc hn' en ?_, fun p hp => ?_⟩
    · unfold wpX_unary
      refine nm_r en ?_
      rw [e1] at hp
      exact br_f (by decide) (br_f (by decide) (br_t rfl hp))
    · unfold wX_unaryCodes_14
      exact pd_X_kc hn' en (br_f (by decide) (br_f (by decide) (br_f (by decide) (br_f (by decide) (br_f (by decide) (br_t rfl hp))))))
    · unfold wY_oneOperand_161
      refine nm_r ex ?_
      exact br_f (by decide) (br_f (by decide) (br_f (by decide) (br_f (by decide) (br_f (by decide) (br_f (by decide) (br_f (by decide) (br_f (by decide) (br_f (by decide) (br_f (by decide) (br_f (by decide) (hp)))))))))))
  · refine ⟨x, 0, 0, hx, Or.inl rfl, Or.inl rfl, fun p hp => ?_, fun p hp => pd_X_uc hn' en ?_, fun p hp => ?_⟩
    · unfold wpX_unary
      refine nm_r en ?_
      rw [e1] at hp
      exact br_f (by decide) (br_f (by decide) (br_t rfl hp))
    · unfold wX_unaryCodes_14
      exact pd_X_kc hn' en (br_f (by decide) (br_f (by decide) (br_f (by decide) (br_f (by decide) (br_f (by decide) (br_t rfl hp))))))
    · unfold wY_oneOperand_161
      refine nm_r ex ?_
      exact br_f (by decide) (br_f (by decide) (br_f (by decide) (br_f (by decide) (br_f (by decide) (br_f (by decide) (br_f (by decide) (br_f (by decide) (br_f (by decide) (br_f (by decide) (br_f (by decide) (hp)))))))))))
theorem pd_U_1 {b x4 x8 : Int32} {e n : Nat} (he : e < pd_M b) (hn : n = 0 ∨ n = 1) (en : st &&& 1 = nI n) : pd_U w st c fa wh ov ca rg sv m sB sL sA 1 b x4 x8 (nI e ^^^ (-1)) e n := by
  obtain ⟨x, hx, ex⟩ := pd_k_E b (nI e ^^^ (-1))
  have hn' := hn
  rcases hn with rfl | rfl
  · refine ⟨x, 0, 1, hx, Or.inl rfl, Or.inr rfl, fun p hp => ?_, fun p hp => pd_X_uc hn' en ?_, fun p hp => ?_⟩
    · unfold wpX_unary
      refine nm_r en ?_
      rw [← ex] at hp
      exact br_f (by decide) (br_f (by decide) (br_f (by decide) (br_t rfl hp)))
    · unfold wX_unaryCodes_14
      exact pd_X_kc hn' en (br_f (by decide) (br_f (by decide) (br_f (by decide) (br_f (by decide) (br_f (by decide) (br_f (by decide) (br_f (by decide) (br_t rfl hp))))))))
    · unfold wY_oneOperand_161
      refine nm_r ex ?_
      exact br_f (by decide) (br_f (by decide) (br_f (by decide) (br_f (by decide) (br_f (by decide) (br_t rfl hp)))))
  · refine ⟨x, 0, 1, hx, Or.inl rfl, Or.inr rfl, fun p hp => ?_, fun p hp => pd_X_uc hn' en ?_, fun p hp => ?_⟩
    · unfold wpX_unary
      refine nm_r en ?_
      rw [← ex] at hp
      exact br_f (by decide) (br_f (by decide) (br_f (by decide) (br_t rfl hp)))
    · unfold wX_unaryCodes_14
      exact pd_X_kc hn' en (br_f (by decide) (br_f (by decide) (br_f (by decide) (br_f (by decide) (br_f (by decide) (br_f (by decide) (br_f (by decide) (br_t rfl hp))))))))
    · unfold wY_oneOperand_161
      refine nm_r ex ?_
      exact br_f (by decide) (br_f (by decide) (br_f (by decide) (br_f (by decide) (br_f (by decide) (br_t rfl hp)))))
theorem pd_U_2 {b x4 x8 : Int32} {e n : Nat} (he : e < pd_M b) (hn : n = 0 ∨ n = 1) (en : st &&& 1 = nI n) : pd_U w st c fa wh ov ca rg sv m sB sL sA 2 b x4 x8 (nI e + 1) e n := by
  obtain ⟨x, hx, ex⟩ := pd_k_E b (nI e + 1)
  have hn' := hn
  rcases hn with rfl | rfl
  · refine ⟨x, pd_n (nI x = pd_top b), 0, hx, pd_n_2 _, Or.inl rfl, fun p hp => ?_, fun p hp => pd_X_uc hn' en ?_, fun p hp => ?_⟩
    · unfold wpX_unary
      refine nm_r en ?_
      rw [← ex] at hp
      exact br_f (by decide) (br_f (by decide) (br_f (by decide) (br_f (by decide) (br_t rfl hp))))
    · unfold wX_unaryCodes_14
      by_cases hv : nI x = pd_top b
      · skip
        rw [pd_n_t (P := nI x = pd_top b) hv] at hp
        exact pd_X_kc hn' en (br_t rfl (br_t hv (And.intro rfl (And.intro rfl (br_f (by decide) (br_f (by decide) (br_f (by decide) (br_f (by decide) (br_f (by decide) (br_f (by decide) (hp)))))))))))
      · skip
        rw [pd_n_f (P := nI x = pd_top b) hv] at hp
        exact pd_X_kc hn' en (br_t rfl (br_f hv (And.intro rfl (And.intro rfl (br_f (by decide) (br_f (by decide) (br_f (by decide) (br_f (by decide) (br_f (by decide) (br_f (by decide) (hp)))))))))))
    · unfold wY_oneOperand_161
      refine nm_r ex ?_
      by_cases hv : nI x = pd_top b
      · skip
        rw [pd_n_t (P := nI x = pd_top b) hv] at hp
        exact br_t rfl (br_t hv (br_f (by decide) (br_t rfl (br_f (by decide) (br_f (by decide) (br_f (by decide) (br_f (by decide) (hp))))))))
      · skip
        rw [pd_n_f (P := nI x = pd_top b) hv] at hp
        exact br_t rfl (br_f hv (br_f (by decide) (br_f (by decide) (br_f (by decide) (br_t rfl (br_f (by decide) (br_f (by decide) (br_f (by decide) (br_f (by decide) (hp))))))))))
  · refine ⟨x, pd_n (nI x = pd_top b), 1, hx, pd_n_2 _, Or.inr rfl, fun p hp => ?_, fun p hp => pd_X_uc hn' en ?_, fun p hp => ?_⟩
    · unfold wpX_unary
      refine nm_r en ?_
      rw [← ex] at hp
      exact br_f (by decide) (br_f (by decide) (br_f (by decide) (br_f (by decide) (br_t rfl hp))))
    · unfold wX_unaryCodes_14
      by_cases hv : nI x = pd_top b
      · skip
        rw [pd_n_t (P := nI x = pd_top b) hv] at hp
        exact pd_X_kc hn' en (br_t rfl (br_t hv (And.intro rfl (And.intro rfl (br_f (by decide) (br_f (by decide) (br_f (by decide) (br_f (by decide) (br_f (by decide) (br_f (by decide) (hp)))))))))))
      · skip
        rw [pd_n_f (P := nI x = pd_top b) hv] at hp
        exact pd_X_kc hn' en (br_t rfl (br_f hv (And.intro rfl (And.intro rfl (br_f (by decide) (br_f (by decide) (br_f (by decide) (br_f (by decide) (br_f (by decide) (br_f (by decide) (hp)))))))))))
    · unfold wY_oneOperand_161
      refine nm_r ex ?_
      by_cases hv : nI x = pd_top b
      · skip
        rw [pd_n_t (P := nI x = pd_top b) hv] at hp
        exact br_t rfl (br_t hv (br_f (by decide) (br_t rfl (br_t rfl (hp)))))
      · skip
        rw [pd_n_f (P := nI x = pd_top b) hv] at hp
        exact br_t rfl (br_f hv (br_f (by decide) (br_f (by decide) (br_f (by decide) (br_t rfl (br_t rfl (hp)))))))
theorem pd_U_3 {b x4 x8 : Int32} {e n : Nat} (he : e < pd_M b) (hn : n = 0 ∨ n = 1) (en : st &&& 1 = nI n) : pd_U w st c fa wh ov ca rg sv m sB sL sA 3 b x4 x8 (nI e - 1) e n := by
  obtain ⟨x, hx, ex⟩ := pd_k_E b (nI e - 1)
  have hn' := hn
  rcases hn with rfl | rfl
  · refine ⟨x, pd_n (nI x = pd_top b - 1), 0, hx, pd_n_2 _, Or.inl rfl, fun p hp => ?_, fun p hp => pd_X_uc hn' en ?_, fun p hp => ?_⟩
    · unfold wpX_unary
      refine nm_r en ?_
      rw [← ex] at hp
      exact br_f (by decide) (br_f (by decide) (br_f (by decide) (br_f (by decide) (br_f (by decide) (br_t rfl hp)))))
    · unfold wX_unaryCodes_14
      by_cases hv : nI x = pd_top b - 1
      · skip
        rw [pd_n_t (P := nI x = pd_top b - 1) hv] at hp
        exact pd_X_kc hn' en (br_f (by decide) (br_f (by decide) (br_t rfl (br_t hv (And.intro rfl (And.intro rfl (br_f (by decide) (br_f (by decide) (br_f (by decide) (br_f (by decide) (br_f (by decide) (br_f (by decide) (hp)))))))))))))
      · skip
        rw [pd_n_f (P := nI x = pd_top b - 1) hv] at hp
        exact pd_X_kc hn' en (br_f (by decide) (br_f (by decide) (br_t rfl (br_f hv (And.intro rfl (And.intro rfl (br_f (by decide) (br_f (by decide) (br_f (by decide) (br_f (by decide) (br_f (by decide) (br_f (by decide) (hp)))))))))))))
    · unfold wY_oneOperand_161
      refine nm_r ex ?_
      by_cases hv : nI x = pd_top b - 1
      · skip
        rw [pd_n_t (P := nI x = pd_top b - 1) hv] at hp
        exact br_f (by decide) (br_f (by decide) (br_f (by decide) (br_t rfl (br_t hv (br_f (by decide) (br_f (by decide) (br_t rfl (br_f (by decide) (br_f (by decide) (br_f (by decide) (br_f (by decide) (hp))))))))))))
      · skip
        rw [pd_n_f (P := nI x = pd_top b - 1) hv] at hp
        exact br_f (by decide) (br_f (by decide) (br_f (by decide) (br_t rfl (br_f hv (br_f (by decide) (br_f (by decide) (br_t rfl (br_f (by decide) (br_f (by decide) (br_f (by decide) (br_f (by decide) (hp))))))))))))
  · refine ⟨x, pd_n (nI x = pd_top b - 1), 1, hx, pd_n_2 _, Or.inr rfl, fun p hp => ?_, fun p hp => pd_X_uc hn' en ?_, fun p hp => ?_⟩
    · unfold wpX_unary
      refine nm_r en ?_
      rw [← ex] at hp
      exact br_f (by decide) (br_f (by decide) (br_f (by decide) (br_f (by decide) (br_f (by decide) (br_t rfl hp)))))
    · unfold wX_unaryCodes_14
      by_cases hv : nI x = pd_top b - 1
      · skip
        rw [pd_n_t (P := nI x = pd_top b - 1) hv] at hp
        exact pd_X_kc hn' en (br_f (by decide) (br_f (by decide) (br_t rfl (br_t hv (And.intro rfl (And.intro rfl (br_f (by decide) (br_f (by decide) (br_f (by decide) (br_f (by decide) (br_f (by decide) (br_f (by decide) (hp)))))))))))))
      · skip
        rw [pd_n_f (P := nI x = pd_top b - 1) hv] at hp
        exact pd_X_kc hn' en (br_f (by decide) (br_f (by decide) (br_t rfl (br_f hv (And.intro rfl (And.intro rfl (br_f (by decide) (br_f (by decide) (br_f (by decide) (br_f (by decide) (br_f (by decide) (br_f (by decide) (hp)))))))))))))
    · unfold wY_oneOperand_161
      refine nm_r ex ?_
      by_cases hv : nI x = pd_top b - 1
      · skip
        rw [pd_n_t (P := nI x = pd_top b - 1) hv] at hp
        exact br_f (by decide) (br_f (by decide) (br_f (by decide) (br_t rfl (br_t hv (br_f (by decide) (br_f (by decide) (br_t rfl (br_t rfl (hp)))))))))
      · skip
        rw [pd_n_f (P := nI x = pd_top b - 1) hv] at hp
        exact br_f (by decide) (br_f (by decide) (br_f (by decide) (br_t rfl (br_f hv (br_f (by decide) (br_f (by decide) (br_t rfl (br_t rfl (hp)))))))))
theorem pd_U_4 {b x4 x8 : Int32} {e n : Nat} (he : e < pd_M b) (hn : n = 0 ∨ n = 1) (en : st &&& 1 = nI n) : pd_U w st c fa wh ov ca rg sv m sB sL sA 4 b x4 x8 (-nI e) e n := by
  obtain ⟨x, hx, ex⟩ := pd_k_E b (-nI e)
  have hn' := hn
  rcases hn with rfl | rfl
  · refine ⟨x, pd_n (nI x = pd_top b), pd_n (¬ nI x = 0), hx, pd_n_2 _, pd_n_2 _, fun p hp => ?_, fun p hp => pd_X_uc hn' en ?_, fun p hp => ?_⟩
    · unfold wpX_unary
      refine nm_r en ?_
      rw [← ex] at hp
      exact br_f (by decide) (br_f (by decide) (br_f (by decide) (br_f (by decide) (br_f (by decide) (br_f (by decide) (br_t rfl hp))))))
    · unfold wX_unaryCodes_14
      by_cases hv : nI x = pd_top b
      · skip
        by_cases hc : nI x = 0
        · skip
          rw [pd_n_t (P := nI x = pd_top b) hv] at hp
          rw [pd_n_f (P := ¬ nI x = 0) (fun z => z hc)] at hp
          exact pd_X_kc hn' en (br_f (by decide) (br_t rfl (br_t hv (And.intro rfl (And.intro rfl (br_f (by decide) (br_f (by decide) (br_f (by decide) (br_t rfl (br_t hc hp))))))))))
        · skip
          rw [pd_n_t (P := nI x = pd_top b) hv] at hp
          rw [pd_n_t (P := ¬ nI x = 0) hc] at hp
          exact pd_X_kc hn' en (br_f (by decide) (br_t rfl (br_t hv (And.intro rfl (And.intro rfl (br_f (by decide) (br_f (by decide) (br_f (by decide) (br_t rfl (br_f hc hp))))))))))
      · skip
        by_cases hc : nI x = 0
        · skip
          rw [pd_n_f (P := nI x = pd_top b) hv] at hp
          rw [pd_n_f (P := ¬ nI x = 0) (fun z => z hc)] at hp
          exact pd_X_kc hn' en (br_f (by decide) (br_t rfl (br_f hv (And.intro rfl (And.intro rfl (br_f (by decide) (br_f (by decide) (br_f (by decide) (br_t rfl (br_t hc hp))))))))))
        · skip
          rw [pd_n_f (P := nI x = pd_top b) hv] at hp
          rw [pd_n_t (P := ¬ nI x = 0) hc] at hp
          exact pd_X_kc hn' en (br_f (by decide) (br_t rfl (br_f hv (And.intro rfl (And.intro rfl (br_f (by decide) (br_f (by decide) (br_f (by decide) (br_t rfl (br_f hc hp))))))))))
    · unfold wY_oneOperand_161
      refine nm_r ex ?_
      by_cases hv : nI x = pd_top b
      · skip
        by_cases hc : nI x = 0
        · skip
          rw [pd_n_t (P := nI x = pd_top b) hv] at hp
          rw [pd_n_f (P := ¬ nI x = 0) (fun z => z hc)] at hp
          exact br_f (by decide) (br_t rfl (br_t hv (br_f (by decide) (br_f (by decide) (br_f (by decide) (br_t rfl (br_t hc (br_f (by decide) (br_f (by decide) (hp))))))))))
        · skip
          rw [pd_n_t (P := nI x = pd_top b) hv] at hp
          rw [pd_n_t (P := ¬ nI x = 0) hc] at hp
          exact br_f (by decide) (br_t rfl (br_t hv (br_f (by decide) (br_f (by decide) (br_f (by decide) (br_t rfl (br_f hc hp)))))))
      · skip
        by_cases hc : nI x = 0
        · skip
          rw [pd_n_f (P := nI x = pd_top b) hv] at hp
          rw [pd_n_f (P := ¬ nI x = 0) (fun z => z hc)] at hp
          exact br_f (by decide) (br_t rfl (br_f hv (br_f (by decide) (br_f (by decide) (br_f (by decide) (br_f (by decide) (br_f (by decide) (br_t rfl (br_t hc (br_f (by decide) (br_f (by decide) (hp))))))))))))
        · skip
          rw [pd_n_f (P := nI x = pd_top b) hv] at hp
          rw [pd_n_t (P := ¬ nI x = 0) hc] at hp
          exact br_f (by decide) (br_t rfl (br_f hv (br_f (by decide) (br_f (by decide) (br_f (by decide) (br_f (by decide) (br_f (by decide) (br_t rfl (br_f hc hp)))))))))
  · refine ⟨x, pd_n (nI x = pd_top b), pd_n (¬ nI x = 0), hx, pd_n_2 _, pd_n_2 _, fun p hp => ?_, fun p hp => pd_X_uc hn' en ?_, fun p hp => ?_⟩
    · unfold wpX_unary
      refine nm_r en ?_
      rw [← ex] at hp
      exact br_f (by decide) (br_f (by decide) (br_f (by decide) (br_f (by decide) (br_f (by decide) (br_f (by decide) (br_t rfl hp))))))
    · unfold wX_unaryCodes_14
      by_cases hv : nI x = pd_top b
      · skip
        by_cases hc : nI x = 0
        · skip
          rw [pd_n_t (P := nI x = pd_top b) hv] at hp
          rw [pd_n_f (P := ¬ nI x = 0) (fun z => z hc)] at hp
          exact pd_X_kc hn' en (br_f (by decide) (br_t rfl (br_t hv (And.intro rfl (And.intro rfl (br_f (by decide) (br_f (by decide) (br_f (by decide) (br_t rfl (br_t hc hp))))))))))
        · skip
          rw [pd_n_t (P := nI x = pd_top b) hv] at hp
          rw [pd_n_t (P := ¬ nI x = 0) hc] at hp
          exact pd_X_kc hn' en (br_f (by decide) (br_t rfl (br_t hv (And.intro rfl (And.intro rfl (br_f (by decide) (br_f (by decide) (br_f (by decide) (br_t rfl (br_f hc hp))))))))))
      · skip
        by_cases hc : nI x = 0
        · skip
          rw [pd_n_f (P := nI x = pd_top b) hv] at hp
          rw [pd_n_f (P := ¬ nI x = 0) (fun z => z hc)] at hp
          exact pd_X_kc hn' en (br_f (by decide) (br_t rfl (br_f hv (And.intro rfl (And.intro rfl (br_f (by decide) (br_f (by decide) (br_f (by decide) (br_t rfl (br_t hc hp))))))))))
        · skip
          rw [pd_n_f (P := nI x = pd_top b) hv] at hp
          rw [pd_n_t (P := ¬ nI x = 0) hc] at hp
          exact pd_X_kc hn' en (br_f (by decide) (br_t rfl (br_f hv (And.intro rfl (And.intro rfl (br_f (by decide) (br_f (by decide) (br_f (by decide) (br_t rfl (br_f hc hp))))))))))
    · unfold wY_oneOperand_161
      refine nm_r ex ?_
      by_cases hv : nI x = pd_top b
      · skip
        by_cases hc : nI x = 0
        · skip
          rw [pd_n_t (P := nI x = pd_top b) hv] at hp
          rw [pd_n_f (P := ¬ nI x = 0) (fun z => z hc)] at hp
          exact br_f (by decide) (br_t rfl (br_t hv (br_f (by decide) (br_f (by decide) (br_f (by decide) (br_t rfl (br_t hc (br_f (by decide) (br_f (by decide) (hp))))))))))
        · skip
          rw [pd_n_t (P := nI x = pd_top b) hv] at hp
          rw [pd_n_t (P := ¬ nI x = 0) hc] at hp
          exact br_f (by decide) (br_t rfl (br_t hv (br_f (by decide) (br_f (by decide) (br_f (by decide) (br_t rfl (br_f hc hp)))))))
      · skip
        by_cases hc : nI x = 0
        · skip
          rw [pd_n_f (P := nI x = pd_top b) hv] at hp
          rw [pd_n_f (P := ¬ nI x = 0) (fun z => z hc)] at hp
          exact br_f (by decide) (br_t rfl (br_f hv (br_f (by decide) (br_f (by decide) (br_f (by decide) (br_f (by decide) (br_f (by decide) (br_t rfl (br_t hc (br_f (by decide) (br_f (by decide) (hp))))))))))))
        · skip
          rw [pd_n_f (P := nI x = pd_top b) hv] at hp
          rw [pd_n_t (P := ¬ nI x = 0) hc] at hp
          exact br_f (by decide) (br_t rfl (br_f hv (br_f (by decide) (br_f (by decide) (br_f (by decide) (br_f (by decide) (br_f (by decide) (br_t rfl (br_f hc hp)))))))))
theorem pd_U_5 {b x4 x8 : Int32} {e n : Nat} (he : e < pd_M b) (hn : n = 0 ∨ n = 1) (en : st &&& 1 = nI n) : pd_U w st c fa wh ov ca rg sv m sB sL sA 5 b x4 x8 (nI e + nI n) e n := by
  obtain ⟨x, hx, ex⟩ := pd_k_E b (nI e + nI n)
  have hn' := hn
  rcases hn with rfl | rfl
  · refine ⟨x, 0, 0, hx, Or.inl rfl, Or.inl rfl, fun p hp => ?_, fun p hp => pd_X_uc hn' en ?_, fun p hp => ?_⟩
    · unfold wpX_unary
      refine nm_r en ?_
      rw [← ex] at hp
      exact br_f (by decide) (br_f (by decide) (br_f (by decide) (br_f (by decide) (br_f (by decide) (br_f (by decide) (br_f (by decide) (br_t rfl hp)))))))
    · unfold wX_unaryCodes_14
      exact pd_X_kc hn' en (br_f (by decide) (br_f (by decide) (br_f (by decide) (br_t rfl (br_t rfl (And.intro rfl (And.intro rfl (br_f (by decide) (br_f (by decide) (br_f (by decide) (br_f (by decide) (br_t rfl (br_t rfl hp)))))))))))))
    · unfold wY_oneOperand_161
      refine nm_r ex ?_
      exact br_f (by decide) (br_f (by decide) (br_t rfl (br_f (by decide) (br_f (by decide) (br_f (by decide) (br_f (by decide) (br_f (by decide) (br_f (by decide) (br_f (by decide) (br_t rfl (br_f (by decide) (br_f (by decide) (hp)))))))))))))
  · refine ⟨x, pd_n (nI x = pd_top b), pd_n (nI x = 0), hx, pd_n_2 _, pd_n_2 _, fun p hp => ?_, fun p hp => pd_X_uc hn' en ?_, fun p hp => ?_⟩
    · unfold wpX_unary
      refine nm_r en ?_
      rw [← ex] at hp
      exact br_f (by decide) (br_f (by decide) (br_f (by decide) (br_f (by decide) (br_f (by decide) (br_f (by decide) (br_f (by decide) (br_t rfl hp)))))))
    · unfold wX_unaryCodes_14
      by_cases hv : nI x = pd_top b
      · skip
        by_cases hc : nI x = 0
        · skip
          rw [pd_n_t (P := nI x = pd_top b) hv] at hp
          rw [pd_n_t (P := nI x = 0) hc] at hp
          exact pd_X_kc hn' en (br_f (by decide) (br_f (by decide) (br_f (by decide) (br_t rfl (br_f (by decide) (br_t hv (And.intro rfl (And.intro rfl (br_f (by decide) (br_f (by decide) (br_f (by decide) (br_f (by decide) (br_t rfl (br_f (by decide) (br_t hc hp)))))))))))))))
        · skip
          rw [pd_n_t (P := nI x = pd_top b) hv] at hp
          rw [pd_n_f (P := nI x = 0) hc] at hp
          exact pd_X_kc hn' en (br_f (by decide) (br_f (by decide) (br_f (by decide) (br_t rfl (br_f (by decide) (br_t hv (And.intro rfl (And.intro rfl (br_f (by decide) (br_f (by decide) (br_f (by decide) (br_f (by decide) (br_t rfl (br_f (by decide) (br_f hc hp)))))))))))))))
      · skip
        by_cases hc : nI x = 0
        · skip
          rw [pd_n_f (P := nI x = pd_top b) hv] at hp
          rw [pd_n_t (P := nI x = 0) hc] at hp
          exact pd_X_kc hn' en (br_f (by decide) (br_f (by decide) (br_f (by decide) (br_t rfl (br_f (by decide) (br_f hv (And.intro rfl (And.intro rfl (br_f (by decide) (br_f (by decide) (br_f (by decide) (br_f (by decide) (br_t rfl (br_f (by decide) (br_t hc hp)))))))))))))))
        · skip
          rw [pd_n_f (P := nI x = pd_top b) hv] at hp
          rw [pd_n_f (P := nI x = 0) hc] at hp
          exact pd_X_kc hn' en (br_f (by decide) (br_f (by decide) (br_f (by decide) (br_t rfl (br_f (by decide) (br_f hv (And.intro rfl (And.intro rfl (br_f (by decide) (br_f (by decide) (br_f (by decide) (br_f (by decide) (br_t rfl (br_f (by decide) (br_f hc hp)))))))))))))))
    · unfold wY_oneOperand_161
      refine nm_r ex ?_
      by_cases hv : nI x = pd_top b
      · skip
        by_cases hc : nI x = 0
        · skip
          rw [pd_n_t (P := nI x = pd_top b) hv] at hp
          rw [pd_n_t (P := nI x = 0) hc] at hp
          exact br_f (by decide) (br_f (by decide) (br_t rfl (br_t rfl (br_t hv (br_f (by decide) (br_f (by decide) (br_f (by decide) (br_f (by decide) (br_t rfl (br_t rfl (br_t hc hp)))))))))))
        · skip
          rw [pd_n_t (P := nI x = pd_top b) hv] at hp
          rw [pd_n_f (P := nI x = 0) hc] at hp
          exact br_f (by decide) (br_f (by decide) (br_t rfl (br_t rfl (br_t hv (br_f (by decide) (br_f (by decide) (br_f (by decide) (br_f (by decide) (br_t rfl (br_t rfl (br_f hc (br_f (by decide) (hp)))))))))))))
      · skip
        by_cases hc : nI x = 0
        · skip
          rw [pd_n_f (P := nI x = pd_top b) hv] at hp
          rw [pd_n_t (P := nI x = 0) hc] at hp
          exact br_f (by decide) (br_f (by decide) (br_t rfl (br_t rfl (br_f hv (br_f (by decide) (br_f (by decide) (br_f (by decide) (br_f (by decide) (br_f (by decide) (br_f (by decide) (br_t rfl (br_t rfl (br_t hc hp)))))))))))))
        · skip
          rw [pd_n_f (P := nI x = pd_top b) hv] at hp
          rw [pd_n_f (P := nI x = 0) hc] at hp
          exact br_f (by decide) (br_f (by decide) (br_t rfl (br_t rfl (br_f hv (br_f (by decide) (br_f (by decide) (br_f (by decide) (br_f (by decide) (br_f (by decide) (br_f (by decide) (br_t rfl (br_t rfl (br_f hc (br_f (by decide) (hp)))))))))))))))
theorem pd_U_6 {b x4 x8 : Int32} {e n : Nat} (he : e < pd_M b) (hn : n = 0 ∨ n = 1) (en : st &&& 1 = nI n) : pd_U w st c fa wh ov ca rg sv m sB sL sA 6 b x4 x8 (nI e - nI n) e n := by
  obtain ⟨x, hx, ex⟩ := pd_k_E b (nI e - nI n)
  have e6 := pd_k_top b
  have hn' := hn
  rcases hn with rfl | rfl
  · refine ⟨x, 0, 0, hx, Or.inl rfl, Or.inl rfl, fun p hp => ?_, fun p hp => pd_X_uc hn' en ?_, fun p hp => ?_⟩
    · unfold wpX_unary
      refine nm_r en ?_
      rw [← ex] at hp
      exact br_f (by decide) (br_f (by decide) (br_f (by decide) (br_f (by decide) (br_f (by decide) (br_f (by decide) (br_f (by decide) (br_f (by decide) (br_t rfl hp))))))))
    · unfold wX_unaryCodes_14
      exact pd_X_kc hn' en (br_f (by decide) (br_f (by decide) (br_f (by decide) (br_f (by decide) (br_t rfl (br_t rfl (And.intro rfl (And.intro rfl (br_f (by decide) (br_f (by decide) (br_f (by decide) (br_f (by decide) (br_f (by decide) (br_t rfl (br_t rfl hp)))))))))))))))
    · unfold wY_oneOperand_161
      refine nm_r ex ?_
      exact br_f (by decide) (br_f (by decide) (br_f (by decide) (br_f (by decide) (br_t rfl (br_f (by decide) (br_f (by decide) (br_f (by decide) (br_f (by decide) (br_f (by decide) (br_f (by decide) (br_t rfl (br_f (by decide) hp))))))))))))
  · refine ⟨x, pd_n (nI x = pd_top b - 1), pd_n (nI x = pd_k b), hx, pd_n_2 _, pd_n_2 _, fun p hp => ?_, fun p hp => pd_X_uc hn' en ?_, fun p hp => ?_⟩
    · unfold wpX_unary
      refine nm_r en ?_
      rw [← ex] at hp
      exact br_f (by decide) (br_f (by decide) (br_f (by decide) (br_f (by decide) (br_f (by decide) (br_f (by decide) (br_f (by decide) (br_f (by decide) (br_t rfl hp))))))))
    · unfold wX_unaryCodes_14
      by_cases hv : nI x = pd_top b - 1
      · skip
        by_cases hc : nI x = pd_k b
        · skip
          rw [pd_n_t (P := nI x = pd_top b - 1) hv] at hp
          rw [pd_n_t (P := nI x = pd_k b) hc] at hp
          exact pd_X_kc hn' en (br_f (by decide) (br_f (by decide) (br_f (by decide) (br_f (by decide) (br_t rfl (br_f (by decide) (br_t hv (And.intro rfl (And.intro rfl (br_f (by decide) (br_f (by decide) (br_f (by decide) (br_f (by decide) (br_f (by decide) (br_t rfl (br_f (by decide) (br_t (hc.trans e6.symm) hp)))))))))))))))))
        · skip
          rw [pd_n_t (P := nI x = pd_top b - 1) hv] at hp
          rw [pd_n_f (P := nI x = pd_k b) hc] at hp
          exact pd_X_kc hn' en (br_f (by decide) (br_f (by decide) (br_f (by decide) (br_f (by decide) (br_t rfl (br_f (by decide) (br_t hv (And.intro rfl (And.intro rfl (br_f (by decide) (br_f (by decide) (br_f (by decide) (br_f (by decide) (br_f (by decide) (br_t rfl (br_f (by decide) (br_f (fun z => hc (z.trans e6)) hp)))))))))))))))))
      · skip
        by_cases hc : nI x = pd_k b
        · skip
          rw [pd_n_f (P := nI x = pd_top b - 1) hv] at hp
          rw [pd_n_t (P := nI x = pd_k b) hc] at hp
          exact pd_X_kc hn' en (br_f (by decide) (br_f (by decide) (br_f (by decide) (br_f (by decide) (br_t rfl (br_f (by decide) (br_f hv (And.intro rfl (And.intro rfl (br_f (by decide) (br_f (by decide) (br_f (by decide) (br_f (by decide) (br_f (by decide) (br_t rfl (br_f (by decide) (br_t (hc.trans e6.symm) hp)))))))))))))))))
        · skip
          rw [pd_n_f (P := nI x = pd_top b - 1) hv] at hp
          rw [pd_n_f (P := nI x = pd_k b) hc] at hp
          exact pd_X_kc hn' en (br_f (by decide) (br_f (by decide) (br_f (by decide) (br_f (by decide) (br_t rfl (br_f (by decide) (br_f hv (And.intro rfl (And.intro rfl (br_f (by decide) (br_f (by decide) (br_f (by decide) (br_f (by decide) (br_f (by decide) (br_t rfl (br_f (by decide) (br_f (fun z => hc (z.trans e6)) hp)))))))))))))))))
    · unfold wY_oneOperand_161
      refine nm_r ex ?_
      by_cases hv : nI x = pd_top b - 1
      · skip
        by_cases hc : nI x = pd_k b
        · skip
          rw [pd_n_t (P := nI x = pd_top b - 1) hv] at hp
          rw [pd_n_t (P := nI x = pd_k b) hc] at hp
          exact br_f (by decide) (br_f (by decide) (br_f (by decide) (br_f (by decide) (br_t rfl (br_t rfl (br_t hv (br_f (by decide) (br_f (by decide) (br_f (by decide) (br_f (by decide) (br_f (by decide) (br_t rfl (br_t rfl (br_t hc hp))))))))))))))
        · skip
          rw [pd_n_t (P := nI x = pd_top b - 1) hv] at hp
          rw [pd_n_f (P := nI x = pd_k b) hc] at hp
          exact br_f (by decide) (br_f (by decide) (br_f (by decide) (br_f (by decide) (br_t rfl (br_t rfl (br_t hv (br_f (by decide) (br_f (by decide) (br_f (by decide) (br_f (by decide) (br_f (by decide) (br_t rfl (br_t rfl (br_f hc hp))))))))))))))
      · skip
        by_cases hc : nI x = pd_k b
        · skip
          rw [pd_n_f (P := nI x = pd_top b - 1) hv] at hp
          rw [pd_n_t (P := nI x = pd_k b) hc] at hp
          exact br_f (by decide) (br_f (by decide) (br_f (by decide) (br_f (by decide) (br_t rfl (br_t rfl (br_f hv (br_f (by decide) (br_f (by decide) (br_f (by decide) (br_f (by decide) (br_f (by decide) (br_t rfl (br_t rfl (br_t hc hp))))))))))))))
        · skip
          rw [pd_n_f (P := nI x = pd_top b - 1) hv] at hp
          rw [pd_n_f (P := nI x = pd_k b) hc] at hp
          exact br_f (by decide) (br_f (by decide) (br_f (by decide) (br_f (by decide) (br_t rfl (br_t rfl (br_f hv (br_f (by decide) (br_f (by decide) (br_f (by decide) (br_f (by decide) (br_f (by decide) (br_t rfl (br_t rfl (br_f hc hp))))))))))))))
theorem pd_U_7 {b x4 x8 : Int32} {e n : Nat} (he : e < pd_M b) (hn : n = 0 ∨ n = 1) (en : st &&& 1 = nI n) : pd_U w st c fa wh ov ca rg sv m sB sL sA 7 b x4 x8 (nI e) e n := by
  obtain ⟨x, hx, ex⟩ := pd_k_E b (nI e)
  have e1 : nI x = nI e := ex.symm.trans (pd_k_id ⟨e, he, rfl⟩)
  have hn' := hn
  rcases hn with rfl | rfl
  · refine ⟨x, 0, 0, hx, Or.inl rfl, Or.inl rfl, fun p hp => ?_, fun p hp => pd_X_uc hn' en ?_, fun p hp => ?_⟩
    · unfold wpX_unary
      refine nm_r en ?_
      rw [e1] at hp
      exact br_f (by decide) (br_t (by decide) hp)
    · unfold wX_unaryCodes_14
      exact pd_X_kc hn' en (br_f (by decide) (br_f (by decide) (br_f (by decide) (br_f (by decide) (br_f (by decide) (br_f (by decide) (br_t rfl hp)))))))
    · unfold wY_oneOperand_161
      refine nm_r ex ?_
      exact br_f (by decide) (br_f (by decide) (br_f (by decide) (br_f (by decide) (br_f (by decide) (br_f (by decide) (br_f (by decide) (br_f (by decide) (br_f (by decide) (br_f (by decide) (br_f (by decide) (hp)))))))))))
  · refine ⟨x, 0, 0, hx, Or.inl rfl, Or.inl rfl, fun p hp => ?_, fun p hp => pd_X_uc hn' en ?_, fun p hp => ?_⟩
    · unfold wpX_unary
      refine nm_r en ?_
      rw [e1] at hp
      exact br_f (by decide) (br_t (by decide) hp)
    · unfold wX_unaryCodes_14
      exact pd_X_kc hn' en (br_f (by decide) (br_f (by decide) (br_f (by decide) (br_f (by decide) (br_f (by decide) (br_f (by decide) (br_t rfl hp)))))))
    · unfold wY_oneOperand_161
      refine nm_r ex ?_
      exact br_f (by decide) (br_f (by decide) (br_f (by decide) (br_f (by decide) (br_f (by decide) (br_f (by decide) (br_f (by decide) (br_f (by decide) (br_f (by decide) (br_f (by decide) (br_f (by decide) (hp)))))))))))
end
end
section
section
variable {w st c fa wh ov ca re ad : Int32} {rg sv m y sB sL sA : Nat → Int32}
theorem pd_Y_321 {p : SY → Prop} {b : Int32} {x v z : Nat} (hx : x < pd_M b) (v2 : v = 0 ∨ v = 1) (z2 : z = 0 ∨ z = 1)
    (hp : p (w, (st &&& 40960) ||| nI (z + 2 * v + 4 * pd_n (nI x = 0) + 8 * pd_g b x), c, re, ad, rg, sv, y, sB, sL, sA)) : wY_oneOperand_321 p (pd_top b) (nI x) (nI v) (nI z) w st c re ad rg sv y sB sL sA := by
  have hM := pd_M_le b
  have hH := pd_H_le b
  have T : nI x < pd_top b ↔ x < pd_H b := by
    rw [pd_top_H]
    exact nI_ltI (by omega) (by omega)
  have K : ∀ g, nI (pd_g b x) = g → wY_oneOperand_334 p (nI x) (nI v) (nI z) g w st c re ad rg sv y sB sL sA := by
    intro g hg
    subst hg
    have k : ∀ t, nI (pd_n (nI x = 0)) = t → wY_oneOperand_344 p (nI v) (nI z) t (nI (pd_g b x)) w st c re ad rg sv y sB sL sA := by
      intro t ht
      subst ht
      unfold wY_oneOperand_344
      exact pd_Y_co (pd_g_2 b x) (pd_n_2 _) v2 z2 hp
    unfold wY_oneOperand_334
    exact br_c (fun h => k _ (congrArg nI (pd_n_t h))) (fun h => k _ (congrArg nI (pd_n_f h)))
  unfold wY_oneOperand_321
  exact br_c (fun h => K _ (congrArg nI (if_pos (T.mp h)))) (fun h => K _ (congrArg nI (if_neg (fun z => h (T.mpr z)))))
theorem pd_D_321 {p : SY → Prop} {x5 x10 x11 x12 : Int32} (h : ∀ st', p (w, st', c, re, ad, rg, sv, y, sB, sL, sA)) : wY_oneOperand_321 p x5 x10 x11 x12 w st c re ad rg sv y sB sL sA := by
  have k344 : ∀ a b, wY_oneOperand_344 p x11 x12 a b w st c re ad rg sv y sB sL sA := by
    intro a b
    unfold wY_oneOperand_344
    exact pd_D_co h
  have k334 : ∀ a, wY_oneOperand_334 p x10 x11 x12 a w st c re ad rg sv y sB sL sA := fun a => br_c (fun _ => k344 _ _) (fun _ => k344 _ _)
  exact br_c (fun _ => k334 _) (fun _ => k334 _)
theorem pd_l_fi1 {b k x5 rX rY wr : Int32} {x v z : Nat} (G : pd_G sB sL) (hst : pd_S st) (hR : pd_R rg) (hm : pd_R m) (hf : pd_o x5) (hP : pd_P st x5 rX rY) (hx : x < pd_M b) (v2 : v = 0 ∨ v = 1) (z2 : z = 0 ∨ z = 1)
    (hw : (k = 7 ∧ wr = 0) ∨ (¬ k = 7 ∧ ¬ wr = 0)) :
    pd_E w st c fa wh sv m sB sL sA (fun p => wpX_finish p (w, st, c, 0, fa, nI v, nI z, rg, sv, m, sB, sL, sA) rX (nI x) b wr) (fun p => wY_oneOperand_302 p b k x5 (pd_top b) rY (nI x) (nI v) (nI z) w st c 0 wh rg sv (pd_y m) sB sL sA) := by
  obtain ⟨h0, h1⟩ := pd_0x hx
  have hS : pd_S ((st &&& 40960) ||| nI (z + 2 * v + 4 * pd_n (nI x = 0) + 8 * pd_g b x)) := pd_S_4 (pd_g_2 b x) (pd_n_2 _) v2 z2 st
  rcases hw with ⟨h3, hw⟩ | ⟨h3, hw⟩
  · refine Or.inl ⟨_, nI v, nI z, rg, m, hS, hR, hm, fun p hp => ?_, fun p hp => ?_⟩
    · unfold wpX_finish
      refine br_t hw ?_
      unfold wX_finish_17
      exact pd_X_co (pd_g_2 b x) h1 (pd_n_2 _) h0 v2 z2 hp
    · unfold wY_oneOperand_302
      exact br_t h3 (pd_Y_321 hx v2 z2 hp)
  · have hL := pd_l_wp (w := w) (c := c) (fa := fa) (wh := wh) (ov := nI v) (ca := nI z) (sv := sv) (sA := sA) (b := b) (x := nI x) G hst hR hm hf hP ⟨x, hx, rfl⟩
    rcases hL with ⟨rg', m', hR', hm', hX, hY⟩ | ⟨re, ad, rg', hr, hR', hX, hY⟩
    · refine Or.inl ⟨_, nI v, nI z, rg', m', hS, hR', hm', fun p hp => ?_, fun p hp => ?_⟩
      · unfold wpX_finish
        refine br_f hw (hX _ (br_f (by decide) ?_))
        unfold wX_finish_17
        exact pd_X_co (pd_g_2 b x) h1 (pd_n_2 _) h0 v2 z2 hp
      · unfold wY_oneOperand_302
        exact br_f h3 (hY _ (pd_Y_321 hx v2 z2 hp))
    · refine Or.inr ⟨re, ad, nI v, nI z, rg', hr, hR', fun p hp => ?_, fun p hp => ?_⟩
      · unfold wpX_finish
        exact br_f hw (hX _ (br_t rfl hp))
      · unfold wY_oneOperand_302
        exact br_f h3 (hY _ (pd_D_321 hp))
/-- X's tail behind the operand's value -/
theorem pd_X_69 {p : Int32 → SX → Prop} {b rX k wr : Int32} {e x v z : Nat} (hk : (k = 7 ∧ wr = 0) ∨ (¬ k = 7 ∧ wr = 1))
    (hU : ∀ p : Int32 → Prop, p (nI x) → wpX_unary p (w, st, c, 0, fa, ov, ca, rg, sv, m, sB, sL, sA) k (nI e) (pd_k b))
    (hC : ∀ p : SX → Prop, p (w, st, c, 0, fa, nI v, nI z, rg, sv, m, sB, sL, sA) → wpX_unaryCodes p (w, st, c, 0, fa, ov, ca, rg, sv, m, sB, sL, sA) k (nI x) (pd_top b))
    (h : wX_singleOperand_111 p wr b (nI x) rX w st c 0 fa (nI v) (nI z) rg sv m sB sL sA) :
    (b = 0 → wX_singleOperand_69 p b rX k 65535 (nI e) k w st c 0 fa ov ca rg sv m sB sL sA) ∧ (¬ b = 0 → wX_singleOperand_69 p b rX k 255 (nI e) k w st c 0 fa ov ca rg sv m sB sL sA) := by
  have K : ∀ t, pd_top b = t → wX_singleOperand_91 p b rX k (nI x) t (nI x) k w st c 0 fa ov ca rg sv m sB sL sA := by
    intro t ht
    subst ht
    unfold wX_singleOperand_91
    refine hC _ ?_
    rcases hk with ⟨h7, rfl⟩ | ⟨h7, rfl⟩
    · exact br_t h7 h
    · exact br_f h7 h
  have K2 : ∀ t, pd_k b = t → wX_singleOperand_69 p b rX k t (nI e) k w st c 0 fa ov ca rg sv m sB sL sA := by
    intro t ht
    subst ht
    unfold wX_singleOperand_69
    exact hU _ (br_c (fun hb => K _ (if_pos hb)) (fun hb => K _ (if_neg hb)))
  exact br_c (fun hb => K2 _ (if_pos hb)) (fun hb => K2 _ (if_neg hb))
theorem pd_l_11 {op b : Int32} (G : pd_G sB sL) (hst : pd_S st) (hR : pd_R rg) (hm : pd_R m) :
    pd_E w st c fa wh sv m sB sL sA (fun p => wX_singleOperand_11 p op b w st c 0 fa ov ca rg sv m sB sL sA) (fun p => wY_oneOperand_39 p b ((op >>> ((6 : Int32) &&& 31)) &&& 7) (op &&& 63) (pd_top b) w st c 0 wh rg sv (pd_y m) sB sL sA) := by
  have hf : pd_o (op &&& 63) := pd_a63 _
  obtain ⟨n, hn, en⟩ := pd_st1 st
  have D : ∀ {re ad : Int32} {rg : Nat → Int32} {p : SY → Prop} {r7 : Int32}, ¬ re = 0 → (∀ st', p (w, st', c, re, ad, rg, sv, pd_y m, sB, sL, sA)) → ∀ raw, wY_oneOperand_161 p b ((op >>> ((6 : Int32) &&& 31)) &&& 7) (op &&& 63) (pd_top b) (pd_k b) (nI n) r7 raw w st c re ad rg sv (pd_y m) sB sL sA := fun hr h raw => pd_D_161 hr hst h
  rcases pd_l_pl (w := w) (c := c) (fa := fa) (wh := wh) (ov := ov) (ca := ca) (sv := sv) (sA := sA) (b := b) G hst hR hm hf with ⟨rX1, rY1, rg1, hP1, hR1, hX1, hY1⟩ | ⟨re, ad, rg1, hr, hR1, hX1, hY1⟩
  case inr =>
    refine Or.inr ⟨re, ad, ov, ca, rg1, hr, hR1, fun p hp => ?_, fun p hp => ?_⟩
    · unfold wX_singleOperand_11
      exact hX1 _ (br_f (by decide) hp)
    · unfold wY_oneOperand_39
      refine nm_r (pd_k_top b) (nm_r en (hY1 _ (fun r => pd_D_ld hr hst hf (fun r2 => ?_))))
      exact br_c (fun _ => D hr hp _) (fun _ => br_c (fun _ => D hr hp _) (fun _ => br_c (fun _ => D hr hp _) (fun _ => br_c (fun _ => D hr hp _) (fun _ => br_c (fun _ => D hr hp _) (fun _ => br_c (fun _ => D hr hp _) (fun _ => br_c (fun _ => D hr hp _) (fun _ => D hr hp _)))))))
  rcases pd_l_rp (w := w) (c := c) (fa := fa) (wh := wh) (ov := ov) (ca := ca) (sv := sv) (sA := sA) (b := b) G hst hR1 hm hf hP1 with ⟨rX2, rY2, rg2, ⟨hQ2, hb2⟩, hR2, hX2, hY2⟩ | ⟨re, ad, rg2, hr, hR2, hX2, hY2⟩
  case inr =>
    refine Or.inr ⟨re, ad, ov, ca, rg2, hr, hR2, fun p hp => ?_, fun p hp => ?_⟩
    · unfold wX_singleOperand_11
      exact hX1 _ (br_t (pd_P_ge hst hf hP1) (hX2 _ (br_f (by decide) hp)))
    · unfold wY_oneOperand_39
      refine nm_r (pd_k_top b) (nm_r en (hY1 _ (hY2 _ (fun r2 => ?_))))
      exact br_c (fun _ => D hr hp _) (fun _ => br_c (fun _ => D hr hp _) (fun _ => br_c (fun _ => D hr hp _) (fun _ => br_c (fun _ => D hr hp _) (fun _ => br_c (fun _ => D hr hp _) (fun _ => br_c (fun _ => D hr hp _) (fun _ => br_c (fun _ => D hr hp _) (fun _ => D hr hp _)))))))
  cases hQ2
  have hge2 := pd_w_ge (pd_b_w hb2)
  obtain ⟨e, he, rfl⟩ := hb2
  obtain ⟨j, hj, ej⟩ := pd_a7 (op >>> ((6 : Int32) &&& 31))
  rw [ej]
  have hj8 : j = 0 ∨ j = 1 ∨ j = 2 ∨ j = 3 ∨ j = 4 ∨ j = 5 ∨ j = 6 ∨ j = 7 := by omega
  have X11 : ∀ (p : Int32 → SX → Prop), ((b = 0 → wX_singleOperand_69 p b rX1 (nI j) 65535 (nI e) (nI j) w st c 0 fa ov ca rg2 sv m sB sL sA) ∧ (¬ b = 0 → wX_singleOperand_69 p b rX1 (nI j) 255 (nI e) (nI j) w st c 0 fa ov ca rg2 sv m sB sL sA)) → wX_singleOperand_11 p op b w st c 0 fa ov ca rg sv m sB sL sA := by
    intro p hp
    unfold wX_singleOperand_11
    exact hX1 _ (br_t (pd_P_ge hst hf hP1) (hX2 _ (br_t hge2 (nm_r ej hp))))
  clear ej
  rcases hj8 with rfl | rfl | rfl | rfl | rfl | rfl | rfl | rfl
  · obtain ⟨x, v, z, hx, v2, z2, hU, hC, hYu⟩ := pd_U_0 (w := w) (st := st) (c := c) (fa := fa) (wh := wh) (ov := ov) (ca := ca) (rg := rg2) (sv := sv) (m := m) (sB := sB) (sL := sL) (sA := sA) (b := b) (x4 := op &&& 63) (x8 := rY1) he hn en
    rcases pd_l_fi1 (w := w) (c := c) (fa := fa) (wh := wh) (sv := sv) (sA := sA) (k := 0) (wr := 1) G hst hR2 hm hf hP1 hx v2 z2 (Or.inr ⟨by decide, by decide⟩) with ⟨st', ov', ca', rg', m', hS, hR', hm', hX4, hY4⟩ | ⟨re, ad, ov', ca', rg', hr, hR', hX4, hY4⟩
    · refine Or.inl ⟨st', ov', ca', rg', m', hS, hR', hm', fun p hp => X11 p (pd_X_69 (wr := 1) (Or.inr ⟨by decide, rfl⟩) hU hC ?_), fun p hp => ?_⟩
      · unfold wX_singleOperand_111
        exact hX4 _ hp
      · unfold wY_oneOperand_39
        refine nm_r (pd_k_top b) (nm_r en (hY1 _ (hY2 _ ?_)))
        exact br_t rfl (hYu _ (hY4 _ hp))
    · refine Or.inr ⟨re, ad, ov', ca', rg', hr, hR', fun p hp => X11 p (pd_X_69 (wr := 1) (Or.inr ⟨by decide, rfl⟩) hU hC ?_), fun p hp => ?_⟩
      · unfold wX_singleOperand_111
        exact hX4 _ hp
      · unfold wY_oneOperand_39
        refine nm_r (pd_k_top b) (nm_r en (hY1 _ (hY2 _ ?_)))
        exact br_t rfl (hYu _ (hY4 _ hp))
  · obtain ⟨x, v, z, hx, v2, z2, hU, hC, hYu⟩ := pd_U_1 (w := w) (st := st) (c := c) (fa := fa) (wh := wh) (ov := ov) (ca := ca) (rg := rg2) (sv := sv) (m := m) (sB := sB) (sL := sL) (sA := sA) (b := b) (x4 := op &&& 63) (x8 := rY1) he hn en
    rcases pd_l_fi1 (w := w) (c := c) (fa := fa) (wh := wh) (sv := sv) (sA := sA) (k := 1) (wr := 1) G hst hR2 hm hf hP1 hx v2 z2 (Or.inr ⟨by decide, by decide⟩) with ⟨st', ov', ca', rg', m', hS, hR', hm', hX4, hY4⟩ | ⟨re, ad, ov', ca', rg', hr, hR', hX4, hY4⟩
    · refine Or.inl ⟨st', ov', ca', rg', m', hS, hR', hm', fun p hp => X11 p (pd_X_69 (wr := 1) (Or.inr ⟨by decide, rfl⟩) hU hC ?_), fun p hp => ?_⟩
      · unfold wX_singleOperand_111
        exact hX4 _ hp
      · unfold wY_oneOperand_39
        refine nm_r (pd_k_top b) (nm_r en (hY1 _ (hY2 _ ?_)))
        exact br_f (by decide) (br_t rfl (hYu _ (hY4 _ hp)))
    · refine Or.inr ⟨re, ad, ov', ca', rg', hr, hR', fun p hp => X11 p (pd_X_69 (wr := 1) (Or.inr ⟨by decide, rfl⟩) hU hC ?_), fun p hp => ?_⟩
      · unfold wX_singleOperand_111
        exact hX4 _ hp
      · unfold wY_oneOperand_39
        refine nm_r (pd_k_top b) (nm_r en (hY1 _ (hY2 _ ?_)))
        exact br_f (by decide) (br_t rfl (hYu _ (hY4 _ hp)))
  · obtain ⟨x, v, z, hx, v2, z2, hU, hC, hYu⟩ := pd_U_2 (w := w) (st := st) (c := c) (fa := fa) (wh := wh) (ov := ov) (ca := ca) (rg := rg2) (sv := sv) (m := m) (sB := sB) (sL := sL) (sA := sA) (b := b) (x4 := op &&& 63) (x8 := rY1) he hn en
    rcases pd_l_fi1 (w := w) (c := c) (fa := fa) (wh := wh) (sv := sv) (sA := sA) (k := 2) (wr := 1) G hst hR2 hm hf hP1 hx v2 z2 (Or.inr ⟨by decide, by decide⟩) with ⟨st', ov', ca', rg', m', hS, hR', hm', hX4, hY4⟩ | ⟨re, ad, ov', ca', rg', hr, hR', hX4, hY4⟩
    · refine Or.inl ⟨st', ov', ca', rg', m', hS, hR', hm', fun p hp => X11 p (pd_X_69 (wr := 1) (Or.inr ⟨by decide, rfl⟩) hU hC ?_), fun p hp => ?_⟩
      · unfold wX_singleOperand_111
        exact hX4 _ hp
      · unfold wY_oneOperand_39
        refine nm_r (pd_k_top b) (nm_r en (hY1 _ (hY2 _ ?_)))
        exact br_f (by decide) (br_f (by decide) (br_t rfl (hYu _ (hY4 _ hp))))
    · refine Or.inr ⟨re, ad, ov', ca', rg', hr, hR', fun p hp => X11 p (pd_X_69 (wr := 1) (Or.inr ⟨by decide, rfl⟩) hU hC ?_), fun p hp => ?_⟩
      · unfold wX_singleOperand_111
        exact hX4 _ hp
      · unfold wY_oneOperand_39
        refine nm_r (pd_k_top b) (nm_r en (hY1 _ (hY2 _ ?_)))
        exact br_f (by decide) (br_f (by decide) (br_t rfl (hYu _ (hY4 _ hp))))
  · obtain ⟨x, v, z, hx, v2, z2, hU, hC, hYu⟩ := pd_U_3 (w := w) (st := st) (c := c) (fa := fa) (wh := wh) (ov := ov) (ca := ca) (rg := rg2) (sv := sv) (m := m) (sB := sB) (sL := sL) (sA := sA) (b := b) (x4 := op &&& 63) (x8 := rY1) he hn en
    rcases pd_l_fi1 (w := w) (c := c) (fa := fa) (wh := wh) (sv := sv) (sA := sA) (k := 3) (wr := 1) G hst hR2 hm hf hP1 hx v2 z2 (Or.inr ⟨by decide, by decide⟩) with ⟨st', ov', ca', rg', m', hS, hR', hm', hX4, hY4⟩ | ⟨re, ad, ov', ca', rg', hr, hR', hX4, hY4⟩
    · refine Or.inl ⟨st', ov', ca', rg', m', hS, hR', hm', fun p hp => X11 p (pd_X_69 (wr := 1) (Or.inr ⟨by decide, rfl⟩) hU hC ?_), fun p hp => ?_⟩
      · unfold wX_singleOperand_111
        exact hX4 _ hp
      · unfold wY_oneOperand_39
        refine nm_r (pd_k_top b) (nm_r en (hY1 _ (hY2 _ ?_)))
        exact br_f (by decide) (br_f (by decide) (br_f (by decide) (br_t rfl (hYu _ (hY4 _ hp)))))
    · refine Or.inr ⟨re, ad, ov', ca', rg', hr, hR', fun p hp => X11 p (pd_X_69 (wr := 1) (Or.inr ⟨by decide, rfl⟩) hU hC ?_), fun p hp => ?_⟩
      · unfold wX_singleOperand_111
        exact hX4 _ hp
      · unfold wY_oneOperand_39
        refine nm_r (pd_k_top b) (nm_r en (hY1 _ (hY2 _ ?_)))
        exact br_f (by decide) (br_f (by decide) (br_f (by decide) (br_t rfl (hYu _ (hY4 _ hp)))))
  · obtain ⟨x, v, z, hx, v2, z2, hU, hC, hYu⟩ := pd_U_4 (w := w) (st := st) (c := c) (fa := fa) (wh := wh) (ov := ov) (ca := ca) (rg := rg2) (sv := sv) (m := m) (sB := sB) (sL := sL) (sA := sA) (b := b) (x4 := op &&& 63) (x8 := rY1) he hn en
    rcases pd_l_fi1 (w := w) (c := c) (fa := fa) (wh := wh) (sv := sv) (sA := sA) (k := 4) (wr := 1) G hst hR2 hm hf hP1 hx v2 z2 (Or.inr ⟨by decide, by decide⟩) with ⟨st', ov', ca', rg', m', hS, hR', hm', hX4, hY4⟩ | ⟨re, ad, ov', ca', rg', hr, hR', hX4, hY4⟩
    · refine Or.inl ⟨st', ov', ca', rg', m', hS, hR', hm', fun p hp => X11 p (pd_X_69 (wr := 1) (Or.inr ⟨by decide, rfl⟩) hU hC ?_), fun p hp => ?_⟩
      · unfold wX_singleOperand_111
        exact hX4 _ hp
      · unfold wY_oneOperand_39
        refine nm_r (pd_k_top b) (nm_r en (hY1 _ (hY2 _ ?_)))
        exact br_f (by decide) (br_f (by decide) (br_f (by decide) (br_f (by decide) (br_t rfl (hYu _ (hY4 _ hp))))))
    · refine Or.inr ⟨re, ad, ov', ca', rg', hr, hR', fun p hp => X11 p (pd_X_69 (wr := 1) (Or.inr ⟨by decide, rfl⟩) hU hC ?_), fun p hp => ?_⟩
      · unfold wX_singleOperand_111
        exact hX4 _ hp
      · unfold wY_oneOperand_39
        refine nm_r (pd_k_top b) (nm_r en (hY1 _ (hY2 _ ?_)))
        exact br_f (by decide) (br_f (by decide) (br_f (by decide) (br_f (by decide) (br_t rfl (hYu _ (hY4 _ hp))))))
  · obtain ⟨x, v, z, hx, v2, z2, hU, hC, hYu⟩ := pd_U_5 (w := w) (st := st) (c := c) (fa := fa) (wh := wh) (ov := ov) (ca := ca) (rg := rg2) (sv := sv) (m := m) (sB := sB) (sL := sL) (sA := sA) (b := b) (x4 := op &&& 63) (x8 := rY1) he hn en
    rcases pd_l_fi1 (w := w) (c := c) (fa := fa) (wh := wh) (sv := sv) (sA := sA) (k := 5) (wr := 1) G hst hR2 hm hf hP1 hx v2 z2 (Or.inr ⟨by decide, by decide⟩) with ⟨st', ov', ca', rg', m', hS, hR', hm', hX4, hY4⟩ | ⟨re, ad, ov', ca', rg', hr, hR', hX4, hY4⟩
    · refine Or.inl ⟨st', ov', ca', rg', m', hS, hR', hm', fun p hp => X11 p (pd_X_69 (wr := 1) (Or.inr ⟨by decide, rfl⟩) hU hC ?_), fun p hp => ?_⟩
      · unfold wX_singleOperand_111
        exact hX4 _ hp
      · unfold wY_oneOperand_39
        refine nm_r (pd_k_top b) (nm_r en (hY1 _ (hY2 _ ?_)))
        exact br_f (by decide) (br_f (by decide) (br_f (by decide) (br_f (by decide) (br_f (by decide) (br_t rfl (hYu _ (hY4 _ hp)))))))
    · refine Or.inr ⟨re, ad, ov', ca', rg', hr, hR', fun p hp => X11 p (pd_X_69 (wr := 1) (Or.inr ⟨by decide, rfl⟩) hU hC ?_), fun p hp => ?_⟩
      · unfold wX_singleOperand_111
        exact hX4 _ hp
      · unfold wY_oneOperand_39
        refine nm_r (pd_k_top b) (nm_r en (hY1 _ (hY2 _ ?_)))
        exact br_f (by decide) (br_f (by decide) (br_f (by decide) (br_f (by decide) (br_f (by decide) (br_t rfl (hYu _ (hY4 _ hp)))))))
  · obtain ⟨x, v, z, hx, v2, z2, hU, hC, hYu⟩ := pd_U_6 (w := w) (st := st) (c := c) (fa := fa) (wh := wh) (ov := ov) (ca := ca) (rg := rg2) (sv := sv) (m := m) (sB := sB) (sL := sL) (sA := sA) (b := b) (x4 := op &&& 63) (x8 := rY1) he hn en
    rcases pd_l_fi1 (w := w) (c := c) (fa := fa) (wh := wh) (sv := sv) (sA := sA) (k := 6) (wr := 1) G hst hR2 hm hf hP1 hx v2 z2 (Or.inr ⟨by decide, by decide⟩) with ⟨st', ov', ca', rg', m', hS, hR', hm', hX4, hY4⟩ | ⟨re, ad, ov', ca', rg', hr, hR', hX4, hY4⟩
    · refine Or.inl ⟨st', ov', ca', rg', m', hS, hR', hm', fun p hp => X11 p (pd_X_69 (wr := 1) (Or.inr ⟨by decide, rfl⟩) hU hC ?_), fun p hp => ?_⟩
      · unfold wX_singleOperand_111
        exact hX4 _ hp
      · unfold wY_oneOperand_39
        refine nm_r (pd_k_top b) (nm_r en (hY1 _ (hY2 _ ?_)))
        exact br_f (by decide) (br_f (by decide) (br_f (by decide) (br_f (by decide) (br_f (by decide) (br_f (by decide) (br_t rfl (hYu _ (hY4 _ hp))))))))
    · refine Or.inr ⟨re, ad, ov', ca', rg', hr, hR', fun p hp => X11 p (pd_X_69 (wr := 1) (Or.inr ⟨by decide, rfl⟩) hU hC ?_), fun p hp => ?_⟩
      · unfold wX_singleOperand_111
        exact hX4 _ hp
      · unfold wY_oneOperand_39
        refine nm_r (pd_k_top b) (nm_r en (hY1 _ (hY2 _ ?_)))
        exact br_f (by decide) (br_f (by decide) (br_f (by decide) (br_f (by decide) (br_f (by decide) (br_f (by decide) (br_t rfl (hYu _ (hY4 _ hp))))))))
  · obtain ⟨x, v, z, hx, v2, z2, hU, hC, hYu⟩ := pd_U_7 (w := w) (st := st) (c := c) (fa := fa) (wh := wh) (ov := ov) (ca := ca) (rg := rg2) (sv := sv) (m := m) (sB := sB) (sL := sL) (sA := sA) (b := b) (x4 := op &&& 63) (x8 := rY1) he hn en
    rcases pd_l_fi1 (w := w) (c := c) (fa := fa) (wh := wh) (sv := sv) (sA := sA) (k := 7) (wr := 0) G hst hR2 hm hf hP1 hx v2 z2 (Or.inl ⟨rfl, rfl⟩) with ⟨st', ov', ca', rg', m', hS, hR', hm', hX4, hY4⟩ | ⟨re, ad, ov', ca', rg', hr, hR', hX4, hY4⟩
    · refine Or.inl ⟨st', ov', ca', rg', m', hS, hR', hm', fun p hp => X11 p (pd_X_69 (wr := 0) (Or.inl ⟨rfl, rfl⟩) hU hC ?_), fun p hp => ?_⟩
      · unfold wX_singleOperand_111
        exact hX4 _ hp
      · unfold wY_oneOperand_39
        refine nm_r (pd_k_top b) (nm_r en (hY1 _ (hY2 _ ?_)))
        exact br_f (by decide) (br_f (by decide) (br_f (by decide) (br_f (by decide) (br_f (by decide) (br_f (by decide) (br_f (by decide) (hYu _ (hY4 _ hp))))))))
    · refine Or.inr ⟨re, ad, ov', ca', rg', hr, hR', fun p hp => X11 p (pd_X_69 (wr := 0) (Or.inl ⟨rfl, rfl⟩) hU hC ?_), fun p hp => ?_⟩
      · unfold wX_singleOperand_111
        exact hX4 _ hp
      · unfold wY_oneOperand_39
        refine nm_r (pd_k_top b) (nm_r en (hY1 _ (hY2 _ ?_)))
        exact br_f (by decide) (br_f (by decide) (br_f (by decide) (br_f (by decide) (br_f (by decide) (br_f (by decide) (br_f (by decide) (hYu _ (hY4 _ hp))))))))
theorem pd_l_one {op : Int32} (G : pd_G sB sL) (hst : pd_S st) (hR : pd_R rg) (hm : pd_R m) (ho : pd_w op) :
    pd_E w st c fa wh sv m sB sL sA (fun p => wpX_singleOperand p (w, st, c, 0, fa, ov, ca, rg, sv, m, sB, sL, sA) op) (fun p => wpY_oneOperand p (w, st, c, 0, wh, rg, sv, pd_y m, sB, sL, sA) op) := by
  obtain ⟨n, hn, rfl⟩ := ho
  by_cases h : n < 32768
  · have h1 : nI n < 32768 := nI_lt (b := 32768) h (by decide)
    have h2 : nI n ≤ 32767 := nI_le (b := 32767) (by omega) (by decide)
    rcases pd_l_11 (w := w) (c := c) (fa := fa) (wh := wh) (ov := ov) (ca := ca) (sv := sv) (sA := sA) (op := nI n) (b := 0) G hst hR hm with ⟨st', ov', ca', rg', m', hS, hR', hm', hX, hY⟩ | ⟨re, ad, ov', ca', rg', hr, hR', hX, hY⟩
    · exact Or.inl ⟨st', ov', ca', rg', m', hS, hR', hm', fun p hp => br_t h1 (hX p hp), fun p hp => br_t h2 (nm_e (nm_e (br_t rfl (hY p hp))))⟩
    · exact Or.inr ⟨re, ad, ov', ca', rg', hr, hR', fun p hp => br_t h1 (hX p hp), fun p hp => br_t h2 (nm_e (nm_e (br_t rfl (hY p hp))))⟩
  · have h1 : ¬ nI n < 32768 := nI_nlt (b := 32768) (by omega) (by omega)
    have h2 : ¬ nI n ≤ 32767 := nI_ge (a := 32767) (by omega) (by omega)
    rcases pd_l_11 (w := w) (c := c) (fa := fa) (wh := wh) (ov := ov) (ca := ca) (sv := sv) (sA := sA) (op := nI n) (b := 1) G hst hR hm with ⟨st', ov', ca', rg', m', hS, hR', hm', hX, hY⟩ | ⟨re, ad, ov', ca', rg', hr, hR', hX, hY⟩
    · exact Or.inl ⟨st', ov', ca', rg', m', hS, hR', hm', fun p hp => br_f h1 (hX p hp), fun p hp => br_f h2 (nm_e (nm_e (br_f (by decide) (hY p hp))))⟩
    · exact Or.inr ⟨re, ad, ov', ca', rg', hr, hR', fun p hp => br_f h1 (hX p hp), fun p hp => br_f h2 (nm_e (nm_e (br_f (by decide) (hY p hp))))⟩
end
end
section
section
variable {w st c fa wh ov ca re ad : Int32} {rg sv m y sB sL sA : Nat → Int32}
theorem pd_off : ∀ l, l < 256 → ((nI l ^^^ 128) - 128) = (if l < 128 then nI l else nI l - 256) := by decide +kernel
theorem pd_fl {x : Int32} {A B : Prop} (h0 : pd_n (¬ x = 0) = 0 → A) (h1 : pd_n (¬ x = 0) = 1 → B) : (x = 0 → A) ∧ (¬ x = 0 → B) := ⟨fun h => h0 (pd_n_f (fun z => z h)), fun h => h1 (pd_n_t h)⟩
theorem pd_X_cn {p : Int32 → Prop} {k : Int32} (h : wX_condition_61 p k (nI (pd_n (¬ st &&& 1 = 0))) (nI (pd_n (¬ st &&& 2 = 0))) (nI (pd_n (¬ st &&& 4 = 0))) (nI (pd_n (¬ st &&& 8 = 0))) w st c 0 fa ov ca rg sv m sB sL sA) :
    wpX_condition p (w, st, c, 0, fa, ov, ca, rg, sv, m, sB, sL, sA) k := by
  have K4 : ∀ a1 a2 a4, a1 = nI (pd_n (¬ st &&& 1 = 0)) → a2 = nI (pd_n (¬ st &&& 2 = 0)) → a4 = nI (pd_n (¬ st &&& 4 = 0)) → wX_condition_44 p k a1 a2 a4 w st c 0 fa ov ca rg sv m sB sL sA := by
    intro a1 a2 a4 e1 e2 e4
    subst e1 e2 e4
    unfold wX_condition_44
    exact pd_fl (fun z => by rw [z] at h; exact h) (fun z => by rw [z] at h; exact h)
  have K3 : ∀ a1 a2, a1 = nI (pd_n (¬ st &&& 1 = 0)) → a2 = nI (pd_n (¬ st &&& 2 = 0)) → wX_condition_29 p k a1 a2 w st c 0 fa ov ca rg sv m sB sL sA := by
    intro a1 a2 e1 e2
    unfold wX_condition_29
    exact pd_fl (fun z => K4 _ _ _ e1 e2 (congrArg nI z.symm)) (fun z => K4 _ _ _ e1 e2 (congrArg nI z.symm))
  have K2 : ∀ a1, a1 = nI (pd_n (¬ st &&& 1 = 0)) → wX_condition_14 p k a1 w st c 0 fa ov ca rg sv m sB sL sA := by
    intro a1 e1
    unfold wX_condition_14
    exact pd_fl (fun z => K3 _ _ e1 (congrArg nI z.symm)) (fun z => K3 _ _ e1 (congrArg nI z.symm))
  unfold wpX_condition
  exact pd_fl (fun z => K2 _ (congrArg nI z.symm)) (fun z => K2 _ (congrArg nI z.symm))
theorem pd_Y_bn {p : SY → Prop} {op : Int32} (h : wY_branch_61 p op (nI (pd_n (¬ st &&& 8 = 0))) (nI (pd_n (¬ st &&& 4 = 0))) (nI (pd_n (¬ st &&& 2 = 0))) (nI (pd_n (¬ st &&& 1 = 0))) w st c 0 wh rg sv y sB sL sA) :
    wpY_branch p (w, st, c, 0, wh, rg, sv, y, sB, sL, sA) op := by
  have K4 : ∀ a8 a4 a2, a8 = nI (pd_n (¬ st &&& 8 = 0)) → a4 = nI (pd_n (¬ st &&& 4 = 0)) → a2 = nI (pd_n (¬ st &&& 2 = 0)) → wY_branch_45 p op a8 a4 a2 w st c 0 wh rg sv y sB sL sA := by
    intro a8 a4 a2 e1 e2 e4
    subst e1 e2 e4
    unfold wY_branch_45
    exact pd_fl (fun z => by rw [z] at h; exact h) (fun z => by rw [z] at h; exact h)
  have K3 : ∀ a8 a4, a8 = nI (pd_n (¬ st &&& 8 = 0)) → a4 = nI (pd_n (¬ st &&& 4 = 0)) → wY_branch_30 p op a8 a4 w st c 0 wh rg sv y sB sL sA := by
    intro a1 a2 e1 e2
    unfold wY_branch_30
    exact pd_fl (fun z => K4 _ _ _ e1 e2 (congrArg nI z.symm)) (fun z => K4 _ _ _ e1 e2 (congrArg nI z.symm))
  have K2 : ∀ a8, a8 = nI (pd_n (¬ st &&& 8 = 0)) → wY_branch_15 p op a8 w st c 0 wh rg sv y sB sL sA := by
    intro a1 e1
    unfold wY_branch_15
    exact pd_fl (fun z => K3 _ _ e1 (congrArg nI z.symm)) (fun z => K3 _ _ e1 (congrArg nI z.symm))
  unfold wpY_branch
  exact pd_fl (fun z => K2 _ (congrArg nI z.symm)) (fun z => K2 _ (congrArg nI z.symm))
theorem pd_l_b {op wanted z0 z1 test : Int32} {r t : Nat} (hst : pd_S st) (hR : pd_R rg) (hm : pd_R m) (et : z1 + z0 = test)
    (X31 : ∀ p : Int32 → SX → Prop, wX_branch_31 p op wanted z0 z1 w st c 0 fa ov ca rg sv m sB sL sA → wpX_branch p (w, st, c, 0, fa, ov, ca, rg, sv, m, sB, sL, sA) op)
    (t2 : t = 0 ∨ t = 1) (ht : nI r = wanted ↔ t = 1)
    (hX : ∀ q : Int32 → Prop, q (nI r) → wX_condition_61 q test (nI (pd_n (¬ st &&& 1 = 0))) (nI (pd_n (¬ st &&& 2 = 0))) (nI (pd_n (¬ st &&& 4 = 0))) (nI (pd_n (¬ st &&& 8 = 0))) w st c 0 fa ov ca rg sv m sB sL sA)
    (hY : ∀ p : SY → Prop, wY_branch_275 p (op &&& 255) (nI t) w st c 0 wh rg sv (pd_y m) sB sL sA → wY_branch_61 p op (nI (pd_n (¬ st &&& 8 = 0))) (nI (pd_n (¬ st &&& 4 = 0))) (nI (pd_n (¬ st &&& 2 = 0))) (nI (pd_n (¬ st &&& 1 = 0))) w st c 0 wh rg sv (pd_y m) sB sL sA) :
    pd_E w st c fa wh sv m sB sL sA (fun p => wpX_branch p (w, st, c, 0, fa, ov, ca, rg, sv, m, sB, sL, sA) op) (fun p => wpY_branch p (w, st, c, 0, wh, rg, sv, pd_y m, sB, sL, sA) op) := by
  rcases t2 with rfl | rfl
  · have hne : ¬ nI r = wanted := fun z => absurd (ht.mp z) (by decide)
    refine Or.inl ⟨st, ov, ca, rg, m, hst, hR, hm, fun p hp => X31 p ?_, fun p hp => pd_Y_bn (hY p (br_t rfl hp))⟩
    unfold wX_branch_31
    exact nm_r et (pd_X_cn (hX _ (br_f hne hp)))
  · have heq : nI r = wanted := ht.mpr rfl
    obtain ⟨l, hl, el⟩ := pk_andE op (m := 255) 8 (by decide)
    have ho := pd_off l hl
    refine Or.inl ⟨st, ov, ca, upd rg 7 ((rg 7 + 2 * ((nI l ^^^ 128) - 128)) &&& 65535), m, hst, pd_R_upd hR (pd_w_and _), hm, fun p hp => X31 p ?_, fun p hp => pd_Y_bn (hY p ?_)⟩
    · unfold wX_branch_31
      refine nm_r et (pd_X_cn (hX _ (br_t heq ?_)))
      rw [el]
      exact nm_e (nm_e hp)
    · rw [el]
      unfold wY_branch_275
      refine br_f (by decide) (pk_le l 127 (fun h => ?_) (fun h => ?_))
      · rw [if_pos (by omega)] at ho
        rw [ho] at hp
        unfold wY_branch_311
        exact pd_Y_pu pd_in7 hp
      · rw [if_neg (by omega)] at ho
        rw [ho] at hp
        unfold wY_branch_311
        exact pd_Y_pu pd_in7 hp
theorem pd_B_1 {op : Int32} {n z v e : Nat} (n2 : n = 0 ∨ n = 1) (z2 : z = 0 ∨ z = 1) (v2 : v = 0 ∨ v = 1) (e2 : e = 0 ∨ e = 1) (ek : op >>> ((8 : Int32) &&& 31) = 1) : ∃ r t : Nat, (t = 0 ∨ t = 1) ∧ (nI r = 1 ↔ t = 1) ∧
    (∀ q : Int32 → Prop, q (nI r) → wX_condition_61 q 0 (nI e) (nI v) (nI z) (nI n) w st c 0 fa ov ca rg sv m sB sL sA) ∧
    (∀ p : SY → Prop, wY_branch_275 p (op &&& 255) (nI t) w st c 0 wh rg sv y sB sL sA → wY_branch_61 p op (nI n) (nI z) (nI v) (nI e) w st c 0 wh rg sv y sB sL sA) := by
  · refine ⟨1, 1, by decide, by decide, fun q hq => ?_, fun p hp => ?_⟩
    · exact br_f (by decide) (br_f (by decide) (br_t rfl hq))
    · unfold wY_branch_61
      refine nm_r ek (nm_e ?_)
      exact br_t rfl (hp)
theorem pd_B_2 {op : Int32} {n z v e : Nat} (n2 : n = 0 ∨ n = 1) (z2 : z = 0 ∨ z = 1) (v2 : v = 0 ∨ v = 1) (e2 : e = 0 ∨ e = 1) (ek : op >>> ((8 : Int32) &&& 31) = 2) : ∃ r t : Nat, (t = 0 ∨ t = 1) ∧ (nI r = 0 ↔ t = 1) ∧
    (∀ q : Int32 → Prop, q (nI r) → wX_condition_61 q 1 (nI e) (nI v) (nI z) (nI n) w st c 0 fa ov ca rg sv m sB sL sA) ∧
    (∀ p : SY → Prop, wY_branch_275 p (op &&& 255) (nI t) w st c 0 wh rg sv y sB sL sA → wY_branch_61 p op (nI n) (nI z) (nI v) (nI e) w st c 0 wh rg sv y sB sL sA) := by
  rcases z2 with rfl | rfl
  · refine ⟨0, 1, by decide, by decide, fun q hq => ?_, fun p hp => ?_⟩
    · exact br_f (by decide) (br_f (by decide) (br_f (by decide) (br_t rfl (And.intro rfl hq))))
    · unfold wY_branch_61
      refine nm_r ek (nm_e ?_)
      exact br_f (by decide) (br_t rfl (br_t rfl (hp)))
  · refine ⟨1, 0, by decide, by decide, fun q hq => ?_, fun p hp => ?_⟩
    · exact br_f (by decide) (br_f (by decide) (br_f (by decide) (br_t rfl (And.intro rfl hq))))
    · unfold wY_branch_61
      refine nm_r ek (nm_e ?_)
      exact br_f (by decide) (br_t rfl (br_f (by decide) (br_f (by decide) (br_f (by decide) (br_f (by decide) (br_f (by decide) (br_f (by decide) (br_f (by decide) (br_f (by decide) (br_f (by decide) (br_f (by decide) (br_f (by decide) (br_f (by decide) (br_f (by decide) (br_f (by decide) (hp))))))))))))))))
theorem pd_B_3 {op : Int32} {n z v e : Nat} (n2 : n = 0 ∨ n = 1) (z2 : z = 0 ∨ z = 1) (v2 : v = 0 ∨ v = 1) (e2 : e = 0 ∨ e = 1) (ek : op >>> ((8 : Int32) &&& 31) = 3) : ∃ r t : Nat, (t = 0 ∨ t = 1) ∧ (nI r = 1 ↔ t = 1) ∧
    (∀ q : Int32 → Prop, q (nI r) → wX_condition_61 q 1 (nI e) (nI v) (nI z) (nI n) w st c 0 fa ov ca rg sv m sB sL sA) ∧
    (∀ p : SY → Prop, wY_branch_275 p (op &&& 255) (nI t) w st c 0 wh rg sv y sB sL sA → wY_branch_61 p op (nI n) (nI z) (nI v) (nI e) w st c 0 wh rg sv y sB sL sA) := by
  rcases z2 with rfl | rfl
  · refine ⟨0, 0, by decide, by decide, fun q hq => ?_, fun p hp => ?_⟩
    · exact br_f (by decide) (br_f (by decide) (br_f (by decide) (br_t rfl (And.intro rfl hq))))
    · unfold wY_branch_61
      refine nm_r ek (nm_e ?_)
      exact br_f (by decide) (br_f (by decide) (br_t rfl (br_t rfl (br_f (by decide) (br_f (by decide) (br_f (by decide) (br_f (by decide) (br_f (by decide) (br_f (by decide) (br_f (by decide) (br_f (by decide) (br_f (by decide) (br_f (by decide) (br_f (by decide) (br_f (by decide) (hp))))))))))))))))
  · refine ⟨1, 1, by decide, by decide, fun q hq => ?_, fun p hp => ?_⟩
    · exact br_f (by decide) (br_f (by decide) (br_f (by decide) (br_t rfl (And.intro rfl hq))))
    · unfold wY_branch_61
      refine nm_r ek (nm_e ?_)
      exact br_f (by decide) (br_f (by decide) (br_t rfl (br_f (by decide) (hp))))
theorem pd_B_4 {op : Int32} {n z v e : Nat} (n2 : n = 0 ∨ n = 1) (z2 : z = 0 ∨ z = 1) (v2 : v = 0 ∨ v = 1) (e2 : e = 0 ∨ e = 1) (ek : op >>> ((8 : Int32) &&& 31) = 4) : ∃ r t : Nat, (t = 0 ∨ t = 1) ∧ (nI r = 0 ↔ t = 1) ∧
    (∀ q : Int32 → Prop, q (nI r) → wX_condition_61 q 2 (nI e) (nI v) (nI z) (nI n) w st c 0 fa ov ca rg sv m sB sL sA) ∧
    (∀ p : SY → Prop, wY_branch_275 p (op &&& 255) (nI t) w st c 0 wh rg sv y sB sL sA → wY_branch_61 p op (nI n) (nI z) (nI v) (nI e) w st c 0 wh rg sv y sB sL sA) := by
  rcases n2 with rfl | rfl
  · rcases v2 with rfl | rfl
    · refine ⟨0, 1, by decide, by decide, fun q hq => ?_, fun p hp => ?_⟩
      · exact br_f (by decide) (br_f (by decide) (br_f (by decide) (br_f (by decide) (br_t rfl (br_t rfl hq)))))
      · unfold wY_branch_61
        refine nm_r ek (nm_e ?_)
        exact br_f (by decide) (br_f (by decide) (br_f (by decide) (br_t rfl (br_t rfl (hp)))))
    · refine ⟨1, 0, by decide, by decide, fun q hq => ?_, fun p hp => ?_⟩
      · exact br_f (by decide) (br_f (by decide) (br_f (by decide) (br_f (by decide) (br_t rfl (br_f (by decide) hq)))))
      · unfold wY_branch_61
        refine nm_r ek (nm_e ?_)
        exact br_f (by decide) (br_f (by decide) (br_f (by decide) (br_t rfl (br_f (by decide) (br_f (by decide) (br_f (by decide) (br_f (by decide) (br_f (by decide) (br_f (by decide) (br_f (by decide) (br_f (by decide) (br_f (by decide) (br_f (by decide) (br_f (by decide) (br_f (by decide) (hp))))))))))))))))
  · rcases v2 with rfl | rfl
    · refine ⟨1, 0, by decide, by decide, fun q hq => ?_, fun p hp => ?_⟩
      · exact br_f (by decide) (br_f (by decide) (br_f (by decide) (br_f (by decide) (br_t rfl (br_f (by decide) hq)))))
      · unfold wY_branch_61
        refine nm_r ek (nm_e ?_)
        exact br_f (by decide) (br_f (by decide) (br_f (by decide) (br_t rfl (br_f (by decide) (br_f (by decide) (br_f (by decide) (br_f (by decide) (br_f (by decide) (br_f (by decide) (br_f (by decide) (br_f (by decide) (br_f (by decide) (br_f (by decide) (br_f (by decide) (br_f (by decide) (hp))))))))))))))))
    · refine ⟨0, 1, by decide, by decide, fun q hq => ?_, fun p hp => ?_⟩
      · exact br_f (by decide) (br_f (by decide) (br_f (by decide) (br_f (by decide) (br_t rfl (br_t rfl hq)))))
      · unfold wY_branch_61
        refine nm_r ek (nm_e ?_)
        exact br_f (by decide) (br_f (by decide) (br_f (by decide) (br_t rfl (br_t rfl (hp)))))
theorem pd_B_5 {op : Int32} {n z v e : Nat} (n2 : n = 0 ∨ n = 1) (z2 : z = 0 ∨ z = 1) (v2 : v = 0 ∨ v = 1) (e2 : e = 0 ∨ e = 1) (ek : op >>> ((8 : Int32) &&& 31) = 5) : ∃ r t : Nat, (t = 0 ∨ t = 1) ∧ (nI r = 1 ↔ t = 1) ∧
    (∀ q : Int32 → Prop, q (nI r) → wX_condition_61 q 2 (nI e) (nI v) (nI z) (nI n) w st c 0 fa ov ca rg sv m sB sL sA) ∧
    (∀ p : SY → Prop, wY_branch_275 p (op &&& 255) (nI t) w st c 0 wh rg sv y sB sL sA → wY_branch_61 p op (nI n) (nI z) (nI v) (nI e) w st c 0 wh rg sv y sB sL sA) := by
  rcases n2 with rfl | rfl
  · rcases v2 with rfl | rfl
    · refine ⟨0, 0, by decide, by decide, fun q hq => ?_, fun p hp => ?_⟩
      · exact br_f (by decide) (br_f (by decide) (br_f (by decide) (br_f (by decide) (br_t rfl (br_t rfl hq)))))
      · unfold wY_branch_61
        refine nm_r ek (nm_e ?_)
        exact br_f (by decide) (br_f (by decide) (br_f (by decide) (br_f (by decide) (br_t rfl (br_t rfl (br_f (by decide) (br_f (by decide) (br_f (by decide) (br_f (by decide) (br_f (by decide) (br_f (by decide) (br_f (by decide) (br_f (by decide) (br_f (by decide) (br_f (by decide) (hp))))))))))))))))
    · refine ⟨1, 1, by decide, by decide, fun q hq => ?_, fun p hp => ?_⟩
      · exact br_f (by decide) (br_f (by decide) (br_f (by decide) (br_f (by decide) (br_t rfl (br_f (by decide) hq)))))
      · unfold wY_branch_61
        refine nm_r ek (nm_e ?_)
        exact br_f (by decide) (br_f (by decide) (br_f (by decide) (br_f (by decide) (br_t rfl (br_f (by decide) (hp))))))
  · rcases v2 with rfl | rfl
    · refine ⟨1, 1, by decide, by decide, fun q hq => ?_, fun p hp => ?_⟩
      · exact br_f (by decide) (br_f (by decide) (br_f (by decide) (br_f (by decide) (br_t rfl (br_f (by decide) hq)))))
      · unfold wY_branch_61
        refine nm_r ek (nm_e ?_)
        exact br_f (by decide) (br_f (by decide) (br_f (by decide) (br_f (by decide) (br_t rfl (br_f (by decide) (hp))))))
    · refine ⟨0, 0, by decide, by decide, fun q hq => ?_, fun p hp => ?_⟩
      · exact br_f (by decide) (br_f (by decide) (br_f (by decide) (br_f (by decide) (br_t rfl (br_t rfl hq)))))
      · unfold wY_branch_61
        refine nm_r ek (nm_e ?_)
        exact br_f (by decide) (br_f (by decide) (br_f (by decide) (br_f (by decide) (br_t rfl (br_t rfl (br_f (by decide) (br_f (by decide) (br_f (by decide) (br_f (by decide) (br_f (by decide) (br_f (by decide) (br_f (by decide) (br_f (by decide) (br_f (by decide) (br_f (by decide) (hp))))))))))))))))
theorem pd_B_6 {op : Int32} {n z v e : Nat} (n2 : n = 0 ∨ n = 1) (z2 : z = 0 ∨ z = 1) (v2 : v = 0 ∨ v = 1) (e2 : e = 0 ∨ e = 1) (ek : op >>> ((8 : Int32) &&& 31) = 6) : ∃ r t : Nat, (t = 0 ∨ t = 1) ∧ (nI r = 0 ↔ t = 1) ∧
    (∀ q : Int32 → Prop, q (nI r) → wX_condition_61 q 3 (nI e) (nI v) (nI z) (nI n) w st c 0 fa ov ca rg sv m sB sL sA) ∧
    (∀ p : SY → Prop, wY_branch_275 p (op &&& 255) (nI t) w st c 0 wh rg sv y sB sL sA → wY_branch_61 p op (nI n) (nI z) (nI v) (nI e) w st c 0 wh rg sv y sB sL sA) := by
  rcases z2 with rfl | rfl
  · rcases n2 with rfl | rfl
    · rcases v2 with rfl | rfl
      · refine ⟨0, 1, by decide, by decide, fun q hq => ?_, fun p hp => ?_⟩
        · exact br_f (by decide) (br_f (by decide) (br_f (by decide) (br_f (by decide) (br_f (by decide) (br_t rfl (br_t rfl (br_t rfl hq)))))))
        · unfold wY_branch_61
          refine nm_r ek (nm_e ?_)
          exact br_f (by decide) (br_f (by decide) (br_f (by decide) (br_f (by decide) (br_f (by decide) (br_t rfl (br_t rfl (br_t rfl (hp))))))))
      · refine ⟨1, 0, by decide, by decide, fun q hq => ?_, fun p hp => ?_⟩
        · exact br_f (by decide) (br_f (by decide) (br_f (by decide) (br_f (by decide) (br_f (by decide) (br_t rfl (br_t rfl (br_f (by decide) hq)))))))
        · unfold wY_branch_61
          refine nm_r ek (nm_e ?_)
          exact br_f (by decide) (br_f (by decide) (br_f (by decide) (br_f (by decide) (br_f (by decide) (br_t rfl (br_t rfl (br_f (by decide) (br_f (by decide) (br_f (by decide) (br_f (by decide) (br_f (by decide) (br_f (by decide) (br_f (by decide) (br_f (by decide) (br_f (by decide) (br_f (by decide) (hp)))))))))))))))))
    · rcases v2 with rfl | rfl
      · refine ⟨1, 0, by decide, by decide, fun q hq => ?_, fun p hp => ?_⟩
        · exact br_f (by decide) (br_f (by decide) (br_f (by decide) (br_f (by decide) (br_f (by decide) (br_t rfl (br_t rfl (br_f (by decide) hq)))))))
        · unfold wY_branch_61
          refine nm_r ek (nm_e ?_)
          exact br_f (by decide) (br_f (by decide) (br_f (by decide) (br_f (by decide) (br_f (by decide) (br_t rfl (br_t rfl (br_f (by decide) (br_f (by decide) (br_f (by decide) (br_f (by decide) (br_f (by decide) (br_f (by decide) (br_f (by decide) (br_f (by decide) (br_f (by decide) (br_f (by decide) (hp)))))))))))))))))
      · refine ⟨0, 1, by decide, by decide, fun q hq => ?_, fun p hp => ?_⟩
        · exact br_f (by decide) (br_f (by decide) (br_f (by decide) (br_f (by decide) (br_f (by decide) (br_t rfl (br_t rfl (br_t rfl hq)))))))
        · unfold wY_branch_61
          refine nm_r ek (nm_e ?_)
          exact br_f (by decide) (br_f (by decide) (br_f (by decide) (br_f (by decide) (br_f (by decide) (br_t rfl (br_t rfl (br_t rfl (hp))))))))
  · rcases n2 with rfl | rfl
    · rcases v2 with rfl | rfl
      · refine ⟨1, 0, by decide, by decide, fun q hq => ?_, fun p hp => ?_⟩
        · exact br_f (by decide) (br_f (by decide) (br_f (by decide) (br_f (by decide) (br_f (by decide) (br_t rfl (br_f (by decide) hq))))))
        · unfold wY_branch_61
          refine nm_r ek (nm_e ?_)
          exact br_f (by decide) (br_f (by decide) (br_f (by decide) (br_f (by decide) (br_f (by decide) (br_t rfl (br_f (by decide) (br_f (by decide) (br_f (by decide) (br_f (by decide) (br_f (by decide) (br_f (by decide) (br_f (by decide) (br_f (by decide) (br_f (by decide) (br_f (by decide) (hp))))))))))))))))
      · refine ⟨1, 0, by decide, by decide, fun q hq => ?_, fun p hp => ?_⟩
        · exact br_f (by decide) (br_f (by decide) (br_f (by decide) (br_f (by decide) (br_f (by decide) (br_t rfl (br_f (by decide) hq))))))
        · unfold wY_branch_61
          refine nm_r ek (nm_e ?_)
          exact br_f (by decide) (br_f (by decide) (br_f (by decide) (br_f (by decide) (br_f (by decide) (br_t rfl (br_f (by decide) (br_f (by decide) (br_f (by decide) (br_f (by decide) (br_f (by decide) (br_f (by decide) (br_f (by decide) (br_f (by decide) (br_f (by decide) (br_f (by decide) (hp))))))))))))))))
    · rcases v2 with rfl | rfl
      · refine ⟨1, 0, by decide, by decide, fun q hq => ?_, fun p hp => ?_⟩
        · exact br_f (by decide) (br_f (by decide) (br_f (by decide) (br_f (by decide) (br_f (by decide) (br_t rfl (br_f (by decide) hq))))))
        · unfold wY_branch_61
          refine nm_r ek (nm_e ?_)
          exact br_f (by decide) (br_f (by decide) (br_f (by decide) (br_f (by decide) (br_f (by decide) (br_t rfl (br_f (by decide) (br_f (by decide) (br_f (by decide) (br_f (by decide) (br_f (by decide) (br_f (by decide) (br_f (by decide) (br_f (by decide) (br_f (by decide) (br_f (by decide) (hp))))))))))))))))
      · refine ⟨1, 0, by decide, by decide, fun q hq => ?_, fun p hp => ?_⟩
        · exact br_f (by decide) (br_f (by decide) (br_f (by decide) (br_f (by decide) (br_f (by decide) (br_t rfl (br_f (by decide) hq))))))
        · unfold wY_branch_61
          refine nm_r ek (nm_e ?_)
          exact br_f (by decide) (br_f (by decide) (br_f (by decide) (br_f (by decide) (br_f (by decide) (br_t rfl (br_f (by decide) (br_f (by decide) (br_f (by decide) (br_f (by decide) (br_f (by decide) (br_f (by decide) (br_f (by decide) (br_f (by decide) (br_f (by decide) (br_f (by decide) (hp))))))))))))))))
theorem pd_B_7 {op : Int32} {n z v e : Nat} (n2 : n = 0 ∨ n = 1) (z2 : z = 0 ∨ z = 1) (v2 : v = 0 ∨ v = 1) (e2 : e = 0 ∨ e = 1) (ek : op >>> ((8 : Int32) &&& 31) = 7) : ∃ r t : Nat, (t = 0 ∨ t = 1) ∧ (nI r = 1 ↔ t = 1) ∧
    (∀ q : Int32 → Prop, q (nI r) → wX_condition_61 q 3 (nI e) (nI v) (nI z) (nI n) w st c 0 fa ov ca rg sv m sB sL sA) ∧
    (∀ p : SY → Prop, wY_branch_275 p (op &&& 255) (nI t) w st c 0 wh rg sv y sB sL sA → wY_branch_61 p op (nI n) (nI z) (nI v) (nI e) w st c 0 wh rg sv y sB sL sA) := by
  rcases z2 with rfl | rfl
  · rcases n2 with rfl | rfl
    · rcases v2 with rfl | rfl
      · refine ⟨0, 0, by decide, by decide, fun q hq => ?_, fun p hp => ?_⟩
        · exact br_f (by decide) (br_f (by decide) (br_f (by decide) (br_f (by decide) (br_f (by decide) (br_t rfl (br_t rfl (br_t rfl hq)))))))
        · unfold wY_branch_61
          refine nm_r ek (nm_e ?_)
          exact br_f (by decide) (br_f (by decide) (br_f (by decide) (br_f (by decide) (br_f (by decide) (br_f (by decide) (br_t rfl (br_t rfl (br_t rfl (br_f (by decide) (br_f (by decide) (br_f (by decide) (br_f (by decide) (br_f (by decide) (br_f (by decide) (br_f (by decide) (br_f (by decide) (hp)))))))))))))))))
      · refine ⟨1, 1, by decide, by decide, fun q hq => ?_, fun p hp => ?_⟩
        · exact br_f (by decide) (br_f (by decide) (br_f (by decide) (br_f (by decide) (br_f (by decide) (br_t rfl (br_t rfl (br_f (by decide) hq)))))))
        · unfold wY_branch_61
          refine nm_r ek (nm_e ?_)
          exact br_f (by decide) (br_f (by decide) (br_f (by decide) (br_f (by decide) (br_f (by decide) (br_f (by decide) (br_t rfl (br_t rfl (br_f (by decide) (hp)))))))))
    · rcases v2 with rfl | rfl
      · refine ⟨1, 1, by decide, by decide, fun q hq => ?_, fun p hp => ?_⟩
        · exact br_f (by decide) (br_f (by decide) (br_f (by decide) (br_f (by decide) (br_f (by decide) (br_t rfl (br_t rfl (br_f (by decide) hq)))))))
        · unfold wY_branch_61
          refine nm_r ek (nm_e ?_)
          exact br_f (by decide) (br_f (by decide) (br_f (by decide) (br_f (by decide) (br_f (by decide) (br_f (by decide) (br_t rfl (br_t rfl (br_f (by decide) (hp)))))))))
      · refine ⟨0, 0, by decide, by decide, fun q hq => ?_, fun p hp => ?_⟩
        · exact br_f (by decide) (br_f (by decide) (br_f (by decide) (br_f (by decide) (br_f (by decide) (br_t rfl (br_t rfl (br_t rfl hq)))))))
        · unfold wY_branch_61
          refine nm_r ek (nm_e ?_)
          exact br_f (by decide) (br_f (by decide) (br_f (by decide) (br_f (by decide) (br_f (by decide) (br_f (by decide) (br_t rfl (br_t rfl (br_t rfl (br_f (by decide) (br_f (by decide) (br_f (by decide) (br_f (by decide) (br_f (by decide) (br_f (by decide) (br_f (by decide) (br_f (by decide) (hp)))))))))))))))))
  · rcases n2 with rfl | rfl
    · rcases v2 with rfl | rfl
      · refine ⟨1, 1, by decide, by decide, fun q hq => ?_, fun p hp => ?_⟩
        · exact br_f (by decide) (br_f (by decide) (br_f (by decide) (br_f (by decide) (br_f (by decide) (br_t rfl (br_f (by decide) hq))))))
        · unfold wY_branch_61
          refine nm_r ek (nm_e ?_)
          exact br_f (by decide) (br_f (by decide) (br_f (by decide) (br_f (by decide) (br_f (by decide) (br_f (by decide) (br_t rfl (br_f (by decide) (hp))))))))
      · refine ⟨1, 1, by decide, by decide, fun q hq => ?_, fun p hp => ?_⟩
        · exact br_f (by decide) (br_f (by decide) (br_f (by decide) (br_f (by decide) (br_f (by decide) (br_t rfl (br_f (by decide) hq))))))
        · unfold wY_branch_61
          refine nm_r ek (nm_e ?_)
          exact br_f (by decide) (br_f (by decide) (br_f (by decide) (br_f (by decide) (br_f (by decide) (br_f (by decide) (br_t rfl (br_f (by decide) (hp))))))))
    · rcases v2 with rfl | rfl
      · refine ⟨1, 1, by decide, by decide, fun q hq => ?_, fun p hp => ?_⟩
        · exact br_f (by decide) (br_f (by decide) (br_f (by decide) (br_f (by decide) (br_f (by decide) (br_t rfl (br_f (by decide) hq))))))
        · unfold wY_branch_61
          refine nm_r ek (nm_e ?_)
          exact br_f (by decide) (br_f (by decide) (br_f (by decide) (br_f (by decide) (br_f (by decide) (br_f (by decide) (br_t rfl (br_f (by decide) (hp))))))))
      · refine ⟨1, 1, by decide, by decide, fun q hq => ?_, fun p hp => ?_⟩
        · exact br_f (by decide) (br_f (by decide) (br_f (by decide) (br_f (by decide) (br_f (by decide) (br_t rfl (br_f (by decide) hq))))))
        · unfold wY_branch_61
          refine nm_r ek (nm_e ?_)
          exact br_f (by decide) (br_f (by decide) (br_f (by decide) (br_f (by decide) (br_f (by decide) (br_f (by decide) (br_t rfl (br_f (by decide) (hp))))))))
theorem pd_B_128 {op : Int32} {n z v e : Nat} (n2 : n = 0 ∨ n = 1) (z2 : z = 0 ∨ z = 1) (v2 : v = 0 ∨ v = 1) (e2 : e = 0 ∨ e = 1) (ek : op >>> ((8 : Int32) &&& 31) = 128) : ∃ r t : Nat, (t = 0 ∨ t = 1) ∧ (nI r = 0 ↔ t = 1) ∧
    (∀ q : Int32 → Prop, q (nI r) → wX_condition_61 q 4 (nI e) (nI v) (nI z) (nI n) w st c 0 fa ov ca rg sv m sB sL sA) ∧
    (∀ p : SY → Prop, wY_branch_275 p (op &&& 255) (nI t) w st c 0 wh rg sv y sB sL sA → wY_branch_61 p op (nI n) (nI z) (nI v) (nI e) w st c 0 wh rg sv y sB sL sA) := by
  rcases n2 with rfl | rfl
  · refine ⟨0, 1, by decide, by decide, fun q hq => ?_, fun p hp => ?_⟩
    · exact br_f (by decide) (br_f (by decide) (br_f (by decide) (br_f (by decide) (br_f (by decide) (br_f (by decide) (br_t rfl (And.intro rfl hq)))))))
    · unfold wY_branch_61
      refine nm_r ek (nm_e ?_)
      exact br_f (by decide) (br_f (by decide) (br_f (by decide) (br_f (by decide) (br_f (by decide) (br_f (by decide) (br_f (by decide) (br_t rfl (br_t rfl (hp)))))))))
  · refine ⟨1, 0, by decide, by decide, fun q hq => ?_, fun p hp => ?_⟩
    · exact br_f (by decide) (br_f (by decide) (br_f (by decide) (br_f (by decide) (br_f (by decide) (br_f (by decide) (br_t rfl (And.intro rfl hq)))))))
    · unfold wY_branch_61
      refine nm_r ek (nm_e ?_)
      exact br_f (by decide) (br_f (by decide) (br_f (by decide) (br_f (by decide) (br_f (by decide) (br_f (by decide) (br_f (by decide) (br_t rfl (br_f (by decide) (br_f (by decide) (br_f (by decide) (br_f (by decide) (br_f (by decide) (br_f (by decide) (br_f (by decide) (br_f (by decide) (hp))))))))))))))))
theorem pd_B_129 {op : Int32} {n z v e : Nat} (n2 : n = 0 ∨ n = 1) (z2 : z = 0 ∨ z = 1) (v2 : v = 0 ∨ v = 1) (e2 : e = 0 ∨ e = 1) (ek : op >>> ((8 : Int32) &&& 31) = 129) : ∃ r t : Nat, (t = 0 ∨ t = 1) ∧ (nI r = 1 ↔ t = 1) ∧
    (∀ q : Int32 → Prop, q (nI r) → wX_condition_61 q 4 (nI e) (nI v) (nI z) (nI n) w st c 0 fa ov ca rg sv m sB sL sA) ∧
    (∀ p : SY → Prop, wY_branch_275 p (op &&& 255) (nI t) w st c 0 wh rg sv y sB sL sA → wY_branch_61 p op (nI n) (nI z) (nI v) (nI e) w st c 0 wh rg sv y sB sL sA) := by
  rcases n2 with rfl | rfl
  · refine ⟨0, 0, by decide, by decide, fun q hq => ?_, fun p hp => ?_⟩
    · exact br_f (by decide) (br_f (by decide) (br_f (by decide) (br_f (by decide) (br_f (by decide) (br_f (by decide) (br_t rfl (And.intro rfl hq)))))))
    · unfold wY_branch_61
      refine nm_r ek (nm_e ?_)
      exact br_f (by decide) (br_f (by decide) (br_f (by decide) (br_f (by decide) (br_f (by decide) (br_f (by decide) (br_f (by decide) (br_f (by decide) (br_t rfl (br_t rfl (br_f (by decide) (br_f (by decide) (br_f (by decide) (br_f (by decide) (br_f (by decide) (br_f (by decide) (hp))))))))))))))))
  · refine ⟨1, 1, by decide, by decide, fun q hq => ?_, fun p hp => ?_⟩
    · exact br_f (by decide) (br_f (by decide) (br_f (by decide) (br_f (by decide) (br_f (by decide) (br_f (by decide) (br_t rfl (And.intro rfl hq)))))))
    · unfold wY_branch_61
      refine nm_r ek (nm_e ?_)
      exact br_f (by decide) (br_f (by decide) (br_f (by decide) (br_f (by decide) (br_f (by decide) (br_f (by decide) (br_f (by decide) (br_f (by decide) (br_t rfl (br_f (by decide) (hp))))))))))
theorem pd_B_130 {op : Int32} {n z v e : Nat} (n2 : n = 0 ∨ n = 1) (z2 : z = 0 ∨ z = 1) (v2 : v = 0 ∨ v = 1) (e2 : e = 0 ∨ e = 1) (ek : op >>> ((8 : Int32) &&& 31) = 130) : ∃ r t : Nat, (t = 0 ∨ t = 1) ∧ (nI r = 0 ↔ t = 1) ∧
    (∀ q : Int32 → Prop, q (nI r) → wX_condition_61 q 5 (nI e) (nI v) (nI z) (nI n) w st c 0 fa ov ca rg sv m sB sL sA) ∧
    (∀ p : SY → Prop, wY_branch_275 p (op &&& 255) (nI t) w st c 0 wh rg sv y sB sL sA → wY_branch_61 p op (nI n) (nI z) (nI v) (nI e) w st c 0 wh rg sv y sB sL sA) := by
  rcases e2 with rfl | rfl
  · rcases z2 with rfl | rfl
    · refine ⟨0, 1, by decide, by decide, fun q hq => ?_, fun p hp => ?_⟩
      · exact br_f (by decide) (br_f (by decide) (br_f (by decide) (br_f (by decide) (br_f (by decide) (br_f (by decide) (br_f (by decide) (br_t rfl (br_t rfl (br_t rfl hq)))))))))
      · unfold wY_branch_61
        refine nm_r ek (nm_e ?_)
        exact br_f (by decide) (br_f (by decide) (br_f (by decide) (br_f (by decide) (br_f (by decide) (br_f (by decide) (br_f (by decide) (br_f (by decide) (br_f (by decide) (br_t rfl (br_t rfl (br_t rfl (hp))))))))))))
    · refine ⟨1, 0, by decide, by decide, fun q hq => ?_, fun p hp => ?_⟩
      · exact br_f (by decide) (br_f (by decide) (br_f (by decide) (br_f (by decide) (br_f (by decide) (br_f (by decide) (br_f (by decide) (br_t rfl (br_t rfl (br_f (by decide) hq)))))))))
      · unfold wY_branch_61
        refine nm_r ek (nm_e ?_)
        exact br_f (by decide) (br_f (by decide) (br_f (by decide) (br_f (by decide) (br_f (by decide) (br_f (by decide) (br_f (by decide) (br_f (by decide) (br_f (by decide) (br_t rfl (br_t rfl (br_f (by decide) (br_f (by decide) (br_f (by decide) (br_f (by decide) (br_f (by decide) (br_f (by decide) (hp)))))))))))))))))
  · rcases z2 with rfl | rfl
    · refine ⟨1, 0, by decide, by decide, fun q hq => ?_, fun p hp => ?_⟩
      · exact br_f (by decide) (br_f (by decide) (br_f (by decide) (br_f (by decide) (br_f (by decide) (br_f (by decide) (br_f (by decide) (br_t rfl (br_f (by decide) hq))))))))
      · unfold wY_branch_61
        refine nm_r ek (nm_e ?_)
        exact br_f (by decide) (br_f (by decide) (br_f (by decide) (br_f (by decide) (br_f (by decide) (br_f (by decide) (br_f (by decide) (br_f (by decide) (br_f (by decide) (br_t rfl (br_f (by decide) (br_f (by decide) (br_f (by decide) (br_f (by decide) (br_f (by decide) (br_f (by decide) (hp))))))))))))))))
    · refine ⟨1, 0, by decide, by decide, fun q hq => ?_, fun p hp => ?_⟩
      · exact br_f (by decide) (br_f (by decide) (br_f (by decide) (br_f (by decide) (br_f (by decide) (br_f (by decide) (br_f (by decide) (br_t rfl (br_f (by decide) hq))))))))
      · unfold wY_branch_61
        refine nm_r ek (nm_e ?_)
        exact br_f (by decide) (br_f (by decide) (br_f (by decide) (br_f (by decide) (br_f (by decide) (br_f (by decide) (br_f (by decide) (br_f (by decide) (br_f (by decide) (br_t rfl (br_f (by decide) (br_f (by decide) (br_f (by decide) (br_f (by decide) (br_f (by decide) (br_f (by decide) (hp))))))))))))))))
theorem pd_B_131 {op : Int32} {n z v e : Nat} (n2 : n = 0 ∨ n = 1) (z2 : z = 0 ∨ z = 1) (v2 : v = 0 ∨ v = 1) (e2 : e = 0 ∨ e = 1) (ek : op >>> ((8 : Int32) &&& 31) = 131) : ∃ r t : Nat, (t = 0 ∨ t = 1) ∧ (nI r = 1 ↔ t = 1) ∧
    (∀ q : Int32 → Prop, q (nI r) → wX_condition_61 q 5 (nI e) (nI v) (nI z) (nI n) w st c 0 fa ov ca rg sv m sB sL sA) ∧
    (∀ p : SY → Prop, wY_branch_275 p (op &&& 255) (nI t) w st c 0 wh rg sv y sB sL sA → wY_branch_61 p op (nI n) (nI z) (nI v) (nI e) w st c 0 wh rg sv y sB sL sA) := by
  rcases e2 with rfl | rfl
  · rcases z2 with rfl | rfl
    · refine ⟨0, 0, by decide, by decide, fun q hq => ?_, fun p hp => ?_⟩
      · exact br_f (by decide) (br_f (by decide) (br_f (by decide) (br_f (by decide) (br_f (by decide) (br_f (by decide) (br_f (by decide) (br_t rfl (br_t rfl (br_t rfl hq)))))))))
      · unfold wY_branch_61
        refine nm_r ek (nm_e ?_)
        exact br_f (by decide) (br_f (by decide) (br_f (by decide) (br_f (by decide) (br_f (by decide) (br_f (by decide) (br_f (by decide) (br_f (by decide) (br_f (by decide) (br_f (by decide) (br_t rfl (br_t rfl (br_t rfl (br_f (by decide) (br_f (by decide) (br_f (by decide) (br_f (by decide) (hp)))))))))))))))))
    · refine ⟨1, 1, by decide, by decide, fun q hq => ?_, fun p hp => ?_⟩
      · exact br_f (by decide) (br_f (by decide) (br_f (by decide) (br_f (by decide) (br_f (by decide) (br_f (by decide) (br_f (by decide) (br_t rfl (br_t rfl (br_f (by decide) hq)))))))))
      · unfold wY_branch_61
        refine nm_r ek (nm_e ?_)
        exact br_f (by decide) (br_f (by decide) (br_f (by decide) (br_f (by decide) (br_f (by decide) (br_f (by decide) (br_f (by decide) (br_f (by decide) (br_f (by decide) (br_f (by decide) (br_t rfl (br_t rfl (br_f (by decide) (hp)))))))))))))
  · rcases z2 with rfl | rfl
    · refine ⟨1, 1, by decide, by decide, fun q hq => ?_, fun p hp => ?_⟩
      · exact br_f (by decide) (br_f (by decide) (br_f (by decide) (br_f (by decide) (br_f (by decide) (br_f (by decide) (br_f (by decide) (br_t rfl (br_f (by decide) hq))))))))
      · unfold wY_branch_61
        refine nm_r ek (nm_e ?_)
        exact br_f (by decide) (br_f (by decide) (br_f (by decide) (br_f (by decide) (br_f (by decide) (br_f (by decide) (br_f (by decide) (br_f (by decide) (br_f (by decide) (br_f (by decide) (br_t rfl (br_f (by decide) (hp))))))))))))
    · refine ⟨1, 1, by decide, by decide, fun q hq => ?_, fun p hp => ?_⟩
      · exact br_f (by decide) (br_f (by decide) (br_f (by decide) (br_f (by decide) (br_f (by decide) (br_f (by decide) (br_f (by decide) (br_t rfl (br_f (by decide) hq))))))))
      · unfold wY_branch_61
        refine nm_r ek (nm_e ?_)
        exact br_f (by decide) (br_f (by decide) (br_f (by decide) (br_f (by decide) (br_f (by decide) (br_f (by decide) (br_f (by decide) (br_f (by decide) (br_f (by decide) (br_f (by decide) (br_t rfl (br_f (by decide) (hp))))))))))))
theorem pd_B_132 {op : Int32} {n z v e : Nat} (n2 : n = 0 ∨ n = 1) (z2 : z = 0 ∨ z = 1) (v2 : v = 0 ∨ v = 1) (e2 : e = 0 ∨ e = 1) (ek : op >>> ((8 : Int32) &&& 31) = 132) : ∃ r t : Nat, (t = 0 ∨ t = 1) ∧ (nI r = 0 ↔ t = 1) ∧
    (∀ q : Int32 → Prop, q (nI r) → wX_condition_61 q 6 (nI e) (nI v) (nI z) (nI n) w st c 0 fa ov ca rg sv m sB sL sA) ∧
    (∀ p : SY → Prop, wY_branch_275 p (op &&& 255) (nI t) w st c 0 wh rg sv y sB sL sA → wY_branch_61 p op (nI n) (nI z) (nI v) (nI e) w st c 0 wh rg sv y sB sL sA) := by
  rcases v2 with rfl | rfl
  · refine ⟨0, 1, by decide, by decide, fun q hq => ?_, fun p hp => ?_⟩
    · exact br_f (by decide) (br_f (by decide) (br_f (by decide) (br_f (by decide) (br_f (by decide) (br_f (by decide) (br_f (by decide) (br_f (by decide) (br_t rfl (And.intro rfl hq)))))))))
    · unfold wY_branch_61
      refine nm_r ek (nm_e ?_)
      exact br_f (by decide) (br_f (by decide) (br_f (by decide) (br_f (by decide) (br_f (by decide) (br_f (by decide) (br_f (by decide) (br_f (by decide) (br_f (by decide) (br_f (by decide) (br_f (by decide) (br_t rfl (br_t rfl (hp)))))))))))))
  · refine ⟨1, 0, by decide, by decide, fun q hq => ?_, fun p hp => ?_⟩
    · exact br_f (by decide) (br_f (by decide) (br_f (by decide) (br_f (by decide) (br_f (by decide) (br_f (by decide) (br_f (by decide) (br_f (by decide) (br_t rfl (And.intro rfl hq)))))))))
    · unfold wY_branch_61
      refine nm_r ek (nm_e ?_)
      exact br_f (by decide) (br_f (by decide) (br_f (by decide) (br_f (by decide) (br_f (by decide) (br_f (by decide) (br_f (by decide) (br_f (by decide) (br_f (by decide) (br_f (by decide) (br_f (by decide) (br_t rfl (br_f (by decide) (br_f (by decide) (br_f (by decide) (br_f (by decide) (hp))))))))))))))))
theorem pd_B_133 {op : Int32} {n z v e : Nat} (n2 : n = 0 ∨ n = 1) (z2 : z = 0 ∨ z = 1) (v2 : v = 0 ∨ v = 1) (e2 : e = 0 ∨ e = 1) (ek : op >>> ((8 : Int32) &&& 31) = 133) : ∃ r t : Nat, (t = 0 ∨ t = 1) ∧ (nI r = 1 ↔ t = 1) ∧
    (∀ q : Int32 → Prop, q (nI r) → wX_condition_61 q 6 (nI e) (nI v) (nI z) (nI n) w st c 0 fa ov ca rg sv m sB sL sA) ∧
    (∀ p : SY → Prop, wY_branch_275 p (op &&& 255) (nI t) w st c 0 wh rg sv y sB sL sA → wY_branch_61 p op (nI n) (nI z) (nI v) (nI e) w st c 0 wh rg sv y sB sL sA) := by
  rcases v2 with rfl | rfl
  · refine ⟨0, 0, by decide, by decide, fun q hq => ?_, fun p hp => ?_⟩
    · exact br_f (by decide) (br_f (by decide) (br_f (by decide) (br_f (by decide) (br_f (by decide) (br_f (by decide) (br_f (by decide) (br_f (by decide) (br_t rfl (And.intro rfl hq)))))))))
    · unfold wY_branch_61
      refine nm_r ek (nm_e ?_)
      exact br_f (by decide) (br_f (by decide) (br_f (by decide) (br_f (by decide) (br_f (by decide) (br_f (by decide) (br_f (by decide) (br_f (by decide) (br_f (by decide) (br_f (by decide) (br_f (by decide) (br_f (by decide) (br_t rfl (br_t rfl (br_f (by decide) (br_f (by decide) (hp))))))))))))))))
  · refine ⟨1, 1, by decide, by decide, fun q hq => ?_, fun p hp => ?_⟩
    · exact br_f (by decide) (br_f (by decide) (br_f (by decide) (br_f (by decide) (br_f (by decide) (br_f (by decide) (br_f (by decide) (br_f (by decide) (br_t rfl (And.intro rfl hq)))))))))
    · unfold wY_branch_61
      refine nm_r ek (nm_e ?_)
      exact br_f (by decide) (br_f (by decide) (br_f (by decide) (br_f (by decide) (br_f (by decide) (br_f (by decide) (br_f (by decide) (br_f (by decide) (br_f (by decide) (br_f (by decide) (br_f (by decide) (br_f (by decide) (br_t rfl (br_f (by decide) (hp))))))))))))))
theorem pd_B_134 {op : Int32} {n z v e : Nat} (n2 : n = 0 ∨ n = 1) (z2 : z = 0 ∨ z = 1) (v2 : v = 0 ∨ v = 1) (e2 : e = 0 ∨ e = 1) (ek : op >>> ((8 : Int32) &&& 31) = 134) : ∃ r t : Nat, (t = 0 ∨ t = 1) ∧ (nI r = 0 ↔ t = 1) ∧
    (∀ q : Int32 → Prop, q (nI r) → wX_condition_61 q 7 (nI e) (nI v) (nI z) (nI n) w st c 0 fa ov ca rg sv m sB sL sA) ∧
    (∀ p : SY → Prop, wY_branch_275 p (op &&& 255) (nI t) w st c 0 wh rg sv y sB sL sA → wY_branch_61 p op (nI n) (nI z) (nI v) (nI e) w st c 0 wh rg sv y sB sL sA) := by
  rcases e2 with rfl | rfl
  · refine ⟨0, 1, by decide, by decide, fun q hq => ?_, fun p hp => ?_⟩
    · exact br_f (by decide) (br_t (by decide) (And.intro rfl hq))
    · unfold wY_branch_61
      refine nm_r ek (nm_e ?_)
      exact br_f (by decide) (br_f (by decide) (br_f (by decide) (br_f (by decide) (br_f (by decide) (br_f (by decide) (br_f (by decide) (br_f (by decide) (br_f (by decide) (br_f (by decide) (br_f (by decide) (br_f (by decide) (br_f (by decide) (br_t rfl (br_t rfl (hp)))))))))))))))
  · refine ⟨1, 0, by decide, by decide, fun q hq => ?_, fun p hp => ?_⟩
    · exact br_f (by decide) (br_t (by decide) (And.intro rfl hq))
    · unfold wY_branch_61
      refine nm_r ek (nm_e ?_)
      exact br_f (by decide) (br_f (by decide) (br_f (by decide) (br_f (by decide) (br_f (by decide) (br_f (by decide) (br_f (by decide) (br_f (by decide) (br_f (by decide) (br_f (by decide) (br_f (by decide) (br_f (by decide) (br_f (by decide) (br_t rfl (br_f (by decide) (br_f (by decide) (hp))))))))))))))))
theorem pd_B_135 {op : Int32} {n z v e : Nat} (n2 : n = 0 ∨ n = 1) (z2 : z = 0 ∨ z = 1) (v2 : v = 0 ∨ v = 1) (e2 : e = 0 ∨ e = 1) (ek : op >>> ((8 : Int32) &&& 31) = 135) : ∃ r t : Nat, (t = 0 ∨ t = 1) ∧ (nI r = 1 ↔ t = 1) ∧
    (∀ q : Int32 → Prop, q (nI r) → wX_condition_61 q 7 (nI e) (nI v) (nI z) (nI n) w st c 0 fa ov ca rg sv m sB sL sA) ∧
    (∀ p : SY → Prop, wY_branch_275 p (op &&& 255) (nI t) w st c 0 wh rg sv y sB sL sA → wY_branch_61 p op (nI n) (nI z) (nI v) (nI e) w st c 0 wh rg sv y sB sL sA) := by
  rcases e2 with rfl | rfl
  · refine ⟨0, 0, by decide, by decide, fun q hq => ?_, fun p hp => ?_⟩
    · exact br_f (by decide) (br_t (by decide) (And.intro rfl hq))
    · unfold wY_branch_61
      refine nm_r ek (nm_e ?_)
      exact br_f (by decide) (br_f (by decide) (br_f (by decide) (br_f (by decide) (br_f (by decide) (br_f (by decide) (br_f (by decide) (br_f (by decide) (br_f (by decide) (br_f (by decide) (br_f (by decide) (br_f (by decide) (br_f (by decide) (br_f (by decide) (br_t rfl (br_t rfl (hp))))))))))))))))
  · refine ⟨1, 1, by decide, by decide, fun q hq => ?_, fun p hp => ?_⟩
    · exact br_f (by decide) (br_t (by decide) (And.intro rfl hq))
    · unfold wY_branch_61
      refine nm_r ek (nm_e ?_)
      exact br_f (by decide) (br_f (by decide) (br_f (by decide) (br_f (by decide) (br_f (by decide) (br_f (by decide) (br_f (by decide) (br_f (by decide) (br_f (by decide) (br_f (by decide) (br_f (by decide) (br_f (by decide) (br_f (by decide) (br_f (by decide) (br_t rfl (br_f (by decide) (hp))))))))))))))))
theorem pd_256 {n : Nat} : nI n &&& 256 = 0 ↔ n / 256 % 2 = 0 := by
  show nI n &&& nI 256 = 0 ↔ _
  rw [nx_and, pd_nI0 (Nat.lt_of_le_of_lt Nat.and_le_right (by decide)), show (256 : Nat) = 2 ^ 8 from rfl, pd_and2, Nat.testBit_eq_decide_div_mod_eq, decide_eq_false_iff_not]
  generalize n / 2 ^ 8 = d
  omega
theorem pd_l_br {n : Nat} (hn : n < 65536) (hst : pd_S st) (hR : pd_R rg) (hm : pd_R m) (h : n / 256 = 1 ∨ n / 256 = 2 ∨ n / 256 = 3 ∨ n / 256 = 4 ∨ n / 256 = 5 ∨ n / 256 = 6 ∨ n / 256 = 7 ∨ n / 256 = 128 ∨ n / 256 = 129 ∨ n / 256 = 130 ∨ n / 256 = 131 ∨ n / 256 = 132 ∨ n / 256 = 133 ∨ n / 256 = 134 ∨ n / 256 = 135) :
    pd_E w st c fa wh sv m sB sL sA (fun p => wpX_branch p (w, st, c, 0, fa, ov, ca, rg, sv, m, sB, sL, sA) (nI n)) (fun p => wpY_branch p (w, st, c, 0, wh, rg, sv, pd_y m, sB, sL, sA) (nI n)) := by
  have e8 : nI n >>> ((8 : Int32) &&& 31) = nI (n / 256) := pk_shrN (by omega) _ 8 (by decide)
  have e9 : (nI n >>> ((9 : Int32) &&& 31)) &&& 3 = nI (n / 256 / 2 % 4) := by
    rw [pk_shrN (by omega) _ 9 (by decide), pk_andN (by omega) 2 (by decide), Nat.div_div_eq_div_mul]
  have h256 := pd_256 (n := n)
  have n2 := pd_n_2 (¬ st &&& 8 = 0)
  have z2 := pd_n_2 (¬ st &&& 4 = 0)
  have v2 := pd_n_2 (¬ st &&& 2 = 0)
  have e2 := pd_n_2 (¬ st &&& 1 = 0)
  rcases h with h | h | h | h | h | h | h | h | h | h | h | h | h | h | h
  · rw [h] at e8 e9 h256
    obtain ⟨r, t, t2, ht, hX, hY⟩ := pd_B_1 (w := w) (st := st) (c := c) (fa := fa) (wh := wh) (ov := ov) (ca := ca) (rg := rg) (sv := sv) (m := m) (y := pd_y m) (sB := sB) (sL := sL) (sA := sA) n2 z2 v2 e2 e8
    refine pd_l_b (wanted := 1) (z0 := 0) (z1 := (nI n >>> ((9 : Int32) &&& 31)) &&& 3) (test := 0) hst hR hm (by rw [e9]; decide) (fun p hp => ?_) t2 ht hX hY
    unfold wpX_branch
    exact br_f (fun z => absurd (h256.mp z) (by decide)) (br_t (nI_lt (b := 32768) (by omega) (by decide)) hp)
  · rw [h] at e8 e9 h256
    obtain ⟨r, t, t2, ht, hX, hY⟩ := pd_B_2 (w := w) (st := st) (c := c) (fa := fa) (wh := wh) (ov := ov) (ca := ca) (rg := rg) (sv := sv) (m := m) (y := pd_y m) (sB := sB) (sL := sL) (sA := sA) n2 z2 v2 e2 e8
    refine pd_l_b (wanted := 0) (z0 := 0) (z1 := (nI n >>> ((9 : Int32) &&& 31)) &&& 3) (test := 1) hst hR hm (by rw [e9]; decide) (fun p hp => ?_) t2 ht hX hY
    unfold wpX_branch
    exact br_t (h256.mpr (by decide)) (br_t (nI_lt (b := 32768) (by omega) (by decide)) hp)
  · rw [h] at e8 e9 h256
    obtain ⟨r, t, t2, ht, hX, hY⟩ := pd_B_3 (w := w) (st := st) (c := c) (fa := fa) (wh := wh) (ov := ov) (ca := ca) (rg := rg) (sv := sv) (m := m) (y := pd_y m) (sB := sB) (sL := sL) (sA := sA) n2 z2 v2 e2 e8
    refine pd_l_b (wanted := 1) (z0 := 0) (z1 := (nI n >>> ((9 : Int32) &&& 31)) &&& 3) (test := 1) hst hR hm (by rw [e9]; decide) (fun p hp => ?_) t2 ht hX hY
    unfold wpX_branch
    exact br_f (fun z => absurd (h256.mp z) (by decide)) (br_t (nI_lt (b := 32768) (by omega) (by decide)) hp)
  · rw [h] at e8 e9 h256
    obtain ⟨r, t, t2, ht, hX, hY⟩ := pd_B_4 (w := w) (st := st) (c := c) (fa := fa) (wh := wh) (ov := ov) (ca := ca) (rg := rg) (sv := sv) (m := m) (y := pd_y m) (sB := sB) (sL := sL) (sA := sA) n2 z2 v2 e2 e8
    refine pd_l_b (wanted := 0) (z0 := 0) (z1 := (nI n >>> ((9 : Int32) &&& 31)) &&& 3) (test := 2) hst hR hm (by rw [e9]; decide) (fun p hp => ?_) t2 ht hX hY
    unfold wpX_branch
    exact br_t (h256.mpr (by decide)) (br_t (nI_lt (b := 32768) (by omega) (by decide)) hp)
  · rw [h] at e8 e9 h256
    obtain ⟨r, t, t2, ht, hX, hY⟩ := pd_B_5 (w := w) (st := st) (c := c) (fa := fa) (wh := wh) (ov := ov) (ca := ca) (rg := rg) (sv := sv) (m := m) (y := pd_y m) (sB := sB) (sL := sL) (sA := sA) n2 z2 v2 e2 e8
    refine pd_l_b (wanted := 1) (z0 := 0) (z1 := (nI n >>> ((9 : Int32) &&& 31)) &&& 3) (test := 2) hst hR hm (by rw [e9]; decide) (fun p hp => ?_) t2 ht hX hY
    unfold wpX_branch
    exact br_f (fun z => absurd (h256.mp z) (by decide)) (br_t (nI_lt (b := 32768) (by omega) (by decide)) hp)
  · rw [h] at e8 e9 h256
    obtain ⟨r, t, t2, ht, hX, hY⟩ := pd_B_6 (w := w) (st := st) (c := c) (fa := fa) (wh := wh) (ov := ov) (ca := ca) (rg := rg) (sv := sv) (m := m) (y := pd_y m) (sB := sB) (sL := sL) (sA := sA) n2 z2 v2 e2 e8
    refine pd_l_b (wanted := 0) (z0 := 0) (z1 := (nI n >>> ((9 : Int32) &&& 31)) &&& 3) (test := 3) hst hR hm (by rw [e9]; decide) (fun p hp => ?_) t2 ht hX hY
    unfold wpX_branch
    exact br_t (h256.mpr (by decide)) (br_t (nI_lt (b := 32768) (by omega) (by decide)) hp)
  · rw [h] at e8 e9 h256
    obtain ⟨r, t, t2, ht, hX, hY⟩ := pd_B_7 (w := w) (st := st) (c := c) (fa := fa) (wh := wh) (ov := ov) (ca := ca) (rg := rg) (sv := sv) (m := m) (y := pd_y m) (sB := sB) (sL := sL) (sA := sA) n2 z2 v2 e2 e8
    refine pd_l_b (wanted := 1) (z0 := 0) (z1 := (nI n >>> ((9 : Int32) &&& 31)) &&& 3) (test := 3) hst hR hm (by rw [e9]; decide) (fun p hp => ?_) t2 ht hX hY
    unfold wpX_branch
    exact br_f (fun z => absurd (h256.mp z) (by decide)) (br_t (nI_lt (b := 32768) (by omega) (by decide)) hp)
  · rw [h] at e8 e9 h256
    obtain ⟨r, t, t2, ht, hX, hY⟩ := pd_B_128 (w := w) (st := st) (c := c) (fa := fa) (wh := wh) (ov := ov) (ca := ca) (rg := rg) (sv := sv) (m := m) (y := pd_y m) (sB := sB) (sL := sL) (sA := sA) n2 z2 v2 e2 e8
    refine pd_l_b (wanted := 0) (z0 := 4) (z1 := (nI n >>> ((9 : Int32) &&& 31)) &&& 3) (test := 4) hst hR hm (by rw [e9]; decide) (fun p hp => ?_) t2 ht hX hY
    unfold wpX_branch
    exact br_t (h256.mpr (by decide)) (br_f (nI_nlt (b := 32768) (by omega) (by omega)) hp)
  · rw [h] at e8 e9 h256
    obtain ⟨r, t, t2, ht, hX, hY⟩ := pd_B_129 (w := w) (st := st) (c := c) (fa := fa) (wh := wh) (ov := ov) (ca := ca) (rg := rg) (sv := sv) (m := m) (y := pd_y m) (sB := sB) (sL := sL) (sA := sA) n2 z2 v2 e2 e8
    refine pd_l_b (wanted := 1) (z0 := 4) (z1 := (nI n >>> ((9 : Int32) &&& 31)) &&& 3) (test := 4) hst hR hm (by rw [e9]; decide) (fun p hp => ?_) t2 ht hX hY
    unfold wpX_branch
    exact br_f (fun z => absurd (h256.mp z) (by decide)) (br_f (nI_nlt (b := 32768) (by omega) (by omega)) hp)
  · rw [h] at e8 e9 h256
    obtain ⟨r, t, t2, ht, hX, hY⟩ := pd_B_130 (w := w) (st := st) (c := c) (fa := fa) (wh := wh) (ov := ov) (ca := ca) (rg := rg) (sv := sv) (m := m) (y := pd_y m) (sB := sB) (sL := sL) (sA := sA) n2 z2 v2 e2 e8
    refine pd_l_b (wanted := 0) (z0 := 4) (z1 := (nI n >>> ((9 : Int32) &&& 31)) &&& 3) (test := 5) hst hR hm (by rw [e9]; decide) (fun p hp => ?_) t2 ht hX hY
    unfold wpX_branch
    exact br_t (h256.mpr (by decide)) (br_f (nI_nlt (b := 32768) (by omega) (by omega)) hp)
  · rw [h] at e8 e9 h256
    obtain ⟨r, t, t2, ht, hX, hY⟩ := pd_B_131 (w := w) (st := st) (c := c) (fa := fa) (wh := wh) (ov := ov) (ca := ca) (rg := rg) (sv := sv) (m := m) (y := pd_y m) (sB := sB) (sL := sL) (sA := sA) n2 z2 v2 e2 e8
    refine pd_l_b (wanted := 1) (z0 := 4) (z1 := (nI n >>> ((9 : Int32) &&& 31)) &&& 3) (test := 5) hst hR hm (by rw [e9]; decide) (fun p hp => ?_) t2 ht hX hY
    unfold wpX_branch
    exact br_f (fun z => absurd (h256.mp z) (by decide)) (br_f (nI_nlt (b := 32768) (by omega) (by omega)) hp)
  · rw [h] at e8 e9 h256
    obtain ⟨r, t, t2, ht, hX, hY⟩ := pd_B_132 (w := w) (st := st) (c := c) (fa := fa) (wh := wh) (ov := ov) (ca := ca) (rg := rg) (sv := sv) (m := m) (y := pd_y m) (sB := sB) (sL := sL) (sA := sA) n2 z2 v2 e2 e8
    refine pd_l_b (wanted := 0) (z0 := 4) (z1 := (nI n >>> ((9 : Int32) &&& 31)) &&& 3) (test := 6) hst hR hm (by rw [e9]; decide) (fun p hp => ?_) t2 ht hX hY
    unfold wpX_branch
    exact br_t (h256.mpr (by decide)) (br_f (nI_nlt (b := 32768) (by omega) (by omega)) hp)
  · rw [h] at e8 e9 h256
    obtain ⟨r, t, t2, ht, hX, hY⟩ := pd_B_133 (w := w) (st := st) (c := c) (fa := fa) (wh := wh) (ov := ov) (ca := ca) (rg := rg) (sv := sv) (m := m) (y := pd_y m) (sB := sB) (sL := sL) (sA := sA) n2 z2 v2 e2 e8
    refine pd_l_b (wanted := 1) (z0 := 4) (z1 := (nI n >>> ((9 : Int32) &&& 31)) &&& 3) (test := 6) hst hR hm (by rw [e9]; decide) (fun p hp => ?_) t2 ht hX hY
    unfold wpX_branch
    exact br_f (fun z => absurd (h256.mp z) (by decide)) (br_f (nI_nlt (b := 32768) (by omega) (by omega)) hp)
  · rw [h] at e8 e9 h256
    obtain ⟨r, t, t2, ht, hX, hY⟩ := pd_B_134 (w := w) (st := st) (c := c) (fa := fa) (wh := wh) (ov := ov) (ca := ca) (rg := rg) (sv := sv) (m := m) (y := pd_y m) (sB := sB) (sL := sL) (sA := sA) n2 z2 v2 e2 e8
    refine pd_l_b (wanted := 0) (z0 := 4) (z1 := (nI n >>> ((9 : Int32) &&& 31)) &&& 3) (test := 7) hst hR hm (by rw [e9]; decide) (fun p hp => ?_) t2 ht hX hY
    unfold wpX_branch
    exact br_t (h256.mpr (by decide)) (br_f (nI_nlt (b := 32768) (by omega) (by omega)) hp)
  · rw [h] at e8 e9 h256
    obtain ⟨r, t, t2, ht, hX, hY⟩ := pd_B_135 (w := w) (st := st) (c := c) (fa := fa) (wh := wh) (ov := ov) (ca := ca) (rg := rg) (sv := sv) (m := m) (y := pd_y m) (sB := sB) (sL := sL) (sA := sA) n2 z2 v2 e2 e8
    refine pd_l_b (wanted := 1) (z0 := 4) (z1 := (nI n >>> ((9 : Int32) &&& 31)) &&& 3) (test := 7) hst hR hm (by rw [e9]; decide) (fun p hp => ?_) t2 ht hX hY
    unfold wpX_branch
    exact br_f (fun z => absurd (h256.mp z) (by decide)) (br_f (nI_nlt (b := 32768) (by omega) (by omega)) hp)
end
end
section
/-- one outcome of execute -/
def pd_EE (w st c fa wh : Int32) (sv m sB sL sA : Nat → Int32) (PX : (Int32 → SX → Prop) → Prop) (PY : (Int32 → SY → Prop) → Prop) : Prop :=
  (∃ (r st' ov ca : Int32) (rg m' : Nat → Int32), (r = 0 ∨ r = 1 ∨ r = 2) ∧ pd_S st' ∧ pd_R rg ∧ pd_R m' ∧ (∀ p : Int32 → SX → Prop, p r (w, st', c, 0, fa, ov, ca, rg, sv, m', sB, sL, sA) → PX p) ∧ (∀ p : Int32 → SY → Prop, p r (w, st', c, 0, wh, rg, sv, pd_y m', sB, sL, sA) → PY p)) ∨
  (∃ (re ad ov ca : Int32) (rg : Nat → Int32), ¬ re = 0 ∧ pd_R rg ∧ (∀ p : Int32 → SX → Prop, p 3 (w, st, c, re, ad, ov, ca, rg, sv, m, sB, sL, sA) → PX p) ∧ (∀ p : Int32 → SY → Prop, (∀ r st', p r (w, st', c, re, ad, rg, sv, pd_y m, sB, sL, sA)) → PY p))
section
variable {w st c fa wh ov ca re ad : Int32} {rg sv m y sB sL sA : Nat → Int32}
theorem pd_x_rti {x4 x5 x6 : Int32} (G : pd_G sB sL) (hst : pd_S st) (hR : pd_R rg) (hm : pd_R m) (h53 : ¬ x5 = 53) (h54 : ¬ x5 = 54) (h137 : ¬ x4 = 137) :
    pd_EE w st c fa wh sv m sB sL sA (fun p => wpX_returnFromInterrupt p (w, st, c, 0, fa, ov, ca, rg, sv, m, sB, sL, sA)) (fun p => wY_execute_159 p 2 (st >>> ((15 : Int32) &&& 31)) x4 x5 x6 (pd_x (st >>> ((15 : Int32) &&& 31)) 6) w st c 0 wh rg sv (pd_y m) sB sL sA) := by
  have hk := pd_x_in (pd_S_md hst) pd_6
  rcases pd_l_po (w := w) (c := c) (fa := fa) (wh := wh) (ov := ov) (ca := ca) (sv := sv) (sA := sA) G hst hR hm with ⟨rX1, rY1, rg1, ⟨hQ1, hb1⟩, hR1, hX1, hY1⟩ | ⟨re, ad, rg1, hr, hR1, hX1, hY1⟩
  case inr =>
    refine Or.inr ⟨re, ad, ov, ca, rg1, hr, hR1, fun p hp => ?_, fun p hp => ?_⟩
    · unfold wpX_returnFromInterrupt
      exact hX1 _ (br_f (by decide) hp)
    · unfold wY_execute_159
      refine br_f h53 (br_f h54 (br_f h137 (br_t rfl (hY1 _ (fun r => pd_D_nx hr hk (pd_D_pu hr ?_))))))
      exact br_c (fun _ => nm_e (hp _ _)) (fun _ => nm_e (hp _ _))
  cases hQ1
  have hw1 := pd_b_w hb1
  rcases pd_l_po (w := w) (c := c) (fa := fa) (wh := wh) (ov := ov) (ca := ca) (sv := sv) (sA := sA) G hst hR1 hm with ⟨rX2, rY2, rg2, ⟨hQ2, hb2⟩, hR2, hX2, hY2⟩ | ⟨re, ad, rg2, hr, hR2, hX2, hY2⟩
  case inr =>
    refine Or.inr ⟨re, ad, ov, ca, rg2, hr, hR2, fun p hp => ?_, fun p hp => ?_⟩
    · unfold wpX_returnFromInterrupt
      exact hX1 _ (br_t (pd_w_ge hw1) (hX2 _ (br_f (by decide) hp)))
    · unfold wY_execute_159
      refine br_f h53 (br_f h54 (br_f h137 (br_t rfl (hY1 _ (hY2 _ (fun r => pd_D_pu hr ?_))))))
      exact br_c (fun _ => nm_e (hp _ _)) (fun _ => nm_e (hp _ _))
  cases hQ2
  have hw2 := pd_b_w hb2
  have e7 := pd_w_id hw1
  by_cases hu : st >>> ((15 : Int32) &&& 31) = 0
  · refine Or.inl ⟨0, rX2 &&& 40975, ov, ca, upd rg2 7 rX1, m, Or.inl rfl, pd_S_and _, pd_R_upd hR2 hw1, hm, fun p hp => ?_, fun p hp => ?_⟩
    · unfold wpX_returnFromInterrupt
      exact hX1 _ (br_t (pd_w_ge hw1) (hX2 _ (br_t (pd_w_ge hw2) (nm_e (br_t hu (nm_e hp))))))
    · unfold wY_execute_159
      refine br_f h53 (br_f h54 (br_f h137 (br_t rfl (hY1 _ (hY2 _ (pd_Y_pu pd_in7 ?_))))))
      rw [e7]
      exact br_t hu (nm_e hp)
  · refine Or.inl ⟨0, (st &&& 40960) ||| (rX2 &&& 15), ov, ca, upd rg2 7 rX1, m, Or.inl rfl, pd_S_or _ _, pd_R_upd hR2 hw1, hm, fun p hp => ?_, fun p hp => ?_⟩
    · unfold wpX_returnFromInterrupt
      exact hX1 _ (br_t (pd_w_ge hw1) (hX2 _ (br_t (pd_w_ge hw2) (nm_e (br_f hu (nm_e hp))))))
    · unfold wY_execute_159
      refine br_f h53 (br_f h54 (br_f h137 (br_t rfl (hY1 _ (hY2 _ (pd_Y_pu pd_in7 ?_))))))
      rw [e7]
      exact br_f hu (nm_e hp)
theorem pd_x_jmp {x1 x2 x4 f : Int32} (G : pd_G sB sL) (hst : pd_S st) (hR : pd_R rg) (hm : pd_R m) (hf : pd_o f) (h0 : ¬ f >>> ((3 : Int32) &&& 31) = 0) (h137 : ¬ x4 = 137) (h2 : ¬ x1 = 2) {x7 : Int32} :
    pd_EE w st c fa wh sv m sB sL sA (fun p => wpX_jump p (w, st, c, 0, fa, ov, ca, rg, sv, m, sB, sL, sA) f) (fun p => wY_execute_159 p x1 x2 x4 1 f x7 w st c 0 wh rg sv (pd_y m) sB sL sA) := by
  have h7 : ¬ f ≤ 7 := by
    rcases pd_7 hf with ⟨h, _⟩ | ⟨_, h, _⟩
    · exact absurd h h0
    · exact h
  rcases pd_l_ad (w := w) (c := c) (fa := fa) (wh := wh) (ov := ov) (ca := ca) (sv := sv) (sA := sA) (b := 0) G hst hR hm hf h0 with ⟨rX1, rY1, rg1, ⟨hQ1, hb1⟩, hR1, hX1, hY1⟩ | ⟨re, ad, rg1, hr, hR1, hX1, hY1⟩
  · cases hQ1
    have hw1 := pd_b_w hb1
    refine Or.inl ⟨0, st, ov, ca, upd rg1 7 rX1, m, Or.inl rfl, hst, pd_R_upd hR1 hw1, hm, fun p hp => ?_, fun p hp => ?_⟩
    · unfold wpX_jump
      exact hX1 _ (br_t (pd_w_ge hw1) (nm_e hp))
    · unfold wY_execute_159
      refine br_f (by decide) (br_f (by decide) (br_f h137 (br_f h2 (br_t rfl (br_f h7 (hY1 _ (pd_Y_pu pd_in7 ?_)))))))
      rw [pd_w_id hw1]
      exact hp
  · refine Or.inr ⟨re, ad, ov, ca, rg1, hr, hR1, fun p hp => ?_, fun p hp => ?_⟩
    · unfold wpX_jump
      exact hX1 _ (br_f (by decide) hp)
    · unfold wY_execute_159
      exact br_f (by decide) (br_f (by decide) (br_f h137 (br_f h2 (br_t rfl (br_f h7 (hY1 _ (fun r => pd_D_pu hr (hp _ _))))))))
theorem pd_x_rts {op x5 x6 : Int32} (G : pd_G sB sL) (hst : pd_S st) (hR : pd_R rg) (hm : pd_R m) (h16 : op >>> ((3 : Int32) &&& 31) = 16) :
    pd_EE w st c fa wh sv m sB sL sA (fun p => wpX_returnFromSubroutine p (w, st, c, 0, fa, ov, ca, rg, sv, m, sB, sL, sA) (op &&& 7)) (fun p => wY_execute_303 p op x5 x6 (pd_x (st >>> ((15 : Int32) &&& 31)) 6) w st c 0 wh rg sv (pd_y m) sB sL sA) := by
  have hk := pd_x_in (pd_S_md hst) (pd_a7 op)
  generalize ek : pd_x (st >>> ((15 : Int32) &&& 31)) (op &&& 7) = k at hk
  have hwk := hR k.toNatClampNeg
  rcases pd_l_po (w := w) (c := c) (fa := fa) (wh := wh) (ov := ov) (ca := ca) (sv := sv) (sA := sA) G hst hR hm with ⟨rX1, rY1, rg1, ⟨hQ1, hb1⟩, hR1, hX1, hY1⟩ | ⟨re, ad, rg1, hr, hR1, hX1, hY1⟩
  · cases hQ1
    have hw1 := pd_b_w hb1
    refine Or.inl ⟨0, st, ov, ca, upd (upd rg1 7 (rg k.toNatClampNeg)) k.toNatClampNeg rX1, m, Or.inl rfl, hst, pd_R_upd (pd_R_upd hR1 hwk) hw1, hm, fun p hp => ?_, fun p hp => ?_⟩
    · unfold wpX_returnFromSubroutine
      refine pd_X_ix (pd_S_md hst) ?_
      rw [ek]
      exact And.intro hk (nm_e (hX1 _ (br_t (pd_w_ge hw1) (nm_e (And.intro hk (nm_e hp))))))
    · unfold wY_execute_303
      refine br_t h16 (pd_Y_ce ?_)
      rw [ek]
      refine And.intro hk (nm_e (hY1 _ (pd_Y_pu pd_in7 (pd_Y_pu hk ?_))))
      rw [pd_w_id hwk, pd_w_id hw1]
      exact hp
  · refine Or.inr ⟨re, ad, ov, ca, rg1, hr, hR1, fun p hp => ?_, fun p hp => ?_⟩
    · unfold wpX_returnFromSubroutine
      refine pd_X_ix (pd_S_md hst) ?_
      rw [ek]
      exact And.intro hk (nm_e (hX1 _ (br_f (by decide) hp)))
    · unfold wY_execute_303
      refine br_t h16 (pd_Y_ce ?_)
      rw [ek]
      exact And.intro hk (nm_e (hY1 _ (fun r => pd_D_pu hr (pd_D_pu hr (hp _ _)))))
theorem pd_x_jsr {op x7 : Int32} (G : pd_G sB sL) (hst : pd_S st) (hR : pd_R rg) (hm : pd_R m) (h16 : ¬ op >>> ((3 : Int32) &&& 31) = 16) (h4 : op >>> ((9 : Int32) &&& 31) = 4) (h0 : ¬ (op &&& 63) >>> ((3 : Int32) &&& 31) = 0) :
    pd_EE w st c fa wh sv m sB sL sA (fun p => wpX_jumpToSubroutine p (w, st, c, 0, fa, ov, ca, rg, sv, m, sB, sL, sA) op) (fun p => wY_execute_303 p op (op >>> ((6 : Int32) &&& 31)) (op &&& 63) x7 w st c 0 wh rg sv (pd_y m) sB sL sA) := by
  have hf : pd_o (op &&& 63) := pd_a63 _
  have h7 : ¬ op &&& 63 ≤ 7 := by
    rcases pd_7 hf with ⟨h, _⟩ | ⟨_, h, _⟩
    · exact absurd h h0
    · exact h
  have hk := pd_x_in (pd_S_md hst) (pd_a7 (op >>> ((6 : Int32) &&& 31)))
  generalize ek : pd_x (st >>> ((15 : Int32) &&& 31)) ((op >>> ((6 : Int32) &&& 31)) &&& 7) = k at hk
  rcases pd_l_ad (w := w) (c := c) (fa := fa) (wh := wh) (ov := ov) (ca := ca) (sv := sv) (sA := sA) (b := 0) G hst hR hm hf h0 with ⟨rX1, rY1, rg1, ⟨hQ1, hb1⟩, hR1, hX1, hY1⟩ | ⟨re, ad, rg1, hr, hR1, hX1, hY1⟩
  case inr =>
    refine Or.inr ⟨re, ad, ov, ca, rg1, hr, hR1, fun p hp => ?_, fun p hp => ?_⟩
    · unfold wpX_jumpToSubroutine
      exact hX1 _ (br_f (by decide) hp)
    · unfold wY_execute_303
      refine br_f h16 (br_t h4 (br_f h7 (hY1 _ (fun r => pd_Y_ce ?_))))
      rw [ek]
      exact And.intro hk (pd_D_ps hr hst (pd_D_pu hr (pd_D_pu hr (hp _ _))))
  cases hQ1
  have hw1 := pd_b_w hb1
  rcases pd_l_ps (w := w) (c := c) (fa := fa) (wh := wh) (ov := ov) (ca := ca) (sv := sv) (sA := sA) G hst hR1 hm (hR1 k.toNatClampNeg) with ⟨rg2, m2, hR2, hm2, hX2, hY2⟩ | ⟨re, ad, rg2, hr, hR2, hX2, hY2⟩
  · refine Or.inl ⟨0, st, ov, ca, upd (upd rg2 k.toNatClampNeg (rg2 7)) 7 rX1, m2, Or.inl rfl, hst, pd_R_upd (pd_R_upd hR2 (hR2 7)) hw1, hm2, fun p hp => ?_, fun p hp => ?_⟩
    · unfold wpX_jumpToSubroutine
      refine hX1 _ (br_t (pd_w_ge hw1) (pd_X_ix (pd_S_md hst) ?_))
      rw [ek]
      exact And.intro hk (nm_e (hX2 _ (br_f (by decide) (And.intro hk (nm_e (nm_e hp))))))
    · unfold wY_execute_303
      refine br_f h16 (br_t h4 (br_f h7 (hY1 _ (pd_Y_ce ?_))))
      rw [ek]
      refine And.intro hk (hY2 _ (pd_Y_pu hk (pd_Y_pu pd_in7 ?_)))
      rw [pd_w_id hw1, pd_w_id (hR2 7)]
      exact hp
  · refine Or.inr ⟨re, ad, ov, ca, rg2, hr, hR2, fun p hp => ?_, fun p hp => ?_⟩
    · unfold wpX_jumpToSubroutine
      refine hX1 _ (br_t (pd_w_ge hw1) (pd_X_ix (pd_S_md hst) ?_))
      rw [ek]
      exact And.intro hk (nm_e (hX2 _ (br_t rfl hp)))
    · unfold wY_execute_303
      refine br_f h16 (br_t h4 (br_f h7 (hY1 _ (pd_Y_ce ?_))))
      rw [ek]
      exact And.intro hk (hY2 _ (pd_D_pu hr (pd_D_pu hr (hp _ _))))
/-! MFPI, MTPI -/
theorem pd_Y_142 {p : SY → Prop} {x n : Nat} (hx : x < pd_M 0) (hn : n = 0 ∨ n = 1) (en : st &&& 1 = nI n)
    (hp : p (w, (st &&& 40960) ||| nI (n + 2 * 0 + 4 * pd_n (nI x = 0) + 8 * pd_g 0 x), c, re, ad, rg, sv, y, sB, sL, sA)) : wY_between_142 p (nI x) w st c re ad rg sv y sB sL sA := by
  have hM := pd_M_0
  have T : nI x < 32768 ↔ x < pd_H 0 := nI_ltI (b := 32768) (by omega) (by decide)
  have K165 : ∀ t g, nI (pd_n (nI x = 0)) = t → nI (pd_g 0 x) = g → wY_between_165 p t g w st c re ad rg sv y sB sL sA := by
    intro t g ht hg
    subst ht hg
    unfold wY_between_165 wY_between_181
    rcases hn with rfl | rfl
    · exact br_f (fun z => absurd (en.symm.trans z) (by decide)) (pd_Y_co (pd_g_2 0 x) (pd_n_2 _) (Or.inl rfl) (Or.inl rfl) hp)
    · exact br_t en (pd_Y_co (pd_g_2 0 x) (pd_n_2 _) (Or.inl rfl) (Or.inr rfl) hp)
  have K155 : ∀ g, nI (pd_g 0 x) = g → wY_between_155 p (nI x) g w st c re ad rg sv y sB sL sA := by
    intro g hg
    unfold wY_between_155
    exact br_c (fun h => K165 _ _ (congrArg nI (pd_n_t h)) hg) (fun h => K165 _ _ (congrArg nI (pd_n_f h)) hg)
  unfold wY_between_142
  exact br_c (fun h => K155 _ (congrArg nI (if_pos (T.mp h)))) (fun h => K155 _ (congrArg nI (if_neg (fun z => h (T.mpr z)))))
theorem pd_D_142 {p : SY → Prop} {x : Int32} (h : ∀ st', p (w, st', c, re, ad, rg, sv, y, sB, sL, sA)) : wY_between_142 p x w st c re ad rg sv y sB sL sA := by
  have K165 : ∀ t g, wY_between_165 p t g w st c re ad rg sv y sB sL sA := by
    intro t g
    unfold wY_between_165 wY_between_181
    exact br_c (fun _ => pd_D_co h) (fun _ => pd_D_co h)
  have K155 : ∀ g, wY_between_155 p x g w st c re ad rg sv y sB sL sA := fun g => br_c (fun _ => K165 _ _) (fun _ => K165 _ _)
  exact br_c (fun _ => K155 _) (fun _ => K155 _)
theorem pd_X_kk {p : SX → Prop} {x n : Nat} (hx : x < pd_M 0) (hn : n = 0 ∨ n = 1)
    (hp : p (w, (st &&& 40960) ||| nI (n + 2 * 0 + 4 * pd_n (nI x = 0) + 8 * pd_g 0 x), c, 0, fa, nI 0, nI n, rg, sv, m, sB, sL, sA)) : wpX_setCodes p (w, st, c, 0, fa, nI 0, nI n, rg, sv, m, sB, sL, sA) (nI x) 0 := by
  obtain ⟨h0, h1⟩ := pd_0x hx
  exact pd_X_co (pd_g_2 0 x) h1 (pd_n_2 _) h0 (Or.inl rfl) hn hp
theorem pd_D_102 {p : SY → Prop} {x1 x2 x3 x5 x6 x7 : Int32} (hr : ¬ re = 0) (hst : pd_S st) (h : ∀ st', p (w, st', c, re, ad, rg, sv, y, sB, sL, sA)) : wY_between_102 p x1 x2 x3 x5 x6 x7 w st c re ad rg sv y sB sL sA := by
  unfold wY_between_102
  exact br_c (fun _ => br_c (fun _ => pd_D_pu hr (pd_D_142 h)) (fun _ => pd_D_wr hr (pd_D_142 h))) (fun _ => pd_D_ps hr hst (pd_D_142 h))
theorem pd_D_80 {p : SY → Prop} {x1 x2 x3 x5 x6 z0 : Int32} (hr : ¬ re = 0) (hst : pd_S st) (h : ∀ st', p (w, st', c, re, ad, rg, sv, y, sB, sL, sA)) : wY_between_80 p x1 x2 x3 x5 x6 z0 w st c re ad rg sv y sB sL sA := by
  unfold wY_between_80
  exact br_c (fun _ => pd_D_102 hr hst h) (fun _ => br_c (fun _ => pd_D_102 hr hst h) (fun _ => pd_D_rd hr (pd_D_102 hr hst h)))
theorem pd_D_62 {p : SY → Prop} {x1 x2 x3 x5 z0 : Int32} (hr : ¬ re = 0) (hst : pd_S st) (h : ∀ st', p (w, st', c, re, ad, rg, sv, y, sB, sL, sA)) : wY_between_62 p x1 x2 x3 x5 z0 w st c re ad rg sv y sB sL sA := by
  unfold wY_between_62
  exact br_c (fun _ => pd_D_80 hr hst h) (fun _ => pd_D_ad hr hst (fun r => pd_D_80 hr hst h))
theorem pd_Y_be {p : SY → Prop} {f q : Int32} (h : wY_between_40 p f q ((st >>> ((13 : Int32) &&& 31)) &&& 1) (pd_x (st >>> ((15 : Int32) &&& 31)) 6) (pd_x ((st >>> ((13 : Int32) &&& 31)) &&& 1) (f &&& 7)) w st c re ad rg sv y sB sL sA) : wpY_between p (w, st, c, re, ad, rg, sv, y, sB, sL, sA) f q := by
  unfold wpY_between
  refine nm_e (pd_Y_ce ?_)
  by_cases e : f &&& 7 = 6
  · have e2 : pd_x ((st >>> ((13 : Int32) &&& 31)) &&& 1) (f &&& 7) = 6 + 2 * ((st >>> ((13 : Int32) &&& 31)) &&& 1) := if_pos e
    rw [e2] at h
    exact br_t e h
  · have e2 : pd_x ((st >>> ((13 : Int32) &&& 31)) &&& 1) (f &&& 7) = f &&& 7 := if_neg e
    rw [e2] at h
    exact br_f e h
/-- the end of MFPI: push and codes -/
theorem pd_l_mf2 {f pv k a x : Int32} (G : pd_G sB sL) (hst : pd_S st) (hR : pd_R rg) (hm : pd_R m) (hx : pd_w x) :
    pd_E w st c fa wh sv m sB sL sA (fun p => wX_moveFromPrevious_30 p x w st c 0 fa ov ca rg sv m sB sL sA) (fun p => wY_between_102 p f 1 pv k x a w st c 0 wh rg sv (pd_y m) sB sL sA) := by
  obtain ⟨n, hn, en⟩ := pd_st1 st
  have hnl := pd_w_nl hx
  rcases pd_l_ps (w := w) (c := c) (fa := fa) (wh := wh) (ov := ov) (ca := ca) (sv := sv) (sA := sA) G hst hR hm hx with ⟨rg2, m2, hR2, hm2, hX2, hY2⟩ | ⟨re, ad, rg2, hr, hR2, hX2, hY2⟩
  · obtain ⟨j, hj, rfl⟩ := pd_w_b hx
    have hS : pd_S ((st &&& 40960) ||| nI (n + 2 * 0 + 4 * pd_n (nI j = 0) + 8 * pd_g 0 j)) := pd_S_4 (pd_g_2 0 j) (pd_n_2 _) (Or.inl rfl) hn st
    refine Or.inl ⟨_, nI 0, nI n, rg2, m2, hS, hR2, hm2, fun p hp => ?_, fun p hp => ?_⟩
    · unfold wX_moveFromPrevious_30
      exact br_f hnl (hX2 _ (br_f (by decide) (pd_X_kc hn en (pd_X_kk hj hn hp))))
    · unfold wY_between_102
      exact br_f (by decide) (hY2 _ (pd_Y_142 hj hn en hp))
  · refine Or.inr ⟨re, ad, ov, ca, rg2, hr, hR2, fun p hp => ?_, fun p hp => ?_⟩
    · unfold wX_moveFromPrevious_30
      exact br_f hnl (hX2 _ (br_t rfl hp))
    · unfold wY_between_102
      exact br_f (by decide) (hY2 _ (pd_D_142 hp))
theorem pd_l_mf {f : Int32} (G : pd_G sB sL) (hst : pd_S st) (hR : pd_R rg) (hm : pd_R m) (hf : pd_o f) :
    pd_E w st c fa wh sv m sB sL sA (fun p => wpX_moveFromPrevious p (w, st, c, 0, fa, ov, ca, rg, sv, m, sB, sL, sA) f) (fun p => wpY_between p (w, st, c, 0, wh, rg, sv, pd_y m, sB, sL, sA) f 1) := by
  have hpv := pd_md1 (st >>> ((13 : Int32) &&& 31))
  have hk := pd_x_in hpv (pd_a7 f)
  rcases pd_7 hf with ⟨h0, h7, h8, e7, hj⟩ | ⟨h0, h7, h8⟩
  · rcases pd_l_mf2 (w := w) (c := c) (fa := fa) (wh := wh) (ov := ov) (ca := ca) (sv := sv) (sA := sA) (f := f) (pv := (st >>> ((13 : Int32) &&& 31)) &&& 1) (k := pd_x ((st >>> ((13 : Int32) &&& 31)) &&& 1) (f &&& 7)) (a := 0) G hst hR hm (hR (pd_x ((st >>> ((13 : Int32) &&& 31)) &&& 1) (f &&& 7)).toNatClampNeg) with ⟨st', ov', ca', rg', m', hS, hR', hm', hX, hY⟩ | ⟨re, ad, ov', ca', rg', hr, hR', hX, hY⟩
    · refine Or.inl ⟨st', ov', ca', rg', m', hS, hR', hm', fun p hp => ?_, fun p hp => pd_Y_be (br_f (by decide) (And.intro hk (br_t h7 (br_f (by decide) (br_t h7 (hY p hp))))))⟩
      unfold wpX_moveFromPrevious
      refine nm_e (br_f h8 ?_)
      unfold wpX_previousRegister wpX_previousIndex
      refine pd_X_ix hpv ?_
      rw [e7] at hk hX
      exact And.intro hk (hX p hp)
    · refine Or.inr ⟨re, ad, ov', ca', rg', hr, hR', fun p hp => ?_, fun p hp => pd_Y_be (br_f (by decide) (And.intro hk (br_t h7 (br_f (by decide) (br_t h7 (hY p hp))))))⟩
      unfold wpX_moveFromPrevious
      refine nm_e (br_f h8 ?_)
      unfold wpX_previousRegister wpX_previousIndex
      refine pd_X_ix hpv ?_
      rw [e7] at hk hX
      exact And.intro hk (hX p hp)
  · rcases pd_l_ad (w := w) (c := c) (fa := fa) (wh := wh) (ov := ov) (ca := ca) (sv := sv) (sA := sA) (b := 0) G hst hR hm hf h0 with ⟨rX1, rY1, rg1, ⟨hQ1, hb1⟩, hR1, hX1, hY1⟩ | ⟨re, ad, rg1, hr, hR1, hX1, hY1⟩
    case inr =>
      refine Or.inr ⟨re, ad, ov, ca, rg1, hr, hR1, fun p hp => ?_, fun p hp => pd_Y_be (br_f (by decide) (And.intro hk (br_f h7 (hY1 _ (fun r => pd_D_80 hr hst hp)))))⟩
      unfold wpX_moveFromPrevious
      refine nm_e (br_t h8 ?_)
      unfold wpX_readPrevious
      exact hX1 _ (br_f (by decide) (br_t (by decide) hp))
    cases hQ1
    have hw1 := pd_b_w hb1
    rcases pd_l_rd (w := w) (st := st) (c := c) (fa := fa) (wh := wh) (ov := ov) (ca := ca) (sv := sv) (sA := sA) (b := 0) G hR1 hm hpv hw1 with ⟨rX2, rY2, rg2, ⟨hQ2, hb2⟩, hR2, hX2, hY2⟩ | ⟨re, ad, rg2, hr, hR2, hX2, hY2⟩
    case inr =>
      refine Or.inr ⟨re, ad, ov, ca, rg2, hr, hR2, fun p hp => ?_, fun p hp => pd_Y_be (br_f (by decide) (And.intro hk (br_f h7 (hY1 _ (br_f (by decide) (br_f h7 (hY2 _ (fun r => pd_D_102 hr hst hp))))))))⟩
      unfold wpX_moveFromPrevious
      refine nm_e (br_t h8 ?_)
      unfold wpX_readPrevious
      exact hX1 _ (br_t (pd_w_ge hw1) (hX2 _ (br_t (by decide) hp)))
    cases hQ2
    have hw2 := pd_b_w hb2
    rcases pd_l_mf2 (w := w) (c := c) (fa := fa) (wh := wh) (ov := ov) (ca := ca) (sv := sv) (sA := sA) (f := f) (pv := (st >>> ((13 : Int32) &&& 31)) &&& 1) (k := pd_x ((st >>> ((13 : Int32) &&& 31)) &&& 1) (f &&& 7)) (a := rX1) G hst hR2 hm hw2 with ⟨st', ov', ca', rg', m', hS, hR', hm', hX, hY⟩ | ⟨re, ad, ov', ca', rg', hr, hR', hX, hY⟩
    · refine Or.inl ⟨st', ov', ca', rg', m', hS, hR', hm', fun p hp => ?_, fun p hp => pd_Y_be (br_f (by decide) (And.intro hk (br_f h7 (hY1 _ (br_f (by decide) (br_f h7 (hY2 _ (hY p hp))))))))⟩
      unfold wpX_moveFromPrevious
      refine nm_e (br_t h8 ?_)
      unfold wpX_readPrevious
      exact hX1 _ (br_t (pd_w_ge hw1) (hX2 _ (hX p hp)))
    · refine Or.inr ⟨re, ad, ov', ca', rg', hr, hR', fun p hp => ?_, fun p hp => pd_Y_be (br_f (by decide) (And.intro hk (br_f h7 (hY1 _ (br_f (by decide) (br_f h7 (hY2 _ (hY p hp))))))))⟩
      unfold wpX_moveFromPrevious
      refine nm_e (br_t h8 ?_)
      unfold wpX_readPrevious
      exact hX1 _ (br_t (pd_w_ge hw1) (hX2 _ (hX p hp)))
end
end
section
section
variable {w st c fa wh ov ca re ad : Int32} {rg sv m y sB sL sA : Nat → Int32}
theorem pd_l_mt {f : Int32} (G : pd_G sB sL) (hst : pd_S st) (hR : pd_R rg) (hm : pd_R m) (hf : pd_o f) :
    pd_E w st c fa wh sv m sB sL sA (fun p => wpX_moveToPrevious p (w, st, c, 0, fa, ov, ca, rg, sv, m, sB, sL, sA) f) (fun p => wpY_between p (w, st, c, 0, wh, rg, sv, pd_y m, sB, sL, sA) f 0) := by
  have hpv := pd_md1 (st >>> ((13 : Int32) &&& 31))
  have hk := pd_x_in hpv (pd_a7 f)
  obtain ⟨n, hn, en⟩ := pd_st1 st
  rcases pd_l_po (w := w) (c := c) (fa := fa) (wh := wh) (ov := ov) (ca := ca) (sv := sv) (sA := sA) G hst hR hm with ⟨rX1, rY1, rg1, ⟨hQ1, hb1⟩, hR1, hX1, hY1⟩ | ⟨re, ad, rg1, hr, hR1, hX1, hY1⟩
  case inr =>
    refine Or.inr ⟨re, ad, ov, ca, rg1, hr, hR1, fun p hp => ?_, fun p hp => pd_Y_be (br_t rfl (hY1 _ (fun r => pd_D_62 hr hst hp)))⟩
    unfold wpX_moveToPrevious
    exact hX1 _ (br_f (by decide) hp)
  cases hQ1
  have hw1 := pd_b_w hb1
  have hge := pd_w_ge hw1
  have hid := pd_w_id hw1
  obtain ⟨j, hj, rfl⟩ := hb1
  have hS : pd_S ((st &&& 40960) ||| nI (n + 2 * 0 + 4 * pd_n (nI j = 0) + 8 * pd_g 0 j)) := pd_S_4 (pd_g_2 0 j) (pd_n_2 _) (Or.inl rfl) hn st
  rcases pd_7 hf with ⟨h0, h7, h8, e7, hj7⟩ | ⟨h0, h7, h8⟩
  · refine Or.inl ⟨_, nI 0, nI n, upd rg1 (pd_x ((st >>> ((13 : Int32) &&& 31)) &&& 1) (f &&& 7)).toNatClampNeg (nI j), m, hS, pd_R_upd hR1 hw1, hm, fun p hp => ?_, fun p hp => pd_Y_be ?_⟩
    · unfold wpX_moveToPrevious
      refine hX1 _ (br_t hge (br_f h8 ?_))
      unfold wpX_previousIndex
      refine pd_X_ix hpv ?_
      rw [e7] at hk hp
      refine And.intro hk (nm_e ?_)
      unfold wX_moveToPrevious_65
      exact pd_X_kc hn en (pd_X_kk hj hn hp)
    · refine br_t rfl (hY1 _ (br_t h7 (br_t rfl (br_t rfl (br_t h7 (pd_Y_pu hk ?_))))))
      rw [hid]
      exact pd_Y_142 hj hn en hp
  · rcases pd_l_ad (w := w) (c := c) (fa := fa) (wh := wh) (ov := ov) (ca := ca) (sv := sv) (sA := sA) (b := 0) G hst hR1 hm hf h0 with ⟨rX2, rY2, rg2, ⟨hQ2, hb2⟩, hR2, hX2, hY2⟩ | ⟨re, ad, rg2, hr, hR2, hX2, hY2⟩
    case inr =>
      refine Or.inr ⟨re, ad, ov, ca, rg2, hr, hR2, fun p hp => ?_, fun p hp => pd_Y_be (br_t rfl (hY1 _ (br_f h7 (hY2 _ (fun r => pd_D_80 hr hst hp)))))⟩
      unfold wpX_moveToPrevious
      exact hX1 _ (br_t hge (br_t h8 (hX2 _ (br_t (by decide) hp))))
    cases hQ2
    have hw2 := pd_b_w hb2
    rcases pd_l_wr (w := w) (st := st) (c := c) (fa := fa) (wh := wh) (ov := ov) (ca := ca) (sv := sv) (sA := sA) (b := 0) (x := nI j) G hR2 hm hpv hw2 ⟨j, hj, rfl⟩ with ⟨rg3, m3, hR3, hm3, hX3, hY3⟩ | ⟨re, ad, rg3, hr, hR3, hX3, hY3⟩
    · refine Or.inl ⟨_, nI 0, nI n, rg3, m3, hS, hR3, hm3, fun p hp => ?_, fun p hp => pd_Y_be ?_⟩
      · unfold wpX_moveToPrevious
        refine hX1 _ (br_t hge (br_t h8 (hX2 _ (br_f (pd_w_nl hw2) (hX3 _ (br_f (by decide) ?_))))))
        unfold wX_moveToPrevious_65
        exact pd_X_kc hn en (pd_X_kk hj hn hp)
      · exact br_t rfl (hY1 _ (br_f h7 (hY2 _ (br_t rfl (br_t rfl (br_f h7 (hY3 _ (pd_Y_142 hj hn en hp))))))))
    · refine Or.inr ⟨re, ad, ov, ca, rg3, hr, hR3, fun p hp => ?_, fun p hp => pd_Y_be ?_⟩
      · unfold wpX_moveToPrevious
        exact hX1 _ (br_t hge (br_t h8 (hX2 _ (br_f (pd_w_nl hw2) (hX3 _ (br_t rfl hp))))))
      · exact br_t rfl (hY1 _ (br_f h7 (hY2 _ (br_t rfl (br_t rfl (br_f h7 (hY3 _ (pd_D_142 hp))))))))
/-! trap -/
theorem pd_s0 : (0 : Int32) = 0 ∨ (0 : Int32) = 1 := Or.inl rfl
def pd_dn (rg : Nat → Int32) : Nat → Int32 := upd rg 6 ((rg 6 - 2) &&& 65535)
theorem pd_dn_R (hR : pd_R rg) : pd_R (pd_dn rg) := pd_R_upd hR (pd_w_and _)
theorem pd_X_rs {p : Int32 → SX → Prop} (G : pd_G sB sL) (hR : pd_R rg)
    (h0 : pd_f sL sA 0 (pd_dn rg 6) 0 1 = 0 → p (pd_q sB 0 (pd_dn rg 6) >>> ((1 : Int32) &&& 31)) (w, st, c, 0, fa, ov, ca, pd_dn rg, sv, m, sB, sL, sA))
    (h1 : ¬ pd_f sL sA 0 (pd_dn rg 6) 0 1 = 0 → p (-1) (w, st, c, pd_f sL sA 0 (pd_dn rg 6) 0 1, 65536 * 0 + pd_dn rg 6, ov, ca, pd_dn rg, sv, m, sB, sL, sA)) :
    wpX_reserveKernelWord p (w, st, c, 0, fa, ov, ca, rg, sv, m, sB, sL, sA) := by
  have hv := pd_dn_R hR 6
  unfold wpX_reserveKernelWord
  refine And.intro pd_in6 (And.intro pd_in6 (nm_e (And.intro pd_in6 ?_)))
  show wpX_translate _ (w, st, c, 0, fa, ov, ca, pd_dn rg, sv, m, sB, sL, sA) 0 (pd_dn rg 6) 0 1
  refine pd_X_tr pd_s0 hv (fun z => ?_) (fun z => ?_)
  · obtain ⟨q, hq, eq, ev⟩ := pd_ph G pd_s0 hv z
    have h2 := h0 z
    rw [eq] at h2 ⊢
    exact br_t (nI_pos' (by omega)) h2
  · exact br_f (by decide) (h1 z)
theorem pd_wr_w {v x : Int32} (G : pd_G sB sL) (hv : pd_w v) (hf : pd_f sL sA 0 v 0 1 = 0) : upd m (pd_q sB 0 v >>> ((1 : Int32) &&& 31)).toNatClampNeg x = pd_wr sB m 0 v 0 x ∧ vp_in (pd_q sB 0 v >>> ((1 : Int32) &&& 31)) 128 ∧ 0 ≤ pd_q sB 0 v >>> ((1 : Int32) &&& 31) := by
  obtain ⟨q, hq, eq, ev⟩ := pd_ph G pd_s0 hv hf
  unfold pd_wr
  rw [eq, pk_shrN (by omega) _ 1 (by decide), nI_clamp (by omega), nI_clamp (by omega), if_pos rfl]
  exact ⟨rfl, vp_in_nI (by omega) (by decide), nI_pos' (by omega)⟩
theorem pd_l_tr (G : pd_G sB sL) (hst : pd_S st) (hR : pd_R rg) (hm : pd_R m) :
    pd_E w st c fa wh sv m sB sL sA (fun p => wpX_trap p (w, st, c, 0, fa, ov, ca, rg, sv, m, sB, sL, sA)) (fun p => wpY_trap p (w, st, c, 0, wh, rg, sv, pd_y m, sB, sL, sA)) := by
  have hw28 : pd_w 28 := ⟨28, by decide, rfl⟩
  have hw30 : pd_w 30 := ⟨30, by decide, rfl⟩
  rcases pd_l_rd (w := w) (st := st) (c := c) (fa := fa) (wh := wh) (ov := ov) (ca := ca) (sv := sv) (sA := sA) (b := 0) G hR hm pd_s0 hw28 with ⟨rX1, rY1, rg1, ⟨hQ1, hb1⟩, hR1, hX1, hY1⟩ | ⟨re, ad, rg1, hr, hR1, hX1, hY1⟩
  case inr =>
    refine Or.inr ⟨re, ad, ov, ca, rg1, hr, hR1, fun p hp => ?_, fun p hp => ?_⟩
    · unfold wpX_trap
      exact hX1 _ (br_f (by decide) hp)
    · unfold wpY_trap
      exact hY1 _ (fun r => pd_D_rd hr (pd_D_pu hr (nm_e (pd_D_pl hr (pd_D_pu hr (nm_e (pd_D_pl hr (pd_D_wr hr (pd_D_wr hr (pd_D_pu hr (nm_e (hp _))))))))))))
  cases hQ1
  have hw1 := pd_b_w hb1
  rcases pd_l_rd (w := w) (st := st) (c := c) (fa := fa) (wh := wh) (ov := ov) (ca := ca) (sv := sv) (sA := sA) (b := 0) G hR1 hm pd_s0 hw30 with ⟨rX2, rY2, rg2, ⟨hQ2, hb2⟩, hR2, hX2, hY2⟩ | ⟨re, ad, rg2, hr, hR2, hX2, hY2⟩
  case inr =>
    refine Or.inr ⟨re, ad, ov, ca, rg2, hr, hR2, fun p hp => ?_, fun p hp => ?_⟩
    · unfold wpX_trap
      exact hX1 _ (br_t (pd_w_ge hw1) (hX2 _ (br_f (by decide) hp)))
    · unfold wpY_trap
      exact hY1 _ (hY2 _ (fun r => pd_D_pu hr (nm_e (pd_D_pl hr (pd_D_pu hr (nm_e (pd_D_pl hr (pd_D_wr hr (pd_D_wr hr (pd_D_pu hr (nm_e (hp _))))))))))))
  cases hQ2
  have hw2 := pd_b_w hb2
  have hR3 := pd_dn_R hR2
  have hR4 := pd_dn_R hR3
  by_cases z1 : pd_f sL sA 0 (pd_dn rg2 6) 0 1 = 0
  case neg =>
    refine Or.inr ⟨_, 65536 * 0 + pd_dn rg2 6, ov, ca, pd_dn rg2, z1, hR3, fun p hp => ?_, fun p hp => ?_⟩
    · unfold wpX_trap
      exact hX1 _ (br_t (pd_w_ge hw1) (hX2 _ (br_t (pd_w_ge hw2) (pd_X_rs G hR2 (fun n => absurd n z1) (fun _ => br_f (by decide) hp)))))
    · unfold wpY_trap
      refine hY1 _ (hY2 _ (pd_Y_pu pd_in6 (nm_e ?_)))
      exact pd_Y_pl pd_s0 (hR3 6) (fun n => absurd n z1) (fun _ => pd_D_pu z1 (nm_e (pd_D_pl z1 (pd_D_wr z1 (pd_D_wr z1 (pd_D_pu z1 (nm_e (hp _))))))))
  by_cases z2 : pd_f sL sA 0 (pd_dn (pd_dn rg2) 6) 0 1 = 0
  case neg =>
    refine Or.inr ⟨_, 65536 * 0 + pd_dn (pd_dn rg2) 6, ov, ca, pd_dn (pd_dn rg2), z2, hR4, fun p hp => ?_, fun p hp => ?_⟩
    · unfold wpX_trap
      exact hX1 _ (br_t (pd_w_ge hw1) (hX2 _ (br_t (pd_w_ge hw2) (pd_X_rs G hR2 (fun _ => br_t (pd_wr_w (m := m) (x := 0) G (hR3 6) z1).2.2 (pd_X_rs G hR3 (fun n => absurd n z2) (fun _ => br_f (by decide) hp))) (fun n => absurd z1 n)))))
    · unfold wpY_trap
      refine hY1 _ (hY2 _ (pd_Y_pu pd_in6 (nm_e ?_)))
      refine pd_Y_pl pd_s0 (hR3 6) (fun _ => pd_Y_pu pd_in6 (nm_e ?_)) (fun n => absurd z1 n)
      exact pd_Y_pl pd_s0 (hR4 6) (fun n => absurd n z2) (fun _ => pd_D_wr z2 (pd_D_wr z2 (pd_D_pu z2 (nm_e (hp _)))))
  have hm1 : pd_R (pd_wr sB m 0 (pd_dn rg2 6) 0 st) := pd_wr_R hm (pd_w_b (pd_S_w hst))
  have hm2 : pd_R (pd_wr sB (pd_wr sB m 0 (pd_dn rg2 6) 0 st) 0 (pd_dn (pd_dn rg2) 6) 0 (pd_dn (pd_dn rg2) 7)) := pd_wr_R hm1 (pd_w_b (hR4 7))
  obtain ⟨w1, i1, g1⟩ := pd_wr_w (m := m) (x := st) G (hR3 6) z1
  obtain ⟨w2, i2, g2⟩ := pd_wr_w (m := pd_wr sB m 0 (pd_dn rg2 6) 0 st) (x := pd_dn (pd_dn rg2) 7) G (hR4 6) z2
  obtain ⟨j, hj, ej⟩ := pk_andE rX2 (m := 15) 4 (by decide)
  have Y : ∀ p : SY → Prop, p (w, (rX2 &&& 15) + 8192 * (st >>> ((15 : Int32) &&& 31)), c, 0, wh, upd (pd_dn (pd_dn rg2)) 7 rX1, sv, pd_y (pd_wr sB (pd_wr sB m 0 (pd_dn rg2 6) 0 st) 0 (pd_dn (pd_dn rg2) 6) 0 (pd_dn (pd_dn rg2) 7)), sB, sL, sA) → wpY_trap p (w, st, c, 0, wh, rg, sv, pd_y m, sB, sL, sA) := by
    intro p hp
    unfold wpY_trap
    refine hY1 _ (hY2 _ (pd_Y_pu pd_in6 (nm_e ?_)))
    refine pd_Y_pl pd_s0 (hR3 6) (fun _ => pd_Y_pu pd_in6 (nm_e ?_)) (fun n => absurd z1 n)
    refine pd_Y_pl pd_s0 (hR4 6) (fun _ => ?_) (fun n => absurd z2 n)
    refine pd_Y_wr G hm pd_s0 (hR3 6) (pd_w_b (pd_S_w hst)) (fun _ => ?_) (fun n => absurd z1 n)
    refine pd_Y_wr G hm1 pd_s0 (hR4 6) (pd_w_b (hR4 7)) (fun _ => ?_) (fun n => absurd z2 n)
    refine pd_Y_pu pd_in7 (nm_e ?_)
    rw [pd_w_id hw1]
    exact hp
  by_cases hu : st >>> ((15 : Int32) &&& 31) = 0
  · refine Or.inl ⟨(rX2 &&& 15) + 0, ov, ca, upd (pd_dn (pd_dn rg2)) 7 rX1, _, ?_, pd_R_upd hR4 hw1, hm2, fun p hp => ?_, fun p hp => Y p ?_⟩
    · rw [ej]
      exact pd_S_tr0 j hj
    · unfold wpX_trap
      refine hX1 _ (br_t (pd_w_ge hw1) (hX2 _ (br_t (pd_w_ge hw2) (pd_X_rs G hR2 (fun _ => br_t g1 (pd_X_rs G hR3 (fun _ => br_t g2 ?_) (fun n => absurd z2 n))) (fun n => absurd z1 n)))))
      exact And.intro i1 (nm_r w1 (And.intro i2 (nm_r w2 (nm_e (br_t hu (nm_e hp))))))
    · rw [hu]
      exact hp
  · have hu1 := (pd_S_md hst).resolve_left hu
    refine Or.inl ⟨(rX2 &&& 15) + 8192, ov, ca, upd (pd_dn (pd_dn rg2)) 7 rX1, _, ?_, pd_R_upd hR4 hw1, hm2, fun p hp => ?_, fun p hp => Y p ?_⟩
    · rw [ej]
      exact pd_S_tr1 j hj
    · unfold wpX_trap
      refine hX1 _ (br_t (pd_w_ge hw1) (hX2 _ (br_t (pd_w_ge hw2) (pd_X_rs G hR2 (fun _ => br_t g1 (pd_X_rs G hR3 (fun _ => br_t g2 ?_) (fun n => absurd z2 n))) (fun n => absurd z1 n)))))
      exact And.intro i1 (nm_r w1 (And.intro i2 (nm_r w2 (nm_e (br_f hu (nm_e hp))))))
    · rw [hu1]
      exact hp
end
end
section
def pd_hA (n : Nat) : Prop := (1 ≤ n / 4096 ∧ n / 4096 ≤ 6) ∨ (9 ≤ n / 4096 ∧ n / 4096 ≤ 14)
def pd_hC (n : Nat) : Prop := (40 ≤ n / 64 ∧ n / 64 ≤ 47) ∨ (552 ≤ n / 64 ∧ n / 64 ≤ 559)
def pd_hD (n : Nat) : Prop := (1 ≤ n / 256 ∧ n / 256 ≤ 7) ∨ (128 ≤ n / 256 ∧ n / 256 ≤ 135)
theorem pd_e12 {n : Nat} (hn : n < 65536) : nI n >>> ((12 : Int32) &&& 31) = nI (n / 4096) := pk_shrN (by omega) _ 12 (by decide)
theorem pd_e8 {n : Nat} (hn : n < 65536) : nI n >>> ((8 : Int32) &&& 31) = nI (n / 256) := pk_shrN (by omega) _ 8 (by decide)
theorem pd_e6 {n : Nat} (hn : n < 65536) : nI n >>> ((6 : Int32) &&& 31) = nI (n / 64) := pk_shrN (by omega) _ 6 (by decide)
theorem pd_e3 {n : Nat} (hn : n < 65536) : nI n >>> ((3 : Int32) &&& 31) = nI (n / 8) := pk_shrN (by omega) _ 3 (by decide)
theorem pd_e9 {n : Nat} (hn : n < 65536) : nI n >>> ((9 : Int32) &&& 31) = nI (n / 512) := pk_shrN (by omega) _ 9 (by decide)
theorem pd_e97 {n : Nat} (hn : n < 65536) : (nI n >>> ((9 : Int32) &&& 31)) &&& 7 = nI (n / 512 % 8) := by
  rw [pd_e9 hn]
  exact pk_andN (by omega) 3 (by decide)
theorem pd_56 : ∀ j, j < 64 → (nI j &&& 56 = 0 ↔ nI j >>> ((3 : Int32) &&& 31) = 0) := by decide +kernel
theorem pd_563 (x : Int32) : x &&& 56 = 0 ↔ (x &&& 63) >>> ((3 : Int32) &&& 31) = 0 := by
  have e : x &&& 56 = (x &&& 63) &&& 56 := by
    rw [Int32.and_assoc]
    rfl
  rw [e]
  obtain ⟨j, hj, ej⟩ := pd_a63 x
  rw [ej]
  exact pd_56 j hj
section
variable {w st c fa wh ov ca re ad : Int32} {rg sv m y sB sL sA : Nat → Int32}
/-! X's ways -/
theorem pd_X_e2 {p : Int32 → SX → Prop} {n : Nat} (hn : n < 65536) (hA : pd_hA n) (h : wpX_doubleOperand p (w, st, c, 0, fa, ov, ca, rg, sv, m, sB, sL, sA) (nI n)) : wpX_execute p (w, st, c, 0, fa, ov, ca, rg, sv, m, sB, sL, sA) (nI n) := by
  unfold pd_hA at hA
  unfold wpX_execute
  exact nm_r (pd_e12 hn) (pk_eq (n / 4096) 7 (fun z => (by omega : False).elim) (fun _ => pk_eq (n / 4096) 15 (fun z => (by omega : False).elim) (fun _ => pk_eq (n / 4096) 0 (fun z => (by omega : False).elim) (fun _ => pk_eq (n / 4096) 8 (fun z => (by omega : False).elim) (fun _ => h)))))
theorem pd_X_e7 {p : Int32 → SX → Prop} {n : Nat} (hn : n < 65536) (h7 : n / 4096 = 7 ∨ n / 4096 = 15) (h : p 2 (w, st, c, 0, fa, ov, ca, rg, sv, m, sB, sL, sA)) : wpX_execute p (w, st, c, 0, fa, ov, ca, rg, sv, m, sB, sL, sA) (nI n) := by
  unfold wpX_execute
  exact nm_r (pd_e12 hn) (pk_eq (n / 4096) 7 (fun z => h) (fun _ => pk_eq (n / 4096) 15 (fun z => h) (fun _ => (by omega : False).elim)))
theorem pd_X_e35 {p : Int32 → SX → Prop} {n : Nat} (hn : n < 65536) (h0 : n / 4096 = 0 ∨ n / 4096 = 8) (h : wX_execute_35 p (nI n) w st c 0 fa ov ca rg sv m sB sL sA) : wpX_execute p (w, st, c, 0, fa, ov, ca, rg, sv, m, sB, sL, sA) (nI n) := by
  unfold wpX_execute
  exact nm_r (pd_e12 hn) (pk_eq (n / 4096) 7 (fun z => (by omega : False).elim) (fun _ => pk_eq (n / 4096) 15 (fun z => (by omega : False).elim) (fun _ => pk_eq (n / 4096) 0 (fun z => h) (fun _ => pk_eq (n / 4096) 8 (fun z => h) (fun _ => (by omega : False).elim)))))
theorem pd_X_e1 {p : Int32 → SX → Prop} {n : Nat} (hn : n < 65536) (h0 : n / 4096 = 0 ∨ n / 4096 = 8) (hC : pd_hC n) (h : wpX_singleOperand p (w, st, c, 0, fa, ov, ca, rg, sv, m, sB, sL, sA) (nI n)) : wpX_execute p (w, st, c, 0, fa, ov, ca, rg, sv, m, sB, sL, sA) (nI n) := by
  refine pd_X_e35 hn h0 ?_
  unfold pd_hC at hC
  unfold wX_execute_35
  rw [pd_e97 hn]
  exact pk_eq (n / 512 % 8) 5 (fun _ => h) (fun _ => (by omega : False).elim)
theorem pd_X_eb {p : Int32 → SX → Prop} {n : Nat} (hn : n < 65536) (h0 : n / 4096 = 0 ∨ n / 4096 = 8) (hD : pd_hD n) (h : wpX_branch p (w, st, c, 0, fa, ov, ca, rg, sv, m, sB, sL, sA) (nI n)) : wpX_execute p (w, st, c, 0, fa, ov, ca, rg, sv, m, sB, sL, sA) (nI n) := by
  refine pd_X_e35 hn h0 ?_
  unfold pd_hD at hD
  have K : wX_execute_82 p (nI n) w st c 0 fa ov ca rg sv m sB sL sA := h
  have K68 : 128 ≤ n / 256 → wX_execute_68 p (nI n) (nI (n / 256)) w st c 0 fa ov ca rg sv m sB sL sA := by
    intro h128
    unfold wX_execute_68
    exact pk_lt (n / 256) 128 (fun _ => (by omega : False).elim) (fun _ => pk_lt 135 (n / 256) (fun _ => (by omega : False).elim) (fun _ => K))
  unfold wX_execute_35
  rw [pd_e97 hn]
  exact pk_eq (n / 512 % 8) 5 (fun _ => (by omega : False).elim) (fun _ => nm_r (pd_e8 hn) (pk_lt (n / 256) 1 (fun _ => (by omega : False).elim) (fun _ => pk_le (n / 256) 7 (fun _ => K) (fun _ => K68 (by omega)))))
theorem pd_X_e88 {p : Int32 → SX → Prop} {n : Nat} (hn : n < 65536) (h0 : n / 4096 = 0 ∨ n / 4096 = 8) (hC : ¬ pd_hC n) (hD : ¬ pd_hD n) (h : wX_execute_88 p (nI n) (nI (n / 256)) w st c 0 fa ov ca rg sv m sB sL sA) : wpX_execute p (w, st, c, 0, fa, ov, ca, rg, sv, m, sB, sL, sA) (nI n) := by
  refine pd_X_e35 hn h0 ?_
  unfold pd_hC at hC
  unfold pd_hD at hD
  have K68 : wX_execute_68 p (nI n) (nI (n / 256)) w st c 0 fa ov ca rg sv m sB sL sA := by
    unfold wX_execute_68
    exact pk_lt (n / 256) 128 (fun _ => h) (fun _ => pk_lt 135 (n / 256) (fun _ => h) (fun _ => (by omega : False).elim))
  unfold wX_execute_35
  rw [pd_e97 hn]
  exact pk_eq (n / 512 % 8) 5 (fun _ => (by omega : False).elim) (fun _ => nm_r (pd_e8 hn) (pk_lt (n / 256) 1 (fun _ => K68) (fun _ => pk_le (n / 256) 7 (fun _ => (by omega : False).elim) (fun _ => K68))))
theorem pd_X_et {p : Int32 → SX → Prop} {n : Nat} (hn : n < 65536) (h137 : n / 256 = 137) (h : wpX_trap p (w, st, c, 0, fa, ov, ca, rg, sv, m, sB, sL, sA)) : wpX_execute p (w, st, c, 0, fa, ov, ca, rg, sv, m, sB, sL, sA) (nI n) := by
  refine pd_X_e88 hn (by omega) (by unfold pd_hC; omega) (by unfold pd_hD; omega) ?_
  unfold wX_execute_88
  exact pk_eq (n / 256) 137 (fun _ => h) (fun z => absurd h137 z)
theorem pd_X_ec {p : Int32 → SX → Prop} {n : Nat} (hn : n < 65536) (h0 : n / 4096 = 0 ∨ n / 4096 = 8) (hC : ¬ pd_hC n) (hD : ¬ pd_hD n) (h137 : ¬ n / 256 = 137) (h : wpX_control p (w, st, c, 0, fa, ov, ca, rg, sv, m, sB, sL, sA) (nI n)) : wpX_execute p (w, st, c, 0, fa, ov, ca, rg, sv, m, sB, sL, sA) (nI n) := by
  refine pd_X_e88 hn h0 hC hD ?_
  unfold wX_execute_88
  exact pk_eq (n / 256) 137 (fun z => absurd z h137) (fun _ => h)
/-! Y's ways -/
theorem pd_Y_e2 {p : Int32 → SY → Prop} {n : Nat} (hn : n < 65536) (hA : pd_hA n) (h : wY_execute_76 p (nI n) w st c 0 wh rg sv y sB sL sA) : wpY_execute p (w, st, c, 0, wh, rg, sv, y, sB, sL, sA) (nI n) := by
  unfold pd_hA at hA
  have K64 : 7 ≤ n / 4096 → wY_execute_64 p (nI n) (st >>> ((15 : Int32) &&& 31)) (nI (n / 4096)) (nI (n / 256)) (nI (n / 64)) (nI n &&& 63) (pd_x (st >>> ((15 : Int32) &&& 31)) 6) w st c 0 wh rg sv y sB sL sA := by
    intro h7
    unfold wY_execute_64
    exact pk_lt (n / 4096) 9 (fun _ => (by omega : False).elim) (fun _ => pk_lt 14 (n / 4096) (fun _ => (by omega : False).elim) (fun _ => h))
  unfold wpY_execute
  refine nm_e (nm_r (pd_e12 hn) (nm_r (pd_e8 hn) (nm_r (pd_e6 hn) (nm_e (pd_Y_ce ?_)))))
  exact pk_eq n 0 (fun _ => (by omega : False).elim) (fun _ => pk_lt (n / 4096) 1 (fun _ => (by omega : False).elim) (fun _ => pk_le (n / 4096) 6 (fun _ => h) (fun _ => K64 (by omega))))
theorem pd_Y_e84 {p : Int32 → SY → Prop} {n : Nat} (hn : n < 65536) (h0 : ¬ n = 0) (hA : ¬ pd_hA n) (h : wY_execute_84 p (nI n) (st >>> ((15 : Int32) &&& 31)) (nI (n / 256)) (nI (n / 64)) (nI n &&& 63) (pd_x (st >>> ((15 : Int32) &&& 31)) 6) w st c 0 wh rg sv y sB sL sA) : wpY_execute p (w, st, c, 0, wh, rg, sv, y, sB, sL, sA) (nI n) := by
  unfold pd_hA at hA
  have K64 : wY_execute_64 p (nI n) (st >>> ((15 : Int32) &&& 31)) (nI (n / 4096)) (nI (n / 256)) (nI (n / 64)) (nI n &&& 63) (pd_x (st >>> ((15 : Int32) &&& 31)) 6) w st c 0 wh rg sv y sB sL sA := by
    unfold wY_execute_64
    exact pk_lt (n / 4096) 9 (fun _ => h) (fun _ => pk_lt 14 (n / 4096) (fun _ => h) (fun _ => (by omega : False).elim))
  unfold wpY_execute
  refine nm_e (nm_r (pd_e12 hn) (nm_r (pd_e8 hn) (nm_r (pd_e6 hn) (nm_e (pd_Y_ce ?_)))))
  exact pk_eq n 0 (fun z => absurd z h0) (fun _ => pk_lt (n / 4096) 1 (fun _ => K64) (fun _ => pk_le (n / 4096) 6 (fun _ => (by omega : False).elim) (fun _ => K64)))
theorem pd_Y_e1 {p : Int32 → SY → Prop} {n : Nat} (hn : n < 65536) (hC : pd_hC n) (h : wY_execute_114 p (nI n) w st c 0 wh rg sv y sB sL sA) : wpY_execute p (w, st, c, 0, wh, rg, sv, y, sB, sL, sA) (nI n) := by
  unfold pd_hC at hC
  refine pd_Y_e84 hn (by omega) (by unfold pd_hA; omega) ?_
  have K98 : 48 ≤ n / 64 → wY_execute_98 p (nI n) (st >>> ((15 : Int32) &&& 31)) (nI (n / 256)) (nI (n / 64)) (nI n &&& 63) (pd_x (st >>> ((15 : Int32) &&& 31)) 6) w st c 0 wh rg sv y sB sL sA := by
    intro h48
    unfold wY_execute_98
    exact pk_lt (n / 64) 552 (fun _ => (by omega : False).elim) (fun _ => pk_lt 559 (n / 64) (fun _ => (by omega : False).elim) (fun _ => h))
  unfold wY_execute_84
  exact pk_lt (n / 64) 40 (fun _ => (by omega : False).elim) (fun _ => pk_le (n / 64) 47 (fun _ => h) (fun _ => K98 (by omega)))
theorem pd_Y_e122 {p : Int32 → SY → Prop} {n : Nat} (hn : n < 65536) (h0 : ¬ n = 0) (hA : ¬ pd_hA n) (hC : ¬ pd_hC n) (h : wY_execute_122 p (nI n) (st >>> ((15 : Int32) &&& 31)) (nI (n / 256)) (nI (n / 64)) (nI n &&& 63) (pd_x (st >>> ((15 : Int32) &&& 31)) 6) w st c 0 wh rg sv y sB sL sA) : wpY_execute p (w, st, c, 0, wh, rg, sv, y, sB, sL, sA) (nI n) := by
  unfold pd_hC at hC
  refine pd_Y_e84 hn h0 hA ?_
  have K98 : wY_execute_98 p (nI n) (st >>> ((15 : Int32) &&& 31)) (nI (n / 256)) (nI (n / 64)) (nI n &&& 63) (pd_x (st >>> ((15 : Int32) &&& 31)) 6) w st c 0 wh rg sv y sB sL sA := by
    unfold wY_execute_98
    exact pk_lt (n / 64) 552 (fun _ => h) (fun _ => pk_lt 559 (n / 64) (fun _ => h) (fun _ => (by omega : False).elim))
  unfold wY_execute_84
  exact pk_lt (n / 64) 40 (fun _ => K98) (fun _ => pk_le (n / 64) 47 (fun _ => (by omega : False).elim) (fun _ => K98))
theorem pd_Y_eb {p : Int32 → SY → Prop} {n : Nat} (hn : n < 65536) (hA : ¬ pd_hA n) (hC : ¬ pd_hC n) (hD : pd_hD n) (h : wY_execute_151 p (nI n) w st c 0 wh rg sv y sB sL sA) : wpY_execute p (w, st, c, 0, wh, rg, sv, y, sB, sL, sA) (nI n) := by
  unfold pd_hD at hD
  refine pd_Y_e122 hn (by omega) hA hC ?_
  have K135 : 8 ≤ n / 256 → wY_execute_135 p (nI n) (st >>> ((15 : Int32) &&& 31)) (nI (n / 256)) (nI (n / 64)) (nI n &&& 63) (pd_x (st >>> ((15 : Int32) &&& 31)) 6) w st c 0 wh rg sv y sB sL sA := by
    intro h8
    unfold wY_execute_135
    exact pk_lt (n / 256) 128 (fun _ => (by omega : False).elim) (fun _ => pk_lt 135 (n / 256) (fun _ => (by omega : False).elim) (fun _ => h))
  unfold wY_execute_122
  exact pk_lt (n / 256) 1 (fun _ => (by omega : False).elim) (fun _ => pk_le (n / 256) 7 (fun _ => h) (fun _ => K135 (by omega)))
theorem pd_Y_e159 {p : Int32 → SY → Prop} {n : Nat} (hn : n < 65536) (h0 : ¬ n = 0) (hA : ¬ pd_hA n) (hC : ¬ pd_hC n) (hD : ¬ pd_hD n) (h : wY_execute_159 p (nI n) (st >>> ((15 : Int32) &&& 31)) (nI (n / 256)) (nI (n / 64)) (nI n &&& 63) (pd_x (st >>> ((15 : Int32) &&& 31)) 6) w st c 0 wh rg sv y sB sL sA) : wpY_execute p (w, st, c, 0, wh, rg, sv, y, sB, sL, sA) (nI n) := by
  unfold pd_hD at hD
  refine pd_Y_e122 hn h0 hA hC ?_
  have K135 : wY_execute_135 p (nI n) (st >>> ((15 : Int32) &&& 31)) (nI (n / 256)) (nI (n / 64)) (nI n &&& 63) (pd_x (st >>> ((15 : Int32) &&& 31)) 6) w st c 0 wh rg sv y sB sL sA := by
    unfold wY_execute_135
    exact pk_lt (n / 256) 128 (fun _ => h) (fun _ => pk_lt 135 (n / 256) (fun _ => h) (fun _ => (by omega : False).elim))
  unfold wY_execute_122
  exact pk_lt (n / 256) 1 (fun _ => K135) (fun _ => pk_le (n / 256) 7 (fun _ => (by omega : False).elim) (fun _ => K135))
theorem pd_Y_e303 {p : Int32 → SY → Prop} {n : Nat} (hn : n < 65536) (h0 : ¬ n = 0) (hA : ¬ pd_hA n) (hC : ¬ pd_hC n) (hD : ¬ pd_hD n) (h137 : ¬ n / 256 = 137) (h53 : ¬ n / 64 = 53) (h54 : ¬ n / 64 = 54) (h2 : ¬ n = 2) (h1 : n / 64 = 1 → n % 64 < 8)
    (h : wY_execute_303 p (nI n) (nI (n / 64)) (nI n &&& 63) (pd_x (st >>> ((15 : Int32) &&& 31)) 6) w st c 0 wh rg sv y sB sL sA) : wpY_execute p (w, st, c, 0, wh, rg, sv, y, sB, sL, sA) (nI n) := by
  refine pd_Y_e159 hn h0 hA hC hD ?_
  unfold wY_execute_159
  refine pk_eq (n / 64) 53 (fun z => absurd z h53) (fun _ => pk_eq (n / 64) 54 (fun z => absurd z h54) (fun _ => pk_eq (n / 256) 137 (fun z => absurd z h137) (fun _ => pk_eq n 2 (fun z => absurd z h2) (fun _ => pk_eq (n / 64) 1 (fun z => ?_) (fun _ => h)))))
  have e63 : nI n &&& 63 = nI (n % 64) := pk_andN (by omega) 6 (by decide)
  refine br_t ?_ h
  rw [e63]
  exact nI_le (b := 7) (by have := h1 z; omega) (by decide)
end
end
section
section
variable {w st c fa wh ov ca re ad : Int32} {rg sv m y sB sL sA : Nat → Int32}
theorem pd_x_EE {PX PX' : (Int32 → SX → Prop) → Prop} {PY : (SY → Prop) → Prop} {PY' : (Int32 → SY → Prop) → Prop} (h : pd_E w st c fa wh sv m sB sL sA PX PY) (hX : ∀ p, PX p → PX' p) (hY : ∀ p : Int32 → SY → Prop, PY (p 0) → PY' p) : pd_EE w st c fa wh sv m sB sL sA PX' PY' := by
  rcases h with ⟨st', ov', ca', rg', m', hS, hR', hm', hX1, hY1⟩ | ⟨re, ad, ov', ca', rg', hr, hR', hX1, hY1⟩
  · exact Or.inl ⟨0, st', ov', ca', rg', m', Or.inl rfl, hS, hR', hm', fun p hp => hX p (hX1 p hp), fun p hp => hY p (hY1 _ hp)⟩
  · exact Or.inr ⟨re, ad, ov', ca', rg', hr, hR', fun p hp => hX p (hX1 p hp), fun p hp => hY p (hY1 _ (fun st' => hp 0 st'))⟩
theorem pd_x_map {PX PX' : (Int32 → SX → Prop) → Prop} {PY PY' : (Int32 → SY → Prop) → Prop} (h : pd_EE w st c fa wh sv m sB sL sA PX PY) (hX : ∀ p, PX p → PX' p) (hY : ∀ p, PY p → PY' p) : pd_EE w st c fa wh sv m sB sL sA PX' PY' := by
  rcases h with ⟨r, st', ov', ca', rg', m', h3, hS, hR', hm', hX1, hY1⟩ | ⟨re, ad, ov', ca', rg', hr, hR', hX1, hY1⟩
  · exact Or.inl ⟨r, st', ov', ca', rg', m', h3, hS, hR', hm', fun p hp => hX p (hX1 p hp), fun p hp => hY p (hY1 p hp)⟩
  · exact Or.inr ⟨re, ad, ov', ca', rg', hr, hR', fun p hp => hX p (hX1 p hp), fun p hp => hY p (hY1 p hp)⟩
theorem pd_x_ill {PX' : (Int32 → SX → Prop) → Prop} {PY' : (Int32 → SY → Prop) → Prop} (r : Int32) (h3 : r = 0 ∨ r = 1 ∨ r = 2) (hst : pd_S st) (hR : pd_R rg) (hm : pd_R m) (hX : ∀ p : Int32 → SX → Prop, p r (w, st, c, 0, fa, ov, ca, rg, sv, m, sB, sL, sA) → PX' p) (hY : ∀ p : Int32 → SY → Prop, p r (w, st, c, 0, wh, rg, sv, pd_y m, sB, sL, sA) → PY' p) : pd_EE w st c fa wh sv m sB sL sA PX' PY' :=
  Or.inl ⟨r, st, ov, ca, rg, m, h3, hst, hR, hm, hX, hY⟩
theorem pd_Y_ill {p : Int32 → SY → Prop} {n : Nat} {x5 x7 : Int32} (hn : n < 65536) (h16 : ¬ n / 8 = 16) (h4 : n / 512 = 4 → n % 64 < 8) (h : p 2 (w, st, c, 0, wh, rg, sv, y, sB, sL, sA)) : wY_execute_303 p (nI n) x5 (nI n &&& 63) x7 w st c 0 wh rg sv y sB sL sA := by
  unfold wY_execute_303
  rw [pd_e3 hn, pd_e9 hn]
  refine pk_eq (n / 8) 16 (fun z => absurd z h16) (fun _ => pk_eq (n / 512) 4 (fun z => br_t ?_ h) (fun _ => h))
  rw [show nI n &&& 63 = nI (n % 64) from pk_andN (by omega) 6 (by decide)]
  exact nI_le (b := 7) (by have := h4 z; omega) (by decide)
/-- X's control down to its last two tests -/
theorem pd_X_c95 {p : Int32 → SX → Prop} {n : Nat} (hn : n < 65536) (h0 : ¬ n = 0) (h2 : ¬ n = 2) (h16 : ¬ n / 8 = 16) (h53 : ¬ n / 64 = 53) (h54 : ¬ n / 64 = 54)
    (h : ∀ z, ((nI n &&& 63) >>> ((3 : Int32) &&& 31) = 0 ∧ z = 1) ∨ (¬ (nI n &&& 63) >>> ((3 : Int32) &&& 31) = 0 ∧ z = 0) → wX_control_95 p (nI n) z w st c 0 fa ov ca rg sv m sB sL sA) : wpX_control p (w, st, c, 0, fa, ov, ca, rg, sv, m, sB, sL, sA) (nI n) := by
  unfold wpX_control
  dsimp only
  rw [pd_e3 hn, pd_e6 hn]
  exact pk_eq n 0 (fun z => absurd z h0) (fun _ => pk_eq n 2 (fun z => absurd z h2) (fun _ => pk_eq (n / 8) 16 (fun z => absurd z h16) (fun _ => pk_eq (n / 64) 53 (fun z => absurd z h53) (fun _ => pk_eq (n / 64) 54 (fun z => absurd z h54) (fun _ => br_c (fun z => h 1 (Or.inl ⟨(pd_563 _).mp z, rfl⟩)) (fun z => h 0 (Or.inr ⟨fun y => z ((pd_563 _).mpr y), rfl⟩)))))))
theorem pd_X_ill {p : Int32 → SX → Prop} {n : Nat} (hn : n < 65536) (h0 : ¬ n = 0) (h2 : ¬ n = 2) (h16 : ¬ n / 8 = 16) (h53 : ¬ n / 64 = 53) (h54 : ¬ n / 64 = 54) (h1 : n / 64 = 1 → n % 64 < 8) (h4 : n / 512 = 4 → n % 64 < 8)
    (h : p 2 (w, st, c, 0, fa, ov, ca, rg, sv, m, sB, sL, sA)) : wpX_control p (w, st, c, 0, fa, ov, ca, rg, sv, m, sB, sL, sA) (nI n) := by
  refine pd_X_c95 hn h0 h2 h16 h53 h54 (fun z hz => ?_)
  have e63 : (nI n &&& 63) >>> ((3 : Int32) &&& 31) = nI (n % 64 / 8) := by
    rw [show nI n &&& 63 = nI (n % 64) from pk_andN (by omega) 6 (by decide)]
    exact pk_shrN (by omega) _ 3 (by decide)
  rw [e63, pd_nI0 (by omega)] at hz
  have K : wX_control_117 p (nI n) z w st c 0 fa ov ca rg sv m sB sL sA := by
    unfold wX_control_117
    rw [pd_e9 hn]
    refine pk_eq (n / 512) 4 (fun y => ?_) (fun _ => h)
    rcases hz with ⟨_, rfl⟩ | ⟨y2, _⟩
    · exact br_f (by decide) h
    · exact absurd (by have := h4 y; omega) y2
  unfold wX_control_95
  rw [pd_e6 hn]
  refine pk_eq (n / 64) 1 (fun y => ?_) (fun _ => K)
  rcases hz with ⟨_, rfl⟩ | ⟨y2, _⟩
  · exact br_f (by decide) K
  · exact absurd (by have := h1 y; omega) y2
theorem pd_x_ex {n : Nat} (G : pd_G sB sL) (hst : pd_S st) (hR : pd_R rg) (hm : pd_R m) (hn : n < 65536) :
    pd_EE w st c fa wh sv m sB sL sA (fun p => wpX_execute p (w, st, c, 0, fa, ov, ca, rg, sv, m, sB, sL, sA) (nI n)) (fun p => wpY_execute p (w, st, c, 0, wh, rg, sv, pd_y m, sB, sL, sA) (nI n)) := by
  by_cases hA : pd_hA n
  · refine pd_x_EE (pd_l_two (ov := ov) (ca := ca) (op := nI n) G hst hR hm ?_) (fun p hp => pd_X_e2 hn hA hp) (fun p hp => pd_Y_e2 hn hA hp)
    rw [pd_e12 hn]
    unfold pd_hA at hA
    have h12 : n / 4096 = 1 ∨ n / 4096 = 2 ∨ n / 4096 = 3 ∨ n / 4096 = 4 ∨ n / 4096 = 5 ∨ n / 4096 = 6 ∨ n / 4096 = 9 ∨ n / 4096 = 10 ∨ n / 4096 = 11 ∨ n / 4096 = 12 ∨ n / 4096 = 13 ∨ n / 4096 = 14 := by omega
    rcases h12 with h | h | h | h | h | h | h | h | h | h | h | h <;> rw [h] <;> decide
  by_cases h7 : n / 4096 = 7 ∨ n / 4096 = 15
  · refine pd_x_ill (ov := ov) (ca := ca) 2 (Or.inr (Or.inr rfl)) hst hR hm (fun p hp => pd_X_e7 hn h7 hp) (fun p hp => ?_)
    refine pd_Y_e303 hn (by omega) hA (by unfold pd_hC; omega) (by unfold pd_hD; omega) (by omega) (by omega) (by omega) (by omega) (by omega) ?_
    exact pd_Y_ill hn (by omega) (by omega) hp
  have h0 : n / 4096 = 0 ∨ n / 4096 = 8 := by
    unfold pd_hA at hA
    omega
  by_cases hC : pd_hC n
  · exact pd_x_EE (pd_l_one (ov := ov) (ca := ca) (op := nI n) G hst hR hm ⟨n, hn, rfl⟩) (fun p hp => pd_X_e1 hn h0 hC hp) (fun p hp => pd_Y_e1 hn hC hp)
  by_cases hD : pd_hD n
  · refine pd_x_EE (pd_l_br (ov := ov) (ca := ca) hn hst hR hm ?_) (fun p hp => pd_X_eb hn h0 hD hp) (fun p hp => pd_Y_eb hn hA hC hD hp)
    unfold pd_hD at hD
    omega
  by_cases h137 : n / 256 = 137
  · refine pd_x_EE (pd_l_tr (ov := ov) (ca := ca) G hst hR hm) (fun p hp => pd_X_et hn h137 hp) (fun p hp => pd_Y_e159 hn (by omega) hA hC hD ?_)
    unfold wY_execute_159
    exact pk_eq (n / 64) 53 (fun z => (by omega : False).elim) (fun _ => pk_eq (n / 64) 54 (fun z => (by omega : False).elim) (fun _ => pk_eq (n / 256) 137 (fun _ => hp) (fun z => absurd h137 z)))
  by_cases hz : n = 0
  · subst hz
    by_cases hu : st >>> ((15 : Int32) &&& 31) = 0
    · refine pd_x_ill (ov := ov) (ca := ca) 1 (Or.inr (Or.inl rfl)) hst hR hm (fun p hp => pd_X_ec hn h0 hC hD h137 ?_) (fun p hp => ?_)
      · unfold wpX_control
        exact br_t rfl (br_t hu hp)
      · unfold wpY_execute
        exact nm_e (nm_e (nm_e (nm_e (nm_e (pd_Y_ce (br_t rfl (br_t hu hp)))))))
    · refine pd_x_ill (ov := ov) (ca := ca) 2 (Or.inr (Or.inr rfl)) hst hR hm (fun p hp => pd_X_ec hn h0 hC hD h137 ?_) (fun p hp => ?_)
      · unfold wpX_control
        exact br_t rfl (br_f hu hp)
      · unfold wpY_execute
        exact nm_e (nm_e (nm_e (nm_e (nm_e (pd_Y_ce (br_t rfl (br_f hu hp)))))))
  by_cases h2 : n = 2
  · subst h2
    refine pd_x_map (pd_x_rti (ov := ov) (ca := ca) (x4 := nI (2 / 256)) (x5 := nI (2 / 64)) (x6 := nI 2 &&& 63) G hst hR hm (by decide) (by decide) (by decide)) (fun p hp => pd_X_ec hn h0 hC hD h137 ?_) (fun p hp => pd_Y_e159 hn hz hA hC hD hp)
    unfold wpX_control
    exact br_f (by decide) (br_t rfl hp)
  by_cases h16 : n / 8 = 16
  · have e16 : nI n >>> ((3 : Int32) &&& 31) = 16 := by
      rw [pd_e3 hn, h16]
      rfl
    refine pd_x_map (pd_x_rts (ov := ov) (ca := ca) (op := nI n) (x5 := nI (n / 64)) (x6 := nI n &&& 63) G hst hR hm e16) (fun p hp => pd_X_ec hn h0 hC hD h137 ?_) (fun p hp => pd_Y_e303 hn hz hA hC hD h137 (by omega) (by omega) h2 (by omega) hp)
    unfold wpX_control
    exact pk_eq n 0 (fun z => absurd z hz) (fun _ => pk_eq n 2 (fun z => absurd z h2) (fun _ => br_t e16 hp))
  by_cases h53 : n / 64 = 53
  · refine pd_x_EE (pd_l_mf (ov := ov) (ca := ca) (f := nI n &&& 63) G hst hR hm (pd_a63 _)) (fun p hp => pd_X_ec hn h0 hC hD h137 ?_) (fun p hp => pd_Y_e159 hn hz hA hC hD ?_)
    · unfold wpX_control
      dsimp only
      rw [pd_e3 hn, pd_e6 hn]
      exact pk_eq n 0 (fun z => absurd z hz) (fun _ => pk_eq n 2 (fun z => absurd z h2) (fun _ => pk_eq (n / 8) 16 (fun z => absurd z h16) (fun _ => pk_eq (n / 64) 53 (fun _ => hp) (fun z => absurd h53 z))))
    · unfold wY_execute_159
      exact pk_eq (n / 64) 53 (fun _ => pk_eq (n / 64) 53 (fun _ => hp) (fun z => absurd h53 z)) (fun z => absurd h53 z)
  by_cases h54 : n / 64 = 54
  · refine pd_x_EE (pd_l_mt (ov := ov) (ca := ca) (f := nI n &&& 63) G hst hR hm (pd_a63 _)) (fun p hp => pd_X_ec hn h0 hC hD h137 ?_) (fun p hp => pd_Y_e159 hn hz hA hC hD ?_)
    · unfold wpX_control
      dsimp only
      rw [pd_e3 hn, pd_e6 hn]
      exact pk_eq n 0 (fun z => absurd z hz) (fun _ => pk_eq n 2 (fun z => absurd z h2) (fun _ => pk_eq (n / 8) 16 (fun z => absurd z h16) (fun _ => pk_eq (n / 64) 53 (fun z => absurd z h53) (fun _ => pk_eq (n / 64) 54 (fun _ => hp) (fun z => absurd h54 z)))))
    · unfold wY_execute_159
      exact pk_eq (n / 64) 53 (fun z => absurd z h53) (fun _ => pk_eq (n / 64) 54 (fun _ => pk_eq (n / 64) 53 (fun z => absurd z h53) (fun _ => hp)) (fun z => absurd h54 z))
  have e63 : (nI n &&& 63) >>> ((3 : Int32) &&& 31) = nI (n % 64 / 8) := by
    rw [show nI n &&& 63 = nI (n % 64) from pk_andN (by omega) 6 (by decide)]
    exact pk_shrN (by omega) _ 3 (by decide)
  by_cases h1 : n / 64 = 1 ∧ 8 ≤ n % 64
  · have hf0 : ¬ (nI n &&& 63) >>> ((3 : Int32) &&& 31) = 0 := by
      rw [e63, pd_nI0 (by omega)]
      omega
    refine pd_x_map (pd_x_jmp (ov := ov) (ca := ca) (x1 := nI n) (x2 := st >>> ((15 : Int32) &&& 31)) (x4 := nI (n / 256)) (f := nI n &&& 63) (x7 := pd_x (st >>> ((15 : Int32) &&& 31)) 6) G hst hR hm (pd_a63 _) hf0 (fun z => h137 ((nI_eq (b := 137) (by omega) (by decide)).mp z)) (fun z => h2 ((nI_eq (b := 2) (by omega) (by decide)).mp z))) (fun p hp => pd_X_ec hn h0 hC hD h137 ?_) (fun p hp => pd_Y_e159 hn hz hA hC hD ?_)
    · refine pd_X_c95 hn hz h2 h16 h53 h54 (fun z hzz => ?_)
      rcases hzz with ⟨y, _⟩ | ⟨_, rfl⟩
      · exact absurd y hf0
      · unfold wX_control_95
        rw [pd_e6 hn]
        exact pk_eq (n / 64) 1 (fun _ => br_t rfl hp) (fun z => absurd h1.1 z)
    · rw [h1.1]
      exact hp
  by_cases h4 : n / 512 = 4 ∧ 8 ≤ n % 64
  · have hf0 : ¬ (nI n &&& 63) >>> ((3 : Int32) &&& 31) = 0 := by
      rw [e63, pd_nI0 (by omega)]
      omega
    have e16 : ¬ nI n >>> ((3 : Int32) &&& 31) = 16 := by
      rw [pd_e3 hn]
      exact fun z => h16 ((nI_eq (b := 16) (by omega) (by decide)).mp z)
    have e4 : nI n >>> ((9 : Int32) &&& 31) = 4 := by
      rw [pd_e9 hn, h4.1]
      rfl
    refine pd_x_map (pd_x_jsr (ov := ov) (ca := ca) (op := nI n) (x7 := pd_x (st >>> ((15 : Int32) &&& 31)) 6) G hst hR hm e16 e4 hf0) (fun p hp => pd_X_ec hn h0 hC hD h137 ?_) (fun p hp => pd_Y_e303 hn hz hA hC hD h137 h53 h54 h2 (by omega) ?_)
    · refine pd_X_c95 hn hz h2 h16 h53 h54 (fun z hzz => ?_)
      rcases hzz with ⟨y, _⟩ | ⟨_, rfl⟩
      · exact absurd y hf0
      · unfold wX_control_95
        rw [pd_e6 hn]
        exact pk_eq (n / 64) 1 (fun z => (by omega : False).elim) (fun _ => br_t e4 (br_t rfl hp))
    · rw [← pd_e6 hn]
      exact hp
  · refine pd_x_ill (ov := ov) (ca := ca) 2 (Or.inr (Or.inr rfl)) hst hR hm (fun p hp => pd_X_ec hn h0 hC hD h137 ?_) (fun p hp => pd_Y_e303 hn hz hA hC hD h137 h53 h54 h2 (by omega) ?_)
    · exact pd_X_ill hn hz h2 h16 h53 h54 (by omega) (by omega) hp
    · exact pd_Y_ill hn h16 (by omega) hp
end
end
section
def pd_cp (rg sv : Nat → Int32) : Nat → Nat → Int32
  | 0 => sv
  | j + 1 => upd (pd_cp rg sv j) j (rg j)
theorem pd_cp_R {rg sv : Nat → Int32} (hR : pd_R rg) (hV : pd_R sv) : ∀ j, pd_R (pd_cp rg sv j) := by
  intro j
  induction j with
  | zero => exact hV
  | succ j ih => exact pd_R_upd ih (hR j)
section
variable {w st c fa wh ov ca re ad : Int32} {rg sv m y sB sL sA : Nat → Int32}
theorem pd_X_s2 {p : Int32 → SX → Prop} (H : wX_step_2 p w st c re fa ov ca 1 9 rg (pd_cp rg sv 9) m sB sL sA) : ∀ d j : Nat, j + d = 9 → wX_step_2 p w st c re fa ov ca (d + 1) (nI j) rg (pd_cp rg sv j) m sB sL sA := by
  intro d
  induction d with
  | zero =>
    intro j hj
    have e : j = 9 := by omega
    subst e
    exact H
  | succ d ih =>
    intro j hj
    have hi : vp_in (nI j) 9 := vp_in_nI (by omega) (by decide)
    have e : upd (pd_cp rg sv j) (nI j).toNatClampNeg (rg (nI j).toNatClampNeg) = pd_cp rg sv (j + 1) := by
      rw [nI_clamp (by omega)]
      rfl
    exact br_f (nI_ge (b := 9) (by omega) (by decide)) (And.intro hi (And.intro hi (nm_r e (nm_r (nI_1 j) (ih (j + 1) (by omega))))))
theorem pd_Y_s2 {p : Int32 → SY → Prop} (H : wY_step_2 p w st c re wh 1 9 rg (pd_cp rg sv 9) y sB sL sA) : ∀ d j : Nat, j + d = 9 → wY_step_2 p w st c re wh (d + 1) (nI j) rg (pd_cp rg sv j) y sB sL sA := by
  intro d
  induction d with
  | zero =>
    intro j hj
    have e : j = 9 := by omega
    subst e
    exact H
  | succ d ih =>
    intro j hj
    have hi : vp_in (nI j) 9 := vp_in_nI (by omega) (by decide)
    have e : upd (pd_cp rg sv j) (nI j).toNatClampNeg (rg (nI j).toNatClampNeg) = pd_cp rg sv (j + 1) := by
      rw [nI_clamp (by omega)]
      rfl
    exact br_f (nI_ge (b := 9) (by omega) (by decide)) (And.intro hi (And.intro hi (nm_r e (nm_r (nI_1 j) (ih (j + 1) (by omega))))))
theorem pd_X_rb {p : Int32 → SX → Prop} (H : wX_rollback_11 p w st c re fa ov ca 1 9 (pd_cp sv rg 9) sv m sB sL sA) : ∀ d j : Nat, j + d = 9 → wX_rollback_11 p w st c re fa ov ca (d + 1) (nI j) (pd_cp sv rg j) sv m sB sL sA := by
  intro d
  induction d with
  | zero =>
    intro j hj
    have e : j = 9 := by omega
    subst e
    exact H
  | succ d ih =>
    intro j hj
    have hi : vp_in (nI j) 9 := vp_in_nI (by omega) (by decide)
    have e : upd (pd_cp sv rg j) (nI j).toNatClampNeg (sv (nI j).toNatClampNeg) = pd_cp sv rg (j + 1) := by
      rw [nI_clamp (by omega)]
      rfl
    exact br_f (nI_ge (b := 9) (by omega) (by decide)) (And.intro hi (And.intro hi (nm_r e (nm_r (nI_1 j) (ih (j + 1) (by omega))))))
theorem pd_Y_rb {p : Int32 → SY → Prop} (H : wY_rollback_11 p w st c re wh 1 9 (pd_cp sv rg 9) sv y sB sL sA) : ∀ d j : Nat, j + d = 9 → wY_rollback_11 p w st c re wh (d + 1) (nI j) (pd_cp sv rg j) sv y sB sL sA := by
  intro d
  induction d with
  | zero =>
    intro j hj
    have e : j = 9 := by omega
    subst e
    exact H
  | succ d ih =>
    intro j hj
    have hi : vp_in (nI j) 9 := vp_in_nI (by omega) (by decide)
    have e : upd (pd_cp sv rg j) (nI j).toNatClampNeg (sv (nI j).toNatClampNeg) = pd_cp sv rg (j + 1) := by
      rw [nI_clamp (by omega)]
      rfl
    exact br_f (nI_ge (b := 9) (by omega) (by decide)) (And.intro hi (And.intro hi (nm_r e (nm_r (nI_1 j) (ih (j + 1) (by omega))))))
/-- one outcome of step or run -/
def pd_Z (w : Int32) (sB sL sA : Nat → Int32) (PX : (Int32 → SX → Prop) → Prop) (PY : (Int32 → SY → Prop) → Prop) : Prop :=
  ∃ (r st c re fa wh ov ca : Int32) (rg sv m : Nat → Int32), (r = 0 → re = 0) ∧ pd_S st ∧ pd_R rg ∧ pd_R sv ∧ pd_R m ∧ (¬ re = 0 → wh = fa) ∧
    (∀ p : Int32 → SX → Prop, p r (w, st, c, re, fa, ov, ca, rg, sv, m, sB, sL, sA) → PX p) ∧ (∀ p : Int32 → SY → Prop, p r (w, st, c, re, wh, rg, sv, pd_y m, sB, sL, sA) → PY p)
theorem pd_z_st (G : pd_G sB sL) (hst : pd_S st) (hR : pd_R rg) (hV : pd_R sv) (hm : pd_R m) :
    pd_Z w sB sL sA (fun p => wpX_step p (w, st, c, 0, fa, ov, ca, rg, sv, m, sB, sL, sA)) (fun p => wpY_step p (w, st, c, 0, wh, rg, sv, pd_y m, sB, sL, sA)) := by
  have XS : ∀ p : Int32 → SX → Prop, wX_step_2 p w st c 0 fa ov ca 1 9 rg (pd_cp rg sv 9) m sB sL sA → wpX_step p (w, st, c, 0, fa, ov, ca, rg, sv, m, sB, sL, sA) := fun p hp => Exists.intro 10 (pd_X_s2 hp 9 0 rfl)
  have YS : ∀ p : Int32 → SY → Prop, wY_step_2 p w st c 0 wh 1 9 rg (pd_cp rg sv 9) (pd_y m) sB sL sA → wpY_step p (w, st, c, 0, wh, rg, sv, pd_y m, sB, sL, sA) := fun p hp => Exists.intro 10 (pd_Y_s2 hp 9 0 rfl)
  have hV9 := pd_cp_R hR hV 9
  generalize pd_cp rg sv 9 = sv' at XS YS hV9
  have h9 : (9 : Int32) ≤ 9 := by decide
  rcases pd_l_fe (w := w) (c := c) (fa := fa) (wh := wh) (ov := ov) (ca := ca) (sv := sv') (sA := sA) G hst hR hm with ⟨rX1, rY1, rg1, ⟨hQ1, hb1⟩, hR1, hX1, hY1⟩ | ⟨re, ad, rg1, hr, hR1, hX1, hY1⟩
  case inr =>
    exact ⟨3, st, c, re, ad, ad, ov, ca, rg1, sv', m, fun z => absurd z (by decide), hst, hR1, hV9, hm, fun _ => rfl, fun p hp => XS p (br_t h9 (hX1 _ (br_f (by decide) hp))), fun p hp => YS p (br_t h9 (hY1 _ (fun r => br_f hr (br_f hr hp))))⟩
  cases hQ1
  have hge := pd_w_ge (pd_b_w hb1)
  obtain ⟨n, hn, rfl⟩ := pd_b_w hb1
  rcases pd_x_ex (w := w) (st := st) (c := c) (fa := fa) (wh := wh) (ov := ov) (ca := ca) (sv := sv') (sA := sA) G hst hR1 hm hn with ⟨r, st', ov', ca', rg', m', h3, hS, hR', hm', hX2, hY2⟩ | ⟨re, ad, ov', ca', rg', hr, hR', hX2, hY2⟩
  case inr =>
    exact ⟨3, st, c, re, ad, ad, ov', ca', rg', sv', m, fun z => absurd z (by decide), hst, hR', hV9, hm, fun _ => rfl, fun p hp => XS p (br_t h9 (hX1 _ (br_t hge (hX2 _ (br_f (by decide) (br_t rfl hp)))))), fun p hp => YS p (br_t h9 (hY1 _ (br_t rfl (hY2 _ (fun r st' => br_f hr hp)))))⟩
  by_cases hr0 : r = 0
  · subst hr0
    exact ⟨0, st', c + 1, 0, fa, wh, ov', ca', rg', sv', m', fun _ => rfl, hS, hR', hV9, hm', fun z => absurd rfl z, fun p hp => XS p (br_t h9 (hX1 _ (br_t hge (hX2 _ (br_t rfl (nm_e hp)))))), fun p hp => YS p (br_t h9 (hY1 _ (br_t rfl (hY2 _ (br_t rfl (br_t rfl (nm_e hp)))))))⟩
  · have hr3 : ¬ r = 3 := by
      rcases h3 with rfl | rfl | rfl <;> decide
    exact ⟨r, st', c, 0, fa, wh, ov', ca', upd rg' 7 (sv' 7), sv', m', fun _ => rfl, hS, pd_R_upd hR' (hV9 7), hV9, hm', fun z => absurd rfl z, fun p hp => XS p (br_t h9 (hX1 _ (br_t hge (hX2 _ (br_f hr0 (br_f hr3 (nm_e hp))))))), fun p hp => YS p (br_t h9 (hY1 _ (br_t rfl (hY2 _ (br_t rfl (br_f hr0 (nm_e hp)))))))⟩
theorem pd_z_run {a L : Nat} (ha : a < 2 ^ 31) (hL : (L = a ∧ a ≤ 64) ∨ (L = 64 ∧ 64 < a)) (G : pd_G sB sL) : ∀ (d i : Nat) (st c fa wh ov ca : Int32) (rg sv m : Nat → Int32), i + d = L → pd_S st → pd_R rg → pd_R sv → pd_R m →
    pd_Z w sB sL sA (fun p => wX_run_11 p (nI a) (d + 1) (nI i) w st c 0 fa ov ca rg sv m sB sL sA) (fun p => wY_run_32 p (nI L) (d + 1) (nI i) w st c 0 wh rg sv (pd_y m) sB sL sA) := by
  intro d
  induction d with
  | zero =>
    intro i st c fa wh ov ca rg sv m hi hst hR hV hm
    have hi2 : i = L := by omega
    subst hi2
    refine ⟨0, st, c, 0, fa, wh, ov, ca, rg, sv, m, fun _ => rfl, hst, hR, hV, hm, fun z => absurd rfl z, fun p hp => ?_, fun p hp => br_t (nI_le (Nat.le_refl _) (by omega)) hp⟩
    rcases hL with ⟨rfl, h⟩ | ⟨rfl, h⟩
    · exact br_t (nI_le (Nat.le_refl _) (by omega)) hp
    · exact br_f (nI_ge h ha) (br_t (nI_le (a := 64) (Nat.le_refl _) (by decide)) hp)
  | succ d ih =>
    intro i st c fa wh ov ca rg sv m hi hst hR hV hm
    have h1 : ¬ nI a ≤ nI i := nI_ge (by omega) ha
    have h2 : ¬ (64 : Int32) ≤ nI i := nI_ge (b := 64) (by omega) (by decide)
    have h3 : ¬ nI L ≤ nI i := nI_ge (by omega) (by omega)
    obtain ⟨r, st', c', re, fa', wh', ov', ca', rg', sv', m', hre, hS, hR', hV', hm', hf', hX, hY⟩ := pd_z_st (w := w) (st := st) (c := c) (fa := fa) (wh := wh) (ov := ov) (ca := ca) (sA := sA) G hst hR hV hm
    by_cases hr : r = 0
    · subst hr
      cases hre rfl
      obtain ⟨r2, st2, c2, re2, fa2, wh2, ov2, ca2, rg2, sv2, m2, hre2, hS2, hR2, hV2, hm2, hf2, hX2, hY2⟩ := ih (i + 1) st' c' fa' wh' ov' ca' rg' sv' m' (by omega) hS hR' hV' hm'
      exact ⟨r2, st2, c2, re2, fa2, wh2, ov2, ca2, rg2, sv2, m2, hre2, hS2, hR2, hV2, hm2, hf2, fun p hp => br_f h1 (br_f h2 (hX _ (br_t rfl (nm_r (nI_1 i) (hX2 p hp))))), fun p hp => br_f h3 (hY _ (br_t rfl (nm_r (nI_1 i) (hY2 p hp))))⟩
    · exact ⟨r, st', c', re, fa', wh', ov', ca', rg', sv', m', hre, hS, hR', hV', hm', hf', fun p hp => br_f h1 (br_f h2 (hX _ (br_f hr hp))), fun p hp => br_f h3 (hY _ (br_f hr hp))⟩
end
end
section
/-- the relation: Y's state is the picture of X's; where = failedAt while a fault stands -/
def i_Rel (_ : Nat) (u : SX) (v : SY) : Prop :=
  ∃ (w st c re fa wh ov ca : Int32) (rg sv m sB sL sA : Nat → Int32), u = (w, st, c, re, fa, ov, ca, rg, sv, m, sB, sL, sA) ∧ v = (w, st, c, re, wh, rg, sv, pd_y m, sB, sL, sA) ∧
    (∃ n : Nat, n ≤ 128 ∧ w = nI n) ∧ pd_S st ∧ pd_R rg ∧ pd_R sv ∧ pd_R m ∧ pd_G sB sL ∧ (¬ re = 0 → wh = fa)
theorem i_up {k : Nat} {u : SX} {v : SY} (h : i_Rel k u v) : i_Rel (k + 5) u v := h
theorem pd_mk {k : Nat} {w st c re fa wh ov ca : Int32} {rg sv m sB sL sA : Nat → Int32} (hw : ∃ n : Nat, n ≤ 128 ∧ w = nI n) (hst : pd_S st) (hR : pd_R rg) (hV : pd_R sv) (hm : pd_R m) (G : pd_G sB sL) (hf : ¬ re = 0 → wh = fa) :
    i_Rel k (w, st, c, re, fa, ov, ca, rg, sv, m, sB, sL, sA) (w, st, c, re, wh, rg, sv, pd_y m, sB, sL, sA) := ⟨w, st, c, re, fa, wh, ov, ca, rg, sv, m, sB, sL, sA, rfl, rfl, hw, hst, hR, hV, hm, G, hf⟩
theorem pd_y0 : pd_y (fun _ => 0) = fun _ => 0 := by
  funext j
  show (if j % 2 = 0 then (0 : Int32) &&& 255 else (0 : Int32) >>> ((8 : Int32) &&& 31)) = 0
  split <;> decide
theorem pd_R0 : pd_R (fun _ => 0) := fun _ => ⟨0, by decide, rfl⟩
theorem pd_0 {n : Nat} (hn : n ≤ 128) : i_Rel 1 (nI n, 0, 0, 0, -1, 0, 0, (fun _ => 0), (fun _ => 0), (fun _ => 0), (fun _ => 0), upd (fun _ => 0) 0 (nI n), upd (fun _ => 0) 0 2) (nI n, 0, 0, 0, 0, (fun _ => 0), (fun _ => 0), (fun _ => 0), (fun _ => 0), upd (fun _ => 0) 0 (nI n), upd (fun _ => 0) 0 2) := by
  have h := pd_mk (k := 1) (w := nI n) (st := 0) (c := 0) (re := 0) (fa := -1) (wh := 0) (ov := 0) (ca := 0) (rg := fun _ => 0) (sv := fun _ => 0) (m := fun _ => 0) (sB := fun _ => 0) (sL := upd (fun _ => 0) 0 (nI n)) (sA := upd (fun _ => 0) 0 2) ⟨n, hn, rfl⟩ (by unfold pd_S; decide) pd_R0 pd_R0 pd_R0 ?_ (fun z => absurd rfl z)
  · rw [pd_y0] at h
    exact h
  · intro i hi
    by_cases e : i = 0
    · subst e
      exact ⟨0, n, by omega, rfl, pk_us⟩
    · exact ⟨0, 0, by omega, rfl, pk_un e⟩
theorem i_vc0 (k0 : Int32) : wpX_init (fun u => wpY_init (fun v => i_Rel 1 u v) k0) k0 := by
  by_cases h32 : 32 ≤ k0
  · by_cases h128 : k0 ≤ 128
    · obtain ⟨n, hn, rfl⟩ : ∃ n : Nat, n ≤ 128 ∧ k0 = nI n := nI_of2 (M := 128) (by decide) (fun z => absurd (Int32.lt_of_le_of_lt h32 z) (by decide)) h128
      exact br_t h32 (br_t h128 (nm_e (nm_e (br_t h32 (br_t h128 (nm_e (nm_e (pd_0 hn))))))))
    · exact br_t h32 (br_f h128 (nm_e (nm_e (br_t h32 (br_f h128 (nm_e (nm_e (pd_0 (n := 128) (by decide)))))))))
  · have h128 : k0 ≤ 128 := Int32.le_of_lt (Int32.lt_of_lt_of_le (Int32.not_le.mp h32) (by decide))
    exact br_f h32 (br_t h128 (nm_e (nm_e (br_f h32 (nm_e (nm_e (pd_0 (n := 32) (by decide))))))))
theorem pd_in16 {x : Int32} (h0 : ¬ x < 0) (h1 : ¬ 15 < x) : ∃ j : Nat, j < 16 ∧ x = nI j := by
  obtain ⟨j, hj, e⟩ := nI_of2 (M := 15) (n := 15) (by decide) h0 (Int32.not_lt.mp h1)
  exact ⟨j, by omega, e⟩
theorem pd_in9 {x : Int32} (h0 : ¬ x < 0) (h1 : x ≤ 8) : ∃ j : Nat, j < 9 ∧ x = nI j := by
  obtain ⟨j, hj, e⟩ := nI_of2 (M := 8) (n := 8) (by decide) h0 h1
  exact ⟨j, by omega, e⟩
theorem i_vc_setSegment {k : Nat} {u : SX} {v : SY} (I : i_Rel k u v) (hk : k + 5 ≤ 2561) (v1 : Int32) (v2 : Int32) (v3 : Int32) (v4 : Int32) : wpX_setSegment (fun r u' => wpY_setSegment (fun r' v' => r' = r ∧ i_Rel (k + 5) u' v') v v1 v2 v3 v4) u v1 v2 v3 v4 := by
  have I' := i_up I
  obtain ⟨w, st, c, re, fa, wh, ov, ca, rg, sv, m, sB, sL, sA, rfl, rfl, ⟨nw, hnw, rfl⟩, hst, hR, hV, hm, G, hf⟩ := I
  by_cases C : ¬ v1 < 0 ∧ ¬ 15 < v1 ∧ ¬ v4 < 0 ∧ v4 ≤ 2 ∧ ¬ v2 < 0 ∧ ¬ nI nw < v2 ∧ ¬ v3 < 0 ∧ ¬ nI nw < v3 ∧ v2 + v3 ≤ nI nw
  · obtain ⟨c1, c2, c3, c4, c5, c6, c7, c8, c9⟩ := C
    obtain ⟨j, hj, rfl⟩ := pd_in16 c1 c2
    obtain ⟨b, hb, rfl⟩ := nI_of2 (M := nI nw) (n := nw) (nI_toInt (by omega)) c5 (Int32.not_lt.mp c6)
    obtain ⟨l, hl, rfl⟩ := nI_of2 (M := nI nw) (n := nw) (nI_toInt (by omega)) c7 (Int32.not_lt.mp c8)
    have hi : vp_in (nI j) 16 := vp_in_nI hj (by decide)
    have c9' : ¬ nI nw < nI b + nI l := Int32.not_lt.mpr c9
    have hbl : b + l ≤ nw := by
      rw [nI_add, nI_leI (by omega) (by omega)] at c9
      exact c9
    have G' : pd_G (upd sB (nI j).toNatClampNeg (nI b)) (upd sL (nI j).toNatClampNeg (nI l)) := by
      rw [nI_clamp (by omega)]
      intro i hi16
      by_cases e : i = j
      · subst e
        exact ⟨b, l, by omega, pk_us, pk_us⟩
      · rw [pk_un e, pk_un e]
        exact G i hi16
    exact br_f c1 (br_f c2 (br_f c3 (br_t c4 (br_f c5 (br_f c6 (br_f c7 (br_f c8 (br_t c9 (And.intro hi (nm_e (And.intro hi (nm_e (And.intro hi (nm_e
      (br_f c1 (br_f c2 (br_f c5 (br_f c6 (br_f c7 (br_t (Int32.not_lt.mp c8) (br_f c9' (br_f c3 (br_t c4 (And.intro hi (nm_e (And.intro hi (nm_e (And.intro hi (nm_e ⟨rfl, pd_mk ⟨nw, hnw, rfl⟩ hst hR hV hm G' hf⟩)))))))))))))))))))))))))))))
  · have Y : wpY_setSegment (fun r' v' => r' = 0 ∧ i_Rel (k + 5) (nI nw, st, c, re, fa, ov, ca, rg, sv, m, sB, sL, sA) v') (nI nw, st, c, re, wh, rg, sv, pd_y m, sB, sL, sA) v1 v2 v3 v4 := by
      have h0 : (0 : Int32) = 0 ∧ i_Rel (k + 5) (nI nw, st, c, re, fa, ov, ca, rg, sv, m, sB, sL, sA) (nI nw, st, c, re, wh, rg, sv, pd_y m, sB, sL, sA) := ⟨rfl, I'⟩
      exact br_c (fun _ => h0) (fun a1 => br_c (fun _ => h0) (fun a2 => br_c (fun _ => h0) (fun a5 => br_c (fun _ => h0) (fun a6 => br_c (fun _ => h0) (fun a7 => br_c (fun a8 => br_c (fun _ => h0) (fun a9 => br_c (fun _ => h0) (fun a3 => br_c (fun a4 => absurd ⟨a1, a2, a3, a4, a5, a6, a7, Int32.not_lt.mpr a8, Int32.not_lt.mp a9⟩ C) (fun _ => h0)))) (fun _ => h0))))))
    exact br_c (fun _ => Y) (fun a1 => br_c (fun _ => Y) (fun a2 => br_c (fun _ => Y) (fun a3 => br_c (fun a4 => br_c (fun _ => Y) (fun a5 => br_c (fun _ => Y) (fun a6 => br_c (fun _ => Y) (fun a7 => br_c (fun _ => Y) (fun a8 => br_c (fun a9 => absurd ⟨a1, a2, a3, a4, a5, a6, a7, a8, a9⟩ C) (fun _ => Y)))))) (fun _ => Y))))
theorem i_vc_segment {k : Nat} {u : SX} {v : SY} (I : i_Rel k u v) (hk : k + 5 ≤ 2561) (v1 : Int32) : wpX_segment (fun r => wpY_segment (fun r' => r' = r ∧ i_Rel (k + 5) u v) v v1) u v1 := by
  have I' := i_up I
  obtain ⟨w, st, c, re, fa, wh, ov, ca, rg, sv, m, sB, sL, sA, rfl, rfl, ⟨nw, hnw, rfl⟩, hst, hR, hV, hm, G, hf⟩ := I
  refine br_c (fun a => br_t a ⟨rfl, I'⟩) (fun a => br_c (fun b => ?_) (fun b => br_f a (br_f b ⟨rfl, I'⟩)))
  obtain ⟨j, hj, rfl⟩ := pd_in16 a (Int32.not_lt.mpr b)
  have hi : vp_in (nI j) 16 := vp_in_nI hj (by decide)
  exact And.intro hi (And.intro hi (And.intro hi (br_f a (br_t b (And.intro hi (And.intro hi (And.intro hi ⟨rfl, I'⟩)))))))
theorem i_vc_setReg {k : Nat} {u : SX} {v : SY} (I : i_Rel k u v) (hk : k + 5 ≤ 2561) (v1 : Int32) (v2 : Int32) : wpX_setReg (fun r u' => wpY_setReg (fun r' v' => r' = r ∧ i_Rel (k + 5) u' v') v v1 v2) u v1 v2 := by
  have I' := i_up I
  obtain ⟨w, st, c, re, fa, wh, ov, ca, rg, sv, m, sB, sL, sA, rfl, rfl, ⟨nw, hnw, rfl⟩, hst, hR, hV, hm, G, hf⟩ := I
  refine br_c (fun z => br_c (fun a => br_t z (br_t a ⟨rfl, I'⟩)) (fun a => br_c (fun b => ?_) (fun b => br_t z (br_f a (br_f b ⟨rfl, I'⟩))))) (fun z => br_f z ⟨rfl, I'⟩)
  obtain ⟨j, hj, rfl⟩ := pd_in9 a b
  have hi : vp_in (nI j) 9 := vp_in_nI hj (by decide)
  exact And.intro hi (nm_e (br_t z (br_f a (br_t b (And.intro hi (nm_e ⟨rfl, pd_mk ⟨nw, hnw, rfl⟩ hst (pd_R_upd hR (pd_w_and _)) hV hm G hf⟩))))))
theorem i_vc_reg {k : Nat} {u : SX} {v : SY} (I : i_Rel k u v) (hk : k + 5 ≤ 2561) (v1 : Int32) : wpX_reg (fun r => wpY_reg (fun r' => r' = r ∧ i_Rel (k + 5) u v) v v1) u v1 := by
  have I' := i_up I
  obtain ⟨w, st, c, re, fa, wh, ov, ca, rg, sv, m, sB, sL, sA, rfl, rfl, ⟨nw, hnw, rfl⟩, hst, hR, hV, hm, G, hf⟩ := I
  refine br_c (fun a => br_t a ⟨rfl, I'⟩) (fun a => br_c (fun b => ?_) (fun b => br_f a (br_f b ⟨rfl, I'⟩)))
  obtain ⟨j, hj, rfl⟩ := pd_in9 a b
  have hi : vp_in (nI j) 9 := vp_in_nI hj (by decide)
  exact And.intro hi (br_f a (br_t b (And.intro hi ⟨rfl, I'⟩)))
theorem i_vc_setPsw {k : Nat} {u : SX} {v : SY} (I : i_Rel k u v) (hk : k + 5 ≤ 2561) (v1 : Int32) : wpX_setPsw (fun r u' => wpY_setPsw (fun r' v' => r' = r ∧ i_Rel (k + 5) u' v') v v1) u v1 := by
  have I' := i_up I
  obtain ⟨w, st, c, re, fa, wh, ov, ca, rg, sv, m, sB, sL, sA, rfl, rfl, ⟨nw, hnw, rfl⟩, hst, hR, hV, hm, G, hf⟩ := I
  exact br_c (fun z => nm_e (br_t z (nm_e ⟨rfl, pd_mk ⟨nw, hnw, rfl⟩ (pd_S_and _) hR hV hm G hf⟩))) (fun z => br_f z ⟨rfl, I'⟩)
theorem i_vc_psw {k : Nat} {u : SX} {v : SY} (I : i_Rel k u v) (hk : k + 5 ≤ 2561) : wpX_psw (fun r => wpY_psw (fun r' => r' = r ∧ i_Rel (k + 5) u v) v) u := by
  have I' := i_up I
  obtain ⟨w, st, c, re, fa, wh, ov, ca, rg, sv, m, sB, sL, sA, rfl, rfl, ⟨nw, hnw, rfl⟩, hst, hR, hV, hm, G, hf⟩ := I
  exact And.intro rfl I'
theorem pd_ix {x : Int32} {nw : Nat} (hw : nw ≤ 128) (h0 : ¬ x < 0) (h1 : x < nI nw) : ∃ j : Nat, j < nw ∧ x = nI j := by
  obtain ⟨j, hj, rfl⟩ := nI_of h0
  exact ⟨j, (nI_ltI hj (by omega)).mp h1, rfl⟩
theorem i_vc_poke {k : Nat} {u : SX} {v : SY} (I : i_Rel k u v) (hk : k + 5 ≤ 2561) (v1 : Int32) (v2 : Int32) : wpX_poke (fun r u' => wpY_poke (fun r' v' => r' = r ∧ i_Rel (k + 5) u' v') v v1 v2) u v1 v2 := by
  have I' := i_up I
  obtain ⟨w, st, c, re, fa, wh, ov, ca, rg, sv, m, sB, sL, sA, rfl, rfl, ⟨nw, hnw, rfl⟩, hst, hR, hV, hm, G, hf⟩ := I
  refine br_c (fun a => br_t a ⟨rfl, I'⟩) (fun a => br_c (fun b => ?_) (fun b => br_f a (br_f b ⟨rfl, I'⟩)))
  obtain ⟨j, hj, rfl⟩ := pd_ix hnw a b
  have hi : vp_in (nI j) 128 := vp_in_nI (by omega) (by decide)
  have e2 : (2 : Int32) * nI j = nI (2 * j) := pk_mul 2 j
  refine And.intro hi (nm_e ?_)
  unfold wpY_poke
  dsimp only
  rw [e2, nI_1 (2 * j), nI_clamp (n := 2 * j) (by omega), nI_clamp (n := 2 * j + 1) (by omega), nI_clamp (n := j) (by omega), pd_pk1 v2, pd_pk2 v2]
  refine br_f a (br_t b (And.intro (vp_in_nI (by omega) (by decide)) (nm_e (And.intro (vp_in_nI (by omega) (by decide)) (nm_r (pd_y_w (pd_w_and v2)) ⟨rfl, pd_mk ⟨nw, hnw, rfl⟩ hst hR hV (pd_R_upd hm (pd_w_and _)) G hf⟩)))))
theorem i_vc_peek {k : Nat} {u : SX} {v : SY} (I : i_Rel k u v) (hk : k + 5 ≤ 2561) (v1 : Int32) : wpX_peek (fun r => wpY_peek (fun r' => r' = r ∧ i_Rel (k + 5) u v) v v1) u v1 := by
  have I' := i_up I
  obtain ⟨w, st, c, re, fa, wh, ov, ca, rg, sv, m, sB, sL, sA, rfl, rfl, ⟨nw, hnw, rfl⟩, hst, hR, hV, hm, G, hf⟩ := I
  refine br_c (fun a => br_t a ⟨rfl, I'⟩) (fun a => br_c (fun b => ?_) (fun b => br_f a (br_f b ⟨rfl, I'⟩)))
  obtain ⟨j, hj, rfl⟩ := pd_ix hnw a b
  have hi : vp_in (nI j) 128 := vp_in_nI (by omega) (by decide)
  have e2 : (2 : Int32) * nI j = nI (2 * j) := pk_mul 2 j
  refine And.intro hi ?_
  unfold wpY_peek
  dsimp only
  rw [e2, nI_1 (2 * j), nI_clamp (n := 2 * j) (by omega), nI_clamp (n := 2 * j + 1) (by omega), nI_clamp (n := j) (by omega)]
  exact br_f a (br_t b (And.intro (vp_in_nI (by omega) (by decide)) (And.intro (vp_in_nI (by omega) (by decide)) ⟨pd_y_rd (hm j), I'⟩)))
theorem i_vc_run {k : Nat} {u : SX} {v : SY} (I : i_Rel k u v) (hk : k + 5 ≤ 2561) (v1 : Int32) : wpX_run (fun r u' => wpY_run (fun r' v' => r' = r ∧ i_Rel (k + 5) u' v') v v1) u v1 := by
  have I' := i_up I
  obtain ⟨w, st, c, re, fa, wh, ov, ca, rg, sv, m, sB, sL, sA, rfl, rfl, hw, hst, hR, hV, hm, G, hf⟩ := I
  by_cases hre : re = 0
  case neg => exact br_f hre (br_f hre ⟨rfl, I'⟩)
  subst hre
  by_cases h0 : 0 ≤ v1
  · obtain ⟨a, ha, rfl⟩ := nI_of (Int32.not_lt.mpr h0)
    by_cases h64 : a ≤ 64
    · obtain ⟨r, st', c', re', fa', wh', ov', ca', rg', sv', m', hre, hS, hR', hV', hm', hf', hX, hY⟩ := pd_z_run (w := w) (sA := sA) ha (Or.inl ⟨rfl, h64⟩) G a 0 st c fa wh ov ca rg sv m (by omega) hst hR hV hm
      exact br_t rfl ⟨_, hX _ (br_t rfl (br_t h0 (br_t (nI_le (b := 64) h64 (by decide)) ⟨_, hY _ ⟨rfl, pd_mk hw hS hR' hV' hm' G hf'⟩⟩)))⟩
    · obtain ⟨r, st', c', re', fa', wh', ov', ca', rg', sv', m', hre, hS, hR', hV', hm', hf', hX, hY⟩ := pd_z_run (w := w) (sA := sA) ha (Or.inr ⟨rfl, by omega⟩) G 64 0 st c fa wh ov ca rg sv m (by omega) hst hR hV hm
      exact br_t rfl ⟨_, hX _ (br_t rfl (br_t h0 (br_f (nI_ge (a := 64) (by omega) ha) ⟨_, hY _ ⟨rfl, pd_mk hw hS hR' hV' hm' G hf'⟩⟩)))⟩
  · exact br_t rfl ⟨1, br_t (Int32.le_of_lt (Int32.not_le.mp h0)) (br_t rfl (br_f h0 ⟨1, br_t (by decide) ⟨rfl, I'⟩⟩))⟩
theorem i_vc_rollback {k : Nat} {u : SX} {v : SY} (I : i_Rel k u v) (hk : k + 5 ≤ 2561) : wpX_rollback (fun r u' => wpY_rollback (fun r' v' => r' = r ∧ i_Rel (k + 5) u' v') v) u := by
  have I' := i_up I
  obtain ⟨w, st, c, re, fa, wh, ov, ca, rg, sv, m, sB, sL, sA, rfl, rfl, hw, hst, hR, hV, hm, G, hf⟩ := I
  refine br_c (fun z => br_t z ⟨rfl, I'⟩) (fun z => ⟨10, pd_X_rb (br_t (by decide) (br_f z ⟨10, pd_Y_rb (br_t (by decide) ⟨rfl, pd_mk hw hst (pd_cp_R hV hR 9) hV hm G (fun y => absurd rfl y)⟩) 9 0 rfl⟩)) 9 0 rfl⟩)
theorem i_vc_abandon {k : Nat} {u : SX} {v : SY} (I : i_Rel k u v) (hk : k + 5 ≤ 2561) : wpX_abandon (fun r u' => wpY_abandon (fun r' v' => r' = r ∧ i_Rel (k + 5) u' v') v) u := by
  have I' := i_up I
  obtain ⟨w, st, c, re, fa, wh, ov, ca, rg, sv, m, sB, sL, sA, rfl, rfl, hw, hst, hR, hV, hm, G, hf⟩ := I
  exact br_c (fun z => br_t z ⟨rfl, I'⟩) (fun z => br_f z ⟨rfl, pd_mk hw hst hR hV hm G (fun y => absurd rfl y)⟩)
theorem i_vc_fault {k : Nat} {u : SX} {v : SY} (I : i_Rel k u v) (hk : k + 5 ≤ 2561) : wpX_fault (fun r => wpY_fault (fun r' => r' = r ∧ i_Rel (k + 5) u v) v) u := by
  have I' := i_up I
  obtain ⟨w, st, c, re, fa, wh, ov, ca, rg, sv, m, sB, sL, sA, rfl, rfl, hw, hst, hR, hV, hm, G, hf⟩ := I
  exact And.intro rfl I'
theorem i_vc_faultAddress {k : Nat} {u : SX} {v : SY} (I : i_Rel k u v) (hk : k + 5 ≤ 2561) : wpX_faultAddress (fun r => wpY_faultAddress (fun r' => r' = r ∧ i_Rel (k + 5) u v) v) u := by
  have I' := i_up I
  obtain ⟨w, st, c, re, fa, wh, ov, ca, rg, sv, m, sB, sL, sA, rfl, rfl, hw, hst, hR, hV, hm, G, hf⟩ := I
  exact br_c (fun z => br_t z ⟨rfl, I'⟩) (fun z => br_f z ⟨hf z, I'⟩)
theorem pd_x15 {a : Nat} (h : a < 65536) : a ^^^ 2 ^ 15 = (a + 32768) % 65536 := by
  have h1 : (a ^^^ 2 ^ 15) % 2 ^ 15 = a % 2 ^ 15 := by rw [Nat.xor_mod_two_pow, Nat.mod_self, Nat.xor_zero]
  have h2 : (a ^^^ 2 ^ 15) / 2 ^ 15 = (a / 2 ^ 15) ^^^ 1 := by rw [Nat.xor_div_two_pow, Nat.div_self (Nat.two_pow_pos 15)]
  have h3 : a / 2 ^ 15 = 0 ∨ a / 2 ^ 15 = 1 := by omega
  generalize a ^^^ 2 ^ 15 = t at h1 h2
  rcases h3 with h3 | h3
  · rw [h3] at h2
    have h2 : t / 2 ^ 15 = 1 := h2
    omega
  · rw [h3] at h2
    have h2 : t / 2 ^ 15 = 0 := h2
    omega
theorem pd_de {n : Nat} (h : n < 65536) : (nI n ^^^ 32768) - 32768 = if n ≤ 32767 then nI n else nI n - 65536 := by
  have e : nI n ^^^ 32768 = nI ((n + 32768) % 65536) := by
    rw [← pd_x15 h]
    exact nx_xor n 32768
  rw [e]
  by_cases h2 : n ≤ 32767
  · rw [if_pos h2, Nat.mod_eq_of_lt (by omega), show (32768 : Int32) = nI 32768 from rfl, pk_sub (by omega), Nat.add_sub_cancel]
  · rw [if_neg h2]
    apply Int32.toInt_inj.mp
    rw [show (32768 : Int32) = nI 32768 from rfl, show (65536 : Int32) = nI 65536 from rfl, pk_sub_toInt (by omega) (by omega), pk_sub_toInt (by omega) (by omega)]
    omega
theorem i_vc_delta {k : Nat} {u : SX} {v : SY} (I : i_Rel k u v) (hk : k + 5 ≤ 2561) (v1 : Int32) : wpX_delta (fun r => wpY_delta (fun r' => r' = r ∧ i_Rel (k + 5) u v) v v1) u v1 := by
  have I' := i_up I
  obtain ⟨w, st, c, re, fa, wh, ov, ca, rg, sv, m, sB, sL, sA, rfl, rfl, hw, hst, hR, hV, hm, G, hf⟩ := I
  refine br_c (fun z => br_t z ⟨rfl, I'⟩) (fun z => br_c (fun a => br_f z (br_t a ⟨rfl, I'⟩)) (fun a => br_c (fun b => ?_) (fun b => br_f z (br_f a (br_f b ⟨rfl, I'⟩)))))
  obtain ⟨j, hj, rfl⟩ := pd_in9 a b
  have hi : vp_in (nI j) 9 := vp_in_nI hj (by decide)
  obtain ⟨n, hn, en⟩ := nx_mask (rg (nI j).toNatClampNeg - sv (nI j).toNatClampNeg)
  have hd := pd_de hn
  rw [en]
  refine And.intro hi (And.intro hi (br_f z (br_f a (br_t b (And.intro hi (And.intro hi (nm_r en (pk_le n 32767 (fun h => ?_) (fun h => ?_)))))))))
  · rw [if_pos h] at hd
    exact ⟨hd.symm, I'⟩
  · rw [if_neg (by omega)] at hd
    exact ⟨hd.symm, I'⟩
theorem i_vc_completed {k : Nat} {u : SX} {v : SY} (I : i_Rel k u v) (hk : k + 5 ≤ 2561) : wpX_completed (fun r => wpY_completed (fun r' => r' = r ∧ i_Rel (k + 5) u v) v) u := by
  have I' := i_up I
  obtain ⟨w, st, c, re, fa, wh, ov, ca, rg, sv, m, sB, sL, sA, rfl, rfl, hw, hst, hR, hV, hm, G, hf⟩ := I
  exact And.intro rfl I'
end
