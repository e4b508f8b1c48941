section
theorem pk_us {f : Nat → Int32} {k : Nat} {x : Int32} : upd f k x k = x := if_pos rfl
theorem pk_un {f : Nat → Int32} {k j : Nat} {x : Int32} (h : j ≠ k) : upd f k x j = f j := if_neg h
theorem pk_sub {a b : Nat} (h : b ≤ a) : nI a - nI b = nI (a - b) := by
  obtain ⟨c, rfl⟩ : ∃ c, a = c + b := ⟨a - b, by omega⟩
  rw [← nI_add, Int32.add_sub_cancel, Nat.add_sub_cancel]
theorem pk_m1 (n : Nat) : nI (n + 1) + (-1) = nI n := by
  rw [← nI_1, Int32.add_assoc, show (1 : Int32) + (-1) = 0 from rfl, Int32.add_zero]
theorem pk_mul (a b : Nat) : nI a * nI b = nI (a * b) := (Int32.ofNat_mul a b).symm
theorem pk_div {a d : Nat} (ha : a < 2 ^ 31) (h0 : 0 < d) (hd : d < 2 ^ 31) : nI a / nI d = nI (a / d) := by
  apply Int32.toInt_inj.mp
  rw [lg_idiv_nonneg (by rw [nI_toInt ha]; omega) (by rw [nI_toInt hd]; omega), nI_toInt ha, nI_toInt hd, nI_toInt (Nat.lt_of_le_of_lt (Nat.div_le_self a d) ha)]
  first | rfl | exact (Int.natCast_ediv _ _).symm
theorem pk_rem {a d : Nat} (ha : a < 2 ^ 31) (h0 : 0 < d) (hd : d < 2 ^ 31) : nI a - nI a / nI d * nI d = nI (a % d) := by
  rw [pk_div ha h0 hd, pk_mul, pk_sub (Nat.div_mul_le_self a d)]
  exact congrArg nI (by have := Nat.div_add_mod' a d; omega)
theorem pk_sub_toInt {a b : Nat} (ha : a < 2 ^ 30) (hb : b < 2 ^ 30) : (nI a - nI b).toInt = (a : Int) - b := by
  rw [Int32.toInt_sub, nI_toInt (by omega), nI_toInt (by omega)]
  exact Int.bmod_eq_of_le (by omega) (by omega)
theorem pk_sneg {a b : Nat} (hb : b < 2 ^ 30) (h : a < b) : nI a - nI b < 0 := by
  rw [Int32.lt_iff_toInt_lt, pk_sub_toInt (by omega) hb, show (0 : Int32).toInt = 0 from by decide]
  omega
theorem pk_ix (x : Int32) {n : Nat} (hn : n < 2 ^ 31) : x < 0 ∨ nI n ≤ x ∨ ∃ j : Nat, j < n ∧ x = nI j := by
  by_cases h : x < 0
  · exact Or.inl h
  · obtain ⟨j, hj, rfl⟩ := nI_of h
    by_cases h2 : j < n
    · exact Or.inr (Or.inr ⟨j, h2, rfl⟩)
    · exact Or.inr (Or.inl (nI_le (by omega) hj))
theorem pk_le {x y : Int32} {A B : Prop} (a b : Nat) (f : a ≤ b → A) (g : b < a → B) (hx : x = nI a := by rfl) (hy : y = nI b := by rfl) (ha : a < 2 ^ 31 := by omega) (hb : b < 2 ^ 31 := by omega) : (x ≤ y → A) ∧ (¬ x ≤ y → B) := by
  subst hx hy
  rw [nI_leI ha hb]
  exact ⟨f, fun z => g (by omega)⟩
theorem pk_lt {x y : Int32} {A B : Prop} (a b : Nat) (f : a < b → A) (g : b ≤ a → B) (hx : x = nI a := by rfl) (hy : y = nI b := by rfl) (ha : a < 2 ^ 31 := by omega) (hb : b < 2 ^ 31 := by omega) : (x < y → A) ∧ (¬ x < y → B) := by
  subst hx hy
  rw [nI_ltI ha hb]
  exact ⟨f, fun z => g (by omega)⟩
theorem pk_eq {x y : Int32} {A B : Prop} (a b : Nat) (f : a = b → A) (g : a ≠ b → B) (hx : x = nI a := by rfl) (hy : y = nI b := by rfl) (ha : a < 2 ^ 31 := by omega) (hb : b < 2 ^ 31 := by omega) : (x = y → A) ∧ (¬ x = y → B) := by
  subst hx hy
  rw [nI_eq ha hb]
  exact ⟨f, g⟩
theorem pk_in {x : Int32} (n N : Nat) (h : n < N) (hx : x = nI n := by rfl) (hN : N < 2 ^ 31 := by omega) : vp_in x N := by
  subst hx
  exact vp_in_nI h hN
theorem pk_cl {x : Int32} (n : Nat) (hx : x = nI n := by rfl) (h : n < 2 ^ 31 := by omega) : x.toNatClampNeg = n := by
  subst hx
  exact nI_clamp h
theorem pk_tn {n : Nat} (h : n < 2 ^ 32) : (nI n).toBitVec.toNat = n := Nat.mod_eq_of_lt h
theorem pk_and (x : Int32) {m : Int32} (k : Nat) (hm : m.toBitVec.toNat = 2 ^ k - 1) : x &&& m = nI (x.toBitVec.toNat % 2 ^ k) := by
  apply Int32.toBitVec_inj.mp
  apply BitVec.eq_of_toNat_eq
  rw [Int32.toBitVec_and, BitVec.toNat_and, hm, Nat.and_two_pow_sub_one_eq_mod]
  show _ = (BitVec.ofNat 32 _).toNat
  rw [BitVec.toNat_ofNat]
  exact (Nat.mod_eq_of_lt (Nat.lt_of_le_of_lt (Nat.mod_le _ _) x.toBitVec.isLt)).symm
theorem pk_andN {n : Nat} (h : n < 2 ^ 32) {m : Int32} (k : Nat) (hm : m.toBitVec.toNat = 2 ^ k - 1) : nI n &&& m = nI (n % 2 ^ k) := by
  rw [pk_and _ k hm, pk_tn h]
theorem pk_andE (x : Int32) {m : Int32} (k : Nat) (hm : m.toBitVec.toNat = 2 ^ k - 1) : ∃ j : Nat, j < 2 ^ k ∧ x &&& m = nI j := ⟨_, Nat.mod_lt _ (Nat.two_pow_pos k), pk_and x k hm⟩
theorem pk_andIn (x : Int32) {m : Int32} (k : Nat) (hm : m.toBitVec.toNat = 2 ^ k - 1) (hk : k ≤ 30) : vp_in (x &&& m) (2 ^ k) := by
  obtain ⟨j, hj, e⟩ := pk_andE x k hm
  rw [e]
  exact vp_in_nI hj (Nat.lt_of_le_of_lt (Nat.pow_le_pow_right (by decide) hk) (by decide))
theorem pk_shl (a s : Int32) (k : Nat) (hs : (s.toBitVec.smod 32).toNat = k) : (a <<< s).toBitVec.toNat = a.toBitVec.toNat * 2 ^ k % 2 ^ 32 := by
  show (a.toBitVec <<< (s.toBitVec.smod 32).toNat).toNat = _
  rw [hs, BitVec.toNat_shiftLeft, Nat.shiftLeft_eq]
theorem pk_shlN {n : Nat} (s : Int32) (k : Nat) (hs : (s.toBitVec.smod 32).toNat = k) (h : n * 2 ^ k < 2 ^ 32) : nI n <<< s = nI (n * 2 ^ k) := by
  apply Int32.toBitVec_inj.mp
  apply BitVec.eq_of_toNat_eq
  have hn : n < 2 ^ 32 := Nat.lt_of_le_of_lt (Nat.le_mul_of_pos_right n (Nat.two_pow_pos k)) h
  rw [pk_shl _ _ k hs, pk_tn hn, pk_tn h, Nat.mod_eq_of_lt h]
theorem pk_shr (a s : Int32) (k : Nat) (hs : (s.toBitVec.smod 32).toNat = k) : (a >>> s).toInt = a.toInt >>> k := by
  show (a.toBitVec.sshiftRight (s.toBitVec.smod 32).toNat).toInt = _
  rw [hs, BitVec.toInt_sshiftRight]
  rfl
theorem pk_shrN {n : Nat} (h : n < 2 ^ 31) (s : Int32) (k : Nat) (hs : (s.toBitVec.smod 32).toNat = k) : nI n >>> s = nI (n / 2 ^ k) := by
  apply Int32.toInt_inj.mp
  have h2 : n / 2 ^ k ≤ n := Nat.div_le_self _ _
  rw [pk_shr _ _ k hs, nI_toInt h, nI_toInt (by omega), Int.shiftRight_eq_div_pow]
  rfl
theorem pk_ushr (x s : Int32) (k : Nat) (hs : ((s.toUInt32 &&& Int32.toUInt32 31).toBitVec % 32).toNat = k) : (x.toUInt32 >>> (s.toUInt32 &&& Int32.toUInt32 31)).toInt32.toBitVec.toNat = x.toBitVec.toNat / 2 ^ k := by
  have e : (x.toUInt32 >>> (s.toUInt32 &&& Int32.toUInt32 31)).toInt32.toBitVec = x.toBitVec >>> k := by
    rw [← hs]
    exact UInt32.toBitVec_shiftRight _ _
  rw [e, BitVec.toNat_ushiftRight, Nat.shiftRight_eq_div_pow]
theorem pk_ushrN {n : Nat} (hn : n < 2 ^ 32) (s : Int32) (k : Nat) (hs : ((s.toUInt32 &&& Int32.toUInt32 31).toBitVec % 32).toNat = k) : ((nI n).toUInt32 >>> (s.toUInt32 &&& Int32.toUInt32 31)).toInt32 = nI (n / 2 ^ k) := by
  apply Int32.toBitVec_inj.mp
  apply BitVec.eq_of_toNat_eq
  rw [pk_ushr _ s k hs, pk_tn hn, pk_tn (Nat.lt_of_le_of_lt (Nat.div_le_self _ _) hn)]
theorem pk_nb (z : Int32) : narrow .byte (.int z.toInt8.toInt32) = .int z.toInt8.toInt32 := congrArg Value.int (by simp)
theorem pk_ns (z : Int32) : narrow .short (.int z.toInt16.toInt32) = .int z.toInt16.toInt32 := congrArg Value.int (by simp)
theorem pk_vb (z : Int32) : vp_nar .byte z.toInt8.toInt32 = z.toInt8.toInt32 := by rw [vp_nar_byte]; simp
theorem pk_vs (z : Int32) : vp_nar .short z.toInt16.toInt32 = z.toInt16.toInt32 := by rw [vp_nar_short]; simp
theorem pk_loop {σ : Type} (W : Nat → Nat → σ → Prop) (I : Nat → σ → Prop) (e i0 : Nat) (s : σ) (hi : i0 ≤ e) (h0 : I i0 s) (hx : ∀ n s, I e s → W (n + 1) e s)
    (hs : ∀ n i s, i < e → I i s → (∀ s', I (i + 1) s' → W n (i + 1) s') → W (n + 1) i s) : ∃ n, W n i0 s :=
  ⟨e + 1, loop_i W I e hx hs (e + 1) i0 s hi (by omega) h0⟩
theorem s_l : ∀ n, n < 32 → ((nI n &&& 31).toBitVec.smod 32).toNat = n := by decide +kernel
theorem nx_and (a b : Nat) : nI a &&& nI b = nI (a &&& b) := by
  apply Int32.toBitVec_inj.1
  show BitVec.ofNat 32 a &&& BitVec.ofNat 32 b = BitVec.ofNat 32 (a &&& b)
  apply BitVec.eq_of_getLsbD_eq
  intro i hi
  simp [hi]
theorem nx_xor (a b : Nat) : nI a ^^^ nI b = nI (a ^^^ b) := by
  apply Int32.toBitVec_inj.1
  show BitVec.ofNat 32 a ^^^ BitVec.ofNat 32 b = BitVec.ofNat 32 (a ^^^ b)
  apply BitVec.eq_of_getLsbD_eq
  intro i hi
  simp [hi]
theorem nf_sh : ∀ l, l < 32 → ((1 : Int32) <<< (nI l &&& 31)).toBitVec = BitVec.twoPow 32 l := by decide +kernel
theorem nf_tp : ∀ l, l < 32 → BitVec.twoPow 32 l ≠ 0#32 := by decide +kernel
end
section
/-! the state as one table of naturals: array number, place, value; arrays 12, 20, 36 hold a number less by one -/
def ub_un (f : Nat → Nat) (k v : Nat) : Nat → Nat := fun j => if j = k then v else f j
def st_up (N : Nat → Nat → Nat) (i k v : Nat) : Nat → Nat → Nat := fun i' => cond (Nat.beq i' i) (ub_un (N i') k v) (N i')
def ss_c (f : Nat → Nat) : Nat → Int32 := fun j => nI (f j)
def ss_m (f : Nat → Nat) : Nat → Int32 := fun j => nI (f j) - 1
abbrev ss_st (tl : Nat) (ch : Int32) (N : Nat → Nat → Nat) : SX := (nI tl, ch, ss_c (N 0), ss_c (N 1), ss_c (N 2), ss_c (N 3), ss_c (N 4), ss_c (N 5), ss_c (N 6), ss_c (N 7), ss_c (N 8), ss_c (N 9), ss_c (N 10), ss_c (N 11), ss_m (N 12), ss_c (N 13), ss_c (N 14), ss_c (N 15), ss_c (N 16), ss_c (N 17), ss_c (N 18), ss_c (N 19), ss_m (N 20), ss_c (N 21), ss_c (N 22), ss_c (N 23), ss_c (N 24), ss_c (N 25), ss_c (N 26), ss_c (N 27), ss_c (N 28), ss_c (N 29), ss_c (N 30), ss_c (N 31), ss_c (N 32), ss_c (N 33), ss_c (N 34), ss_c (N 35), ss_m (N 36), ss_c (N 37))
abbrev ss_A {β : Sort _} (W : (Nat → Int32) → (Nat → Int32) → (Nat → Int32) → (Nat → Int32) → (Nat → Int32) → (Nat → Int32) → (Nat → Int32) → (Nat → Int32) → (Nat → Int32) → (Nat → Int32) → (Nat → Int32) → (Nat → Int32) → (Nat → Int32) → (Nat → Int32) → (Nat → Int32) → (Nat → Int32) → (Nat → Int32) → (Nat → Int32) → (Nat → Int32) → (Nat → Int32) → (Nat → Int32) → (Nat → Int32) → (Nat → Int32) → (Nat → Int32) → (Nat → Int32) → (Nat → Int32) → (Nat → Int32) → (Nat → Int32) → (Nat → Int32) → (Nat → Int32) → (Nat → Int32) → (Nat → Int32) → (Nat → Int32) → (Nat → Int32) → (Nat → Int32) → (Nat → Int32) → (Nat → Int32) → (Nat → Int32) → β) (N : Nat → Nat → Nat) : β := W (ss_c (N 0)) (ss_c (N 1)) (ss_c (N 2)) (ss_c (N 3)) (ss_c (N 4)) (ss_c (N 5)) (ss_c (N 6)) (ss_c (N 7)) (ss_c (N 8)) (ss_c (N 9)) (ss_c (N 10)) (ss_c (N 11)) (ss_m (N 12)) (ss_c (N 13)) (ss_c (N 14)) (ss_c (N 15)) (ss_c (N 16)) (ss_c (N 17)) (ss_c (N 18)) (ss_c (N 19)) (ss_m (N 20)) (ss_c (N 21)) (ss_c (N 22)) (ss_c (N 23)) (ss_c (N 24)) (ss_c (N 25)) (ss_c (N 26)) (ss_c (N 27)) (ss_c (N 28)) (ss_c (N 29)) (ss_c (N 30)) (ss_c (N 31)) (ss_c (N 32)) (ss_c (N 33)) (ss_c (N 34)) (ss_c (N 35)) (ss_m (N 36)) (ss_c (N 37))
abbrev ss_S {β : Sort _} (W : Int32 → Int32 → (Nat → Int32) → (Nat → Int32) → (Nat → Int32) → (Nat → Int32) → (Nat → Int32) → (Nat → Int32) → (Nat → Int32) → (Nat → Int32) → (Nat → Int32) → (Nat → Int32) → (Nat → Int32) → (Nat → Int32) → (Nat → Int32) → (Nat → Int32) → (Nat → Int32) → (Nat → Int32) → (Nat → Int32) → (Nat → Int32) → (Nat → Int32) → (Nat → Int32) → (Nat → Int32) → (Nat → Int32) → (Nat → Int32) → (Nat → Int32) → (Nat → Int32) → (Nat → Int32) → (Nat → Int32) → (Nat → Int32) → (Nat → Int32) → (Nat → Int32) → (Nat → Int32) → (Nat → Int32) → (Nat → Int32) → (Nat → Int32) → (Nat → Int32) → (Nat → Int32) → (Nat → Int32) → (Nat → Int32) → β) (tl : Nat) (ch : Int32) (N : Nat → Nat → Nat) : β := W (nI tl) ch (ss_c (N 0)) (ss_c (N 1)) (ss_c (N 2)) (ss_c (N 3)) (ss_c (N 4)) (ss_c (N 5)) (ss_c (N 6)) (ss_c (N 7)) (ss_c (N 8)) (ss_c (N 9)) (ss_c (N 10)) (ss_c (N 11)) (ss_m (N 12)) (ss_c (N 13)) (ss_c (N 14)) (ss_c (N 15)) (ss_c (N 16)) (ss_c (N 17)) (ss_c (N 18)) (ss_c (N 19)) (ss_m (N 20)) (ss_c (N 21)) (ss_c (N 22)) (ss_c (N 23)) (ss_c (N 24)) (ss_c (N 25)) (ss_c (N 26)) (ss_c (N 27)) (ss_c (N 28)) (ss_c (N 29)) (ss_c (N 30)) (ss_c (N 31)) (ss_c (N 32)) (ss_c (N 33)) (ss_c (N 34)) (ss_c (N 35)) (ss_m (N 36)) (ss_c (N 37))
theorem ub_s {f : Nat → Nat} {k v : Nat} : ub_un f k v k = v := if_pos rfl
theorem ub_n {f : Nat → Nat} {k v j : Nat} (h : j ≠ k) : ub_un f k v j = f j := if_neg h
theorem ss_cr (f : Nat → Nat) (j : Nat) : ss_c f j = nI (f j) := rfl
theorem ss_mr (f : Nat → Nat) (j : Nat) : ss_m f j = nI (f j) - 1 := rfl
theorem ss_cu (f : Nat → Nat) (k v : Nat) : upd (ss_c f) k (nI v) = ss_c (ub_un f k v) := by
  funext j
  show (if j = k then nI v else nI (f j)) = nI (if j = k then v else f j)
  split <;> rfl
theorem ss_mu (f : Nat → Nat) (k v : Nat) : upd (ss_m f) k (nI v - 1) = ss_m (ub_un f k v) := by
  funext j
  show (if j = k then nI v - 1 else nI (f j) - 1) = nI (if j = k then v else f j) - 1
  split <;> rfl
theorem ss_mu1 (f : Nat → Nat) (k v : Nat) : upd (ss_m f) k (nI v) = ss_m (ub_un f k (v + 1)) := by
  rw [← ss_mu, ← nI_1, Int32.add_sub_cancel]
theorem ss_mu0 (f : Nat → Nat) (k : Nat) : upd (ss_m f) k (-1) = ss_m (ub_un f k 0) := ss_mu f k 0
theorem ss_nb {v : Nat} (h : v < 128) : vp_nar .byte (nI v).toInt8.toInt32 = nI v := by
  rw [pk_vb]
  exact (by decide +kernel : ∀ v, v < 128 → (nI v).toInt8.toInt32 = nI v) v h
theorem ss_nb' {v : Nat} (h : v < 128) : vp_nar .byte (nI v) = nI v := by
  rw [vp_nar_byte]
  exact (by decide +kernel : ∀ v, v < 128 → (nI v).toInt8.toInt32 = nI v) v h
theorem ss_nbm : vp_nar .byte (-1) = -1 := by rw [vp_nar_byte]; decide +kernel
theorem ss_nb0 : vp_nar .byte 0 = nI 0 := by rw [vp_nar_byte]; decide +kernel
theorem ss_nb4 : vp_nar .byte 4 = nI 4 := by rw [vp_nar_byte]; decide +kernel
theorem ss_ns0 : vp_nar .short 0 = nI 0 := by rw [vp_nar_short]; decide +kernel
theorem ss_ns150 : vp_nar .short 150 = nI 150 := by rw [vp_nar_short]; decide +kernel
theorem ss_ns {v : Nat} (h : v < 256) : vp_nar .short (nI v).toInt16.toInt32 = nI v := by
  rw [pk_vs]
  exact (by decide +kernel : ∀ v, v < 256 → (nI v).toInt16.toInt32 = nI v) v h
theorem ss_nz0 : vp_nar .boolean 0 = nI 0 := rfl
theorem ss_nz1 : vp_nar .boolean 1 = nI 1 := rfl
theorem ss_up_s {N : Nat → Nat → Nat} {i k v : Nat} : st_up N i k v i = ub_un (N i) k v := by
  show cond (Nat.beq i i) _ _ = _
  rw [Nat.beq_refl]; rfl
theorem ss_up_n {N : Nat → Nat → Nat} {i i' k v : Nat} (h : i' ≠ i) : st_up N i k v i' = N i' := by
  show cond (Nat.beq i' i) _ _ = _
  rw [show Nat.beq i' i = false from (Bool.eq_false_iff).mpr (fun e => h (Nat.eq_of_beq_eq_true e))]
  rfl
theorem ss_le0a {a : Nat} (h : a < 2 ^ 31) : (((0 : Int32) ≤ nI a) = (0 ≤ a)) := propext (nI_leI (a := 0) (by decide) h)
theorem ss_lea0 {a : Nat} (h : a < 2 ^ 31) : ((nI a ≤ (0 : Int32)) = (a ≤ 0)) := propext (nI_leI (b := 0) h (by decide))
theorem ss_lt0a {a : Nat} (h : a < 2 ^ 31) : (((0 : Int32) < nI a) = (0 < a)) := propext (nI_ltI (a := 0) (by decide) h)
theorem ss_lta0 {a : Nat} (h : a < 2 ^ 31) : ((nI a < (0 : Int32)) = (a < 0)) := propext (nI_ltI (b := 0) h (by decide))
theorem ss_eqa0 {a : Nat} (h : a < 2 ^ 31) : ((nI a = (0 : Int32)) = (a = 0)) := propext (nI_eq (b := 0) h (by decide))
theorem ss_le1a {a : Nat} (h : a < 2 ^ 31) : (((1 : Int32) ≤ nI a) = (1 ≤ a)) := propext (nI_leI (a := 1) (by decide) h)
theorem ss_lea1 {a : Nat} (h : a < 2 ^ 31) : ((nI a ≤ (1 : Int32)) = (a ≤ 1)) := propext (nI_leI (b := 1) h (by decide))
theorem ss_lt1a {a : Nat} (h : a < 2 ^ 31) : (((1 : Int32) < nI a) = (1 < a)) := propext (nI_ltI (a := 1) (by decide) h)
theorem ss_lta1 {a : Nat} (h : a < 2 ^ 31) : ((nI a < (1 : Int32)) = (a < 1)) := propext (nI_ltI (b := 1) h (by decide))
theorem ss_eqa1 {a : Nat} (h : a < 2 ^ 31) : ((nI a = (1 : Int32)) = (a = 1)) := propext (nI_eq (b := 1) h (by decide))
theorem ss_le2a {a : Nat} (h : a < 2 ^ 31) : (((2 : Int32) ≤ nI a) = (2 ≤ a)) := propext (nI_leI (a := 2) (by decide) h)
theorem ss_lea2 {a : Nat} (h : a < 2 ^ 31) : ((nI a ≤ (2 : Int32)) = (a ≤ 2)) := propext (nI_leI (b := 2) h (by decide))
theorem ss_lt2a {a : Nat} (h : a < 2 ^ 31) : (((2 : Int32) < nI a) = (2 < a)) := propext (nI_ltI (a := 2) (by decide) h)
theorem ss_lta2 {a : Nat} (h : a < 2 ^ 31) : ((nI a < (2 : Int32)) = (a < 2)) := propext (nI_ltI (b := 2) h (by decide))
theorem ss_eqa2 {a : Nat} (h : a < 2 ^ 31) : ((nI a = (2 : Int32)) = (a = 2)) := propext (nI_eq (b := 2) h (by decide))
theorem ss_le3a {a : Nat} (h : a < 2 ^ 31) : (((3 : Int32) ≤ nI a) = (3 ≤ a)) := propext (nI_leI (a := 3) (by decide) h)
theorem ss_lea3 {a : Nat} (h : a < 2 ^ 31) : ((nI a ≤ (3 : Int32)) = (a ≤ 3)) := propext (nI_leI (b := 3) h (by decide))
theorem ss_lt3a {a : Nat} (h : a < 2 ^ 31) : (((3 : Int32) < nI a) = (3 < a)) := propext (nI_ltI (a := 3) (by decide) h)
theorem ss_lta3 {a : Nat} (h : a < 2 ^ 31) : ((nI a < (3 : Int32)) = (a < 3)) := propext (nI_ltI (b := 3) h (by decide))
theorem ss_eqa3 {a : Nat} (h : a < 2 ^ 31) : ((nI a = (3 : Int32)) = (a = 3)) := propext (nI_eq (b := 3) h (by decide))
theorem ss_le4a {a : Nat} (h : a < 2 ^ 31) : (((4 : Int32) ≤ nI a) = (4 ≤ a)) := propext (nI_leI (a := 4) (by decide) h)
theorem ss_lea4 {a : Nat} (h : a < 2 ^ 31) : ((nI a ≤ (4 : Int32)) = (a ≤ 4)) := propext (nI_leI (b := 4) h (by decide))
theorem ss_lt4a {a : Nat} (h : a < 2 ^ 31) : (((4 : Int32) < nI a) = (4 < a)) := propext (nI_ltI (a := 4) (by decide) h)
theorem ss_lta4 {a : Nat} (h : a < 2 ^ 31) : ((nI a < (4 : Int32)) = (a < 4)) := propext (nI_ltI (b := 4) h (by decide))
theorem ss_eqa4 {a : Nat} (h : a < 2 ^ 31) : ((nI a = (4 : Int32)) = (a = 4)) := propext (nI_eq (b := 4) h (by decide))
theorem ss_le5a {a : Nat} (h : a < 2 ^ 31) : (((5 : Int32) ≤ nI a) = (5 ≤ a)) := propext (nI_leI (a := 5) (by decide) h)
theorem ss_lea5 {a : Nat} (h : a < 2 ^ 31) : ((nI a ≤ (5 : Int32)) = (a ≤ 5)) := propext (nI_leI (b := 5) h (by decide))
theorem ss_lt5a {a : Nat} (h : a < 2 ^ 31) : (((5 : Int32) < nI a) = (5 < a)) := propext (nI_ltI (a := 5) (by decide) h)
theorem ss_lta5 {a : Nat} (h : a < 2 ^ 31) : ((nI a < (5 : Int32)) = (a < 5)) := propext (nI_ltI (b := 5) h (by decide))
theorem ss_eqa5 {a : Nat} (h : a < 2 ^ 31) : ((nI a = (5 : Int32)) = (a = 5)) := propext (nI_eq (b := 5) h (by decide))
theorem ss_le6a {a : Nat} (h : a < 2 ^ 31) : (((6 : Int32) ≤ nI a) = (6 ≤ a)) := propext (nI_leI (a := 6) (by decide) h)
theorem ss_lea6 {a : Nat} (h : a < 2 ^ 31) : ((nI a ≤ (6 : Int32)) = (a ≤ 6)) := propext (nI_leI (b := 6) h (by decide))
theorem ss_lt6a {a : Nat} (h : a < 2 ^ 31) : (((6 : Int32) < nI a) = (6 < a)) := propext (nI_ltI (a := 6) (by decide) h)
theorem ss_lta6 {a : Nat} (h : a < 2 ^ 31) : ((nI a < (6 : Int32)) = (a < 6)) := propext (nI_ltI (b := 6) h (by decide))
theorem ss_eqa6 {a : Nat} (h : a < 2 ^ 31) : ((nI a = (6 : Int32)) = (a = 6)) := propext (nI_eq (b := 6) h (by decide))
theorem ss_le8a {a : Nat} (h : a < 2 ^ 31) : (((8 : Int32) ≤ nI a) = (8 ≤ a)) := propext (nI_leI (a := 8) (by decide) h)
theorem ss_lea8 {a : Nat} (h : a < 2 ^ 31) : ((nI a ≤ (8 : Int32)) = (a ≤ 8)) := propext (nI_leI (b := 8) h (by decide))
theorem ss_lt8a {a : Nat} (h : a < 2 ^ 31) : (((8 : Int32) < nI a) = (8 < a)) := propext (nI_ltI (a := 8) (by decide) h)
theorem ss_lta8 {a : Nat} (h : a < 2 ^ 31) : ((nI a < (8 : Int32)) = (a < 8)) := propext (nI_ltI (b := 8) h (by decide))
theorem ss_eqa8 {a : Nat} (h : a < 2 ^ 31) : ((nI a = (8 : Int32)) = (a = 8)) := propext (nI_eq (b := 8) h (by decide))
theorem ss_le12a {a : Nat} (h : a < 2 ^ 31) : (((12 : Int32) ≤ nI a) = (12 ≤ a)) := propext (nI_leI (a := 12) (by decide) h)
theorem ss_lea12 {a : Nat} (h : a < 2 ^ 31) : ((nI a ≤ (12 : Int32)) = (a ≤ 12)) := propext (nI_leI (b := 12) h (by decide))
theorem ss_lt12a {a : Nat} (h : a < 2 ^ 31) : (((12 : Int32) < nI a) = (12 < a)) := propext (nI_ltI (a := 12) (by decide) h)
theorem ss_lta12 {a : Nat} (h : a < 2 ^ 31) : ((nI a < (12 : Int32)) = (a < 12)) := propext (nI_ltI (b := 12) h (by decide))
theorem ss_eqa12 {a : Nat} (h : a < 2 ^ 31) : ((nI a = (12 : Int32)) = (a = 12)) := propext (nI_eq (b := 12) h (by decide))
theorem ss_le20a {a : Nat} (h : a < 2 ^ 31) : (((20 : Int32) ≤ nI a) = (20 ≤ a)) := propext (nI_leI (a := 20) (by decide) h)
theorem ss_lea20 {a : Nat} (h : a < 2 ^ 31) : ((nI a ≤ (20 : Int32)) = (a ≤ 20)) := propext (nI_leI (b := 20) h (by decide))
theorem ss_lt20a {a : Nat} (h : a < 2 ^ 31) : (((20 : Int32) < nI a) = (20 < a)) := propext (nI_ltI (a := 20) (by decide) h)
theorem ss_lta20 {a : Nat} (h : a < 2 ^ 31) : ((nI a < (20 : Int32)) = (a < 20)) := propext (nI_ltI (b := 20) h (by decide))
theorem ss_eqa20 {a : Nat} (h : a < 2 ^ 31) : ((nI a = (20 : Int32)) = (a = 20)) := propext (nI_eq (b := 20) h (by decide))
theorem ss_le24a {a : Nat} (h : a < 2 ^ 31) : (((24 : Int32) ≤ nI a) = (24 ≤ a)) := propext (nI_leI (a := 24) (by decide) h)
theorem ss_lea24 {a : Nat} (h : a < 2 ^ 31) : ((nI a ≤ (24 : Int32)) = (a ≤ 24)) := propext (nI_leI (b := 24) h (by decide))
theorem ss_lt24a {a : Nat} (h : a < 2 ^ 31) : (((24 : Int32) < nI a) = (24 < a)) := propext (nI_ltI (a := 24) (by decide) h)
theorem ss_lta24 {a : Nat} (h : a < 2 ^ 31) : ((nI a < (24 : Int32)) = (a < 24)) := propext (nI_ltI (b := 24) h (by decide))
theorem ss_eqa24 {a : Nat} (h : a < 2 ^ 31) : ((nI a = (24 : Int32)) = (a = 24)) := propext (nI_eq (b := 24) h (by decide))
theorem ss_le255a {a : Nat} (h : a < 2 ^ 31) : (((255 : Int32) ≤ nI a) = (255 ≤ a)) := propext (nI_leI (a := 255) (by decide) h)
theorem ss_lea255 {a : Nat} (h : a < 2 ^ 31) : ((nI a ≤ (255 : Int32)) = (a ≤ 255)) := propext (nI_leI (b := 255) h (by decide))
theorem ss_lt255a {a : Nat} (h : a < 2 ^ 31) : (((255 : Int32) < nI a) = (255 < a)) := propext (nI_ltI (a := 255) (by decide) h)
theorem ss_lta255 {a : Nat} (h : a < 2 ^ 31) : ((nI a < (255 : Int32)) = (a < 255)) := propext (nI_ltI (b := 255) h (by decide))
theorem ss_eqa255 {a : Nat} (h : a < 2 ^ 31) : ((nI a = (255 : Int32)) = (a = 255)) := propext (nI_eq (b := 255) h (by decide))
theorem ss_le {a b : Nat} (ha : a < 2 ^ 31) (hb : b < 2 ^ 31) : (nI a ≤ nI b) = (a ≤ b) := propext (nI_leI ha hb)
theorem ss_lt {a b : Nat} (ha : a < 2 ^ 31) (hb : b < 2 ^ 31) : (nI a < nI b) = (a < b) := propext (nI_ltI ha hb)
theorem ss_eq {a b : Nat} (ha : a < 2 ^ 31) (hb : b < 2 ^ 31) : (nI a = nI b) = (a = b) := propext (nI_eq ha hb)
theorem ss_T {A B : Prop} (a : A) : (True → A) ∧ (¬ True → B) := ⟨fun _ => a, fun h => absurd trivial h⟩
theorem ss_mul2 (a : Nat) : (2 : Int32) * nI a = nI (2 * a) := pk_mul 2 a
theorem ss_mul3 (a : Nat) : (3 : Int32) * nI a = nI (3 * a) := pk_mul 3 a
theorem ss_mul4 (a : Nat) : (4 : Int32) * nI a = nI (4 * a) := pk_mul 4 a
theorem ss_mul6 (a : Nat) : (6 : Int32) * nI a = nI (6 * a) := pk_mul 6 a
theorem ss_mul8 (a : Nat) : (8 : Int32) * nI a = nI (8 * a) := pk_mul 8 a
theorem ss_mul12 (a : Nat) : (12 : Int32) * nI a = nI (12 * a) := pk_mul 12 a
theorem ss_mul16 (a : Nat) : (16 : Int32) * nI a = nI (16 * a) := pk_mul 16 a
theorem ss_mul24 (a : Nat) : (24 : Int32) * nI a = nI (24 * a) := pk_mul 24 a
theorem ss_mul64 (a : Nat) : (64 : Int32) * nI a = nI (64 * a) := pk_mul 64 a
theorem ss_add1 (a : Nat) : nI a + (1 : Int32) = nI (a + 1) := nI_add a 1
theorem ss_ad1 (a : Nat) : (1 : Int32) + nI a = nI (1 + a) := nI_add 1 a
theorem ss_add2 (a : Nat) : nI a + (2 : Int32) = nI (a + 2) := nI_add a 2
theorem ss_ad2 (a : Nat) : (2 : Int32) + nI a = nI (2 + a) := nI_add 2 a
theorem ss_rem6 {a : Nat} (h : a < 2 ^ 31) : nI a - nI a / 6 * 6 = nI (a % 6) := pk_rem (d := 6) h (by decide) (by decide)
theorem ss_nz6d : ¬ (6 : Int32) = 0 := by decide
theorem ss_rem12 {a : Nat} (h : a < 2 ^ 31) : nI a - nI a / 12 * 12 = nI (a % 12) := pk_rem (d := 12) h (by decide) (by decide)
theorem ss_nz12d : ¬ (12 : Int32) = 0 := by decide
theorem ss_rem24 {a : Nat} (h : a < 2 ^ 31) : nI a - nI a / 24 * 24 = nI (a % 24) := pk_rem (d := 24) h (by decide) (by decide)
theorem ss_nz24d : ¬ (24 : Int32) = 0 := by decide
theorem ss_rem64 {a : Nat} (h : a < 2 ^ 31) : nI a - nI a / 64 * 64 = nI (a % 64) := pk_rem (d := 64) h (by decide) (by decide)
theorem ss_nz64d : ¬ (64 : Int32) = 0 := by decide
end
section
/-! the check number: a pure function of bytes; one byte changed always shows -/
def cr_1 (r : Nat) : Nat := if r < 128 then 2 * r else (2 * r ^^^ 7) % 256
def cr_i (r : Nat) : Nat := if r % 2 = 1 then (r ^^^ 7) / 2 + 128 else r / 2
def cr_n : Nat → Nat → Nat
  | 0, r => r
  | n + 1, r => cr_n n (cr_1 r)
def cr_f (f : Nat → Nat) : Nat → Nat
  | 0 => 0
  | n + 1 => cr_n 8 (cr_f f n ^^^ f n)
theorem cr_1_i : ∀ r, r < 256 → cr_i (cr_1 r) = r := by decide +kernel
theorem cr_1_lt : ∀ r, r < 256 → cr_1 r < 256 := by decide +kernel
theorem cr_n_lt : ∀ n r, r < 256 → cr_n n r < 256 := by
  intro n
  induction n with
  | zero => exact fun r h => h
  | succ n ih => exact fun r h => ih _ (cr_1_lt r h)
theorem cr_n_inj : ∀ n a b, a < 256 → b < 256 → cr_n n a = cr_n n b → a = b := by
  intro n
  induction n with
  | zero => exact fun a b _ _ h => h
  | succ n ih =>
    intro a b ha hb h
    have e := ih _ _ (cr_1_lt a ha) (cr_1_lt b hb) h
    rw [← cr_1_i a ha, ← cr_1_i b hb, e]
theorem cr_xlt {a b : Nat} (ha : a < 256) (hb : b < 256) : a ^^^ b < 256 := Nat.xor_lt_two_pow (n := 8) ha hb
theorem cr_xi {a b c : Nat} (h : a ^^^ c = b ^^^ c) : a = b := by
  have e : (a ^^^ c) ^^^ c = (b ^^^ c) ^^^ c := by rw [h]
  rwa [Nat.xor_assoc, Nat.xor_assoc, Nat.xor_self, Nat.xor_zero, Nat.xor_zero] at e
theorem cr_xj {a b c : Nat} (h : c ^^^ a = c ^^^ b) : a = b := by
  rw [Nat.xor_comm c a, Nat.xor_comm c b] at h
  exact cr_xi h
theorem cr_f_lt {f : Nat → Nat} : ∀ n, (∀ k, k < n → f k < 256) → cr_f f n < 256 := by
  intro n
  induction n with
  | zero => exact fun _ => (by decide : 0 < 256)
  | succ n ih => exact fun h => cr_n_lt 8 _ (cr_xlt (ih (fun k hk => h k (by omega))) (h n (by omega)))
theorem cr_f_eq {f g : Nat → Nat} : ∀ n, (∀ k, k < n → f k = g k) → cr_f f n = cr_f g n := by
  intro n
  induction n with
  | zero => exact fun _ => rfl
  | succ n ih =>
    intro h
    show cr_n 8 (cr_f f n ^^^ f n) = cr_n 8 (cr_f g n ^^^ g n)
    rw [ih (fun k hk => h k (by omega)), h n (by omega)]
theorem cr_f_ne {f g : Nat → Nat} {p : Nat} (hp : f p ≠ g p) : ∀ n, p < n → (∀ k, k < n → f k < 256) → (∀ k, k < n → g k < 256) → (∀ k, k < n → k ≠ p → f k = g k) → cr_f f n ≠ cr_f g n := by
  intro n
  induction n with
  | zero => exact fun h => absurd h (by omega)
  | succ n ih =>
    intro hpn hf hg he h
    have hff := cr_f_lt n (fun k hk => hf k (by omega))
    have hgg := cr_f_lt n (fun k hk => hg k (by omega))
    have e := cr_n_inj 8 _ _ (cr_xlt hff (hf n (by omega))) (cr_xlt hgg (hg n (by omega))) h
    by_cases hn : p = n
    · subst hn
      rw [cr_f_eq p (fun k hk => he k (by omega) (by omega))] at e
      exact hp (cr_xj e)
    · rw [he n (by omega) (by omega)] at e
      exact ih (by omega) (fun k hk => hf k (by omega)) (fun k hk => hg k (by omega)) (fun k hk => he k (by omega)) (cr_xi e)
theorem cr_flip {b : Nat} (j : Nat) : b ^^^ 2 ^ j ≠ b := by
  intro h
  have e : b ^^^ 2 ^ j = b ^^^ 0 := by rw [Nat.xor_zero]; exact h
  have := cr_xj e
  have := Nat.two_pow_pos j
  omega
/-! its walk -/
theorem cr_w1 : ∀ r, r < 256 → ((nI r &&& 128) = 0 ↔ r < 128) := by decide +kernel
theorem cr_w2 : ∀ r, r < 256 → r < 128 → nI r <<< ((1 : Int32) &&& 31) = nI (cr_1 r) := by decide +kernel
theorem cr_w3 : ∀ r, r < 256 → ¬ r < 128 → ((nI r <<< ((1 : Int32) &&& 31)) ^^^ 7) &&& 255 = nI (cr_1 r) := by decide +kernel
theorem cr_in {post : Int32 → Prop} {J : Int32 → Int32 → Prop} {x1 : Int32} {k : Nat} {tl : Nat} {ch : Int32} {N : Nat → Nat → Nat} : ∀ (d n i r : Nat), i + d = 8 → d < n → r < 256 → J (nI (cr_n d r)) (nI (k + 1)) → ss_S (wX_checkNumber_21 post J x1 (nI k)) tl ch N n (nI r) (nI i) := by
  intro d
  induction d with
  | zero =>
    intro n i r hi hn hr h
    obtain ⟨m, rfl⟩ : ∃ m, n = m + 1 := ⟨n - 1, by omega⟩
    obtain rfl : i = 8 := by omega
    exact br_t (nI_le (a := 8) (b := 8) (by omega) (by omega)) (nm_r (nI_1 k) h)
  | succ d ih =>
    intro n i r hi hn hr h
    obtain ⟨m, rfl⟩ : ∃ m, n = m + 1 := ⟨n - 1, by omega⟩
    have c : ¬ (8 : Int32) ≤ nI i := nI_ge (b := 8) (by omega) (by omega)
    have z := ih m (i + 1) (cr_1 r) (by omega) (by omega) (cr_1_lt r hr) h
    by_cases hb : r < 128
    · exact br_f c (br_t ((cr_w1 r hr).mpr hb) (nm_r (cr_w2 r hr hb) (nm_r (nI_1 i) z)))
    · exact br_f c (br_f (fun e => hb ((cr_w1 r hr).mp e)) (nm_r (cr_w3 r hr hb) (nm_r (nI_1 i) z)))
theorem cr_out {post : Int32 → Prop} {L : Nat} {tl : Nat} {ch : Int32} {N : Nat → Nat → Nat} (hL : L ≤ 6) (hb : ∀ k, k < L → N 37 k < 256) (h : post (nI (cr_f (N 37) L))) : ∀ (d n i : Nat), i + d = L → d < n → ss_S (wX_checkNumber_4 post (nI L)) tl ch N n (nI (cr_f (N 37) i)) (nI i) := by
  intro d
  induction d with
  | zero =>
    intro n i hi hn
    obtain ⟨m, rfl⟩ : ∃ m, n = m + 1 := ⟨n - 1, by omega⟩
    obtain rfl : i = L := by omega
    exact br_t (nI_le (by omega) (by omega)) h
  | succ d ih =>
    intro n i hi hn
    obtain ⟨m, rfl⟩ : ∃ m, n = m + 1 := ⟨n - 1, by omega⟩
    have c : ¬ nI L ≤ nI i := nI_ge (by omega) (by omega)
    have lt : cr_f (N 37) i ^^^ N 37 i < 256 := cr_xlt (cr_f_lt i (fun k hk => hb k (by omega))) (hb i (by omega))
    refine br_f c ⟨vp_in_nI (by omega) (by decide), nm_r (e' := nI (cr_f (N 37) i ^^^ N 37 i)) ?_ ⟨9, cr_in 8 9 0 _ rfl (by omega) lt ?_⟩⟩
    · rw [nI_clamp (by omega)]; exact nx_xor _ _
    · exact ih m (i + 1) (by omega) (by omega)
theorem cr_w {post : Int32 → Prop} {L : Nat} {tl : Nat} {ch : Int32} {N : Nat → Nat → Nat} (hL : L ≤ 6) (hb : ∀ k, k < L → N 37 k < 256) (h : post (nI (cr_f (N 37) L))) : wpX_checkNumber post (ss_st tl ch N) (nI L) :=
  ⟨L + 1, cr_out hL hb h L (L + 1) 0 (by omega) (by omega)⟩
end
section
/-! walks of the small methods: stores, rings, queues -/
def ub_bl (f : Nat → Nat) (b n : Nat) (g : Nat → Nat) : Nat → Nat := fun j => if b ≤ j ∧ j < b + n then g (j - b) else f j
def st_bl (N : Nat → Nat → Nat) (i b n : Nat) (g : Nat → Nat) : Nat → Nat → Nat := fun i' => cond (Nat.beq i' i) (ub_bl (N i') b n g) (N i')
theorem ub_bl0 (f : Nat → Nat) (b : Nat) (g : Nat → Nat) : ub_bl f b 0 g = f := funext fun j => if_neg (by omega)
theorem ub_bls (f : Nat → Nat) (b n : Nat) (g : Nat → Nat) : ub_un (ub_bl f b n g) (b + n) (g n) = ub_bl f b (n + 1) g := by
  funext j
  unfold ub_un ub_bl
  by_cases h : j = b + n
  · subst h
    rw [if_pos rfl, if_pos (by omega), Nat.add_sub_cancel_left]
  · rw [if_neg h]
    by_cases h2 : b ≤ j ∧ j < b + n
    · rw [if_pos h2, if_pos (by omega)]
    · rw [if_neg h2, if_neg (by omega)]
theorem ub_bl_in {f : Nat → Nat} {b n : Nat} {g : Nat → Nat} {k : Nat} (h : k < n) : ub_bl f b n g (b + k) = g k := by
  unfold ub_bl
  rw [if_pos (by omega), Nat.add_sub_cancel_left]
theorem ub_bl_out {f : Nat → Nat} {b n : Nat} {g : Nat → Nat} {j : Nat} (h : j < b ∨ b + n ≤ j) : ub_bl f b n g j = f j := by
  unfold ub_bl
  rw [if_neg (by omega)]
theorem st_bl0 (N : Nat → Nat → Nat) (i b : Nat) (g : Nat → Nat) : st_bl N i b 0 g = N := by
  funext i'
  unfold st_bl
  cases h : Nat.beq i' i
  · rfl
  · exact ub_bl0 _ _ _
theorem ss_in {n N : Nat} (h : n < N) (hN : N < 2 ^ 31 := by decide) : vp_in (nI n) N := vp_in_nI h hN
theorem ss_rd {f : Nat → Nat} {j : Nat} (hj : j < 2 ^ 31) : ss_c f (nI j).toNatClampNeg = nI (f j) := by rw [nI_clamp hj]; rfl
theorem ss_rdm {f : Nat → Nat} {j : Nat} (hj : j < 2 ^ 31) : ss_m f (nI j).toNatClampNeg = nI (f j) - 1 := by rw [nI_clamp hj]; rfl
theorem ss_stb {f : Nat → Nat} {j v : Nat} {x : Int32} (hx : x = nI v) (hv : v < 128) (hj : j < 2 ^ 31) : upd (ss_c f) (nI j).toNatClampNeg (vp_nar .byte x.toInt8.toInt32) = ss_c (ub_un f j v) := by
  subst hx
  rw [nI_clamp hj, ss_nb hv, ss_cu]
theorem ss_stv {f : Nat → Nat} {k x : Int32} (j v : Nat) (hk : k = nI j) (hx : x = nI v) (hj : j < 2 ^ 31) : upd (ss_c f) k.toNatClampNeg x = ss_c (ub_un f j v) := by
  subst hx hk
  rw [nI_clamp hj, ss_cu]
def sx_enq (N : Nat → Nat → Nat) (w fr L : Nat) : Nat → Nat → Nat :=
  st_up (st_up (st_bl N 27 (4 * (6 * w + (N 25 w + N 26 w) % 6)) L (fun k => N 37 (fr + k))) 28 (6 * w + (N 25 w + N 26 w) % 6) L) 26 w (N 26 w + 1)
theorem sx_enq26 {post : SX → Prop} {w fr L sl tl : Nat} {ch : Int32} {N : Nat → Nat → Nat} (hw : w < 4) (hL : fr + L ≤ 6) (h4 : L ≤ 4) (hs : sl < 24) (hq : N 26 w < 100)
    (h : post (ss_st tl ch (st_up (st_up (st_bl N 27 (4 * sl) L (fun k => N 37 (fr + k))) 28 sl L) 26 w (N 26 w + 1)))) : ∀ d n i, i + d = L → d < n → ss_A (wX_enqueue_26 post (nI w) (nI fr) (nI L) (nI sl) (nI tl) ch n (nI i)) (st_bl N 27 (4 * sl) i (fun k => N 37 (fr + k))) := by
  intro d
  induction d with
  | zero =>
    intro n i hi hn
    obtain ⟨m, rfl⟩ : ∃ m, n = m + 1 := ⟨n - 1, by omega⟩
    obtain rfl : i = L := by omega
    refine br_t (nI_le (by omega) (by omega)) ⟨ss_in hs, nm_r (ss_stb rfl (by omega) (by omega)) ⟨ss_in hw, ss_in hw, nm_r (ss_stb (v := N 26 w + 1) ?_ (by omega) (by omega)) h⟩⟩
    rw [ss_rd (by omega)]; exact nI_1 _
  | succ d ih =>
    intro n i hi hn
    obtain ⟨m, rfl⟩ : ∃ m, n = m + 1 := ⟨n - 1, by omega⟩
    refine br_f (nI_ge (by omega) (by omega)) ⟨?_, ?_, nm_r (e' := ss_c (ub_bl (N 27) (4 * sl) (i + 1) (fun k => N 37 (fr + k)))) ?_ (nm_r (nI_1 i) (ih m (i + 1) (by omega) (by omega)))⟩
    · rw [nI_add]; exact ss_in (by omega)
    · rw [ss_mul4, nI_add]; exact ss_in (by omega)
    · rw [← ub_bls]
      refine ss_stv (4 * sl + i) (N 37 (fr + i)) ?_ ?_ (by omega)
      · rw [ss_mul4, nI_add]
      · rw [nI_add, ss_rd (by omega)]; rfl
theorem sx_enqueue {post : SX → Prop} {w fr L tl : Nat} {ch : Int32} {N : Nat → Nat → Nat} (hw : w < 4) (hL : fr + L ≤ 6) (h4 : L ≤ 4) (hs : N 25 w < 6) (hq : N 26 w < 100)
    (h : post (ss_st tl ch (sx_enq N w fr L))) : wpX_enqueue post (ss_st tl ch N) (nI w) (nI fr) (nI L) := by
  refine ⟨ss_in hw, ss_in hw, ss_nz6d, nm_r (e' := nI (6 * w + (N 25 w + N 26 w) % 6)) ?_ ⟨L + 1, ?_⟩⟩
  · rw [ss_rd (by omega), ss_rd (by omega), nI_add, ss_rem6 (by omega), ss_mul6, nI_add]
  · have z := sx_enq26 (post := post) (tl := tl) (ch := ch) (N := N) (sl := 6 * w + (N 25 w + N 26 w) % 6) hw hL h4 (by have := Nat.mod_lt (N 25 w + N 26 w) (y := 6) (by omega); omega) hq h L (L + 1) 0 (by omega) (by omega)
    rw [st_bl0] at z
    exact z
def sx_pop (N : Nat → Nat → Nat) (w : Nat) : Nat → Nat → Nat :=
  st_up (st_up (st_up (st_up (st_up N 33 w 0) 34 w 0) 32 w (1 - N 32 w)) 25 w ((N 25 w + 1) % 6)) 26 w (N 26 w - 1)
theorem sx_takeAnswer0 {post : SX → Prop} {w b tl : Nat} {ch : Int32} {N : Nat → Nat → Nat} (hw : w < 4) (hb : N 33 w = 0) (h : post (ss_st tl ch N)) : wpX_takeAnswer post (ss_st tl ch N) (nI w) (nI b) := by
  refine ⟨ss_in hw, br_t ?_ h⟩
  rw [ss_rd (by omega), hb]; rfl
theorem sx_takeAnswer1 {post : SX → Prop} {w b tl : Nat} {ch : Int32} {N : Nat → Nat → Nat} (hw : w < 4) (hb : N 33 w = 1) (hs : b = N 32 w) (h1 : N 32 w ≤ 1) (hq : N 25 w < 6) (hc : N 26 w < 100) (hc0 : 0 < N 26 w)
    (h : post (ss_st tl ch (sx_pop N w))) : wpX_takeAnswer post (ss_st tl ch N) (nI w) (nI b) := by
  subst hs
  refine ⟨ss_in hw, br_f ?_ ⟨ss_in hw, br_t ?_ ⟨ss_in hw, nm_r (e' := ss_c (ub_un (N 33) w 0)) ?_ ⟨ss_in hw, nm_r (e' := ss_c (ub_un (N 34) w 0)) ?_ ⟨ss_in hw, nm_r (e' := ss_c (ub_un (N 32) w (1 - N 32 w))) ?_ ⟨ss_in hw, ss_nz6d, ss_in hw, nm_r (e' := ss_c (ub_un (N 25) w ((N 25 w + 1) % 6))) ?_ ⟨ss_in hw, ss_in hw, nm_r (e' := ss_c (ub_un (N 26) w (N 26 w - 1))) ?_ h⟩⟩⟩⟩⟩⟩⟩
  · rw [ss_rd (by omega), hb]; decide
  · rw [ss_rd (by omega)]
  · exact ss_stv w 0 rfl rfl (by omega)
  · rw [ss_nb0]; exact ss_stv w 0 rfl rfl (by omega)
  · exact ss_stb (pk_sub (a := 1) h1) (by omega) (by omega)
  · refine ss_stb ?_ ?_ (by omega)
    · rw [ss_rd (by omega), nI_1, ss_rem6 (by omega)]
    · have := Nat.mod_lt (N 25 w + 1) (y := 6) (by omega); omega
  · refine ss_stb ?_ (by omega) (by omega)
    rw [ss_rd (by omega)]; exact pk_sub (b := 1) hc0
theorem sx_forward0 {post : SX → Prop} {w L tl : Nat} {ch : Int32} {N : Nat → Nat → Nat} (hw : w < 4) (hq : 4 ≤ N 26 w) (hc : N 26 w < 100) (h : post (ss_st tl ch N)) : wpX_forward post (ss_st tl ch N) (nI w) (nI L) := by
  refine ⟨ss_in hw, br_t ?_ h⟩
  rw [ss_rd (by omega)]
  exact nI_le (a := 4) hq (by omega)
theorem sx_forward1 {post : SX → Prop} {w L tl : Nat} {ch : Int32} {N : Nat → Nat → Nat} (hw : w < 4) (hq : N 26 w < 4) (h4 : L ≤ 4) (hs : N 25 w < 6) (h : post (ss_st tl ch (sx_enq N w 1 L))) : wpX_forward post (ss_st tl ch N) (nI w) (nI L) := by
  refine ⟨ss_in hw, br_f ?_ (sx_enqueue (N := N) (fr := 1) hw (by omega) h4 hs (by omega) h)⟩
  rw [ss_rd (by omega)]
  exact nI_ge (b := 4) hq (by omega)
end
section
/-! walks: acknowledgements, data, packets, pieces, frames -/
theorem ub_uu (f : Nat → Nat) (k a b : Nat) : ub_un (ub_un f k a) k b = ub_un f k b := by
  funext j
  unfold ub_un
  by_cases h : j = k
  · rw [if_pos h, if_pos h]
  · rw [if_neg h, if_neg h, if_neg h]
theorem ss_sub64 {a b : Nat} (h : b ≤ 64) : nI a - nI b + 64 = nI (a + 64 - b) := by
  rw [← pk_sub (by omega), ← nI_add]
  show nI a - nI b + nI 64 = nI a + nI 64 - nI b
  rw [Int32.sub_eq_add_neg, Int32.sub_eq_add_neg, Int32.add_assoc, Int32.add_assoc, Int32.add_comm (-nI b)]
def sx_ack0 (N : Nat → Nat → Nat) (s num room : Nat) : Nat → Nat → Nat :=
  st_up (st_up (st_up (st_up (st_up (st_up N 0 s ((N 0 s + (num + 64 - N 9 s) % 64) % 24)) 1 s (N 1 s - (num + 64 - N 9 s) % 64)) 9 s num) 11 s (N 11 s - (num + 64 - N 9 s) % 64)) 10 s (N 10 s - (num + 64 - N 9 s) % 64)) 12 s (room + 1)
def sx_ack1 (N A : Nat → Nat → Nat) (s num : Nat) : Nat → Nat → Nat :=
  if 0 < N 11 s - (num + 64 - N 9 s) % 64 then st_up A 13 s 150 else if 0 < (num + 64 - N 9 s) % 64 ∨ N 1 s - (num + 64 - N 9 s) % 64 = 0 then st_up A 13 s 0 else A
def sx_ack2 (A : Nat → Nat → Nat) (s e : Nat) : Nat → Nat → Nat := if e = 0 then A else st_up A 14 s 1
def sx_ack (N : Nat → Nat → Nat) (s e num room : Nat) : Nat → Nat → Nat := sx_ack2 (sx_ack1 N (sx_ack0 N s num room) s num) s e
theorem sx_ack158 {post : SX → Prop} {s e tl : Nat} {ch : Int32} {A : Nat → Nat → Nat} (hs : s < 4) (he : e ≤ 1) (h : post (ss_st tl ch (sx_ack2 A s e))) : ss_S (wX_takeAck_158 post (nI s) (nI e)) tl ch A := by
  unfold sx_ack2 at h
  by_cases z : e = 0
  · rw [if_pos z] at h
    subst z
    exact br_t rfl h
  · rw [if_neg z] at h
    obtain rfl : e = 1 := by omega
    exact br_f (by decide) ⟨ss_in hs, nm_r (ss_stv s 1 rfl rfl (by omega)) h⟩
theorem sx_takeAck {post : SX → Prop} {s e num room tl : Nat} {ch : Int32} {N : Nat → Nat → Nat} (hs : s < 4) (he : e ≤ 1) (hn : num < 64) (hr : room ≤ 12) (hf : N 9 s < 64) (hd : (num + 64 - N 9 s) % 64 ≤ N 11 s) (hm : N 11 s ≤ N 1 s) (hc : N 1 s ≤ 24) (ho : N 0 s < 24) (hse : N 10 s ≤ 24)
    (h : post (ss_st tl ch (sx_ack N s e num room))) : wpX_takeAck post (ss_st tl ch N) (nI s) (nI e) (nI num) (nI room) := by
  have hdd : (num + 64 - N 9 s) % 64 ≤ 24 := by omega
  generalize hD : (num + 64 - N 9 s) % 64 = D at *
  have e0 : ∀ A : Nat → Nat → Nat, A 9 s = N 9 s → True := fun _ _ => trivial
  have i4 := ss_in hs (by decide)
  have D1 : nI num - ss_c (N 9) (nI s).toNatClampNeg + 64 - (nI num - ss_c (N 9) (nI s).toNatClampNeg + 64) / 64 * 64 = nI D := by
    rw [ss_rd (by omega), ss_sub64 (by omega), ss_rem64 (by omega), hD]
  refine ⟨i4, ss_nz64d, nm_r D1 ⟨i4, br_t ?_ ⟨i4, ss_nz24d, i4, nm_r (e' := ss_c (ub_un (N 0) s ((N 0 s + D) % 24))) ?_ ⟨i4, i4, nm_r (e' := ss_c (ub_un (N 1) s (N 1 s - D))) ?_ ⟨i4, nm_r (e' := ss_c (ub_un (N 9) s num)) ?_ ⟨i4, i4, nm_r (e' := ss_c (ub_un (N 11) s (N 11 s - D))) ?_ ⟨i4, ?_⟩⟩⟩⟩⟩⟩⟩
  · rw [ss_rd (by omega)]; exact nI_le hd (by omega)
  · refine ss_stb ?_ ?_ (by omega)
    · rw [ss_rd (by omega), nI_add, ss_rem24 (by omega)]
    · have := Nat.mod_lt (N 0 s + D) (y := 24) (by omega); omega
  · refine ss_stb ?_ (by omega) (by omega)
    rw [ss_rd (by omega), pk_sub (by omega)]
  · exact ss_stb rfl (by omega) (by omega)
  · refine ss_stb ?_ (by omega) (by omega)
    rw [ss_rd (by omega), pk_sub (by omega)]
  · have key : ∀ z0 : Int32, z0 = nI (N 10 s - D) → ss_S (wX_takeAck_108 post (nI s) (nI e) (nI room) (nI D) z0 (nI s)) tl ch (st_up (st_up (st_up (st_up N 0 s ((N 0 s + D) % 24)) 1 s (N 1 s - D)) 9 s num) 11 s (N 11 s - D)) := by
      intro z0 hz
      have A0 : sx_ack0 N s num room = st_up (st_up (st_up (st_up (st_up (st_up N 0 s ((N 0 s + D) % 24)) 1 s (N 1 s - D)) 9 s num) 11 s (N 11 s - D)) 10 s (N 10 s - D)) 12 s (room + 1) := by
        unfold sx_ack0; rw [hD]
      have hh : post (ss_st tl ch (sx_ack2 (if 0 < N 11 s - D then st_up (sx_ack0 N s num room) 13 s 150 else if 0 < D ∨ N 1 s - D = 0 then st_up (sx_ack0 N s num room) 13 s 0 else sx_ack0 N s num room) s e)) := by
        have := h
        unfold sx_ack sx_ack1 at this
        rw [hD] at this
        exact this
      rw [A0] at hh
      have k140 : ∀ (W : Nat → Nat), (0 < N 11 s - D → ub_un W s 150 = ub_un (N 13) s 150) → (¬ 0 < N 11 s - D → (if 0 < D ∨ N 1 s - D = 0 then ub_un (N 13) s 0 else N 13) = W) → ss_S (wX_takeAck_140 post (nI s) (nI e)) tl ch (fun i => cond (Nat.beq i 13) W (st_up (st_up (st_up (st_up (st_up (st_up N 0 s ((N 0 s + D) % 24)) 1 s (N 1 s - D)) 9 s num) 11 s (N 11 s - D)) 10 s (N 10 s - D)) 12 s (room + 1) i)) := by
        intro W w1 w2
        refine ⟨i4, ?_⟩
        by_cases q : 0 < N 11 s - D
        · rw [if_pos q] at hh
          refine br_f ?_ ⟨i4, nm_r (e' := ss_c (ub_un (N 13) s 150)) ?_ (sx_ack158 (A := st_up (st_up (st_up (st_up (st_up (st_up (st_up N 0 s ((N 0 s + D) % 24)) 1 s (N 1 s - D)) 9 s num) 11 s (N 11 s - D)) 10 s (N 10 s - D)) 12 s (room + 1)) 13 s 150) hs he hh)⟩
          · show ¬ ss_c (ub_un (N 11) s (N 11 s - D)) (nI s).toNatClampNeg ≤ 0
            rw [ss_rd (by omega), ub_s]
            exact nI_nle q (by omega)
          · rw [ss_ns150, ← w1 q]
            exact ss_stv s 150 rfl rfl (by omega)
        · rw [if_neg q] at hh
          refine br_t ?_ (sx_ack158 (A := fun i => cond (Nat.beq i 13) W (st_up (st_up (st_up (st_up (st_up (st_up N 0 s ((N 0 s + D) % 24)) 1 s (N 1 s - D)) 9 s num) 11 s (N 11 s - D)) 10 s (N 10 s - D)) 12 s (room + 1) i)) hs he ?_)
          · show ss_c (ub_un (N 11) s (N 11 s - D)) (nI s).toNatClampNeg ≤ 0
            rw [ss_rd (by omega), ub_s, show N 11 s - D = 0 by omega]
            decide
          · have ww := w2 q
            by_cases p : 0 < D ∨ N 1 s - D = 0
            · rw [if_pos p] at hh ww
              subst ww
              unfold sx_ack2 at hh ⊢
              by_cases ee : e = 0
              · rw [if_pos ee] at hh ⊢; exact hh
              · rw [if_neg ee] at hh ⊢; exact hh
            · rw [if_neg p] at hh ww
              subst ww
              unfold sx_ack2 at hh ⊢
              by_cases ee : e = 0
              · rw [if_pos ee] at hh ⊢; exact hh
              · rw [if_neg ee] at hh ⊢; exact hh
      have k133 : (0 < D ∨ N 1 s - D = 0) → ss_S (wX_takeAck_133 post (nI s) (nI e)) tl ch (st_up (st_up (st_up (st_up (st_up (st_up N 0 s ((N 0 s + D) % 24)) 1 s (N 1 s - D)) 9 s num) 11 s (N 11 s - D)) 10 s (N 10 s - D)) 12 s (room + 1)) := by
        intro p
        refine ⟨i4, nm_r (e' := ss_c (ub_un (N 13) s 0)) ?_ (k140 (ub_un (N 13) s 0) ?_ ?_)⟩
        · rw [ss_ns0]; exact ss_stv s 0 rfl rfl (by omega)
        · intro _; exact ub_uu _ _ _ _
        · intro _; rw [if_pos p]
      refine ⟨i4, nm_r (e' := ss_c (ub_un (N 10) s (N 10 s - D))) ?_ ⟨i4, nm_r (e' := ss_m (ub_un (N 12) s (room + 1))) ?_ ?_⟩⟩
      · exact ss_stb hz (by omega) (by omega)
      · rw [ss_nb (by omega), nI_clamp (by omega)]; exact ss_mu1 _ _ _
      · by_cases p : 0 < D
        · exact br_t (nI_lt (a := 0) p (by omega)) (k133 (Or.inl p))
        · refine br_f (nI_nlt (a := 0) (by omega) (by omega)) ⟨i4, ?_⟩
          by_cases q : N 1 s - D = 0
          · refine br_t ?_ (k133 (Or.inr q))
            show ss_c (ub_un (N 1) s (N 1 s - D)) (nI s).toNatClampNeg = 0
            rw [ss_rd (by omega), ub_s, q]; rfl
          · refine br_f ?_ (k140 (N 13) ?_ ?_)
            · show ¬ ss_c (ub_un (N 1) s (N 1 s - D)) (nI s).toNatClampNeg = 0
              rw [ss_rd (by omega), ub_s]
              exact nI_ne0 (by omega) (by omega)
            · intro _; rfl
            · intro _; rw [if_neg (by omega)]
    by_cases q : N 10 s ≤ D
    · refine br_t ?_ (key 0 ?_)
      · rw [ss_rd (by omega)]; exact nI_le q (by omega)
      · rw [show N 10 s - D = 0 by omega]; rfl
    · refine br_f ?_ ⟨i4, key _ ?_⟩
      · rw [ss_rd (by omega)]; exact nI_ge (by omega) (by omega)
      · rw [ss_rd (by omega), pk_sub (by omega)]
end
section
/-! walks: data into the ring -/
theorem nx_or (a b : Nat) : nI a ||| nI b = nI (a ||| b) := by
  apply Int32.toBitVec_inj.1
  show BitVec.ofNat 32 a ||| BitVec.ofNat 32 b = BitVec.ofNat 32 (a ||| b)
  apply BitVec.eq_of_getLsbD_eq
  intro i hi
  simp [hi]
theorem ss_one : ∀ k, k < 12 → (1 : Int32) <<< (nI k &&& 31) = nI (2 ^ k) := by decide +kernel
theorem ss_a1 (e : Nat) : nI e &&& 1 = nI (e % 2) := by
  show nI e &&& nI 1 = _
  rw [nx_and, Nat.and_one_is_mod]
theorem st_self (N : Nat → Nat → Nat) (i k : Nat) : st_up N i k (N i k) = N := by
  funext i'
  show cond (Nat.beq i' i) _ _ = _
  cases h : Nat.beq i' i
  · rfl
  · have e := Nat.eq_of_beq_eq_true h
    subst e
    funext j
    show ub_un (N i') k (N i' k) j = N i' j
    unfold ub_un
    split
    · next h => rw [h]
    · rfl
def sx_td (N : Nat → Nat → Nat) (s off : Nat) : Nat → Nat → Nat → Nat
  | 0 => N
  | k + 1 => if (off + k) % 64 < 12 - N 4 s then st_up (st_up (sx_td N s off k) 5 (12 * s + (N 3 s + N 4 s + (off + k) % 64) % 12) (N 17 (2 + k))) 6 s (sx_td N s off k 6 s ||| 2 ^ ((off + k) % 64)) else sx_td N s off k
theorem sx_td_o {N : Nat → Nat → Nat} {s off : Nat} : ∀ (k i : Nat), i ≠ 5 → i ≠ 6 → sx_td N s off k i = N i := by
  intro k
  induction k with
  | zero => exact fun i _ _ => rfl
  | succ k ih =>
    intro i h5 h6
    unfold sx_td
    split
    · rw [ss_up_n h6, ss_up_n h5, ih i h5 h6]
    · exact ih i h5 h6
theorem sx_td_6 {N : Nat → Nat → Nat} {s off : Nat} (h : N 6 s < 4096) : ∀ k : Nat, sx_td N s off k 6 s < 4096 := by
  intro k
  induction k with
  | zero => exact h
  | succ k ih =>
    unfold sx_td
    split
    · next c =>
      rw [ss_up_s, ub_s]
      refine Nat.or_lt_two_pow (n := 12) ih (Nat.pow_lt_pow_right (by decide) (by omega))
    · exact ih
def sx_shf (A : Nat → Nat → Nat) (s t : Nat) : Nat → Nat → Nat := st_up (st_up (st_up A 6 s (A 6 s / 2 ^ t)) 4 s (A 4 s + t)) 15 s ((A 15 s + t) % 64)
theorem sx_shf0 {A : Nat → Nat → Nat} {s : Nat} (h : A 15 s < 64) : sx_shf A s 0 = A := by
  unfold sx_shf
  rw [Nat.pow_zero, Nat.div_one, st_self, Nat.add_zero, st_self, Nat.add_zero, Nat.mod_eq_of_lt h, st_self]
theorem sx_td117 {post : SX → Prop} {s t tl : Nat} {ch : Int32} {A : Nat → Nat → Nat} (hs : s < 4) (h6 : A 6 s < 4096) (h4 : A 4 s + t < 100) (ht : ∀ j, j < t → A 6 s / 2 ^ j % 2 = 1) (hn : A 6 s / 2 ^ t % 2 = 0)
    (h : post (ss_st tl ch (sx_shf A s t))) : ∀ d n j, j + d = t → d < n → ss_A (wX_takeData_117 post (nI s) (nI tl) ch n) (sx_shf A s j) := by
  intro d
  induction d with
  | zero =>
    intro n j hj hn'
    obtain ⟨m, rfl⟩ : ∃ m, n = m + 1 := ⟨n - 1, by omega⟩
    obtain rfl : j = t := by omega
    refine ⟨ss_in hs, br_t ?_ h⟩
    show ss_c (ub_un (A 6) s (A 6 s / 2 ^ j)) (nI s).toNatClampNeg &&& 1 = 0
    rw [ss_rd (by omega), ub_s, ss_a1, hn]; rfl
  | succ d ih =>
    intro n j hj hn'
    obtain ⟨m, rfl⟩ : ∃ m, n = m + 1 := ⟨n - 1, by omega⟩
    have i4 := ss_in hs (by decide)
    have lt : A 6 s / 2 ^ j < 2 ^ 31 := Nat.lt_of_le_of_lt (Nat.div_le_self _ _) (by omega)
    have z := ih m (j + 1) (by omega) (by omega)
    refine ⟨i4, br_f ?_ ⟨i4, i4, nm_r (e' := ss_c (ub_un (A 6) s (A 6 s / 2 ^ (j + 1)))) ?_ ⟨i4, i4, nm_r (e' := ss_c (ub_un (A 4) s (A 4 s + (j + 1)))) ?_ ⟨i4, ss_nz64d, i4, nm_r (e' := ss_c (ub_un (A 15) s ((A 15 s + (j + 1)) % 64))) ?_ z⟩⟩⟩⟩
    · show ¬ ss_c (ub_un (A 6) s (A 6 s / 2 ^ j)) (nI s).toNatClampNeg &&& 1 = 0
      rw [ss_rd (by omega), ub_s, ss_a1, ht j (by omega)]; decide
    · show upd (ss_c (ub_un (A 6) s (A 6 s / 2 ^ j))) (nI s).toNatClampNeg (ss_c (ub_un (A 6) s (A 6 s / 2 ^ j)) (nI s).toNatClampNeg >>> ((1 : Int32) &&& 31)) = _
      rw [ss_rd (by omega), ub_s, pk_shrN lt _ 1 (by decide), ss_stv s _ rfl rfl (by omega), ub_uu, Nat.div_div_eq_div_mul, Nat.pow_one, ← Nat.pow_succ]
    · show upd (ss_c (ub_un (A 4) s (A 4 s + j))) (nI s).toNatClampNeg (vp_nar .byte (ss_c (ub_un (A 4) s (A 4 s + j)) (nI s).toNatClampNeg + 1).toInt8.toInt32) = _
      rw [ss_rd (by omega), ub_s, nI_1, ss_stb rfl (by omega) (by omega), ub_uu, Nat.add_assoc]
    · show upd (ss_c (ub_un (A 15) s ((A 15 s + j) % 64))) (nI s).toNatClampNeg (vp_nar .byte ((ss_c (ub_un (A 15) s ((A 15 s + j) % 64)) (nI s).toNatClampNeg + 1) - (ss_c (ub_un (A 15) s ((A 15 s + j) % 64)) (nI s).toNatClampNeg + 1) / 64 * 64).toInt8.toInt32) = _
      have q := Nat.mod_lt (A 15 s + j) (y := 64) (by omega)
      rw [ss_rd (by omega), ub_s, nI_1, ss_rem64 (by omega), ss_stb rfl (by omega) (by omega), ub_uu, show ((A 15 s + j) % 64 + 1) % 64 = (A 15 s + (j + 1)) % 64 by omega]
theorem sx_td30 {post : SX → Prop} {s z off t tl : Nat} {ch : Int32} {N : Nat → Nat → Nat} (hs : s < 4) (hz : z ≤ 4) (ho : off < 64) (h3 : N 3 s < 12) (h4 : N 4 s ≤ 12) (h6 : N 6 s < 4096) (h15 : N 15 s < 64) (ht12 : t ≤ 12)
    (ht : ∀ j, j < t → sx_td N s off z 6 s / 2 ^ j % 2 = 1) (hn : sx_td N s off z 6 s / 2 ^ t % 2 = 0)
    (h : post (ss_st tl ch (sx_shf (sx_td N s off z) s t))) : ∀ d n k, k + d = z → d < n → ss_A (wX_takeData_30 post (nI s) (nI z) (nI (12 - N 4 s)) (nI off) (nI tl) ch n (nI k)) (sx_td N s off k) := by
  intro d
  induction d with
  | zero =>
    intro n k hk hn'
    obtain ⟨m, rfl⟩ : ∃ m, n = m + 1 := ⟨n - 1, by omega⟩
    obtain rfl : k = z := by omega
    have z1 := sx_td117 (A := sx_td N s off k) hs (sx_td_6 h6 k) (by rw [sx_td_o k 4 (by decide) (by decide)]; omega) ht hn h t (t + 1) 0 (by omega) (by omega)
    rw [sx_shf0 (by rw [sx_td_o k 15 (by decide) (by decide)]; exact h15)] at z1
    exact br_t (nI_le (by omega) (by omega)) ⟨t + 1, z1⟩
  | succ d ih =>
    intro n k hk hn'
    obtain ⟨m, rfl⟩ : ∃ m, n = m + 1 := ⟨n - 1, by omega⟩
    have i4 := ss_in hs (by decide)
    have q := Nat.mod_lt (off + k) (y := 64) (by omega)
    have zz := ih m (k + 1) (by omega) (by omega)
    refine br_f (nI_ge (by omega) (by omega)) ⟨ss_nz64d, nm_r (e' := nI ((off + k) % 64)) (by rw [nI_add, ss_rem64 (by omega)]) ?_⟩
    have e3 : sx_td N s off k 3 = N 3 := sx_td_o k 3 (by decide) (by decide)
    have e4 : sx_td N s off k 4 = N 4 := sx_td_o k 4 (by decide) (by decide)
    have e17 : sx_td N s off k 17 = N 17 := sx_td_o k 17 (by decide) (by decide)
    by_cases c : (off + k) % 64 < 12 - N 4 s
    · have et : sx_td N s off (k + 1) = st_up (st_up (sx_td N s off k) 5 (12 * s + (N 3 s + N 4 s + (off + k) % 64) % 12) (N 17 (2 + k))) 6 s (sx_td N s off k 6 s ||| 2 ^ ((off + k) % 64)) := by
        rw [sx_td, if_pos c]
      rw [et] at zz
      have q12 := Nat.mod_lt (N 3 s + N 4 s + (off + k) % 64) (y := 12) (by omega)
      refine br_t (nI_lt c (by omega)) ⟨i4, i4, ss_nz12d, nm_r (e' := nI ((N 3 s + N 4 s + (off + k) % 64) % 12)) ?_ ⟨?_, ?_, nm_r (e' := ss_c (ub_un (sx_td N s off k 5) (12 * s + (N 3 s + N 4 s + (off + k) % 64) % 12) (N 17 (2 + k)))) ?_ ⟨i4, i4, nm_r (e' := ss_c (ub_un (sx_td N s off k 6) s (sx_td N s off k 6 s ||| 2 ^ ((off + k) % 64)))) ?_ (nm_r (nI_1 k) zz)⟩⟩⟩
      · rw [e3, e4, ss_rd (by omega), ss_rd (by omega), nI_add, nI_add, ss_rem12 (by omega)]
      · rw [ss_ad2]; exact ss_in (by omega)
      · rw [ss_mul12, nI_add]; exact ss_in (by omega)
      · refine ss_stv _ _ (by rw [ss_mul12, nI_add]) ?_ (by omega)
        rw [e17, ss_ad2, ss_rd (by omega)]
      · refine ss_stv _ _ rfl ?_ (by omega)
        rw [ss_rd (by omega), ss_one _ (by omega), nx_or]
    · have et : sx_td N s off (k + 1) = sx_td N s off k := by rw [sx_td, if_neg c]
      rw [et] at zz
      exact br_f (nI_nlt (by omega) (by omega)) (nm_r (nI_1 k) zz)
theorem sx_takeData {post : SX → Prop} {s z num t tl : Nat} {ch : Int32} {N : Nat → Nat → Nat} (hs : s < 4) (hz : z ≤ 4) (hn : num < 64) (h3 : N 3 s < 12) (h4 : N 4 s ≤ 12) (h6 : N 6 s < 4096) (h15 : N 15 s < 64) (ht12 : t ≤ 12)
    (ht : ∀ j, j < t → sx_td N s ((num + 64 - N 15 s) % 64) z 6 s / 2 ^ j % 2 = 1) (hn0 : sx_td N s ((num + 64 - N 15 s) % 64) z 6 s / 2 ^ t % 2 = 0)
    (h : post (ss_st tl ch (sx_shf (sx_td N s ((num + 64 - N 15 s) % 64) z) s t))) : wpX_takeData post (ss_st tl ch N) (nI s) (nI z) (nI num) := by
  have i4 := ss_in hs (by decide)
  refine ⟨i4, nm_r (e' := nI (12 - N 4 s)) ?_ ⟨i4, ss_nz64d, nm_r (e' := nI ((num + 64 - N 15 s) % 64)) ?_ ⟨z + 1, ?_⟩⟩⟩
  · rw [ss_rd (by omega)]; exact pk_sub (a := 12) h4
  · rw [ss_rd (by omega), ss_sub64 (by omega), ss_rem64 (by omega)]
  · exact sx_td30 hs hz (Nat.mod_lt _ (by omega)) h3 h4 h6 h15 ht12 ht hn0 h z (z + 1) 0 (by omega) (by omega)
end
section
/-! walks: packets, pieces -/
theorem ss_b6 : ∀ p, p < 256 → nI p >>> ((6 : Int32) &&& 31) = nI (p / 64) := by decide +kernel
theorem ss_b3 : ∀ p, p < 256 → (nI p >>> ((3 : Int32) &&& 31)) &&& 7 = nI (p / 8 % 8) := by decide +kernel
theorem ss_a3 : ∀ p, p < 256 → nI p &&& 3 = nI (p % 4) := by decide +kernel
theorem ss_a8 : ∀ p, p < 256 → ((nI p &&& 8) = 0 ↔ p / 8 % 2 = 0) := by decide +kernel
theorem ss_b4 : ∀ p, p < 256 → nI p >>> ((4 : Int32) &&& 31) = nI (p / 16) := by decide +kernel
theorem ss_b1 : ∀ p, p < 256 → (nI p >>> ((1 : Int32) &&& 31)) &&& 7 = nI (p / 2 % 8) := by decide +kernel
theorem sx_takePacket1 {post : SX → Prop} {s e tl : Nat} {ch : Int32} {N : Nat → Nat → Nat} (hs : s < 4) (he : e ≤ 1) (h0 : N 17 0 = 64 + 8 * e + s) (hn : N 17 1 < 64) (hr : N 17 2 ≤ 12) (hf : N 9 s < 64) (hd : (N 17 1 + 64 - N 9 s) % 64 ≤ N 11 s) (hm : N 11 s ≤ N 1 s) (hc : N 1 s ≤ 24) (ho : N 0 s < 24) (hse : N 10 s ≤ 24)
    (h : post (ss_st tl ch (sx_ack N s e (N 17 1) (N 17 2)))) : wpX_takePacket post (ss_st tl ch N) := by
  have e1 : ss_c (N 17) 0 >>> ((6 : Int32) &&& 31) = nI 1 := by
    rw [ss_cr, h0, ss_b6 _ (by omega), show (64 + 8 * e + s) / 64 = 1 by omega]
  have e2 : ss_c (N 17) 0 &&& 3 = nI s := by
    rw [ss_cr, h0, ss_a3 _ (by omega), show (64 + 8 * e + s) % 4 = s by omega]
  have k : ∀ e' : Nat, e' = e → ss_S (wX_takePacket_43 post (nI e') (nI s)) tl ch N := by
    intro e' ee
    subst ee
    exact sx_takeAck hs he hn hr hf hd hm hc ho hse h
  refine nm_r e1 (nm_r e2 (br_t rfl ?_))
  by_cases z : e = 0
  · refine br_t ?_ (k 0 z.symm)
    show nI (N 17 0) &&& 8 = 0
    rw [h0]
    exact (ss_a8 _ (by omega)).mpr (by omega)
  · refine br_f ?_ (k 1 (by omega))
    show ¬ nI (N 17 0) &&& 8 = 0
    rw [h0]
    exact fun q => absurd ((ss_a8 _ (by omega)).mp q) (by omega)
/-- a question about a stream: an answer is due -/
theorem sx_takePacket3 {post : SX → Prop} {s tl : Nat} {ch : Int32} {N : Nat → Nat → Nat} (hs : s < 4) (h0 : N 17 0 = 192 + s) (h : post (ss_st tl ch (st_up N 16 s 1))) : wpX_takePacket post (ss_st tl ch N) := by
  have e1 : ss_c (N 17) 0 >>> ((6 : Int32) &&& 31) = nI 3 := by
    rw [ss_cr, h0, ss_b6 _ (by omega), show (192 + s) / 64 = 3 by omega]
  have e2 : ss_c (N 17) 0 &&& 3 = nI s := by
    rw [ss_cr, h0, ss_a3 _ (by omega), show (192 + s) % 4 = s by omega]
  exact nm_r e1 (nm_r e2 (br_f (by decide) ⟨ss_in hs, nm_r (ss_stv s 1 rfl rfl (by omega)) (br_f (by decide) (br_f (by decide) h))⟩))
theorem sx_takePacket2 {post : SX → Prop} {s tl : Nat} {ch : Int32} {N : Nat → Nat → Nat} (hs : s < 4) (h0 : N 17 0 = 128 + s) (h15 : N 17 1 = N 15 s) (h : post (ss_st tl ch (st_up (st_up N 16 s 1) 8 s 1))) : wpX_takePacket post (ss_st tl ch N) := by
  have e1 : ss_c (N 17) 0 >>> ((6 : Int32) &&& 31) = nI 2 := by
    rw [ss_cr, h0, ss_b6 _ (by omega), show (128 + s) / 64 = 2 by omega]
  have e2 : ss_c (N 17) 0 &&& 3 = nI s := by
    rw [ss_cr, h0, ss_a3 _ (by omega), show (128 + s) % 4 = s by omega]
  refine nm_r e1 (nm_r e2 (br_f (by decide) ⟨ss_in hs, nm_r (ss_stv s 1 rfl rfl (by omega)) (br_t rfl ⟨ss_in hs, br_t ?_ ⟨ss_in hs, nm_r (ss_stv s 1 rfl rfl (by omega)) (br_f (by decide) h)⟩⟩)⟩))
  rw [ss_cr, ss_rd (by omega), h15]
theorem sx_takePacket0 {post : SX → Prop} {s z t tl : Nat} {ch : Int32} {N : Nat → Nat → Nat} (hs : s < 4) (hz : z ≤ 4) (h0 : N 17 0 = 8 * z + s) (hn : N 17 1 < 64) (h3 : N 3 s < 12) (h4 : N 4 s ≤ 12) (h6 : N 6 s < 4096) (h15 : N 15 s < 64) (ht12 : t ≤ 12)
    (ht : ∀ j, j < t → sx_td (st_up N 16 s 1) s ((N 17 1 + 64 - N 15 s) % 64) z 6 s / 2 ^ j % 2 = 1) (hn0 : sx_td (st_up N 16 s 1) s ((N 17 1 + 64 - N 15 s) % 64) z 6 s / 2 ^ t % 2 = 0)
    (h : post (ss_st tl ch (sx_shf (sx_td (st_up N 16 s 1) s ((N 17 1 + 64 - N 15 s) % 64) z) s t))) : wpX_takePacket post (ss_st tl ch N) := by
  have e1 : ss_c (N 17) 0 >>> ((6 : Int32) &&& 31) = nI 0 := by
    rw [ss_cr, h0, ss_b6 _ (by omega), show (8 * z + s) / 64 = 0 by omega]
  have e2 : ss_c (N 17) 0 &&& 3 = nI s := by
    rw [ss_cr, h0, ss_a3 _ (by omega), show (8 * z + s) % 4 = s by omega]
  refine nm_r e1 (nm_r e2 (br_f (by decide) ⟨ss_in hs, nm_r (ss_stv s 1 rfl rfl (by omega)) (br_f (by decide) (br_t rfl ?_))⟩))
  have e3 : (ss_c (N 17) 0 >>> ((3 : Int32) &&& 31)) &&& 7 = nI z := by
    rw [ss_cr, h0, ss_b3 _ (by omega), show (8 * z + s) / 8 % 8 = z by omega]
  rw [e3]
  exact sx_takeData (N := st_up N 16 s 1) (num := N 17 1) hs hz hn h3 h4 h6 h15 ht12 ht hn0 h
/-- a piece's bytes join those that are there -/
def sx_jn (N : Nat → Nat → Nat) (e c k : Nat) : Nat → Nat → Nat := st_up (st_bl N 18 (8 * e + c) k (fun j => N 37 (2 + j))) 19 e (c + k)
theorem sx_tp157 {post : SX → Prop} {e c tl : Nat} {ch : Int32} {A : Nat → Nat → Nat} (he : e < 2) (hc : c ≤ 8) (h19 : A 19 e = c) (h : wpX_takePacket post (ss_st tl ch (st_bl A 17 0 c (fun k => A 18 (8 * e + k))))) : ∀ d n k, k + d = c → d < n → ss_A (wX_takePiece_157 post (nI e) (nI tl) ch n (nI k)) (st_bl A 17 0 k (fun k => A 18 (8 * e + k))) := by
  intro d
  induction d with
  | zero =>
    intro n k hk hn
    obtain ⟨m, rfl⟩ : ∃ m, n = m + 1 := ⟨n - 1, by omega⟩
    obtain rfl : k = c := by omega
    refine ⟨ss_in he, br_t ?_ h⟩
    show ss_c (A 19) (nI e).toNatClampNeg ≤ nI k
    rw [ss_rd (by omega), h19]
    exact nI_le (by omega) (by omega)
  | succ d ih =>
    intro n k hk hn
    obtain ⟨m, rfl⟩ : ∃ m, n = m + 1 := ⟨n - 1, by omega⟩
    refine ⟨ss_in he, br_f ?_ ⟨?_, ss_in (by omega), nm_r (e' := ss_c (ub_bl (A 17) 0 (k + 1) (fun k => A 18 (8 * e + k)))) ?_ (nm_r (nI_1 k) (ih m (k + 1) (by omega) (by omega)))⟩⟩
    · show ¬ ss_c (A 19) (nI e).toNatClampNeg ≤ nI k
      rw [ss_rd (by omega), h19]
      exact nI_ge (by omega) (by omega)
    · rw [ss_mul8, nI_add]; exact ss_in (by omega)
    · rw [← ub_bls, Nat.zero_add]
      refine ss_stv k (A 18 (8 * e + k)) rfl ?_ (by omega)
      rw [ss_mul8, nI_add, ss_rd (by omega)]; rfl
theorem sx_tp81 {post : SX → Prop} {e c q hd tl : Nat} {ch : Int32} {N : Nat → Nat → Nat} (he : e < 2) (hq : q ≤ 3) (hcq : c + q ≤ 8) (hh : hd < 256) (h19 : N 19 e = c) (h21 : N 21 e < 100)
    (h0 : hd % 2 = 0 → post (ss_st tl ch (st_up (sx_jn N e c q) 21 e (N 21 e + 1))))
    (h1 : hd % 2 = 1 → wpX_takePacket post (ss_st tl ch (st_bl (st_up (st_up (sx_jn N e c q) 21 e (N 21 e + 1)) 20 e 0) 17 0 (c + q) (fun k => sx_jn N e c q 18 (8 * e + k))))) :
    ∀ d n k, k + d = q → d < n → ss_A (wX_takePiece_81 post (nI e) (nI (q + 1)) (nI hd) (nI tl) ch n (nI (1 + k))) (sx_jn N e c k) := by
  intro d
  induction d with
  | zero =>
    intro n k hk hn
    obtain ⟨m, rfl⟩ : ∃ m, n = m + 1 := ⟨n - 1, by omega⟩
    obtain rfl : k = q := by omega
    refine br_t (nI_le (by omega) (by omega)) ⟨ss_in he, ss_in he, nm_r (e' := ss_c (ub_un (N 21) e (N 21 e + 1))) ?_ ?_⟩
    · refine ss_stb ?_ (by omega) (by omega)
      show ss_c (N 21) (nI e).toNatClampNeg + 1 = _
      rw [ss_rd (by omega), nI_1]
    · rcases Nat.mod_two_eq_zero_or_one hd with z | z
      · refine br_t ?_ (h0 z)
        rw [ss_a1, z]; rfl
      · refine br_f ?_ ⟨ss_in he, nm_r (e' := ss_m (ub_un (N 20) e 0)) ?_ ⟨c + k + 1, ?_⟩⟩
        · rw [ss_a1, z]; decide
        · rw [ss_nbm, nI_clamp (by omega)]; exact ss_mu0 _ _
        · have w := sx_tp157 (post := post) (tl := tl) (ch := ch) (c := c + k) (A := st_up (st_up (sx_jn N e c k) 21 e (N 21 e + 1)) 20 e 0) he (by omega) ?_ (h1 z) (c + k) (c + k + 1) 0 (by omega) (by omega)
          · rw [st_bl0] at w; exact w
          · show ub_un (N 19) e (c + k) e = c + k
            exact ub_s
  | succ d ih =>
    intro n k hk hn
    obtain ⟨m, rfl⟩ : ∃ m, n = m + 1 := ⟨n - 1, by omega⟩
    have e19 : ss_c (sx_jn N e c k 19) (nI e).toNatClampNeg = nI (c + k) := by
      rw [ss_rd (by omega)]
      show nI (ub_un (N 19) e (c + k) e) = _
      rw [ub_s]
    refine br_f (nI_ge (by omega) (by omega)) ⟨ss_in he, ?_, ?_, nm_r (e' := ss_c (ub_bl (N 18) (8 * e + c) (k + 1) (fun j => N 37 (2 + j)))) ?_ ⟨ss_in he, ss_in he, nm_r (e' := ss_c (ub_un (N 19) e (c + (k + 1)))) ?_ (nm_r (e' := nI (1 + (k + 1))) (by rw [nI_1, Nat.add_assoc]) (ih m (k + 1) (by omega) (by omega)))⟩⟩
    · rw [ss_ad1]; exact ss_in (by omega)
    · rw [e19, ss_mul8, nI_add]; exact ss_in (by omega)
    · rw [← ub_bls]
      refine ss_stv (8 * e + c + k) (N 37 (2 + k)) ?_ ?_ (by omega)
      · rw [e19, ss_mul8, nI_add, Nat.add_assoc]
      · rw [ss_ad1, ss_rd (by omega), ← Nat.add_assoc]; rfl
    · show upd (ss_c (ub_un (N 19) e (c + k))) (nI e).toNatClampNeg (vp_nar .byte (ss_c (sx_jn N e c k 19) (nI e).toNatClampNeg + 1).toInt8.toInt32) = _
      rw [e19, nI_1, ss_stb rfl (by omega) (by omega), ub_uu, Nat.add_assoc]
end
section
/-! walks: a piece, a frame -/
theorem sx_jn0 {N : Nat → Nat → Nat} {e c : Nat} (h : N 19 e = c) : sx_jn N e c 0 = N := by
  unfold sx_jn
  rw [st_bl0, Nat.add_zero, ← h, st_self]
def sx_j0 (N : Nat → Nat → Nat) (e nm : Nat) : Nat → Nat → Nat := st_up (st_up (st_up N 20 e (nm + 1)) 21 e 0) 19 e 0
/-- first piece of a packet, more to come -/
theorem sx_takePieceA {post : SX → Prop} {e q nm tl : Nat} {ch : Int32} {N : Nat → Nat → Nat} (he : e < 2) (hq : q ≤ 3) (hn : nm < 16) (h1 : N 37 1 = 16 * nm)
    (h : post (ss_st tl ch (st_up (sx_jn (sx_j0 N e nm) e 0 q) 21 e 1))) : wpX_takePiece post (ss_st tl ch N) (nI e) (nI (q + 1)) := by
  refine nm_r (e' := nI (16 * nm)) (by rw [ss_cr, h1]) (nm_r (e' := nI nm) (by rw [ss_b4 _ (by omega), show 16 * nm / 16 = nm by omega]) (nm_r (e' := nI 0) (by rw [ss_b1 _ (by omega), show 16 * nm / 2 % 8 = 0 by omega]) (br_t rfl ⟨ss_in he, nm_r (e' := ss_m (ub_un (N 20) e (nm + 1))) ?_ ⟨ss_in he, nm_r (e' := ss_c (ub_un (N 21) e 0)) ?_ ⟨ss_in he, nm_r (e' := ss_c (ub_un (N 19) e 0)) ?_ ⟨ss_in he, br_t ?_ ⟨ss_in he, br_t ?_ ⟨q + 1, ?_⟩⟩⟩⟩⟩⟩)))
  · rw [ss_nb (by omega), nI_clamp (by omega)]; exact ss_mu1 _ _ _
  · rw [ss_nb0]; exact ss_stv e 0 rfl rfl (by omega)
  · rw [ss_nb0]; exact ss_stv e 0 rfl rfl (by omega)
  · rw [ss_rdm (by omega), ub_s, ← nI_1, Int32.add_sub_cancel]
  · rw [ss_rd (by omega), ub_s]
  · have w := sx_tp81 (post := post) (tl := tl) (ch := ch) (N := sx_j0 N e nm) (e := e) (c := 0) (q := q) (hd := 16 * nm) he hq (by omega) (by omega) ub_s (by show ub_un (N 21) e 0 e < 100; rw [ub_s]; omega) ?_ ?_ q (q + 1) 0 (by omega) (by omega)
    · rw [sx_jn0 (N := sx_j0 N e nm) (c := 0) ub_s] at w
      exact w
    · intro _
      rw [show sx_j0 N e nm 21 e + 1 = 1 by show ub_un (N 21) e 0 e + 1 = 1; rw [ub_s]]
      exact h
    · intro z; omega
def sx_jP (A : Nat → Nat → Nat) (e c : Nat) : Nat → Nat → Nat := st_bl (st_up A 20 e 0) 17 0 c (fun k => A 18 (8 * e + k))
/-- a packet of one piece -/
theorem sx_takePieceB {post : SX → Prop} {e q nm tl : Nat} {ch : Int32} {N : Nat → Nat → Nat} (he : e < 2) (hq : q ≤ 3) (hn : nm < 16) (h1 : N 37 1 = 16 * nm + 1)
    (h : wpX_takePacket post (ss_st tl ch (sx_jP (st_up (sx_jn (sx_j0 N e nm) e 0 q) 21 e 1) e q))) : wpX_takePiece post (ss_st tl ch N) (nI e) (nI (q + 1)) := by
  refine nm_r (e' := nI (16 * nm + 1)) (by rw [ss_cr, h1]) (nm_r (e' := nI nm) (by rw [ss_b4 _ (by omega), show (16 * nm + 1) / 16 = nm by omega]) (nm_r (e' := nI 0) (by rw [ss_b1 _ (by omega), show (16 * nm + 1) / 2 % 8 = 0 by omega]) (br_t rfl ⟨ss_in he, nm_r (e' := ss_m (ub_un (N 20) e (nm + 1))) ?_ ⟨ss_in he, nm_r (e' := ss_c (ub_un (N 21) e 0)) ?_ ⟨ss_in he, nm_r (e' := ss_c (ub_un (N 19) e 0)) ?_ ⟨ss_in he, br_t ?_ ⟨ss_in he, br_t ?_ ⟨q + 1, ?_⟩⟩⟩⟩⟩⟩)))
  · rw [ss_nb (by omega), nI_clamp (by omega)]; exact ss_mu1 _ _ _
  · rw [ss_nb0]; exact ss_stv e 0 rfl rfl (by omega)
  · rw [ss_nb0]; exact ss_stv e 0 rfl rfl (by omega)
  · rw [ss_rdm (by omega), ub_s, ← nI_1, Int32.add_sub_cancel]
  · rw [ss_rd (by omega), ub_s]
  · have w := sx_tp81 (post := post) (tl := tl) (ch := ch) (N := sx_j0 N e nm) (e := e) (c := 0) (q := q) (hd := 16 * nm + 1) he hq (by omega) (by omega) ub_s (by show ub_un (N 21) e 0 e < 100; rw [ub_s]; omega) ?_ ?_ q (q + 1) 0 (by omega) (by omega)
    · rw [sx_jn0 (N := sx_j0 N e nm) (c := 0) ub_s] at w
      exact w
    · intro z; omega
    · intro _
      rw [show sx_j0 N e nm 21 e + 1 = 1 by show ub_un (N 21) e 0 e + 1 = 1; rw [ub_s], Nat.zero_add]
      exact h
/-- the second and last piece -/
theorem sx_takePieceC {post : SX → Prop} {e q nm c tl : Nat} {ch : Int32} {N : Nat → Nat → Nat} (he : e < 2) (hq : q ≤ 3) (hn : nm < 16) (h1 : N 37 1 = 16 * nm + 3) (h20 : N 20 e = nm + 1) (h21 : N 21 e = 1) (h19 : N 19 e = c) (hc : c ≤ 3)
    (h : wpX_takePacket post (ss_st tl ch (sx_jP (st_up (sx_jn N e c q) 21 e 2) e (c + q)))) : wpX_takePiece post (ss_st tl ch N) (nI e) (nI (q + 1)) := by
  refine nm_r (e' := nI (16 * nm + 3)) (by rw [ss_cr, h1]) (nm_r (e' := nI nm) (by rw [ss_b4 _ (by omega), show (16 * nm + 3) / 16 = nm by omega]) (nm_r (e' := nI 1) (by rw [ss_b1 _ (by omega), show (16 * nm + 3) / 2 % 8 = 1 by omega]) (br_f (by decide) ⟨ss_in he, br_t ?_ ⟨ss_in he, br_t ?_ ⟨q + 1, ?_⟩⟩⟩)))
  · rw [ss_rdm (by omega), h20, ← nI_1, Int32.add_sub_cancel]
  · rw [ss_rd (by omega), h21]
  · have w := sx_tp81 (post := post) (tl := tl) (ch := ch) (N := N) (e := e) (c := c) (q := q) (hd := 16 * nm + 3) he hq (by omega) (by omega) h19 (by omega) ?_ ?_ q (q + 1) 0 (by omega) (by omega)
    · rw [sx_jn0 h19] at w
      exact w
    · intro z; omega
    · intro _
      rw [h21]
      exact h
/-- a second piece that doesn't fit -/
theorem sx_takePieceD {post : SX → Prop} {e q nm tl : Nat} {ch : Int32} {N : Nat → Nat → Nat} (he : e < 2) (hn : nm < 16) (h1 : N 37 1 = 16 * nm + 3) (h20 : N 20 e ≠ nm + 1) (hb : N 20 e ≤ 16)
    (h : post (ss_st tl ch (st_up N 20 e 0))) : wpX_takePiece post (ss_st tl ch N) (nI e) (nI (q + 1)) := by
  refine nm_r (e' := nI (16 * nm + 3)) (by rw [ss_cr, h1]) (nm_r (e' := nI nm) (by rw [ss_b4 _ (by omega), show (16 * nm + 3) / 16 = nm by omega]) (nm_r (e' := nI 1) (by rw [ss_b1 _ (by omega), show (16 * nm + 3) / 2 % 8 = 1 by omega]) (br_f (by decide) ⟨ss_in he, br_f ?_ ⟨ss_in he, nm_r (e' := ss_m (ub_un (N 20) e 0)) ?_ h⟩⟩)))
  · rw [ss_rdm (by omega)]
    intro q
    have q' : nI (N 20 e) - 1 + 1 = nI nm + 1 := by rw [q]
    rw [Int32.sub_add_cancel, nI_1, nI_eq (by omega) (by omega)] at q'
    exact h20 q'
  · rw [ss_nbm, nI_clamp (by omega)]; exact ss_mu0 _ _
/-- a frame: the answer to be sent -/
theorem sx_takeFrame0 {post : SX → Prop} {w b L tl : Nat} {ch : Int32} {N : Nat → Nat → Nat} (hw : w < 4) (hb : b ≤ 1) (h0 : N 37 0 = b) (hx : N 35 w ≤ 1) (hne : N 35 w ≠ b)
    (h : post (ss_st tl ch (st_up N 36 w (b + 1)))) : wpX_takeFrame post (ss_st tl ch N) (nI w) (nI L) := by
  refine nm_r (e' := nI b) (by rw [ss_cr, h0]) ⟨ss_in hw, nm_r (e' := ss_m (ub_un (N 36) w (b + 1))) ?_ ⟨ss_in hw, br_f ?_ h⟩⟩
  · rw [ss_nb (by omega), nI_clamp (by omega)]; exact ss_mu1 _ _ _
  · rw [ss_rd (by omega), nI_eq (by omega) (by omega)]; omega
def sx_fr (N : Nat → Nat → Nat) (w b : Nat) : Nat → Nat → Nat := st_up (st_up N 36 w (b + 1)) 35 w (1 - b)
theorem sx_takeFrame1 {post : SX → Prop} {w b L tl : Nat} {ch : Int32} {N : Nat → Nat → Nat} (hw : w < 4) (hb : b ≤ 1) (h0 : N 37 0 = b) (hx : N 35 w = b)
    (hF : w = 0 ∨ w = 3 → wpX_forward post (ss_st tl ch (sx_fr N w b)) (nI (if w = 0 then 2 else 1)) (nI L))
    (hP : w = 1 ∨ w = 2 → wpX_takePiece post (ss_st tl ch (sx_fr N w b)) (nI (w - 1)) (nI L)) : wpX_takeFrame post (ss_st tl ch N) (nI w) (nI L) := by
  refine nm_r (e' := nI b) (by rw [ss_cr, h0]) ⟨ss_in hw, nm_r (e' := ss_m (ub_un (N 36) w (b + 1))) ?_ ⟨ss_in hw, br_t ?_ ⟨ss_in hw, nm_r (e' := ss_c (ub_un (N 35) w (1 - b))) ?_ ?_⟩⟩⟩
  · rw [ss_nb (by omega), nI_clamp (by omega)]; exact ss_mu1 _ _ _
  · rw [ss_rd (by omega), hx]
  · exact ss_stb (pk_sub (a := 1) hb) (by omega) (by omega)
  · rcases (by omega : w = 0 ∨ w = 1 ∨ w = 2 ∨ w = 3) with rfl | rfl | rfl | rfl
    · exact br_t rfl (hF (Or.inl rfl))
    · exact br_f (by decide) (br_f (by decide) (br_t rfl (hP (Or.inl rfl))))
    · exact br_f (by decide) (br_f (by decide) (br_f (by decide) (hP (Or.inr rfl))))
    · exact br_f (by decide) (br_t rfl (hF (Or.inr rfl)))
end
section
/-! walks: cutting a packet into pieces -/
theorem ss_a15 : ∀ p, p < 16 → (nI p + 1) &&& 15 = nI ((p + 1) % 16) := by decide +kernel
def sx_pf (N : Nat → Nat → Nat) (nm p l q : Nat) : Nat → Nat → Nat := st_bl (st_up N 37 0 (16 * nm + 2 * p + l)) 37 1 q (fun k => N 17 (3 * p + k))
def sx_sp (N : Nat → Nat → Nat) (w nm p l q : Nat) : Nat → Nat → Nat := sx_enq (sx_pf N nm p l q) w 0 (q + 1)
theorem sx_sp105 {post : SX → Prop} {J : Int32 → Int32 → Int32 → (Nat → Int32) → (Nat → Int32) → (Nat → Int32) → (Nat → Int32) → (Nat → Int32) → (Nat → Int32) → (Nat → Int32) → (Nat → Int32) → (Nat → Int32) → (Nat → Int32) → (Nat → Int32) → (Nat → Int32) → (Nat → Int32) → (Nat → Int32) → (Nat → Int32) → (Nat → Int32) → (Nat → Int32) → (Nat → Int32) → (Nat → Int32) → (Nat → Int32) → (Nat → Int32) → (Nat → Int32) → (Nat → Int32) → (Nat → Int32) → (Nat → Int32) → (Nat → Int32) → (Nat → Int32) → (Nat → Int32) → (Nat → Int32) → (Nat → Int32) → (Nat → Int32) → (Nat → Int32) → (Nat → Int32) → (Nat → Int32) → (Nat → Int32) → (Nat → Int32) → (Nat → Int32) → (Nat → Int32) → Prop} {x2 x4 x5 : Int32} {w p q v tl : Nat} {ch : Int32} {N : Nat → Nat → Nat} (hw : w < 4) (hp : p ≤ 1) (hq : q ≤ 3) (hs : N 25 w < 6) (hc : N 26 w < 100)
    (h : ss_S (J (nI (p + 1))) tl ch (sx_enq (st_bl (st_up N 37 0 v) 37 1 q (fun k => N 17 (3 * p + k))) w 0 (q + 1))) :
    ∀ d n k, k + d = q → d < n → ss_A (wX_sendPacket_105 post J x2 (nI w) x4 x5 (nI p) (nI q) (nI tl) ch n (nI k)) (st_bl (st_up N 37 0 v) 37 1 k (fun k => N 17 (3 * p + k))) := by
  intro d
  induction d with
  | zero =>
    intro n k hk hn
    obtain ⟨m, rfl⟩ : ∃ m, n = m + 1 := ⟨n - 1, by omega⟩
    obtain rfl : k = q := by omega
    refine br_t (nI_le (by omega) (by omega)) ?_
    rw [nI_1 k]
    exact sx_enqueue (N := st_bl (st_up N 37 0 v) 37 1 k (fun k => N 17 (3 * p + k))) (fr := 0) hw (by omega) (by omega) hs hc (nm_r (nI_1 p) h)
  | succ d ih =>
    intro n k hk hn
    obtain ⟨m, rfl⟩ : ∃ m, n = m + 1 := ⟨n - 1, by omega⟩
    refine br_f (nI_ge (by omega) (by omega)) ⟨?_, ?_, nm_r (e' := ss_c (ub_bl (ub_un (N 37) 0 v) 1 (k + 1) (fun k => N 17 (3 * p + k)))) ?_ (nm_r (nI_1 k) (ih m (k + 1) (by omega) (by omega)))⟩
    · rw [ss_mul3, nI_add]; exact ss_in (by omega)
    · rw [ss_ad1]; exact ss_in (by omega)
    · rw [← ub_bls]
      refine ss_stv (1 + k) (N 17 (3 * p + k)) (ss_ad1 k) ?_ (by omega)
      rw [ss_mul3, nI_add, ss_rd (by omega)]; rfl
theorem sx_sp69 {post : SX → Prop} {J : Int32 → Int32 → Int32 → (Nat → Int32) → (Nat → Int32) → (Nat → Int32) → (Nat → Int32) → (Nat → Int32) → (Nat → Int32) → (Nat → Int32) → (Nat → Int32) → (Nat → Int32) → (Nat → Int32) → (Nat → Int32) → (Nat → Int32) → (Nat → Int32) → (Nat → Int32) → (Nat → Int32) → (Nat → Int32) → (Nat → Int32) → (Nat → Int32) → (Nat → Int32) → (Nat → Int32) → (Nat → Int32) → (Nat → Int32) → (Nat → Int32) → (Nat → Int32) → (Nat → Int32) → (Nat → Int32) → (Nat → Int32) → (Nat → Int32) → (Nat → Int32) → (Nat → Int32) → (Nat → Int32) → (Nat → Int32) → (Nat → Int32) → (Nat → Int32) → (Nat → Int32) → (Nat → Int32) → (Nat → Int32) → (Nat → Int32) → Prop} {x2 : Int32} {w nm np p q tl : Nat} {ch : Int32} {N : Nat → Nat → Nat} (hw : w < 4) (hp : p ≤ 1) (hnm : nm < 16) (hnp : 1 ≤ np) (hnp2 : np ≤ 2) (hq : q ≤ 3) (hs : N 25 w < 6) (hc : N 26 w < 100)
    (h : ss_S (J (nI (p + 1))) tl ch (sx_sp N w nm p (if p + 1 = np then 1 else 0) q)) : ss_S (wX_sendPacket_69 post J x2 (nI w) (nI nm) (nI np) (nI p) (nI q)) tl ch N := by
  have e1 : nI np - 1 = nI (np - 1) := pk_sub (b := 1) hnp
  by_cases z : p + 1 = np
  · rw [if_pos z] at h
    refine br_t ?_ (nm_r (e' := ss_c (ub_un (N 37) 0 (16 * nm + 2 * p + 1))) ?_ ⟨q + 1, ?_⟩)
    · rw [e1, show np - 1 = p by omega]
    · rw [ss_mul16, ss_mul2, nI_add, nI_1]; exact ss_cu _ _ _
    · have w' := sx_sp105 (post := post) (J := J) (x2 := x2) (x4 := nI nm) (x5 := nI np) (v := 16 * nm + 2 * p + 1) hw hp hq hs hc h q (q + 1) 0 (by omega) (by omega)
      rw [st_bl0] at w'
      exact w'
  · rw [if_neg z] at h
    refine br_f ?_ (nm_r (e' := ss_c (ub_un (N 37) 0 (16 * nm + 2 * p + 0))) ?_ ⟨q + 1, ?_⟩)
    · rw [e1, nI_eq (by omega) (by omega)]; omega
    · rw [ss_mul16, ss_mul2, nI_add]
      show upd (ss_c (N 37)) 0 (nI (16 * nm + 2 * p) + nI 0) = _
      rw [nI_add]; exact ss_cu _ _ _
    · have w' := sx_sp105 (post := post) (J := J) (x2 := x2) (x4 := nI nm) (x5 := nI np) (v := 16 * nm + 2 * p + 0) hw hp hq hs hc h q (q + 1) 0 (by omega) (by omega)
      rw [st_bl0] at w'
      exact w'
def sx_snd1 (N : Nat → Nat → Nat) (e L : Nat) : Nat → Nat → Nat := sx_sp (st_up N 22 e ((N 22 e + 1) % 16)) (3 * e) (N 22 e) 0 1 L
def sx_snd2 (N : Nat → Nat → Nat) (e L : Nat) : Nat → Nat → Nat := sx_sp (sx_sp (st_up N 22 e ((N 22 e + 1) % 16)) (3 * e) (N 22 e) 0 0 3) (3 * e) (N 22 e) 1 1 (L - 3)
theorem sx_send1 {post : SX → Prop} {e L tl : Nat} {ch : Int32} {N : Nat → Nat → Nat} (he : e < 2) (hL : 2 ≤ L) (hL3 : L ≤ 3) (hs : N 25 (3 * e) < 6) (hc : N 26 (3 * e) < 90) (hn : N 22 e < 16)
    (h : post (ss_st tl ch (sx_snd1 N e L))) : wpX_sendPacket post (ss_st tl ch N) (nI e) (nI L) := by
  have k : ss_S (wX_sendPacket_9 post (nI e) (nI L) (nI (3 * e))) tl ch N := by
    refine ⟨ss_in he, nm_r (e' := nI (N 22 e)) (ss_rd (by omega)) ⟨ss_in he, nm_r (e' := ss_c (ub_un (N 22) e ((N 22 e + 1) % 16))) ?_ ⟨by decide, nm_r (e' := nI 1) ?_ ⟨2, ?_⟩⟩⟩⟩
    · exact ss_stb (ss_a15 _ hn) (by omega) (by omega)
    · rw [ss_add2]
      show nI (L + 2) / nI 3 = _
      rw [pk_div (by omega) (by omega) (by omega), show (L + 2) / 3 = 1 by omega]
    · refine br_f (by decide) ?_
      have e0 : nI L - 3 * 0 = nI L := by
        show nI L - nI 3 * nI 0 = _
        rw [pk_mul, pk_sub (by omega)]; rfl
      have fin : ss_S (wX_sendPacket_69 post (wX_sendPacket_42 post (nI L) (nI (3 * e)) (nI (N 22 e)) (nI 1) 1) (nI L) (nI (3 * e)) (nI (N 22 e)) (nI 1) (nI 0) (nI L)) tl ch (st_up N 22 e ((N 22 e + 1) % 16)) :=
        sx_sp69 (N := st_up N 22 e ((N 22 e + 1) % 16)) (J := wX_sendPacket_42 post (nI L) (nI (3 * e)) (nI (N 22 e)) (nI 1) 1) (by omega) (by omega) hn (by omega) (by omega) hL3 hs (Nat.lt_of_lt_of_le hc (by decide)) (br_t (nI_le (a := 1) (b := 0 + 1) (by omega) (by omega)) h)
      rw [e0]
      by_cases z : L = 3
      · subst z
        exact br_t (nI_le (a := 3) (b := 3) (by omega) (by omega)) fin
      · exact br_f (nI_ge (b := 3) (by omega) (by omega)) fin
  rcases (by omega : e = 0 ∨ e = 1) with rfl | rfl
  · exact br_t rfl k
  · exact br_f (by decide) k
theorem sx_send2 {post : SX → Prop} {e L tl : Nat} {ch : Int32} {N : Nat → Nat → Nat} (he : e < 2) (hL : 4 ≤ L) (hL3 : L ≤ 6) (hs : N 25 (3 * e) < 6) (hc : N 26 (3 * e) < 90) (hn : N 22 e < 16)
    (h : post (ss_st tl ch (sx_snd2 N e L))) : wpX_sendPacket post (ss_st tl ch N) (nI e) (nI L) := by
  have k : ss_S (wX_sendPacket_9 post (nI e) (nI L) (nI (3 * e))) tl ch N := by
    refine ⟨ss_in he, nm_r (e' := nI (N 22 e)) (ss_rd (by omega)) ⟨ss_in he, nm_r (e' := ss_c (ub_un (N 22) e ((N 22 e + 1) % 16))) ?_ ⟨by decide, nm_r (e' := nI 2) ?_ ⟨3, ?_⟩⟩⟩⟩
    · exact ss_stb (ss_a15 _ hn) (by omega) (by omega)
    · rw [ss_add2]
      show nI (L + 2) / nI 3 = _
      rw [pk_div (by omega) (by omega) (by omega), show (L + 2) / 3 = 2 by omega]
    · have e0 : nI L - 3 * 0 = nI L := by
        show nI L - nI 3 * nI 0 = _
        rw [pk_mul, pk_sub (by omega)]; rfl
      have e3 : nI L - 3 * nI (0 + 1) = nI (L - 3) := by
        show nI L - nI 3 * nI 1 = _
        rw [pk_mul, pk_sub (by omega)]
      have fin : ss_S (wX_sendPacket_69 post (wX_sendPacket_42 post (nI L) (nI (3 * e)) (nI (N 22 e)) (nI 2) 1) (nI L) (nI (3 * e)) (nI (N 22 e)) (nI 2) (nI 1) (nI (L - 3))) tl ch (sx_sp (st_up N 22 e ((N 22 e + 1) % 16)) (3 * e) (N 22 e) 0 0 3) := by
        refine sx_sp69 (N := sx_sp (st_up N 22 e ((N 22 e + 1) % 16)) (3 * e) (N 22 e) 0 0 3) (J := wX_sendPacket_42 post (nI L) (nI (3 * e)) (nI (N 22 e)) (nI 2) 1) (by omega) (by omega) hn (by omega) (by omega) (by omega) hs ?_ (br_t (nI_le (a := 2) (b := 1 + 1) (by omega) (by omega)) h)
        show ub_un (N 26) (3 * e) (N 26 (3 * e) + 1) (3 * e) < 100
        rw [ub_s]; omega
      have mid : ss_S (wX_sendPacket_42 post (nI L) (nI (3 * e)) (nI (N 22 e)) (nI 2) 2 (nI (0 + 1))) tl ch (sx_sp (st_up N 22 e ((N 22 e + 1) % 16)) (3 * e) (N 22 e) 0 0 3) := by
        refine br_f (by decide) ?_
        rw [e3]
        by_cases z : L = 6
        · subst z
          exact br_t (nI_le (a := 3) (b := 3) (by omega) (by omega)) fin
        · exact br_f (nI_ge (b := 3) (by omega) (by omega)) fin
      refine br_f (by decide) ?_
      rw [e0]
      refine br_t (nI_le (a := 3) (by omega) (by omega)) ?_
      exact sx_sp69 (N := st_up N 22 e ((N 22 e + 1) % 16)) (J := wX_sendPacket_42 post (nI L) (nI (3 * e)) (nI (N 22 e)) (nI 2) 2) (p := 0) (q := 3) (np := 2) (by omega) (by omega) hn (by omega) (by omega) (by omega) hs (Nat.lt_of_lt_of_le hc (by decide)) mid
  rcases (by omega : e = 0 ∨ e = 1) with rfl | rfl
  · exact br_t rfl k
  · exact br_f (by decide) k
end
section
/-! walks: what an end sends -/
def sx_sak (N : Nat → Nat → Nat) (s : Nat) : Nat → Nat → Nat := st_up (st_up (st_up (st_up N 16 s 0) 17 0 (64 + 8 * N 8 s + s)) 17 1 (N 15 s)) 17 2 (12 - N 4 s)
theorem sx_sendAck {post : SX → Prop} {e s tl : Nat} {ch : Int32} {N : Nat → Nat → Nat} (he : e < 2) (hs4 : s < 4) (hh : N 8 s ≤ 1) (h4 : N 4 s ≤ 12) (hs : N 25 (3 * e) < 6) (hc : N 26 (3 * e) < 90) (hn : N 22 e < 16)
    (h : post (ss_st tl ch (sx_snd1 (sx_sak N s) e 3))) : wpX_sendAck post (ss_st tl ch N) (nI e) (nI s) := by
  have i4 := ss_in hs4 (by decide)
  have k : ∀ z : Nat, z = N 8 s → ss_S (wX_sendAck_29 post (nI e) (nI s) (nI (8 * z)) 64 0) tl ch (st_up N 16 s 0) := by
    intro z hz
    subst hz
    refine ⟨ss_in (n := 0) (by omega), nm_r (e' := ss_c (ub_un (N 17) 0 (64 + 8 * N 8 s + s))) ?_ ⟨i4, nm_r (e' := ss_c (ub_un (ub_un (N 17) 0 (64 + 8 * N 8 s + s)) 1 (N 15 s))) ?_ ⟨i4, nm_r (e' := ss_c (ub_un (ub_un (ub_un (N 17) 0 (64 + 8 * N 8 s + s)) 1 (N 15 s)) 2 (12 - N 4 s))) ?_ ?_⟩⟩⟩
    · refine ss_stv 0 _ rfl ?_ (by omega)
      show nI 64 + _ + _ = _
      rw [nI_add, nI_add]
    · rw [ss_rd (by omega)]; exact ss_cu _ _ _
    · rw [ss_rd (by omega)]
      show upd _ 2 (nI 12 - nI (N 4 s)) = _
      rw [pk_sub h4]; exact ss_cu _ _ _
    · exact sx_send1 (N := sx_sak N s) (L := 3) he (by omega) (by omega) hs hc hn h
  refine ⟨i4, nm_r (e' := ss_c (ub_un (N 16) s 0)) (ss_stv s 0 rfl rfl (by omega)) ⟨i4, ?_⟩⟩
  rcases (by omega : N 8 s = 0 ∨ N 8 s = 1) with z | z
  · refine br_t ?_ (k 0 z.symm)
    rw [ss_rd (by omega), z]; rfl
  · refine br_f ?_ (k 1 z.symm)
    rw [ss_rd (by omega), z]; decide
def sx_sqn (N : Nat → Nat → Nat) (s k : Nat) : Nat → Nat → Nat := st_up (st_up (st_up N 13 s 150) 17 0 (64 * k + s)) 17 1 (N 9 s)
theorem sx_sendQuestion0 {post : Int32 → SX → Prop} {e s tl : Nat} {ch : Int32} {N : Nat → Nat → Nat} (hs4 : s < 4) (hw : 0 < N 13 s) (hw' : N 13 s < 1000) (h : post 0 (ss_st tl ch N)) : wpX_sendQuestion post (ss_st tl ch N) (nI e) (nI s) := by
  refine ⟨ss_in hs4, br_f ?_ h⟩
  rw [ss_rd (by omega)]; exact nI_nle hw (by omega)
theorem sx_sendQuestion1 {post : Int32 → SX → Prop} {e s tl : Nat} {ch : Int32} {N : Nat → Nat → Nat} (he : e < 2) (hs4 : s < 4) (hw : N 13 s = 0) (ho : N 1 s ≤ 24) (hs : N 25 (3 * e) < 6) (hc : N 26 (3 * e) < 90) (hn : N 22 e < 16)
    (h : post 1 (ss_st tl ch (sx_snd1 (sx_sqn N s (if N 1 s = 0 then 2 else 3)) e 2))) : wpX_sendQuestion post (ss_st tl ch N) (nI e) (nI s) := by
  have i4 := ss_in hs4 (by decide)
  have k : ∀ z : Nat, z = (if N 1 s = 0 then 2 else 3) → ss_S (wX_sendQuestion_34 post (nI e) (nI s) (nI z)) tl ch (st_up N 13 s 150) := by
    intro z hz
    subst hz
    refine nm_r (e' := ss_c (ub_un (N 17) 0 (64 * (if N 1 s = 0 then 2 else 3) + s))) ?_ ⟨i4, nm_r (e' := ss_c (ub_un (ub_un (N 17) 0 (64 * (if N 1 s = 0 then 2 else 3) + s)) 1 (N 9 s))) ?_ ?_⟩
    · rw [ss_mul64, nI_add]; exact ss_cu _ _ _
    · rw [ss_rd (by omega)]; exact ss_cu _ _ _
    · exact sx_send1 (N := sx_sqn N s (if N 1 s = 0 then 2 else 3)) (L := 2) he (by omega) (by omega) hs hc hn h
  refine ⟨i4, br_t ?_ ⟨i4, nm_r (e' := ss_c (ub_un (N 13) s 150)) ?_ ⟨i4, ?_⟩⟩⟩
  · rw [ss_rd (by omega), hw]; decide
  · rw [ss_ns150]; exact ss_stv s 150 rfl rfl (by omega)
  · by_cases z : N 1 s = 0
    · refine br_t ?_ (k 2 (if_pos z).symm)
      rw [ss_rd (by omega), z]; decide
    · refine br_f ?_ (k 3 (if_neg z).symm)
      rw [ss_rd (by omega)]; exact nI_nle (by omega) (by omega)
def sx_sd0 (N : Nat → Nat → Nat) (s z k : Nat) : Nat → Nat → Nat := st_bl (st_up (st_up N 17 0 (8 * z + s)) 17 1 ((N 9 s + N 10 s) % 64)) 17 2 k (fun k => N 2 (24 * s + (N 0 s + N 10 s + k) % 24))
def sx_sd1 (N : Nat → Nat → Nat) (s z : Nat) : Nat → Nat → Nat := if N 10 s + z ≤ N 11 s then st_up (sx_sd0 N s z z) 10 s (N 10 s + z) else st_up (st_up (sx_sd0 N s z z) 10 s (N 10 s + z)) 11 s (N 10 s + z)
def sx_sdt (N : Nat → Nat → Nat) (s z : Nat) : Nat → Nat → Nat := st_up (sx_sd1 N s z) 13 s 150
theorem sx_sd39 {post : SX → Prop} {e s z tl : Nat} {ch : Int32} {N : Nat → Nat → Nat} (hs4 : s < 4) (hz : z ≤ 4) (h0 : N 0 s < 24) (h10 : N 10 s + z ≤ 24) (h11 : N 11 s ≤ 24)
    (h : wpX_sendPacket post (ss_st tl ch (sx_sdt N s z)) (nI e) (nI (2 + z))) : ∀ d n k, k + d = z → d < n → ss_A (wX_sendData_39 post (nI e) (nI s) (nI z) (nI tl) ch n (nI k)) (sx_sd0 N s z k) := by
  intro d
  have i4 := ss_in hs4 (by decide)
  induction d with
  | zero =>
    intro n k hk hn
    obtain ⟨m, rfl⟩ : ∃ m, n = m + 1 := ⟨n - 1, by omega⟩
    obtain rfl : k = z := by omega
    refine br_t (nI_le (by omega) (by omega)) ⟨i4, i4, nm_r (e' := ss_c (ub_un (N 10) s (N 10 s + k))) ?_ ⟨i4, i4, ?_⟩⟩
    · refine ss_stb ?_ (by omega) (by omega)
      show ss_c (N 10) (nI s).toNatClampNeg + nI k = _
      rw [ss_rd (by omega), nI_add]
    · have e1 : ss_c (ub_un (N 10) s (N 10 s + k)) (nI s).toNatClampNeg = nI (N 10 s + k) := by rw [ss_rd (by omega), ub_s]
      have e2 : ss_c (N 11) (nI s).toNatClampNeg = nI (N 11 s) := ss_rd (by omega)
      by_cases c : N 10 s + k ≤ N 11 s
      · refine br_t ?_ ⟨i4, nm_r (e' := ss_c (ub_un (N 13) s 150)) (by rw [ss_ns150]; exact ss_stv s 150 rfl rfl (by omega)) ?_⟩
        · rw [e1]
          show _ ≤ ss_c (N 11) (nI s).toNatClampNeg
          rw [e2]; exact nI_le c (by omega)
        · rw [ss_ad2]
          unfold sx_sdt sx_sd1 at h
          rw [if_pos c] at h
          exact h
      · refine br_f ?_ ⟨i4, i4, nm_r (e' := ss_c (ub_un (N 11) s (N 10 s + k))) ?_ ⟨i4, nm_r (e' := ss_c (ub_un (N 13) s 150)) (by rw [ss_ns150]; exact ss_stv s 150 rfl rfl (by omega)) ?_⟩⟩
        · rw [e1]
          show ¬ _ ≤ ss_c (N 11) (nI s).toNatClampNeg
          rw [e2]; exact nI_ge (by omega) (by omega)
        · rw [e1, ss_nb' (by omega)]; exact ss_stv s _ rfl rfl (by omega)
        · rw [ss_ad2]
          unfold sx_sdt sx_sd1 at h
          rw [if_neg c] at h
          exact h
  | succ d ih =>
    intro n k hk hn
    obtain ⟨m, rfl⟩ : ∃ m, n = m + 1 := ⟨n - 1, by omega⟩
    have q24 := Nat.mod_lt (N 0 s + N 10 s + k) (y := 24) (by omega)
    refine br_f (nI_ge (by omega) (by omega)) ⟨i4, i4, ss_nz24d, nm_r (e' := nI ((N 0 s + N 10 s + k) % 24)) ?_ ⟨?_, ?_, nm_r (e' := ss_c (sx_sd0 N s z (k + 1) 17)) ?_ (nm_r (nI_1 k) (ih m (k + 1) (by omega) (by omega)))⟩⟩
    · show (ss_c (N 0) (nI s).toNatClampNeg + ss_c (N 10) (nI s).toNatClampNeg + nI k) - (ss_c (N 0) (nI s).toNatClampNeg + ss_c (N 10) (nI s).toNatClampNeg + nI k) / 24 * 24 = _
      rw [ss_rd (by omega), ss_rd (by omega), nI_add, nI_add, ss_rem24 (by omega)]
    · rw [ss_mul24, nI_add]; exact ss_in (by omega)
    · rw [ss_ad2]; exact ss_in (by omega)
    · show _ = ss_c (ub_bl (ub_un (ub_un (N 17) 0 (8 * z + s)) 1 ((N 9 s + N 10 s) % 64)) 2 (k + 1) (fun k => N 2 (24 * s + (N 0 s + N 10 s + k) % 24)))
      rw [← ub_bls]
      refine ss_stv (2 + k) _ (ss_ad2 k) ?_ (by omega)
      show ss_c (N 2) _ = _
      rw [ss_mul24, nI_add, ss_rd (by omega)]
theorem sx_sendData {post : SX → Prop} {e s z tl : Nat} {ch : Int32} {N : Nat → Nat → Nat} (hs4 : s < 4) (hz : z ≤ 4) (h0 : N 0 s < 24) (h9 : N 9 s < 64) (h10 : N 10 s + z ≤ 24) (h11 : N 11 s ≤ 24)
    (h : wpX_sendPacket post (ss_st tl ch (sx_sdt N s z)) (nI e) (nI (2 + z))) : wpX_sendData post (ss_st tl ch N) (nI e) (nI s) (nI z) := by
  have i4 := ss_in hs4 (by decide)
  refine nm_r (e' := ss_c (ub_un (N 17) 0 (8 * z + s))) ?_ ⟨i4, i4, ss_nz64d, nm_r (e' := ss_c (ub_un (ub_un (N 17) 0 (8 * z + s)) 1 ((N 9 s + N 10 s) % 64))) ?_ ⟨z + 1, ?_⟩⟩
  · rw [ss_mul8]
    show upd _ 0 (nI 0 + nI (8 * z) + nI s) = _
    rw [nI_add, nI_add, Nat.zero_add]; exact ss_cu _ _ _
  · rw [ss_rd (by omega), ss_rd (by omega), nI_add, ss_rem64 (by omega)]; exact ss_cu _ _ _
  · have w := sx_sd39 hs4 hz h0 h10 h11 h z (z + 1) 0 (by omega) (by omega)
    unfold sx_sd0 at w
    rw [st_bl0] at w
    exact w
end
section
/-! walks: settled or not, something of a stream -/
def sx_set (N : Nat → Nat → Nat) (s : Nat) : Prop := (0 < N 1 s ∧ N 12 s = 1) ∨ (N 1 s = 0 ∧ (N 7 s = 0 ∨ N 14 s ≠ 0))
theorem ss_m0 {a : Nat} (h : a < 2 ^ 31) : nI a - 1 = 0 ↔ a = 1 := by
  constructor
  · intro q
    have q' : nI a - 1 + 1 = 0 + 1 := by rw [q]
    rw [Int32.sub_add_cancel] at q'
    exact (nI_eq (b := 1) h (by decide)).mp q'
  · intro q
    subst q
    decide
theorem sx_isSettled1 {post : Int32 → Prop} {s tl : Nat} {ch : Int32} {N : Nat → Nat → Nat} (hs4 : s < 4) (h1 : N 1 s ≤ 24) (h7 : N 7 s ≤ 1) (h14 : N 14 s ≤ 1) (h12 : N 12 s ≤ 13) (c : sx_set N s) (h : post 1) : wpX_isSettled post (ss_st tl ch N) (nI s) := by
  have i4 := ss_in hs4 (by decide)
  refine ⟨i4, ?_⟩
  rcases c with ⟨a, b⟩ | ⟨a, b⟩
  · refine br_f (by rw [ss_rd (by omega)]; exact nI_nle a (by omega)) ⟨i4, br_t ?_ h⟩
    rw [ss_rdm (by omega)]; exact (ss_m0 (by omega)).mpr b
  · refine br_t (by rw [ss_rd (by omega), a]; decide) ⟨i4, ?_⟩
    by_cases z : N 7 s = 0
    · exact br_t (by rw [ss_rd (by omega), z]; rfl) h
    · refine br_f (by rw [ss_rd (by omega)]; exact nI_ne0 (by omega) (by omega)) ⟨i4, br_f ?_ h⟩
      rw [ss_rd (by omega)]; exact nI_ne0 (by omega) (by omega)
theorem sx_isSettled0 {post : Int32 → Prop} {s tl : Nat} {ch : Int32} {N : Nat → Nat → Nat} (hs4 : s < 4) (h1 : N 1 s ≤ 24) (h7 : N 7 s ≤ 1) (h14 : N 14 s ≤ 1) (h12 : N 12 s ≤ 13) (c : ¬ sx_set N s) (h : post 0) : wpX_isSettled post (ss_st tl ch N) (nI s) := by
  have i4 := ss_in hs4 (by decide)
  unfold sx_set at c
  refine ⟨i4, ?_⟩
  by_cases a : 0 < N 1 s
  · refine br_f (by rw [ss_rd (by omega)]; exact nI_nle a (by omega)) ⟨i4, br_f ?_ h⟩
    rw [ss_rdm (by omega)]
    intro q
    exact c (Or.inl ⟨a, (ss_m0 (by omega)).mp q⟩)
  · refine br_t (by rw [ss_rd (by omega), show N 1 s = 0 by omega]; decide) ⟨i4, ?_⟩
    refine br_f (by rw [ss_rd (by omega)]; exact nI_ne0 (by omega) (by omega)) ⟨i4, br_t ?_ h⟩
    rw [ss_rd (by omega), show N 14 s = 0 by omega]; rfl
theorem sx_som_s {post : Int32 → SX → Prop} {e s tl : Nat} {ch : Int32} {N : Nat → Nat → Nat} (hs4 : s < 4) (h1 : N 1 s ≤ 24) (h7 : N 7 s ≤ 1) (h14 : N 14 s ≤ 1) (h12 : N 12 s ≤ 13) (c : sx_set N s) (h : post 0 (ss_st tl ch N)) : wpX_sendSomething post (ss_st tl ch N) (nI e) (nI s) := by
  unfold wpX_sendSomething
  refine sx_isSettled1 hs4 h1 h7 h14 h12 c ?_
  exact br_f (by decide) h
theorem ss_mlt {a : Nat} (h : a < 2 ^ 31) : nI a - 1 < 0 ↔ a = 0 := by
  rcases Nat.eq_zero_or_pos a with z | z
  · subst z; exact ⟨fun _ => rfl, fun _ => by decide⟩
  · rw [show nI a - 1 = nI (a - 1) from pk_sub (b := 1) z]
    exact ⟨fun q => absurd q (nI_pos (by omega)), fun q => by omega⟩
theorem sx_som_q {post : Int32 → SX → Prop} {e s tl : Nat} {ch : Int32} {N : Nat → Nat → Nat} (hs4 : s < 4) (h1 : N 1 s ≤ 24) (h7 : N 7 s ≤ 1) (h14 : N 14 s ≤ 1) (h12 : N 12 s ≤ 13) (c : ¬ sx_set N s) (c2 : N 12 s = 0 ∨ N 1 s = 0)
    (h : wpX_sendQuestion (fun r u => match u with | (a0, a1, a2, a3, a4, a5, a6, a7, a8, a9, a10, a11, a12, a13, a14, a15, a16, a17, a18, a19, a20, a21, a22, a23, a24, a25, a26, a27, a28, a29, a30, a31, a32, a33, a34, a35, a36, a37, a38, a39) => narrow .boolean (.int r) = .int r ∧ post r (a0, a1, a2, a3, a4, a5, a6, a7, a8, a9, a10, a11, a12, a13, a14, a15, a16, a17, a18, a19, a20, a21, a22, a23, a24, a25, a26, a27, a28, a29, a30, a31, a32, a33, a34, a35, a36, a37, a38, a39)) (ss_st tl ch N) (nI e) (nI s)) : wpX_sendSomething post (ss_st tl ch N) (nI e) (nI s) := by
  have i4 := ss_in hs4 (by decide)
  unfold wpX_sendSomething
  refine sx_isSettled0 hs4 h1 h7 h14 h12 c ?_
  refine br_t rfl ⟨i4, ?_⟩
  by_cases z : N 12 s = 0
  · refine br_t ?_ h
    rw [ss_rdm (by omega)]; exact (ss_mlt (by omega)).mpr z
  · refine br_f ?_ ⟨i4, br_t ?_ h⟩
    · rw [ss_rdm (by omega)]; exact fun q => z ((ss_mlt (by omega)).mp q)
    · rw [ss_rd (by omega), show N 1 s = 0 by omega]; rfl
theorem sx_som_q0 {post : Int32 → SX → Prop} {e s tl : Nat} {ch : Int32} {N : Nat → Nat → Nat} (hs4 : s < 4) (h1 : N 1 s ≤ 24) (h7 : N 7 s ≤ 1) (h14 : N 14 s ≤ 1) (h12 : N 12 s ≤ 13) (c : ¬ sx_set N s) (c2 : N 12 s = 0 ∨ N 1 s = 0) (hw : 0 < N 13 s) (hw' : N 13 s < 1000)
    (h : post 0 (ss_st tl ch N)) : wpX_sendSomething post (ss_st tl ch N) (nI e) (nI s) :=
  sx_som_q hs4 h1 h7 h14 h12 c c2 (sx_sendQuestion0 hs4 hw hw' ⟨rfl, h⟩)
theorem sx_som_q1 {post : Int32 → SX → Prop} {e s tl : Nat} {ch : Int32} {N : Nat → Nat → Nat} (he : e < 2) (hs4 : s < 4) (h1 : N 1 s ≤ 24) (h7 : N 7 s ≤ 1) (h14 : N 14 s ≤ 1) (h12 : N 12 s ≤ 13) (c : ¬ sx_set N s) (c2 : N 12 s = 0 ∨ N 1 s = 0) (hw : N 13 s = 0) (hs : N 25 (3 * e) < 6) (hc : N 26 (3 * e) < 90) (hn : N 22 e < 16)
    (h : post 1 (ss_st tl ch (sx_snd1 (sx_sqn N s (if N 1 s = 0 then 2 else 3)) e 2))) : wpX_sendSomething post (ss_st tl ch N) (nI e) (nI s) :=
  sx_som_q hs4 h1 h7 h14 h12 c c2 (sx_sendQuestion1 he hs4 hw h1 hs hc hn ⟨rfl, h⟩)
def sx_lim (N : Nat → Nat → Nat) (s : Nat) : Nat := if N 12 s - 1 ≤ N 1 s then N 12 s - 1 else N 1 s
theorem sx_som_d {post : Int32 → SX → Prop} {e s tl : Nat} {ch : Int32} {N : Nat → Nat → Nat} (hs4 : s < 4) (h1 : N 1 s ≤ 24) (h7 : N 7 s ≤ 1) (h14 : N 14 s ≤ 1) (h12 : N 12 s ≤ 13) (c : ¬ sx_set N s) (c2 : N 12 s ≠ 0) (c3 : N 1 s ≠ 0)
    (h : ss_S (wX_sendSomething_65 post (nI e) (nI s) (nI (sx_lim N s))) tl ch N) : wpX_sendSomething post (ss_st tl ch N) (nI e) (nI s) := by
  have i4 := ss_in hs4 (by decide)
  have e12 : ss_m (N 12) (nI s).toNatClampNeg = nI (N 12 s - 1) := by rw [ss_rdm (by omega)]; exact pk_sub (b := 1) (by omega)
  unfold wpX_sendSomething
  refine sx_isSettled0 hs4 h1 h7 h14 h12 c ?_
  refine br_t rfl ⟨i4, br_f ?_ ⟨i4, br_f ?_ ⟨i4, i4, ?_⟩⟩⟩
  · rw [e12]; exact nI_pos (by omega)
  · rw [ss_rd (by omega)]; exact nI_ne0 (by omega) (by omega)
  · unfold sx_lim at h
    by_cases z : N 12 s - 1 ≤ N 1 s
    · rw [if_pos z] at h
      refine br_t ?_ ⟨i4, ?_⟩
      · rw [e12, ss_rd (by omega)]; exact nI_le z (by omega)
      · rw [e12]; exact h
    · rw [if_neg z] at h
      refine br_f ?_ ⟨i4, ?_⟩
      · rw [e12, ss_rd (by omega)]; exact nI_ge (by omega) (by omega)
      · rw [ss_rd (by omega)]; exact h
theorem sx_som_d0 {post : Int32 → SX → Prop} {e s tl : Nat} {ch : Int32} {N : Nat → Nat → Nat} (hs4 : s < 4) (h1 : N 1 s ≤ 24) (h7 : N 7 s ≤ 1) (h14 : N 14 s ≤ 1) (h12 : N 12 s ≤ 13) (c : ¬ sx_set N s) (c2 : N 12 s ≠ 0) (c3 : N 1 s ≠ 0) (h10 : N 10 s ≤ 24) (c4 : sx_lim N s ≤ N 10 s) (hw : N 13 s < 1000)
    (h0 : N 13 s = 0 → post 0 (ss_st tl ch (st_up N 10 s 0))) (hp : 0 < N 13 s → post 0 (ss_st tl ch N)) : wpX_sendSomething post (ss_st tl ch N) (nI e) (nI s) := by
  have i4 := ss_in hs4 (by decide)
  refine sx_som_d hs4 h1 h7 h14 h12 c c2 c3 ⟨i4, br_t ?_ ⟨i4, ?_⟩⟩
  · rw [ss_rd (by omega)]; exact nI_le c4 (by omega)
  · by_cases z : N 13 s = 0
    · refine br_t ?_ ⟨i4, nm_r (e' := ss_c (ub_un (N 10) s 0)) ?_ (h0 z)⟩
      · rw [ss_rd (by omega), z]; rfl
      · rw [ss_nb0]; exact ss_stv s 0 rfl rfl (by omega)
    · refine br_f ?_ (hp (by omega))
      rw [ss_rd (by omega)]; exact nI_ne0 (by omega) (by omega)
theorem sx_som_d1 {post : Int32 → SX → Prop} {e s z tl : Nat} {ch : Int32} {N : Nat → Nat → Nat} (hs4 : s < 4) (h1 : N 1 s ≤ 24) (h7 : N 7 s ≤ 1) (h14 : N 14 s ≤ 1) (h12 : N 12 s ≤ 13) (c : ¬ sx_set N s) (c2 : N 12 s ≠ 0) (c3 : N 1 s ≠ 0) (h10 : N 10 s ≤ 24) (c4 : N 10 s < sx_lim N s) (hz : z = if 4 ≤ sx_lim N s - N 10 s then 4 else sx_lim N s - N 10 s) (h0 : N 0 s < 24) (h9 : N 9 s < 64) (h11 : N 11 s ≤ 24)
    (h : wpX_sendPacket (fun u => post 1 u) (ss_st tl ch (sx_sdt N s z)) (nI e) (nI (2 + z))) : wpX_sendSomething post (ss_st tl ch N) (nI e) (nI s) := by
  have i4 := ss_in hs4 (by decide)
  have hl : sx_lim N s ≤ 12 := by unfold sx_lim; split <;> omega
  have e10 : nI (sx_lim N s) - ss_c (N 10) (nI s).toNatClampNeg = nI (sx_lim N s - N 10 s) := by rw [ss_rd (by omega), pk_sub (by omega)]
  have z4 : z ≤ 4 := by rw [hz]; split <;> omega
  have zl : N 10 s + z ≤ 24 := by rw [hz]; split <;> omega
  refine sx_som_d hs4 h1 h7 h14 h12 c c2 c3 ⟨i4, br_f ?_ ⟨i4, ?_⟩⟩
  · rw [ss_rd (by omega)]; exact nI_ge c4 (by omega)
  · have k : ∀ z' : Nat, z' = z → ss_S (wX_sendSomething_100 post (nI e) (nI s) (nI z')) tl ch N := by
      intro z' hz'
      subst hz'
      exact sx_sendData hs4 z4 h0 h9 zl h11 h
    by_cases q : 4 ≤ sx_lim N s - N 10 s
    · rw [if_pos q] at hz
      refine br_t ?_ (k 4 hz.symm)
      rw [e10]; exact nI_le (a := 4) q (by omega)
    · rw [if_neg q] at hz
      refine br_f ?_ ⟨i4, ?_⟩
      · rw [e10]; exact nI_ge (b := 4) (by omega) (by omega)
      · rw [e10]; exact k _ hz.symm
end
section
/-! walks: chance, launching a frame, departures -/
theorem sx_roll {k tl : Nat} {N : Nat → Nat → Nat} (ch : Int32) (hk : 0 < k) (hk' : k < 100) : ∃ m, m < k ∧ ∀ post : Int32 → SX → Prop, post (nI m) (ss_st tl (ch * 1103515245 + 12345) N) → wpX_roll post (ss_st tl ch N) (nI k) := by
  obtain ⟨j, hj, e⟩ := pk_andE ((ch * 1103515245 + 12345).toUInt32 >>> ((16 : Int32).toUInt32 &&& Int32.toUInt32 31)).toInt32 (m := 1023) 10 (by decide)
  refine ⟨j % k, Nat.mod_lt _ hk, fun post h => nm_e ⟨nI_ne0 hk (by omega), ?_⟩⟩
  rw [e, pk_rem (by omega) hk (by omega)]
  exact h
def sx_put (N : Nat → Nat → Nat) (w L : Nat) : Nat → Nat → Nat := st_up (st_up (st_bl N 30 (6 * (4 * w + N 29 w)) (L + 1) (N 37)) 31 (4 * w + N 29 w) (L + 1)) 29 w (N 29 w + 1)
theorem sx_l120 {post : SX → Prop} {J : Int32 → (Nat → Int32) → (Nat → Int32) → (Nat → Int32) → (Nat → Int32) → (Nat → Int32) → (Nat → Int32) → (Nat → Int32) → (Nat → Int32) → (Nat → Int32) → (Nat → Int32) → (Nat → Int32) → (Nat → Int32) → (Nat → Int32) → (Nat → Int32) → (Nat → Int32) → (Nat → Int32) → (Nat → Int32) → (Nat → Int32) → (Nat → Int32) → (Nat → Int32) → (Nat → Int32) → (Nat → Int32) → (Nat → Int32) → (Nat → Int32) → (Nat → Int32) → (Nat → Int32) → (Nat → Int32) → (Nat → Int32) → (Nat → Int32) → (Nat → Int32) → (Nat → Int32) → (Nat → Int32) → (Nat → Int32) → (Nat → Int32) → (Nat → Int32) → (Nat → Int32) → (Nat → Int32) → (Nat → Int32) → Prop} {x3 : Int32} {w L c tl : Nat} {ch : Int32} {N : Nat → Nat → Nat} (hw : w < 4) (hL : L ≤ 5) (hf : N 29 w ≤ 3) (hc : c < 10)
    (h : ss_A (J (nI (c + 1))) (sx_put N w L)) : ∀ d n k, k + d = L + 1 → d < n → ss_A (wX_launch_120 post J (nI w) (nI L) x3 (nI c) (nI (4 * w + N 29 w)) (nI tl) ch n (nI k)) (st_bl N 30 (6 * (4 * w + N 29 w)) k (N 37)) := by
  intro d
  induction d with
  | zero =>
    intro n k hk hn
    obtain ⟨m, rfl⟩ : ∃ m, n = m + 1 := ⟨n - 1, by omega⟩
    obtain rfl : k = L + 1 := by omega
    refine br_t (nI_lt (by omega) (by omega)) ⟨ss_in (by omega), nm_r (e' := ss_c (ub_un (N 31) (4 * w + N 29 w) (L + 1))) ?_ ⟨ss_in hw, ss_in hw, nm_r (e' := ss_c (ub_un (N 29) w (N 29 w + 1))) ?_ (nm_r (nI_1 c) h)⟩⟩
    · exact ss_stb (nI_1 L) (by omega) (by omega)
    · refine ss_stb ?_ (by omega) (by omega)
      show ss_c (N 29) (nI w).toNatClampNeg + 1 = _
      rw [ss_rd (by omega), nI_1]
  | succ d ih =>
    intro n k hk hn
    obtain ⟨m, rfl⟩ : ∃ m, n = m + 1 := ⟨n - 1, by omega⟩
    refine br_f (nI_nlt (by omega) (by omega)) ⟨ss_in (by omega), ?_, nm_r (e' := ss_c (ub_bl (N 30) (6 * (4 * w + N 29 w)) (k + 1) (N 37))) ?_ (nm_r (nI_1 k) (ih m (k + 1) (by omega) (by omega)))⟩
    · rw [ss_mul6, nI_add]; exact ss_in (by omega)
    · rw [← ub_bls]
      refine ss_stv _ _ (by rw [ss_mul6, nI_add]) ?_ (by omega)
      show ss_c (N 37) (nI k).toNatClampNeg = _
      rw [ss_rd (by omega)]
theorem sx_l99 {post : SX → Prop} {w L q c tl n : Nat} {ch : Int32} {N : Nat → Nat → Nat} (hw : w < 4) (hL : L ≤ 5) (hf : N 29 w ≤ 3) (hc : c < q) (hq : q ≤ 2) (h : ss_A (wX_launch_99 post (nI w) (nI L) (nI q) (nI tl) ch n (nI (c + 1))) (sx_put N w L)) : ss_A (wX_launch_99 post (nI w) (nI L) (nI q) (nI tl) ch (n + 1) (nI c)) N := by
  refine br_f (nI_ge (by omega) (by omega)) ⟨ss_in hw, nm_r (e' := nI (4 * w + N 29 w)) ?_ ⟨L + 2, ?_⟩⟩
  · rw [ss_rd (by omega), ss_mul4, nI_add]
  · have z := sx_l120 (post := post) (J := wX_launch_99 post (nI w) (nI L) (nI q) (nI tl) ch n) (x3 := nI q) (tl := tl) (ch := ch) hw hL hf (by omega) h (L + 1) (L + 2) 0 (by omega) (by omega)
    rw [st_bl0] at z
    exact z
theorem sx_l99e {post : SX → Prop} {w L q tl n : Nat} {ch : Int32} {N : Nat → Nat → Nat} (hq : q ≤ 2) (h : post (ss_st tl ch N)) : ss_A (wX_launch_99 post (nI w) (nI L) (nI q) (nI tl) ch (n + 1) (nI q)) N :=
  br_t (nI_le (by omega) (by omega)) h
theorem sx_put29 {N : Nat → Nat → Nat} {w L : Nat} : sx_put N w L 29 w = N 29 w + 1 := ub_s
/-- what may come of a launch -/
def sx_lau (tl : Nat) (N : Nat → Nat → Nat) (w L tl' : Nat) (N' : Nat → Nat → Nat) : Prop :=
  (tl' = tl ∧ N' = sx_put (st_up N 37 L (cr_f (N 37) L)) w L) ∨
  (tl' + 1 = tl ∧ (N' = st_up N 37 L (cr_f (N 37) L) ∨ N' = sx_put (sx_put (st_up N 37 L (cr_f (N 37) L)) w L) w L ∨
    ∃ p b, p ≤ L ∧ b < 8 ∧ N' = sx_put (st_up (st_up N 37 L (cr_f (N 37) L)) 37 p (st_up N 37 L (cr_f (N 37) L) 37 p ^^^ 2 ^ b)) w L))
theorem sx_launch {w L tl : Nat} {N : Nat → Nat → Nat} (ch : Int32) (hw : w < 4) (hL : L ≤ 5) (hf : N 29 w ≤ 2) (ht : tl ≤ 20) (hb : ∀ k, k < L → N 37 k < 256) :
    ∃ tl' ch' N', sx_lau tl N w L tl' N' ∧ ∀ post : SX → Prop, post (ss_st tl' ch' N') → wpX_launch post (ss_st tl ch N) (nI w) (nI L) := by
  have b1 : ∀ (post : SX → Prop) tl' ch' (A : Nat → Nat → Nat), A 29 w ≤ 3 → post (ss_st tl' ch' (sx_put A w L)) → ∃ n, ss_A (wX_launch_99 post (nI w) (nI L) 1 (nI tl') ch' n 0) A := by
    intro post tl' ch' A hA h
    exact ⟨2, sx_l99 (q := 1) (c := 0) hw hL hA (by omega) (by omega) (sx_l99e (q := 1) (by omega) h)⟩
  have b0 : ∀ (post : SX → Prop) tl' ch' (A : Nat → Nat → Nat), post (ss_st tl' ch' A) → ∃ n, ss_A (wX_launch_99 post (nI w) (nI L) 0 (nI tl') ch' n 0) A := by
    intro post tl' ch' A h
    exact ⟨1, sx_l99e (q := 0) (by omega) h⟩
  have b2 : ∀ (post : SX → Prop) tl' ch' (A : Nat → Nat → Nat), A 29 w ≤ 2 → post (ss_st tl' ch' (sx_put (sx_put A w L) w L)) → ∃ n, ss_A (wX_launch_99 post (nI w) (nI L) 2 (nI tl') ch' n 0) A := by
    intro post tl' ch' A hA h
    exact ⟨3, sx_l99 (q := 2) (c := 0) hw hL (by omega) (by omega) (by omega) (sx_l99 (q := 2) (c := 0 + 1) hw hL (by rw [sx_put29]; omega) (by omega) (by omega) (sx_l99e (q := 2) (by omega) h))⟩
  by_cases z : tl = 0
  · refine ⟨tl, ch, sx_put (st_up N 37 L (cr_f (N 37) L)) w L, Or.inl ⟨rfl, rfl⟩, fun post h => ?_⟩
    unfold wpX_launch
    refine cr_w (N := N) (by omega) hb ?_
    exact ⟨ss_in (by omega), nm_r (e' := ss_c (ub_un (N 37) L (cr_f (N 37) L))) (ss_stv L _ rfl rfl (by omega)) (br_t (by rw [z]; decide) (b1 post tl ch (st_up N 37 L (cr_f (N 37) L)) (Nat.le_trans hf (by decide)) h))⟩
  · obtain ⟨m, hm, hr⟩ := sx_roll (k := 8) (tl := tl) (N := st_up N 37 L (cr_f (N 37) L)) ch (by omega) (by omega)
    have open2 : ∀ (post : SX → Prop) tl', (m < 3 ∧ tl' + 1 = tl ∨ 3 ≤ m ∧ tl' = tl) → ss_S (wX_launch_44 post (nI w) (nI L) 1 (nI m)) tl' (ch * 1103515245 + 12345) (st_up N 37 L (cr_f (N 37) L)) → wpX_launch post (ss_st tl ch N) (nI w) (nI L) := by
      intro post tl' c h2
      unfold wpX_launch
      refine cr_w (N := N) (by omega) hb ?_
      refine ⟨ss_in (by omega), nm_r (e' := ss_c (ub_un (N 37) L (cr_f (N 37) L))) (ss_stv L _ rfl rfl (by omega)) (br_f (nI_nle (by omega) (by omega)) ?_)⟩
      refine hr _ ?_
      by_cases q : 3 ≤ m
      · obtain rfl : tl' = tl := by omega
        exact br_t (nI_le (a := 3) q (by omega)) h2
      · obtain rfl : tl' = tl - 1 := by omega
        exact br_f (nI_ge (b := 3) (by omega) (by omega)) (nm_r (e' := nI (tl - 1)) (pk_sub (b := 1) (by omega)) h2)
    rcases (by omega : m = 0 ∨ m = 1 ∨ m = 2 ∨ 3 ≤ m) with q | q | q | q
    · refine ⟨tl - 1, ch * 1103515245 + 12345, st_up N 37 L (cr_f (N 37) L), Or.inr ⟨by omega, Or.inl rfl⟩, fun post h => open2 post (tl - 1) (by omega) ?_⟩
      subst q
      exact br_t rfl (br_f (by decide) (br_f (by decide) (b0 post _ _ (st_up N 37 L (cr_f (N 37) L)) h)))
    · refine ⟨tl - 1, ch * 1103515245 + 12345, sx_put (sx_put (st_up N 37 L (cr_f (N 37) L)) w L) w L, Or.inr ⟨by omega, Or.inr (Or.inl rfl)⟩, fun post h => open2 post (tl - 1) (by omega) ?_⟩
      subst q
      exact br_f (by decide) (br_t rfl (br_f (by decide) (b2 post _ _ (st_up N 37 L (cr_f (N 37) L)) hf h)))
    · obtain ⟨p, hp, rp⟩ := sx_roll (k := L + 1) (tl := tl - 1) (N := st_up N 37 L (cr_f (N 37) L)) (ch * 1103515245 + 12345) (by omega) (by omega)
      obtain ⟨b, hb8, rb⟩ := sx_roll (k := 8) (tl := tl - 1) (N := st_up N 37 L (cr_f (N 37) L)) ((ch * 1103515245 + 12345) * 1103515245 + 12345) (by omega) (by omega)
      refine ⟨tl - 1, ((ch * 1103515245 + 12345) * 1103515245 + 12345) * 1103515245 + 12345, sx_put (st_up (st_up N 37 L (cr_f (N 37) L)) 37 p (st_up N 37 L (cr_f (N 37) L) 37 p ^^^ 2 ^ b)) w L, Or.inr ⟨by omega, Or.inr (Or.inr ⟨p, b, by omega, hb8, rfl⟩)⟩, fun post h => open2 post (tl - 1) (by omega) ?_⟩
      subst q
      refine br_f (by decide) (br_f (by decide) (br_t rfl ?_))
      rw [nI_1 L]
      refine rp _ ?_
      refine rb _ ?_
      refine ⟨ss_in (by omega), ss_in (by omega), nm_r (e' := ss_c (ub_un (st_up N 37 L (cr_f (N 37) L) 37) p (st_up N 37 L (cr_f (N 37) L) 37 p ^^^ 2 ^ b))) ?_ (b1 post (tl - 1) _ (st_up (st_up N 37 L (cr_f (N 37) L)) 37 p (st_up N 37 L (cr_f (N 37) L) 37 p ^^^ 2 ^ b)) (Nat.le_trans hf (by decide)) h)⟩
      refine ss_stv p _ rfl ?_ (by omega)
      rw [ss_rd (by omega), ss_one _ (by omega), nx_xor]
    · refine ⟨tl, ch * 1103515245 + 12345, sx_put (st_up N 37 L (cr_f (N 37) L)) w L, Or.inl ⟨rfl, rfl⟩, fun post h => open2 post tl (by omega) ?_⟩
      refine br_f (nI_ne0 (by omega) (by omega)) (br_f ?_ (br_f ?_ (b1 post _ _ (st_up N 37 L (cr_f (N 37) L)) (Nat.le_trans hf (by decide)) h)))
      · exact fun e => by have := (nI_eq (b := 1) (by omega) (by decide)).mp e; omega
      · exact fun e => by have := (nI_eq (b := 2) (by omega) (by decide)).mp e; omega
end
section
/-! walks: departures -/
theorem sx_dep0 {post : SX → Prop} {w tl : Nat} {ch : Int32} {N : Nat → Nat → Nat} (hw : w < 4) (ho : N 36 (w ^^^ 1) = 0) (h : ss_S (wX_depart_40 post (nI w)) tl ch N) : wpX_depart post (ss_st tl ch N) (nI w) := by
  have hx : w ^^^ 1 < 4 := Nat.xor_lt_two_pow (n := 2) hw (by decide)
  refine nm_r (e' := nI (w ^^^ 1)) (nx_xor w 1) ⟨ss_in hx, br_t ?_ h⟩
  rw [ss_rdm (by omega), ho]; decide
def sx_da (N : Nat → Nat → Nat) (o b : Nat) : Nat → Nat → Nat := st_up (st_up N 37 0 (2 + b)) 36 o 0
theorem sx_dep1 {post : SX → Prop} {w b tl tl' : Nat} {ch ch' : Int32} {N N' : Nat → Nat → Nat} (hw : w < 4) (ho : N 36 (w ^^^ 1) = b + 1) (hb : b ≤ 1)
    (hl : ∀ po : SX → Prop, po (ss_st tl' ch' N') → wpX_launch po (ss_st tl ch (sx_da N (w ^^^ 1) b)) (nI w) (nI 1)) (h : ss_S (wX_depart_40 post (nI w)) tl' ch' N') : wpX_depart post (ss_st tl ch N) (nI w) := by
  have hx : w ^^^ 1 < 4 := Nat.xor_lt_two_pow (n := 2) hw (by decide)
  have e : ss_m (N 36) (nI (w ^^^ 1)).toNatClampNeg = nI b := by
    rw [ss_rdm (by omega), ho, ← nI_1, Int32.add_sub_cancel]
  refine nm_r (e' := nI (w ^^^ 1)) (nx_xor w 1) ⟨ss_in hx, br_f ?_ ⟨ss_in hx, nm_r (e' := ss_c (ub_un (N 37) 0 (2 + b))) ?_ ⟨ss_in hx, nm_r (e' := ss_m (ub_un (N 36) (w ^^^ 1) 0)) ?_ (hl _ h)⟩⟩⟩
  · rw [e]; exact nI_pos (by omega)
  · rw [e, ss_ad2]; exact ss_cu _ _ _
  · rw [ss_nbm, nI_clamp (by omega)]; exact ss_mu0 _ _
theorem sx_dep_b {post : SX → Prop} {w tl : Nat} {ch : Int32} {N : Nat → Nat → Nat} (hw : w < 4) (hb : N 33 w = 1) (hf : 0 < N 34 w) (hf' : N 34 w ≤ 4) (h : post (ss_st tl ch (st_up N 34 w (N 34 w - 1)))) : ss_S (wX_depart_40 post (nI w)) tl ch N := by
  have i4 := ss_in hw (by decide)
  refine ⟨i4, br_f ?_ ⟨i4, br_f ?_ ⟨i4, i4, nm_r (e' := ss_c (ub_un (N 34) w (N 34 w - 1))) ?_ h⟩⟩⟩
  · rw [ss_rd (by omega), hb]; decide
  · rw [ss_rd (by omega)]; exact nI_nle hf (by omega)
  · refine ss_stb ?_ (by omega) (by omega)
    rw [ss_rd (by omega)]; exact pk_sub (b := 1) hf
theorem sx_dep_70 {post : SX → Prop} {w tl : Nat} {ch : Int32} {N : Nat → Nat → Nat} (hw : w < 4) (hb : N 33 w = 0 ∨ N 33 w = 1 ∧ N 34 w = 0) (h : ss_S (wX_depart_70 post (nI w)) tl ch N) : ss_S (wX_depart_40 post (nI w)) tl ch N := by
  have i4 := ss_in hw (by decide)
  refine ⟨i4, ?_⟩
  rcases hb with z | ⟨z, z2⟩
  · exact br_t (by rw [ss_rd (by omega), z]; rfl) h
  · refine br_f ?_ ⟨i4, br_t ?_ h⟩
    · rw [ss_rd (by omega), z]; decide
    · rw [ss_rd (by omega), z2]; decide
theorem sx_dep_e {post : SX → Prop} {w tl : Nat} {ch : Int32} {N : Nat → Nat → Nat} (hw : w < 4) (hq : N 26 w = 0) (h : post (ss_st tl ch N)) : ss_S (wX_depart_70 post (nI w)) tl ch N := by
  refine ⟨ss_in hw, br_t ?_ h⟩
  rw [ss_rd (by omega), hq]; rfl
def sx_dd0 (N : Nat → Nat → Nat) (w k : Nat) : Nat → Nat → Nat := st_bl (st_up N 37 0 (N 32 w)) 37 1 k (fun j => N 27 (4 * (6 * w + N 25 w) + j))
def sx_dd (N : Nat → Nat → Nat) (w : Nat) : Nat → Nat → Nat := st_up (st_up (sx_dd0 N w (N 28 (6 * w + N 25 w))) 33 w 1) 34 w 4
theorem sx_dep107 {post : SX → Prop} {w tl : Nat} {ch : Int32} {N : Nat → Nat → Nat} (hw : w < 4) (hs : N 25 w < 6) (hl : N 28 (6 * w + N 25 w) ≤ 4) (h : wpX_launch post (ss_st tl ch (sx_dd N w)) (nI w) (nI (1 + N 28 (6 * w + N 25 w)))) : ∀ d n k, k + d = N 28 (6 * w + N 25 w) → d < n → ss_A (wX_depart_107 post (nI w) (nI (6 * w + N 25 w)) (nI tl) ch n (nI k)) (sx_dd0 N w k) := by
  intro d
  have i4 := ss_in hw (by decide)
  have e28 : ss_c (N 28) (nI (6 * w + N 25 w)).toNatClampNeg = nI (N 28 (6 * w + N 25 w)) := ss_rd (by omega)
  induction d with
  | zero =>
    intro n k hk hn
    obtain ⟨m, rfl⟩ : ∃ m, n = m + 1 := ⟨n - 1, by omega⟩
    obtain rfl : k = N 28 (6 * w + N 25 w) := by omega
    refine ⟨ss_in (by omega), br_t ?_ ⟨i4, nm_r (e' := ss_c (ub_un (N 33) w 1)) (ss_stv w 1 rfl rfl (by omega)) ⟨i4, nm_r (e' := ss_c (ub_un (N 34) w 4)) ?_ ⟨ss_in (by omega), nm_r (e' := nI (1 + N 28 (6 * w + N 25 w))) ?_ h⟩⟩⟩⟩
    · show ss_c (N 28) _ ≤ _
      rw [e28]; exact nI_le (by omega) (by omega)
    · rw [ss_nb4]; exact ss_stv w 4 rfl rfl (by omega)
    · show 1 + ss_c (N 28) _ = _
      rw [e28, ss_ad1]
  | succ d ih =>
    intro n k hk hn
    obtain ⟨m, rfl⟩ : ∃ m, n = m + 1 := ⟨n - 1, by omega⟩
    refine ⟨ss_in (by omega), br_f ?_ ⟨?_, ?_, nm_r (e' := ss_c (ub_bl (ub_un (N 37) 0 (N 32 w)) 1 (k + 1) (fun j => N 27 (4 * (6 * w + N 25 w) + j)))) ?_ (nm_r (nI_1 k) (ih m (k + 1) (by omega) (by omega)))⟩⟩
    · show ¬ ss_c (N 28) _ ≤ _
      rw [e28]; exact nI_ge (by omega) (by omega)
    · rw [ss_mul4, nI_add]; exact ss_in (by omega)
    · rw [ss_ad1]; exact ss_in (by omega)
    · rw [← ub_bls]
      refine ss_stv (1 + k) _ (ss_ad1 k) ?_ (by omega)
      show ss_c (N 27) _ = _
      rw [ss_mul4, nI_add, ss_rd (by omega)]
theorem sx_dep_d {post : SX → Prop} {w tl : Nat} {ch : Int32} {N : Nat → Nat → Nat} (hw : w < 4) (hq : 0 < N 26 w) (hq' : N 26 w ≤ 6) (hs : N 25 w < 6) (hl : N 28 (6 * w + N 25 w) ≤ 4)
    (h : wpX_launch post (ss_st tl ch (sx_dd N w)) (nI w) (nI (1 + N 28 (6 * w + N 25 w)))) : ss_S (wX_depart_70 post (nI w)) tl ch N := by
  have i4 := ss_in hw (by decide)
  refine ⟨i4, br_f ?_ ⟨i4, nm_r (e' := nI (6 * w + N 25 w)) ?_ ⟨i4, nm_r (e' := ss_c (ub_un (N 37) 0 (N 32 w))) ?_ ⟨N 28 (6 * w + N 25 w) + 1, ?_⟩⟩⟩⟩
  · rw [ss_rd (by omega)]; exact nI_ne0 hq (by omega)
  · rw [ss_rd (by omega), ss_mul6, nI_add]
  · rw [ss_rd (by omega)]; exact ss_cu _ _ _
  · have z := sx_dep107 hw hs hl h (N 28 (6 * w + N 25 w)) (N 28 (6 * w + N 25 w) + 1) 0 (by omega) (by omega)
    unfold sx_dd0 at z
    rw [st_bl0] at z
    exact z
/-! quiet or not -/
theorem sx_q53 {post : Int32 → Prop} {tl : Nat} {ch : Int32} {N : Nat → Nat → Nat} (h1 : ∀ s, s < 4 → N 1 s ≤ 24 ∧ N 7 s ≤ 1 ∧ N 14 s ≤ 1 ∧ N 12 s ≤ 13 ∧ N 16 s ≤ 1) (hT : (∀ s, s < 4 → N 16 s = 0 ∧ sx_set N s) → post 1) (hF : (∃ s, s < 4 ∧ (N 16 s ≠ 0 ∨ ¬ sx_set N s)) → post 0) :
    ∀ d n i, i + d = 4 → d < n → (∀ s, s < i → N 16 s = 0 ∧ sx_set N s) → ss_S (wX_isQuiet_53 post) tl ch N n (nI i) := by
  intro d
  induction d with
  | zero =>
    intro n i hi hn ha
    obtain ⟨m, rfl⟩ : ∃ m, n = m + 1 := ⟨n - 1, by omega⟩
    obtain rfl : i = 4 := by omega
    exact br_t (nI_le (a := 4) (b := 4) (by omega) (by omega)) (hT ha)
  | succ d ih =>
    intro n i hi hn ha
    obtain ⟨m, rfl⟩ : ∃ m, n = m + 1 := ⟨n - 1, by omega⟩
    have hi4 : i < 4 := by omega
    obtain ⟨a1, a7, a14, a12, a16⟩ := h1 i hi4
    refine br_f (nI_ge (b := 4) hi4 (by omega)) ⟨ss_in hi4, ?_⟩
    by_cases z : N 16 i = 0
    · refine br_t (by rw [ss_rd (by omega), z]; rfl) ?_
      by_cases c : sx_set N i
      · refine sx_isSettled1 hi4 a1 a7 a14 a12 c ?_
        refine br_f (by decide) (nm_r (nI_1 i) (ih m (i + 1) (by omega) (by omega) ?_))
        intro s hs
        rcases (by omega : s < i ∨ s = i) with q | q
        · exact ha s q
        · subst q; exact ⟨z, c⟩
      · exact sx_isSettled0 hi4 a1 a7 a14 a12 c (br_t rfl (hF ⟨i, hi4, Or.inr c⟩))
    · exact br_f (by rw [ss_rd (by omega)]; exact nI_ne0 (by omega) (by omega)) (hF ⟨i, hi4, Or.inl z⟩)
def sx_lq (N : Nat → Nat → Nat) (w : Nat) : Prop := N 26 w = 0 ∧ N 29 w = 0 ∧ N 33 w = 0 ∧ N 36 w = 0
theorem sx_q2 {post : Int32 → Prop} {tl : Nat} {ch : Int32} {N : Nat → Nat → Nat} (h1 : ∀ w, w < 4 → N 26 w ≤ 6 ∧ N 29 w ≤ 4 ∧ N 33 w ≤ 1 ∧ N 36 w ≤ 2) (hT : (∀ w, w < 4 → sx_lq N w) → ∃ n, ss_S (wX_isQuiet_53 post) tl ch N n 0) (hF : (∃ w, w < 4 ∧ ¬ sx_lq N w) → post 0) :
    ∀ d n i, i + d = 4 → d < n → (∀ w, w < i → sx_lq N w) → ss_S (wX_isQuiet_2 post) tl ch N n (nI i) := by
  intro d
  induction d with
  | zero =>
    intro n i hi hn ha
    obtain ⟨m, rfl⟩ : ∃ m, n = m + 1 := ⟨n - 1, by omega⟩
    obtain rfl : i = 4 := by omega
    exact br_t (nI_le (a := 4) (b := 4) (by omega) (by omega)) (hT ha)
  | succ d ih =>
    intro n i hi hn ha
    obtain ⟨m, rfl⟩ : ∃ m, n = m + 1 := ⟨n - 1, by omega⟩
    have hi4 : i < 4 := by omega
    obtain ⟨a1, a2, a3, a4⟩ := h1 i hi4
    have i4 := ss_in hi4 (by decide)
    refine br_f (nI_ge (b := 4) hi4 (by omega)) ⟨i4, ?_⟩
    by_cases z1 : N 26 i = 0
    · refine br_f (by rw [ss_rd (by omega), z1]; decide) ⟨i4, ?_⟩
      by_cases z2 : N 29 i = 0
      · refine br_f (by rw [ss_rd (by omega), z2]; decide) ⟨i4, ?_⟩
        by_cases z3 : N 33 i = 0
        · refine br_t (by rw [ss_rd (by omega), z3]; rfl) ⟨i4, ?_⟩
          by_cases z4 : N 36 i = 0
          · refine br_t (by rw [ss_rdm (by omega), z4]; decide) (nm_r (nI_1 i) (ih m (i + 1) (by omega) (by omega) ?_))
            intro s hs
            rcases (by omega : s < i ∨ s = i) with q | q
            · exact ha s q
            · subst q; exact ⟨z1, z2, z3, z4⟩
          · refine br_f ?_ (hF ⟨i, hi4, fun q => z4 q.2.2.2⟩)
            rw [ss_rdm (by omega)]
            exact fun q => z4 ((ss_mlt (by omega)).mp q)
        · exact br_f (by rw [ss_rd (by omega)]; exact nI_ne0 (by omega) (by omega)) (hF ⟨i, hi4, fun q => z3 q.2.2.1⟩)
      · exact br_t (by rw [ss_rd (by omega)]; exact nI_lt (a := 0) (by omega) (by omega)) (hF ⟨i, hi4, fun q => z2 q.2.1⟩)
    · exact br_t (by rw [ss_rd (by omega)]; exact nI_lt (a := 0) (by omega) (by omega)) (hF ⟨i, hi4, fun q => z1 q.1⟩)
def sx_quiet (N : Nat → Nat → Nat) : Prop := (∀ w, w < 4 → sx_lq N w) ∧ (∀ s, s < 4 → N 16 s = 0 ∧ sx_set N s)
theorem sx_isQuiet {post : Int32 → Prop} {tl : Nat} {ch : Int32} {N : Nat → Nat → Nat} (h0 : ∀ w, w < 4 → N 26 w ≤ 6 ∧ N 29 w ≤ 4 ∧ N 33 w ≤ 1 ∧ N 36 w ≤ 2) (h1 : ∀ s, s < 4 → N 1 s ≤ 24 ∧ N 7 s ≤ 1 ∧ N 14 s ≤ 1 ∧ N 12 s ≤ 13 ∧ N 16 s ≤ 1) (hT : sx_quiet N → post 1) (hF : ¬ sx_quiet N → post 0) : wpX_isQuiet post (ss_st tl ch N) := by
  refine ⟨5, sx_q2 h0 ?_ ?_ 4 5 0 (by omega) (by omega) (fun _ h => absurd h (by omega))⟩
  · intro hl
    refine ⟨5, sx_q53 h1 (fun a => hT ⟨hl, a⟩) ?_ 4 5 0 (by omega) (by omega) (fun _ h => absurd h (by omega))⟩
    rintro ⟨s, hs, c⟩
    refine hF (fun q => ?_)
    rcases c with c | c
    · exact c (q.2 s hs).1
    · exact c (q.2 s hs).2
  · rintro ⟨w, hw, c⟩
    exact hF (fun q => c (q.1 w hw))
end
section
/-! the net: pieces, lists of pieces under way, the invariants -/
abbrev Pc : Type := Nat × Nat × Nat × Nat × Nat × Nat
abbrev pq_i (x : Pc) : Nat := x.1
abbrev pq_p (x : Pc) : Nat := x.2.1
abbrev pq_k (x : Pc) : Nat := x.2.2.1
abbrev pq_s (x : Pc) : Nat := x.2.2.2.1
abbrev pq_a (x : Pc) : Nat := x.2.2.2.2.1
abbrev pq_z (x : Pc) : Nat := x.2.2.2.2.2
def pq_n (x : Pc) : Nat := if pq_k x = 0 ∧ 2 ≤ pq_z x then 2 else 1
def pq_l (x : Pc) : Prop := pq_p x + 1 = pq_n x
def pq_len (x : Pc) : Nat := if pq_k x = 0 then 2 + pq_z x else if pq_k x = 1 then 3 else 2
def pq_sz (x : Pc) : Nat := if pq_p x = 0 then (if 3 ≤ pq_len x then 3 else pq_len x) else pq_len x - 3
def pq_b (C : Nat → Nat → Nat) (W : Nat → Nat) (x : Pc) (j : Nat) : Nat :=
  if j = 0 then 64 * pq_k x + 8 * pq_z x + pq_s x else if j = 1 then pq_a x % 64 else if pq_k x = 1 then W (pq_s x) - pq_a x else C (pq_s x) (pq_a x + (j - 2))
def pq_c (C : Nat → Nat → Nat) (W : Nat → Nat) (x : Pc) (j : Nat) : Nat :=
  if j = 0 then 16 * (pq_i x % 16) + 2 * pq_p x + (if pq_p x + 1 = pq_n x then 1 else 0) else pq_b C W x (3 * pq_p x + (j - 1))
abbrev Lv : Type := Nat → List Pc
def ul (lv : Lv) (k : Nat) (l : List Pc) : Lv := fun j => cond (Nat.beq j k) l (lv j)
theorem ul_s {lv : Lv} {k : Nat} {l : List Pc} : ul lv k l k = l := by
  show cond (Nat.beq k k) _ _ = _
  rw [Nat.beq_refl]; rfl
theorem ul_n {lv : Lv} {k j : Nat} {l : List Pc} (h : j ≠ k) : ul lv k l j = lv j := by
  show cond (Nat.beq j k) _ _ = _
  rw [show Nat.beq j k = false from (Bool.eq_false_iff).mpr (fun e => h (Nat.eq_of_beq_eq_true e))]
  rfl
/-- what a piece in direction d looks like -/
def pq_wf (d : Nat) (x : Pc) : Prop :=
  pq_k x < 4 ∧ pq_s x < 4 ∧ pq_p x < pq_n x ∧ (pq_k x = 1 → pq_s x / 2 = 1 - d ∧ pq_z x ≤ 1) ∧ (pq_k x ≠ 1 → pq_s x / 2 = d) ∧ (pq_k x = 0 → 1 ≤ pq_z x ∧ pq_z x ≤ 4) ∧ (2 ≤ pq_k x → pq_z x = 0)
/-- the sending and the receiving side of a stream: 44 first, 45 next, 48 base, 49 window's end, 50 end of what is written -/
def si_n (N : Nat → Nat → Nat) (s : Nat) : Prop :=
  N 0 s < 24 ∧ N 3 s < 12 ∧ N 4 s ≤ 12 ∧ N 6 s < 4096 ∧ N 1 s + N 44 s = N 50 s ∧ N 9 s = N 44 s % 64 ∧ N 15 s = N 45 s % 64 ∧ N 49 s + N 4 s = N 45 s + 12 ∧
  N 48 s ≤ N 44 s ∧ N 44 s ≤ N 45 s ∧ N 45 s ≤ N 44 s + N 11 s ∧ N 44 s + N 11 s ≤ N 50 s ∧ N 44 s + N 11 s ≤ N 49 s ∧ N 49 s ≤ N 48 s + 12 ∧ N 50 s ≤ N 48 s + 24 ∧ 64 ≤ N 48 s ∧ N 10 s ≤ N 11 s
def si_f (N : Nat → Nat → Nat) (s : Nat) : Prop :=
  (N 12 s = 0 ∧ N 11 s = 0 ∨ N 12 s + N 44 s = N 49 s + 1 ∧ 1 ≤ N 12 s) ∧ N 7 s ≤ 1 ∧ N 8 s ≤ 1 ∧ N 14 s ≤ 1 ∧ N 16 s ≤ 1 ∧ N 13 s ≤ 150 ∧ (N 8 s = 1 → N 7 s = 1 ∧ N 45 s = N 50 s) ∧ (N 14 s = 1 → N 8 s = 1 ∧ N 44 s = N 50 s)
def si_o (C N : Nat → Nat → Nat) (s : Nat) : Prop := ∀ i, i < N 1 s → N 2 (24 * s + (N 0 s + i) % 24) = C s (N 44 s + i)
def si_i (C N : Nat → Nat → Nat) (s : Nat) : Prop :=
  N 6 s % 2 = 0 ∧ (∀ j, (N 6 s).testBit j = true → N 45 s + j < N 44 s + N 11 s) ∧
  ∀ i, i < 12 → (i < N 4 s ∨ N 4 s ≤ i ∧ (N 6 s).testBit (i - N 4 s) = true) → N 5 (12 * s + (N 3 s + i) % 12) = C s (N 49 s - 12 + i)
def si (C N : Nat → Nat → Nat) (s : Nat) : Prop := si_n N s ∧ si_f N s ∧ si_o C N s ∧ si_i C N s
/-- what a piece says is true of its stream -/
def tk_ok (N : Nat → Nat → Nat) (x : Pc) : Prop :=
  (pq_k x = 0 → N 48 (pq_s x) ≤ pq_a x ∧ pq_a x + pq_z x ≤ N 44 (pq_s x) + N 11 (pq_s x)) ∧
  (pq_k x = 2 → pq_a x = N 50 (pq_s x) ∧ N 44 (pq_s x) = N 50 (pq_s x) ∧ N 7 (pq_s x) = 1) ∧
  (pq_k x = 1 → pq_z x = 1 → N 8 (pq_s x) = 1 ∧ pq_a x = N 50 (pq_s x))
/-- acknowledgements of s ascend -/
def ak (s hi : Nat) : Nat → List Pc → Prop
  | lo, [] => lo ≤ hi
  | lo, x :: r => (pq_k x = 1 ∧ pq_s x = s → lo ≤ pq_a x ∧ ak s hi (pq_a x) r) ∧ (¬ (pq_k x = 1 ∧ pq_s x = s) → ak s hi lo r)
/-- an open piece j, then the pieces l: a second piece follows its first one, or can't be taken for it -/
def op_n (x : Pc) : List Pc := if pq_p x = 0 ∧ pq_n x = 2 then [x] else []
def adj : List Pc → List Pc → Prop
  | _, [] => True
  | j, x :: r => (pq_p x = 1 → j = [] ∨ ∃ y, j = [y] ∧ pq_p y = 0 ∧ (y.1 = x.1 ∧ y.2.2 = x.2.2 ∨ y.1 % 16 ≠ x.1 % 16)) ∧ adj (op_n x) r
/-- the packet whose last piece is y comes together out of l behind the open piece j -/
def inA (y : Pc) : List Pc → List Pc → Prop
  | _, [] => False
  | j, x :: r => (y = x ∧ pq_p x + 1 = pq_n x ∧ (pq_p x = 0 ∨ ∃ z, j = [z] ∧ z.1 = x.1)) ∨ inA y (op_n x) r
/-- the open piece behind l -/
def lo : List Pc → List Pc → List Pc
  | j, [] => j
  | _, x :: r => lo (op_n x) r
/-- last pieces; of a stream; that aren't FIN nor an ack with the end's flag -/
def lc : List Pc → Nat
  | [] => 0
  | x :: r => (if pq_p x + 1 = pq_n x then 1 else 0) + lc r
def cn (s : Nat) : List Pc → Nat
  | [] => 0
  | x :: r => (if pq_p x + 1 = pq_n x ∧ pq_s x = s then 1 else 0) + cn s r
def e0 (s : Nat) : List Pc → Nat
  | [] => 0
  | x :: r => (if pq_p x + 1 = pq_n x ∧ pq_s x = s ∧ pq_k x ≠ 2 ∧ (pq_k x = 1 → pq_z x = 0) then 1 else 0) + e0 s r
def wg (a b : Nat) : List Pc → Nat
  | [] => 0
  | x :: r => (if pq_k x = 1 then a else b) + wg a b r
/-- pieces behind an end's queue are whole packets but for the first, numbered up to m -/
def ct (m : Nat) : List Pc → Prop
  | [] => True
  | x :: r => pq_i x + lc (x :: r) = m ∧ (pq_p x + 1 ≠ pq_n x → pq_p x = 0 ∧ pq_n x = 2 ∧ ∃ y r', r = y :: r' ∧ pq_p y = 1 ∧ x.1 = y.1 ∧ x.2.2 = y.2.2) ∧ (pq_p x + 1 = pq_n x → ∀ y r', r = y :: r' → pq_p y = 0) ∧ ct m r
/-- time left: P s g for each last piece of s, at the g that its place gives -/
def tm_l (P : Nat → Nat → Prop) (ap : Nat) : Nat → List Pc → Prop
  | _, [] => True
  | g, x :: r => (pq_p x + 1 = pq_n x → P (pq_s x) (if pq_k x = 1 then g else g + ap)) ∧ tm_l P ap (g + 2) r
def tm_ok (tl : Nat) (N : Nat → Nat → Nat) (s g : Nat) : Prop := (N 47 s = 0 ∧ N 11 s = 0 ∧ 1 ≤ N 12 s) ∨ 5 * tl + g ≤ N 47 s
def tm_a (N : Nat → Nat → Nat) (d : Nat) : Nat := max (N 40 (3 - 3 * d)) 2 + max (N 40 (1 + d)) 2 + 22
def tm_d (tl : Nat) (N : Nat → Nat → Nat) (lv : Lv) (d : Nat) : Prop :=
  tm_l (tm_ok tl N) (tm_a N d) (N 40 (2 - d) + 2 * N 41 (2 - d)) (lv (2 - d)) ∧
  tm_l (tm_ok tl N) (tm_a N d) (N 40 (3 * d) + 2 * N 41 (3 * d) + max (N 40 (2 - d)) 2 + 5) (lv (3 * d)) ∧
  (∀ x, x ∈ lv (4 + d) → tm_ok tl N (pq_s x) (N 40 (2 - d) + 1)) ∧
  (N 16 (2 - 2 * d) = 1 → tm_ok tl N (2 - 2 * d) (N 40 (3 * d) + 2 * N 26 (3 * d) + max (N 40 (2 - d)) 2 + 5)) ∧
  (N 16 (3 - 2 * d) = 1 → tm_ok tl N (3 - 2 * d) (N 40 (3 * d) + 2 * N 26 (3 * d) + max (N 40 (2 - d)) 2 + 5 + 2 * (3 - N 46 d)))
def tm (tl : Nat) (N : Nat → Nat → Nat) (lv : Lv) : Prop := tm_d tl N lv 0 ∧ tm_d tl N lv 1 ∧ 5 * tl + (N 40 0 - 2) + (N 40 1 - 2) + (N 40 2 - 2) + (N 40 3 - 2) ≤ 100
/-- tokens of a stream, and what it may still send in this round -/
def kb_u (N : Nat → Nat → Nat) (s : Nat) : Nat :=
  if 0 < N 1 s then (if N 12 s = 0 then (if N 47 s = 0 then 1 else 0) else (sx_lim N s - N 10 s + 3) / 4) else (if N 7 s = 0 ∨ N 14 s ≠ 0 then 0 else if N 47 s = 0 then 1 else 0)
def kb_k (N : Nat → Nat → Nat) (lv : Lv) (s : Nat) : Nat := cn s (lv 0) + cn s (lv 1) + cn s (lv 2) + cn s (lv 3) + cn s (lv 4) + cn s (lv 5) + N 16 s
def kb (N : Nat → Nat → Nat) (lv : Lv) (s : Nat) : Prop := kb_k N lv s + kb_u N s ≤ 3 ∧ (N 12 s = 0 → kb_k N lv s + kb_u N s ≤ 1)
/-- lines -/
def lk (x y : Nat → Nat) (N : Nat → Nat → Nat) (lv : Lv) (w : Nat) : Prop :=
  N 26 w = N 41 w + (lv w).length ∧ N 41 w ≤ 1 ∧ N 32 w ≤ 1 ∧ N 35 w ≤ 1 ∧ (N 41 w = 0 → N 35 w = N 32 w) ∧ (N 41 w = 1 → N 35 w + N 32 w = 1) ∧ N 25 w < 6 ∧
  ((N 42 w = 0 ∧ N 33 w = 0 ∧ N 34 w = 0 ∧ N 40 w = 2 ∧ N 41 w = 0 ∧ N 36 w = 0 ∧ (x w = 1 → N 26 w = 0)) ∨
   (N 42 w = 1 ∧ N 33 w = 1 ∧ N 34 w = 4 ∧ N 40 w = 1 + x w ∧ N 36 w = 0 ∧ 0 < N 26 w) ∨
   (N 42 w = 2 ∧ N 33 w = 1 ∧ N 34 w + x w = 4 ∧ N 40 w = 1 ∧ N 41 w = 1 ∧ N 36 w = N 32 w + 1 ∧ y w = 0) ∨
   (N 42 w = 3 ∧ N 33 w = 1 ∧ (x w = 1 → N 34 w = 3) ∧ (x w = 0 → N 34 w = 3 + y w) ∧ N 40 w = y w ∧ N 41 w = 1 ∧ N 36 w = 0) ∨
   (N 42 w = 4 ∧ N 33 w = 1 ∧ N 40 w = N 34 w + 2 + x w ∧ N 34 w ≤ 4 ∧ N 36 w = 0 ∧ 0 < N 26 w))
/-- frames on way w: number f -/
def fr_g (N : Nat → Nat → Nat) (w f : Nat) : Prop := cr_f (fun j => N 30 (6 * (4 * w + f) + j)) (N 31 (4 * w + f) - 1) = N 30 (6 * (4 * w + f) + (N 31 (4 * w + f) - 1))
def fr_d (C N : Nat → Nat → Nat) (lv : Lv) (w f : Nat) : Prop :=
  N 30 (6 * (4 * w + f)) = N 32 w ∧ (N 42 w = 1 ∨ N 42 w = 2) ∧ (N 42 w = 1 → N 41 w = 0 → ∃ x r, lv w = x :: r ∧ N 31 (4 * w + f) = pq_sz x + 3 ∧ ∀ j, j < pq_sz x + 1 → N 30 (6 * (4 * w + f) + (1 + j)) = pq_c C (N 49) x j)
def fr_a (N : Nat → Nat → Nat) (w f : Nat) : Prop := ∃ v, v ≤ 1 ∧ N 30 (6 * (4 * w + f)) = 2 + v ∧ (N 42 (w ^^^ 1) = 3 ∧ N 32 (w ^^^ 1) = v ∨ N 42 (w ^^^ 1) = 0)
def fr_1 (C N : Nat → Nat → Nat) (lv : Lv) (w f : Nat) : Prop :=
  2 ≤ N 31 (4 * w + f) ∧ N 31 (4 * w + f) ≤ 6 ∧ (∀ j, j < N 31 (4 * w + f) → N 30 (6 * (4 * w + f) + j) < 256) ∧ (fr_g N w f → fr_d C N lv w f ∨ fr_a N w f)
def fr (lo hi : Nat → Nat) (C N : Nat → Nat → Nat) (lv : Lv) (w : Nat) : Prop :=
  (∀ f, lo w ≤ f → f < hi w → fr_1 C N lv w f) ∧ (N 42 w = 1 → ∃ f, lo w ≤ f ∧ f < hi w ∧ fr_g N w f ∧ N 30 (6 * (4 * w + f)) < 2) ∧
  (N 42 w = 3 → ∃ f, lo (w ^^^ 1) ≤ f ∧ f < hi (w ^^^ 1) ∧ fr_g N (w ^^^ 1) f ∧ 2 ≤ N 30 (6 * (4 * (w ^^^ 1) + f)))
/-- queues hold the pieces' bytes -/
def qo (C N : Nat → Nat → Nat) (lv : Lv) (w : Nat) : Prop :=
  ∀ j x, (lv w)[j]? = some x → N 28 (6 * w + (N 25 w + N 41 w + j) % 6) = pq_sz x + 1 ∧ ∀ k, k < pq_sz x + 1 → N 27 (4 * (6 * w + (N 25 w + N 41 w + j) % 6) + k) = pq_c C (N 49) x k
/-- what an end has joined -/
def jo (C N : Nat → Nat → Nat) (lv : Lv) (d : Nat) : Prop :=
  (lv (6 + d) = [] ∧ N 20 (1 - d) = 0) ∨ ∃ x, lv (6 + d) = [x] ∧ N 20 (1 - d) = pq_i x % 16 + 1 ∧ N 21 (1 - d) = 1 ∧ (pq_k x < 4 → N 19 (1 - d) = 3 ∧ ∀ j, j < 3 → N 18 (8 * (1 - d) + j) = pq_b C (N 49) x j)
/-- a direction -/
def dr (N : Nat → Nat → Nat) (lv : Lv) (d : Nat) : Prop :=
  (∀ x, x ∈ lv (2 - d) ∨ x ∈ lv (3 * d) → pq_wf d x ∧ tk_ok N x) ∧ adj (lv (6 + d)) (lv (2 - d) ++ lv (3 * d)) ∧ ct (N 43 d) (lv (3 * d)) ∧ N 22 d = N 43 d % 16 ∧ N 23 d ≤ 1 ∧
  (N 26 (2 - d) = 4 → ∀ y, lo (lv (6 + d)) (lv (2 - d)) = [y] → N 43 d ≤ pq_i y + 1 + (lv (4 + d)).length + lc (lv (3 * d))) ∧
  (∀ x, x ∈ lv (4 + d) → pq_wf d x ∧ pq_p x + 1 = pq_n x) ∧ (lv (4 + d) ≠ [] → N 26 (2 - d) = 4) ∧ N 26 (2 - d) ≤ 4 ∧ N 26 (3 * d) ≤ 6 ∧
  ak (2 - 2 * d) (N 45 (2 - 2 * d)) (N 44 (2 - 2 * d)) (lv (2 - d) ++ lv (3 * d)) ∧ ak (3 - 2 * d) (N 45 (3 - 2 * d)) (N 44 (3 - 2 * d)) (lv (2 - d) ++ lv (3 * d)) ∧
  (N 16 (3 - 2 * d) = 1 → ∃ a b, lv (3 * d) = a ++ b ∧ b.length = N 46 d ∧ ∀ x, x ∈ b → pq_k x = 1 ∧ pq_s x = 2 - 2 * d ∧ pq_p x + 1 = pq_n x) ∧
  (∀ z, lo (lv (6 + d)) (lv (2 - d)) = [z] → pq_i z + lc (lv (3 * d)) < N 43 d ∨ ∃ y r, lv (3 * d) = y :: r ∧ pq_p y = 1 ∧ pq_i y = pq_i z)
/-- bytes in the queues, small things -/
def rg (C N : Nat → Nat → Nat) : Prop := (∀ q, q < 24 → N 28 q ≤ 4) ∧ (∀ q, q < 96 → N 27 q < 256) ∧ (∀ s q, C s q < 256) ∧ (∀ w, w < 4 → N 29 w ≤ 4)
end
section
/-! lists of pieces -/
theorem lc_app (a b : List Pc) : lc (a ++ b) = lc a + lc b := by
  induction a with
  | nil => show lc b = 0 + lc b; omega
  | cons x r ih => show _ + lc (r ++ b) = _ + lc r + lc b; omega
theorem cn_app (s : Nat) (a b : List Pc) : cn s (a ++ b) = cn s a + cn s b := by
  induction a with
  | nil => show cn s b = 0 + cn s b; omega
  | cons x r ih => show _ + cn s (r ++ b) = _ + cn s r + cn s b; omega
theorem e0_app (s : Nat) (a b : List Pc) : e0 s (a ++ b) = e0 s a + e0 s b := by
  induction a with
  | nil => show e0 s b = 0 + e0 s b; omega
  | cons x r ih => show _ + e0 s (r ++ b) = _ + e0 s r + e0 s b; omega
theorem wg_app (p q : Nat) (a b : List Pc) : wg p q (a ++ b) = wg p q a + wg p q b := by
  induction a with
  | nil => show wg p q b = 0 + wg p q b; omega
  | cons x r ih => show _ + wg p q (r ++ b) = _ + wg p q r + wg p q b; omega
theorem lc_cn {l : List Pc} (h : ∀ x, x ∈ l → pq_s x < 4) : lc l ≤ cn 0 l + cn 1 l + cn 2 l + cn 3 l := by
  induction l with
  | nil => exact Nat.le_refl 0
  | cons x r ih =>
    have i := ih (fun y hy => h y (List.mem_cons_of_mem _ hy))
    have hx := h x (List.mem_cons_self ..)
    show (if _ then 1 else 0) + lc r ≤ ((if _ then 1 else 0) + cn 0 r) + ((if _ then 1 else 0) + cn 1 r) + ((if _ then 1 else 0) + cn 2 r) + ((if _ then 1 else 0) + cn 3 r)
    by_cases q : pq_p x + 1 = pq_n x
    · rcases (by omega : pq_s x = 0 ∨ pq_s x = 1 ∨ pq_s x = 2 ∨ pq_s x = 3) with z | z | z | z <;> simp only [q, z, true_and] <;> simp <;> omega
    · rw [if_neg q, if_neg (fun h => q h.1), if_neg (fun h => q h.1), if_neg (fun h => q h.1), if_neg (fun h => q h.1)]; omega
theorem cn_all {s : Nat} {l : List Pc} (h : ∀ x, x ∈ l → pq_s x = s ∧ pq_p x + 1 = pq_n x) : cn s l = l.length := by
  induction l with
  | nil => rfl
  | cons x r ih =>
    have i := ih (fun y hy => h y (List.mem_cons_of_mem _ hy))
    obtain ⟨a, b⟩ := h x (List.mem_cons_self ..)
    show (if _ then 1 else 0) + cn s r = r.length + 1
    rw [if_pos ⟨b, a⟩]; omega
theorem lc_all {l : List Pc} (h : ∀ x, x ∈ l → pq_p x + 1 = pq_n x) : lc l = l.length := by
  induction l with
  | nil => rfl
  | cons x r ih =>
    have i := ih (fun y hy => h y (List.mem_cons_of_mem _ hy))
    show (if _ then 1 else 0) + lc r = r.length + 1
    rw [if_pos (h x (List.mem_cons_self ..))]; omega
theorem cn_pos {s : Nat} {l : List Pc} {x : Pc} (h : x ∈ l) (hl : pq_p x + 1 = pq_n x) (hs : pq_s x = s) : 1 ≤ cn s l := by
  induction l with
  | nil => cases h
  | cons y r ih =>
    show 1 ≤ (if _ then 1 else 0) + cn s r
    rcases List.mem_cons.mp h with z | z
    · subst z
      rw [if_pos ⟨hl, hs⟩]; omega
    · have := ih z; omega
theorem lo_app (j a b : List Pc) : lo j (a ++ b) = lo (lo j a) b := by
  induction a generalizing j with
  | nil => rfl
  | cons x r ih => exact ih _
theorem adj_app {a b : List Pc} : ∀ {j : List Pc}, adj j (a ++ b) ↔ adj j a ∧ adj (lo j a) b := by
  induction a with
  | nil => exact fun {j} => ⟨fun h => ⟨trivial, h⟩, fun h => h.2⟩
  | cons x r ih => exact fun {j} => ⟨fun h => ⟨⟨h.1, (ih.mp h.2).1⟩, (ih.mp h.2).2⟩, fun h => ⟨h.1.1, ih.mpr ⟨h.1.2, h.2⟩⟩⟩
theorem ak_lo {s hi : Nat} {l : List Pc} : ∀ {a b : Nat}, a ≤ b → ak s hi b l → ak s hi a l := by
  induction l with
  | nil => exact fun h q => Nat.le_trans h q
  | cons x r ih => exact fun h q => ⟨fun c => ⟨Nat.le_trans h (q.1 c).1, (q.1 c).2⟩, fun c => ih h (q.2 c)⟩
theorem ak_hi {s hi hi' : Nat} (hh : hi ≤ hi') {l : List Pc} : ∀ {a : Nat}, ak s hi a l → ak s hi' a l := by
  induction l with
  | nil => exact fun q => Nat.le_trans q hh
  | cons x r ih => exact fun q => ⟨fun c => ⟨(q.1 c).1, ih (q.1 c).2⟩, fun c => ih (q.2 c)⟩
theorem ak_le {s hi : Nat} {l : List Pc} : ∀ {a : Nat}, ak s hi a l → a ≤ hi := by
  induction l with
  | nil => exact fun q => q
  | cons x r ih =>
    intro a q
    by_cases c : pq_k x = 1 ∧ pq_s x = s
    · exact Nat.le_trans (q.1 c).1 (ih (q.1 c).2)
    · exact ih (q.2 c)
theorem ak_mem {s hi : Nat} {l : List Pc} {x : Pc} (hx : x ∈ l) (hk : pq_k x = 1) (hs : pq_s x = s) : ∀ {a : Nat}, ak s hi a l → a ≤ pq_a x ∧ pq_a x ≤ hi := by
  induction l with
  | nil => cases hx
  | cons y r ih =>
    intro a q
    rcases List.mem_cons.mp hx with z | z
    · subst z
      exact ⟨(q.1 ⟨hk, hs⟩).1, ak_le (q.1 ⟨hk, hs⟩).2⟩
    · by_cases c : pq_k y = 1 ∧ pq_s y = s
      · have := ih z (q.1 c).2
        exact ⟨Nat.le_trans (q.1 c).1 this.1, this.2⟩
      · exact ih z (q.2 c)
theorem ak_tail {s hi : Nat} {x : Pc} {r : List Pc} {a : Nat} (h : ak s hi a (x :: r)) : ak s hi a r := by
  by_cases c : pq_k x = 1 ∧ pq_s x = s
  · exact ak_lo (h.1 c).1 (h.1 c).2
  · exact h.2 c
theorem ak_drop {s hi : Nat} {l r : List Pc} {x : Pc} : ∀ {a : Nat}, ak s hi a (l ++ x :: r) → ak s hi a (l ++ r) := by
  induction l with
  | nil => exact fun h => ak_tail h
  | cons y q ih => exact fun h => ⟨fun c => ⟨(h.1 c).1, ih (h.1 c).2⟩, fun c => ih (h.2 c)⟩
theorem ak_snoc {s hi : Nat} {l : List Pc} {x : Pc} (hx : pq_k x = 1 → pq_s x = s → pq_a x = hi) : ∀ {a : Nat}, ak s hi a l → ak s hi a (l ++ [x]) := by
  induction l with
  | nil =>
    intro a h
    exact ⟨fun c => by rw [hx c.1 c.2]; exact ⟨h, Nat.le_refl hi⟩, fun _ => h⟩
  | cons y q ih => exact fun h => ⟨fun c => ⟨(h.1 c).1, ih (h.1 c).2⟩, fun c => ih (h.2 c)⟩
theorem tm_imp {P P' : Nat → Nat → Prop} {ap ap' : Nat} {l : List Pc} : ∀ {g g' : Nat}, (∀ s j, s < 4 → P s (g + j) → P' s (g' + j)) → (∀ s j, s < 4 → P s (g + j + ap) → P' s (g' + j + ap')) → (∀ x, x ∈ l → pq_s x < 4) → tm_l P ap g l → tm_l P' ap' g' l := by
  induction l with
  | nil => exact fun _ _ _ _ => trivial
  | cons x r ih =>
    intro g g' h1 h2 hs h
    refine ⟨fun q => ?_, ih (g := g + 2) (g' := g' + 2) (fun s j hs' a => ?_) (fun s j hs' a => ?_) (fun y hy => hs y (List.mem_cons_of_mem _ hy)) h.2⟩
    · have z := h.1 q
      have hx := hs x (List.mem_cons_self ..)
      by_cases c : pq_k x = 1
      · rw [if_pos c] at z ⊢
        exact h1 _ 0 hx z
      · rw [if_neg c] at z ⊢
        exact h2 _ 0 hx z
    · have := h1 s (2 + j) hs' (by rw [← Nat.add_assoc]; exact a)
      rw [← Nat.add_assoc] at this
      exact this
    · have := h2 s (2 + j) hs' (by rw [← Nat.add_assoc g]; exact a)
      rw [← Nat.add_assoc g'] at this
      exact this
theorem tm_snoc {P : Nat → Nat → Prop} {ap : Nat} {l : List Pc} {x : Pc} : ∀ {g : Nat}, tm_l P ap g l → (pq_p x + 1 = pq_n x → P (pq_s x) (if pq_k x = 1 then g + 2 * l.length else g + 2 * l.length + ap)) → tm_l P ap g (l ++ [x]) := by
  induction l with
  | nil => exact fun h q => ⟨q, trivial⟩
  | cons y r ih =>
    intro g h q
    refine ⟨h.1, ih h.2 (fun c => ?_)⟩
    have z := q c
    rw [show g + 2 + 2 * r.length = g + 2 * (y :: r).length by rw [List.length_cons]; omega]
    exact z
theorem tm_mem {P : Nat → Nat → Prop} {ap : Nat} {l : List Pc} {x : Pc} (hx : x ∈ l) (hl : pq_p x + 1 = pq_n x) : ∀ {g : Nat}, tm_l P ap g l → ∃ j, P (pq_s x) (if pq_k x = 1 then g + j else g + j + ap) := by
  induction l with
  | nil => cases hx
  | cons y r ih =>
    intro g h
    rcases List.mem_cons.mp hx with z | z
    · subst z
      exact ⟨0, h.1 hl⟩
    · obtain ⟨j, hj⟩ := ih z h.2
      exact ⟨2 + j, by rw [← Nat.add_assoc]; exact hj⟩
theorem ct_tail {m : Nat} {x : Pc} {r : List Pc} (h : ct m (x :: r)) : ct m r := h.2.2.2
theorem ct_snoc1 {m : Nat} {x : Pc} (hi : pq_i x = m) (hp : pq_p x = 0) (hn : pq_n x = 1) {l : List Pc} : ct m l → ct (m + 1) (l ++ [x]) := by
  induction l with
  | nil =>
    intro _
    refine ⟨?_, fun c => absurd (by omega) c, fun _ y r' e => (by cases e), trivial⟩
    show pq_i x + ((if _ then 1 else 0) + 0) = m + 1
    rw [if_pos (by omega)]; omega
  | cons y r ih =>
    intro h
    refine ⟨?_, fun c => ?_, fun c z r' e => ?_, ih h.2.2.2⟩
    · have q := h.1
      show pq_i y + lc (y :: r ++ [x]) = m + 1
      rw [lc_app]
      show pq_i y + (lc (y :: r) + ((if _ then 1 else 0) + 0)) = m + 1
      rw [if_pos (by omega)]; omega
    · obtain ⟨a, b, z, r', e, f⟩ := h.2.1 c
      exact ⟨a, b, z, r' ++ [x], by rw [e]; rfl, f⟩
    · cases r with
      | nil =>
        have e' : x = z := by injection e
        subst e'; exact hp
      | cons u v =>
        have e' : u = z := by injection e
        subst e'
        exact h.2.2.1 c u v rfl
theorem ct_snoc2 {m : Nat} {x y : Pc} (hi : pq_i x = m) (hp : pq_p x = 0) (hn : pq_n x = 2) (e1 : x.1 = y.1) (e2 : x.2.2 = y.2.2) (hy : pq_p y = 1) {l : List Pc} : ct m l → ct (m + 1) (l ++ [x, y]) := by
  have hny : pq_n y = 2 := by
    rw [← hn]; unfold pq_n pq_k pq_z; rw [e2]
  induction l with
  | nil =>
    intro _
    refine ⟨?_, fun c => ⟨hp, hn, y, [], rfl, hy, e1, e2⟩, fun c => absurd c (by omega), ?_, fun c => absurd (by omega) c, fun _ z r' e => (by cases e), trivial⟩
    · show pq_i x + ((if _ then 1 else 0) + ((if _ then 1 else 0) + 0)) = m + 1
      rw [if_neg (by omega), if_pos (by omega)]; omega
    · show pq_i y + ((if _ then 1 else 0) + 0) = m + 1
      rw [if_pos (by omega)]
      have : pq_i y = m := by show y.1 = m; rw [← e1]; exact hi
      omega
  | cons z r ih =>
    intro h
    refine ⟨?_, fun c => ?_, fun c u r' e => ?_, ih h.2.2.2⟩
    · have q := h.1
      show pq_i z + lc (z :: r ++ [x, y]) = m + 1
      rw [lc_app]
      show pq_i z + (lc (z :: r) + ((if _ then 1 else 0) + ((if _ then 1 else 0) + 0))) = m + 1
      rw [if_neg (by omega), if_pos (by omega)]; omega
    · obtain ⟨a, b, u, r', e, f⟩ := h.2.1 c
      exact ⟨a, b, u, r' ++ [x, y], by rw [e]; rfl, f⟩
    · cases r with
      | nil =>
        have e' : x = u := by injection e
        subst e'; exact hp
      | cons u' v =>
        have e' : u' = u := by injection e
        subst e'
        exact h.2.2.1 c u' v rfl
theorem inA_app {y : Pc} {a b : List Pc} : ∀ {j : List Pc}, inA y j a → inA y j (a ++ b) := by
  induction a with
  | nil => exact fun h => False.elim h
  | cons x r ih => exact fun h => h.elim Or.inl (fun q => Or.inr (ih q))
theorem inA_r {y : Pc} {a b : List Pc} : ∀ {j : List Pc}, inA y (lo j a) b → inA y j (a ++ b) := by
  induction a with
  | nil => exact fun h => h
  | cons x r ih => exact fun h => Or.inr (ih h)
theorem inA_mem {y : Pc} {a : List Pc} : ∀ {j : List Pc}, inA y j a → y ∈ a ∧ pq_p y + 1 = pq_n y := by
  induction a with
  | nil => exact fun h => False.elim h
  | cons x r ih =>
    intro j h
    rcases h with ⟨e, l, _⟩ | q
    · exact ⟨by rw [e]; exact List.mem_cons_self .., by rw [e]; exact l⟩
    · exact ⟨List.mem_cons_of_mem _ (ih q).1, (ih q).2⟩
theorem e0_le (s : Nat) (l : List Pc) : e0 s l ≤ cn s l := by
  induction l with
  | nil => exact Nat.le_refl 0
  | cons x r ih =>
    show (if _ then 1 else 0) + e0 s r ≤ (if _ then 1 else 0) + cn s r
    by_cases c : pq_p x + 1 = pq_n x ∧ pq_s x = s
    · rw [if_pos c]
      split <;> omega
    · rw [if_neg c, if_neg (fun h => c ⟨h.1, h.2.1⟩)]; omega
end
section
/-! the measure; the whole invariant -/
noncomputable def bq (p : Prop) : Nat := @ite Nat p (Classical.propDecidable p) 1 0
theorem bq_t {p : Prop} (h : p) : bq p = 1 := by unfold bq; exact if_pos h
theorem bq_f {p : Prop} (h : ¬ p) : bq p = 0 := by unfold bq; exact if_neg h
theorem bq_le (p : Prop) : bq p ≤ 1 := by
  by_cases h : p
  · rw [bq_t h]; exact Nat.le_refl 1
  · rw [bq_f h]; omega
theorem bq_mono {p q : Prop} (h : p → q) : bq p ≤ bq q := by
  by_cases a : p
  · rw [bq_t a, bq_t (h a)]; exact Nat.le_refl 1
  · rw [bq_f a]; omega
theorem bq_congr {p q : Prop} (h : p ↔ q) : bq p = bq q := by rw [propext h]
def pt_own (N : Nat → Nat → Nat) (s : Nat) (x : Pc) : Prop := pq_k x ≠ 1 ∧ pq_s x = s ∧ (N 12 s = 0 ∨ (N 1 s = 0 ∧ pq_k x = 2) ∨ (0 < N 1 s ∧ pq_k x = 0 ∧ (N 44 s < N 45 s ∨ (pq_a x ≤ N 45 s ∧ N 45 s < pq_a x + pq_z x))))
def pt_ack (N : Nat → Nat → Nat) (s : Nat) (x : Pc) : Prop := pq_k x = 1 ∧ pq_s x = s ∧ (N 12 s = 0 ∨ (N 1 s = 0 ∧ pq_z x = 1) ∨ (0 < N 1 s ∧ N 44 s < pq_a x))
def pt_due (N : Nat → Nat → Nat) (s : Nat) : Prop := N 16 s = 1 ∧ (N 12 s = 0 ∨ (N 1 s = 0 ∧ N 8 s = 1) ∨ (0 < N 1 s ∧ N 44 s < N 45 s))
def pt (N : Nat → Nat → Nat) (lv : Lv) (s : Nat) : Prop :=
  sx_set N s ∨ (0 < N 12 s ∧ 0 < N 1 s ∧ N 10 s = 0) ∨ pt_due N s ∨ (∃ x, inA x (lv (6 + s / 2)) (lv (2 - s / 2) ++ lv (3 * (s / 2))) ∧ pt_own N s x) ∨ (∃ x, inA x (lv (7 - s / 2)) (lv (1 + s / 2) ++ lv (3 - 3 * (s / 2))) ∧ pt_ack N s x)
def m_d (N : Nat → Nat → Nat) : Nat := ((N 26 2 + (N 40 2 + 3 - N 40 0 - 2 * N 41 0) / 2) - 4) + ((N 26 1 + (N 40 1 + 3 - N 40 3 - 2 * N 41 3) / 2) - 4)
def m_ls (N : Nat → Nat → Nat) (s : Nat) : Nat := (min (N 50 s) (N 49 s) - N 44 s) + (if N 12 s = 0 then 1 else 0) + (1 - N 14 s)
def m_l (N : Nat → Nat → Nat) : Nat := m_ls N 0 + m_ls N 1 + m_ls N 2 + m_ls N 3
noncomputable def m_r (N : Nat → Nat → Nat) (lv : Lv) : Nat := bq (¬ pt N lv 0) + bq (¬ pt N lv 1) + bq (¬ pt N lv 2) + bq (¬ pt N lv 3)
def m_e (N : Nat → Nat → Nat) (lv : Lv) (s : Nat) : Nat := e0 s (lv 0) + e0 s (lv 1) + e0 s (lv 2) + e0 s (lv 3) + e0 s (lv 4) + e0 s (lv 5) + (if N 16 s = 1 ∧ N 8 s = 0 then 1 else 0)
noncomputable def m_qs (N : Nat → Nat → Nat) (lv : Lv) (s : Nat) : Nat := 3 * (sx_lim N s - N 10 s) + 2 * m_e N lv s + bq (N 1 s = 0 ∧ N 7 s = 1 ∧ N 14 s = 0 ∧ N 47 s = 0 ∧ pt N lv s)
noncomputable def m_q (N : Nat → Nat → Nat) (lv : Lv) : Nat := m_qs N lv 0 + m_qs N lv 1 + m_qs N lv 2 + m_qs N lv 3
def m_p (N : Nat → Nat → Nat) (lv : Lv) : Nat :=
  N 40 0 + 2 * N 26 0 + (N 40 1 + 2 * N 26 1) + (N 40 2 + 2 * N 26 2) + (N 40 3 + 2 * N 26 3) + (N 47 0 + N 47 1 + N 47 2 + N 47 3) + wg 3 9 (lv 0) + wg 3 9 (lv 3) + wg 1 7 (lv 1) + wg 1 7 (lv 2) + 5 * (N 16 0 + N 16 1 + N 16 2 + N 16 3)
abbrev M6 : Type := Nat × Nat × Nat × Nat × Nat × Nat
noncomputable def me (tl : Nat) (N : Nat → Nat → Nat) (lv : Lv) : M6 := (tl, m_d N, m_l N, m_r N lv, m_q N lv, m_p N lv)
def l6 (a b : M6) : Prop := a.1 < b.1 ∨ a.1 = b.1 ∧ (a.2.1 < b.2.1 ∨ a.2.1 = b.2.1 ∧ (a.2.2.1 < b.2.2.1 ∨ a.2.2.1 = b.2.2.1 ∧ (a.2.2.2.1 < b.2.2.2.1 ∨ a.2.2.2.1 = b.2.2.2.1 ∧ (a.2.2.2.2.1 < b.2.2.2.2.1 ∨ a.2.2.2.2.1 = b.2.2.2.2.1 ∧ a.2.2.2.2.2 < b.2.2.2.2.2))))
def e6 (a b : M6) : Prop := a.1 < b.1 ∨ a.1 = b.1 ∧ (a.2.1 < b.2.1 ∨ a.2.1 = b.2.1 ∧ (a.2.2.1 < b.2.2.1 ∨ a.2.2.1 = b.2.2.1 ∧ (a.2.2.2.1 < b.2.2.2.1 ∨ a.2.2.2.1 = b.2.2.2.1 ∧ (a.2.2.2.2.1 < b.2.2.2.2.1 ∨ a.2.2.2.2.1 = b.2.2.2.2.1 ∧ a.2.2.2.2.2 ≤ b.2.2.2.2.2))))
theorem e6_refl (a : M6) : e6 a a := by unfold e6; omega
theorem e6_trans {a b c : M6} (h : e6 a b) (k : e6 b c) : e6 a c := by unfold e6 at *; omega
theorem l6_e6 {a b c : M6} (h : l6 a b) (k : e6 b c) : l6 a c := by unfold e6 l6 at *; omega
theorem e6_l6 {a b c : M6} (h : e6 a b) (k : l6 b c) : l6 a c := by unfold e6 l6 at *; omega
theorem l6_le {a b : M6} (h : l6 a b) : e6 a b := by unfold e6 l6 at *; omega
theorem l6_acc : ∀ a b c d e f : Nat, Acc l6 (a, b, c, d, e, f) := by
  intro a
  induction a using Nat.strongRecOn with | _ a iha =>
  intro b
  induction b using Nat.strongRecOn with | _ b ihb =>
  intro c
  induction c using Nat.strongRecOn with | _ c ihc =>
  intro d
  induction d using Nat.strongRecOn with | _ d ihd =>
  intro e
  induction e using Nat.strongRecOn with | _ e ihe =>
  intro f
  induction f using Nat.strongRecOn with | _ f ihf =>
  refine ⟨_, fun y h => ?_⟩
  obtain ⟨a', b', c', d', e', f'⟩ := y
  rcases h with h | ⟨h1, h⟩
  · exact iha a' h b' c' d' e' f'
  · have h1 : a' = a := h1
    subst h1
    rcases h with h | ⟨h1, h⟩
    · exact ihb b' h c' d' e' f'
    · have h1 : b' = b := h1
      subst h1
      rcases h with h | ⟨h1, h⟩
      · exact ihc c' h d' e' f'
      · have h1 : c' = c := h1
        subst h1
        rcases h with h | ⟨h1, h⟩
        · exact ihd d' h e' f'
        · have h1 : d' = d := h1
          subst h1
          rcases h with h | ⟨h1, h⟩
          · exact ihe e' h f'
          · have h1 : e' = e := h1
            subst h1
            exact ihf f' h
theorem l6_wf : WellFounded l6 := ⟨fun ⟨a, b, c, d, e, f⟩ => l6_acc a b c d e f⟩
def Inv (x y lo hi : Nat → Nat) (C : Nat → Nat → Nat) (tl : Nat) (N : Nat → Nat → Nat) (lv : Lv) : Prop :=
  (∀ w, w < 4 → lk x y N lv w) ∧ (∀ w, w < 4 → fr lo hi C N lv w) ∧ (∀ w, w < 4 → qo C N lv w) ∧ (∀ d, d < 2 → jo C N lv d) ∧ (∀ s, s < 4 → si C N s) ∧ (∀ d, d < 2 → dr N lv d) ∧ tm tl N lv ∧ (∀ s, s < 4 → kb N lv s) ∧ rg C N ∧ tl ≤ 20
/-- due answers in the first half of a tick -/
def du (N : Nat → Nat → Nat) (d : Nat) : Prop :=
  (N 42 (1 + d) = 1 ∧ (N 16 (2 - 2 * d) = 1 ∨ N 16 (3 - 2 * d) = 1) ∨ N 16 (2 - 2 * d) = 1 ∧ N 16 (3 - 2 * d) = 1 ∨ N 16 (3 - 2 * d) = 1 ∧ 0 < N 46 d) → 4 ≤ N 26 (3 * d) ∧ (N 42 (3 * d) = 3 → 5 ≤ N 26 (3 * d))
/-- the first half of a tick -/
def Iv0 (lo hi : Nat → Nat) (C : Nat → Nat → Nat) (tl : Nat) (N : Nat → Nat → Nat) (lv : Lv) : Prop :=
  Inv (fun _ => 0) (fun _ => 0) lo hi C tl N lv ∧ (∀ s, s < 4 → N 47 s = N 13 s - 1) ∧ (∀ d, d < 2 → du N d)
/-- the stream's fields stay, and what comes together stays: nothing moves but time -/
def ntr (N N' : Nat → Nat → Nat) : Prop := N' 1 = N 1 ∧ N' 7 = N 7 ∧ N' 8 = N 8 ∧ N' 10 = N 10 ∧ N' 12 = N 12 ∧ N' 14 = N 14 ∧ N' 16 = N 16 ∧ N' 44 = N 44 ∧ N' 45 = N 45 ∧ N' 47 = N 47 ∧ N' 49 = N 49 ∧ N' 50 = N 50
def sam (lv lv' : Lv) (d : Nat) : Prop := ∀ y, inA y (lv (6 + d)) (lv (2 - d) ++ lv (3 * d)) → inA y (lv' (6 + d)) (lv' (2 - d) ++ lv' (3 * d))
theorem ml_ntr {N N' : Nat → Nat → Nat} (h : ntr N N') : m_l N' = m_l N := by
  obtain ⟨h1, h7, h8, h10, h12, h14, h16, h44, h45, h47, h49, h50⟩ := h
  unfold m_l m_ls
  rw [h50, h49, h44, h12, h14]
theorem set_ntr {N N' : Nat → Nat → Nat} (h : ntr N N') (s : Nat) : sx_set N' s = sx_set N s := by
  obtain ⟨h1, h7, h8, h10, h12, h14, h16, h44, h45, h47, h49, h50⟩ := h
  unfold sx_set
  rw [h1, h12, h7, h14]
theorem pt_ntr {N N' : Nat → Nat → Nat} {lv lv' : Lv} (h : ntr N N') (s0 : sam lv lv' 0) (s1 : sam lv lv' 1) {s : Nat} (hs : s < 4) (p : pt N lv s) : pt N' lv' s := by
  have hset := set_ntr h s
  obtain ⟨h1, h7, h8, h10, h12, h14, h16, h44, h45, h47, h49, h50⟩ := h
  unfold pt pt_due pt_own pt_ack at *
  rw [hset, h12, h1, h10, h16, h8, h44, h45]
  rcases p with p | p | p | ⟨x, p, q⟩ | ⟨x, p, q⟩
  · exact Or.inl p
  · exact Or.inr (Or.inl p)
  · exact Or.inr (Or.inr (Or.inl p))
  · refine Or.inr (Or.inr (Or.inr (Or.inl ⟨x, ?_, q⟩)))
    rcases (by omega : s / 2 = 0 ∨ s / 2 = 1) with e | e
    · rw [e] at p ⊢; exact s0 x p
    · rw [e] at p ⊢; exact s1 x p
  · refine Or.inr (Or.inr (Or.inr (Or.inr ⟨x, ?_, q⟩)))
    rcases (by omega : s / 2 = 0 ∨ s / 2 = 1) with e | e
    · rw [e] at p ⊢; exact s1 x p
    · rw [e] at p ⊢; exact s0 x p
theorem me_ntr {tl : Nat} {N N' : Nat → Nat → Nat} {lv lv' : Lv} (h : ntr N N') (s0 : sam lv lv' 0) (s1 : sam lv lv' 1) (r0 : sam lv' lv 0) (r1 : sam lv' lv 1)
    (hd : m_d N' ≤ m_d N) (he : ∀ s, s < 4 → e0 s (lv' 0) + e0 s (lv' 1) + e0 s (lv' 2) + e0 s (lv' 3) + e0 s (lv' 4) + e0 s (lv' 5) ≤ e0 s (lv 0) + e0 s (lv 1) + e0 s (lv 2) + e0 s (lv 3) + e0 s (lv 4) + e0 s (lv 5)) (hp : m_p N' lv' ≤ m_p N lv) : e6 (me tl N' lv') (me tl N lv) := by
  have hl := ml_ntr h
  have hr : ntr N' N := by
    obtain ⟨h1, h7, h8, h10, h12, h14, h16, h44, h45, h47, h49, h50⟩ := h
    exact ⟨h1.symm, h7.symm, h8.symm, h10.symm, h12.symm, h14.symm, h16.symm, h44.symm, h45.symm, h47.symm, h49.symm, h50.symm⟩
  have pe : ∀ s, s < 4 → (pt N' lv' s ↔ pt N lv s) := fun s hs => ⟨pt_ntr hr r0 r1 hs, pt_ntr h s0 s1 hs⟩
  have hrho : m_r N' lv' = m_r N lv := by
    unfold m_r
    rw [bq_congr (not_congr (pe 0 (by omega))), bq_congr (not_congr (pe 1 (by omega))), bq_congr (not_congr (pe 2 (by omega))), bq_congr (not_congr (pe 3 (by omega)))]
  have hq : ∀ s, s < 4 → m_qs N' lv' s ≤ m_qs N lv s := by
    intro s hs
    have he := he s hs
    have hpe := pe s hs
    obtain ⟨h1, h7, h8, h10, h12, h14, h16, h44, h45, h47, h49, h50⟩ := h
    have e1 : bq (N' 1 s = 0 ∧ N' 7 s = 1 ∧ N' 14 s = 0 ∧ N' 47 s = 0 ∧ pt N' lv' s) = bq (N 1 s = 0 ∧ N 7 s = 1 ∧ N 14 s = 0 ∧ N 47 s = 0 ∧ pt N lv s) := by
      rw [h1, h7, h14, h47, propext hpe]
    have e2 : sx_lim N' s = sx_lim N s := by unfold sx_lim; rw [h12, h1]
    unfold m_qs m_e
    rw [e1, e2, h10, h16, h8]
    omega
  have q0 := hq 0 (by omega)
  have q1 := hq 1 (by omega)
  have q2 := hq 2 (by omega)
  have q3 := hq 3 (by omega)
  have hqq : m_q N' lv' ≤ m_q N lv := by unfold m_q; omega
  unfold e6 me
  dsimp only
  omega
end
section
/-! how the groups pass from table to table; an answer arrives -/
theorem xx1 : ∀ w, w < 4 → (w ^^^ 1) ^^^ 1 = w ∧ w ^^^ 1 ≠ w ∧ w ^^^ 1 < 4 := by decide
theorem lk_cg {x y x' y' : Nat → Nat} {N N' : Nat → Nat → Nat} {lv lv' : Lv} {w : Nat} (h25 : N' 25 w = N 25 w) (h26 : N' 26 w = N 26 w) (h32 : N' 32 w = N 32 w) (h33 : N' 33 w = N 33 w) (h34 : N' 34 w = N 34 w) (h35 : N' 35 w = N 35 w) (h36 : N' 36 w = N 36 w) (h40 : N' 40 w = N 40 w) (h41 : N' 41 w = N 41 w) (h42 : N' 42 w = N 42 w) (hl : lv' w = lv w) (hx : x' w = x w) (hy : y' w = y w) (h : lk x y N lv w) : lk x' y' N' lv' w := by
  unfold lk at *
  rw [h25, h26, h32, h33, h34, h35, h36, h40, h41, h42, hl, hx, hy]
  exact h
theorem fr_cg {lo hi : Nat → Nat} {C N N' : Nat → Nat → Nat} {lv lv' : Lv} {w : Nat} (h30 : N' 30 = N 30) (h31 : N' 31 = N 31) (h49 : N' 49 = N 49) (h32 : N' 32 w = N 32 w) (h41 : N' 41 w = N 41 w) (h42 : N' 42 w = N 42 w) (g32 : N' 32 (w ^^^ 1) = N 32 (w ^^^ 1)) (g42 : N' 42 (w ^^^ 1) = N 42 (w ^^^ 1)) (t : List Pc) (hl : lv' w = lv w ++ t) (h : fr lo hi C N lv w) : fr lo hi C N' lv' w := by
  unfold fr fr_1 fr_d fr_a fr_g at *
  rw [h30, h31, h49, h32, h41, h42, g32, g42]
  refine ⟨fun f a b => ?_, h.2.1, h.2.2⟩
  obtain ⟨p, q, r, s⟩ := h.1 f a b
  refine ⟨p, q, r, fun g => ?_⟩
  rcases s g with s | s
  · refine Or.inl ⟨s.1, s.2.1, fun c1 c2 => ?_⟩
    obtain ⟨x, l, e1, e2, e3⟩ := s.2.2 c1 c2
    exact ⟨x, l ++ t, by rw [hl, e1]; rfl, e2, e3⟩
  · exact Or.inr s
theorem qo_cg {C N N' : Nat → Nat → Nat} {lv lv' : Lv} {w : Nat} (h27 : N' 27 = N 27) (h28 : N' 28 = N 28) (h49 : N' 49 = N 49) (h25 : N' 25 w = N 25 w) (h41 : N' 41 w = N 41 w) (hl : lv' w = lv w) (h : qo C N lv w) : qo C N' lv' w := by
  unfold qo at *
  rw [h27, h28, h49, h25, h41, hl]
  exact h
theorem jo_cg {C N N' : Nat → Nat → Nat} {lv lv' : Lv} {d : Nat} (h18 : N' 18 = N 18) (h19 : N' 19 = N 19) (h20 : N' 20 = N 20) (h21 : N' 21 = N 21) (h49 : N' 49 = N 49) (hl : lv' (6 + d) = lv (6 + d)) (h : jo C N lv d) : jo C N' lv' d := by
  unfold jo at *
  rw [h18, h19, h20, h21, h49, hl]
  exact h
theorem dr_cg {N N' : Nat → Nat → Nat} {lv lv' : Lv} {d : Nat} (h48 : N' 48 = N 48) (h44 : N' 44 = N 44) (h45 : N' 45 = N 45) (h11 : N' 11 = N 11) (h50 : N' 50 = N 50) (h7 : N' 7 = N 7) (h8 : N' 8 = N 8) (h16 : N' 16 = N 16) (h43 : N' 43 = N 43) (h22 : N' 22 = N 22) (h23 : N' 23 = N 23) (h46 : N' 46 = N 46)
    (l2 : lv' (2 - d) = lv (2 - d)) (l3 : lv' (3 * d) = lv (3 * d)) (l6 : lv' (6 + d) = lv (6 + d)) (h26 : N' 26 (2 - d) = N 26 (2 - d) ∧ lv' (4 + d) = lv (4 + d) ∨ N' 26 (2 - d) < 4 ∧ lv' (4 + d) = []) (h26e : N' 26 (3 * d) ≤ 6) (h : dr N lv d) : dr N' lv' d := by
  unfold dr tk_ok at *
  rw [h48, h44, h45, h11, h50, h7, h8, h16, h43, h22, h23, h46, l2, l3, l6]
  obtain ⟨a1, a2, a3, a4, a5, a6, a7, a8, a9, a10, a11, a12, a13, a14⟩ := h
  rcases h26 with ⟨e1, e2⟩ | ⟨e1, e2⟩
  · rw [e1, e2]
    exact ⟨a1, a2, a3, a4, a5, a6, a7, a8, a9, h26e, a11, a12, a13, a14⟩
  · rw [e2]
    exact ⟨a1, a2, a3, a4, a5, fun c => absurd c (by omega), fun x hx => absurd hx (List.not_mem_nil), fun c => absurd rfl c, by omega, h26e, a11, a12, a13, a14⟩
theorem tm_dcg {tl : Nat} {N N' : Nat → Nat → Nat} {lv lv' : Lv} {d : Nat} (h47 : N' 47 = N 47) (h11 : N' 11 = N 11) (h12 : N' 12 = N 12) (h16 : N' 16 = N 16) (h46 : N' 46 = N 46) (ha : tm_a N' d = tm_a N d)
    (hr : N' 40 (2 - d) + 2 * N' 41 (2 - d) = N 40 (2 - d) + 2 * N 41 (2 - d)) (he : N' 40 (3 * d) + 2 * N' 41 (3 * d) = N 40 (3 * d) + 2 * N 41 (3 * d)) (hm : max (N' 40 (2 - d)) 2 = max (N 40 (2 - d)) 2) (hc : N' 40 (3 * d) + 2 * N' 26 (3 * d) = N 40 (3 * d) + 2 * N 26 (3 * d))
    (l2 : lv' (2 - d) = lv (2 - d)) (l3 : lv' (3 * d) = lv (3 * d)) (hD : N' 40 (2 - d) = N 40 (2 - d) ∧ lv' (4 + d) = lv (4 + d) ∨ lv' (4 + d) = []) (h : tm_d tl N lv d) : tm_d tl N' lv' d := by
  have hk : tm_ok tl N' = tm_ok tl N := by
    funext s g
    unfold tm_ok
    rw [h47, h11, h12]
  unfold tm_d at *
  rw [hk, ha, hr, he, hm, hc, l2, l3, h16, h46]
  refine ⟨h.1, h.2.1, ?_, h.2.2.2.1, h.2.2.2.2⟩
  rcases hD with ⟨e1, e2⟩ | e2
  · rw [e1, e2]; exact h.2.2.1
  · rw [e2]; exact fun x hx => absurd hx (List.not_mem_nil)
theorem kb_cg {N N' : Nat → Nat → Nat} {lv lv' : Lv} {s : Nat} (h1 : N' 1 = N 1) (h7 : N' 7 = N 7) (h10 : N' 10 = N 10) (h12 : N' 12 = N 12) (h14 : N' 14 = N 14) (h16 : N' 16 = N 16) (h47 : N' 47 = N 47) (hc : cn s (lv' 0) + cn s (lv' 1) + cn s (lv' 2) + cn s (lv' 3) + cn s (lv' 4) + cn s (lv' 5) ≤ cn s (lv 0) + cn s (lv 1) + cn s (lv 2) + cn s (lv 3) + cn s (lv 4) + cn s (lv 5)) (h : kb N lv s) : kb N' lv' s := by
  unfold kb kb_k kb_u sx_lim at *
  rw [h1, h7, h10, h12, h14, h16, h47]
  generalize (if 0 < N 1 s then if N 12 s = 0 then if N 47 s = 0 then 1 else 0 else ((if N 12 s - 1 ≤ N 1 s then N 12 s - 1 else N 1 s) - N 10 s + 3) / 4 else if N 7 s = 0 ∨ N 14 s ≠ 0 then 0 else if N 47 s = 0 then 1 else 0) = u at *
  exact ⟨by omega, fun c => by have := h.2 c; omega⟩
theorem si_cg {C N N' : Nat → Nat → Nat} {s : Nat} (h0 : N' 0 = N 0) (h1 : N' 1 = N 1) (h2 : N' 2 = N 2) (h3 : N' 3 = N 3) (h4 : N' 4 = N 4) (h5 : N' 5 = N 5) (h6 : N' 6 = N 6) (h7 : N' 7 = N 7) (h8 : N' 8 = N 8) (h9 : N' 9 = N 9) (h10 : N' 10 = N 10) (h11 : N' 11 = N 11) (h12 : N' 12 = N 12) (h13 : N' 13 = N 13) (h14 : N' 14 = N 14) (h15 : N' 15 = N 15) (h16 : N' 16 = N 16) (h44 : N' 44 = N 44) (h45 : N' 45 = N 45) (h48 : N' 48 = N 48) (h49 : N' 49 = N 49) (h50 : N' 50 = N 50) (h : si C N s) : si C N' s := by
  unfold si si_n si_f si_o si_i at *
  rw [h0, h1, h2, h3, h4, h5, h6, h7, h8, h9, h10, h11, h12, h13, h14, h15, h16, h44, h45, h48, h49, h50]
  exact h
theorem du_cg {N N' : Nat → Nat → Nat} {d : Nat} (h16 : N' 16 = N 16) (h46 : N' 46 = N 46) (a : N' 42 (1 + d) = 1 → N 42 (1 + d) = 1) (b : N' 42 (3 * d) = 3 → N 42 (3 * d) = 3) (c : N' 26 (3 * d) = N 26 (3 * d)) (h : du N d) : du N' d := by
  unfold du at *
  rw [h16, h46, c]
  intro q
  have := h (by
    rcases q with q | q
    · exact Or.inl ⟨a q.1, q.2⟩
    · exact Or.inr q)
  exact ⟨this.1, fun z => this.2 (b z)⟩
theorem sam_refl (lv : Lv) (d : Nat) : sam lv lv d := fun _ h => h
theorem sam_eq {lv lv' : Lv} {d : Nat} (a : lv' (6 + d) = lv (6 + d)) (b : lv' (2 - d) ++ lv' (3 * d) = lv (2 - d) ++ lv (3 * d)) : sam lv lv' d := by
  intro y h
  rw [a, b]; exact h
/-- an answer arrives: the first piece of way w is done with -/
def ev_popN (N : Nat → Nat → Nat) (w : Nat) : Nat → Nat → Nat := st_up (st_up (st_up (sx_pop N w) 41 w 0) 40 w 2) 42 w 0
def ev_popL (lv : Lv) (w : Nat) : Lv := if w = 1 then ul lv 5 [] else if w = 2 then ul lv 4 [] else lv
theorem ev_popL_o {lv : Lv} {w j : Nat} (h4 : j ≠ 4) (h5 : j ≠ 5) : ev_popL lv w j = lv j := by
  unfold ev_popL
  split
  · exact ul_n h5
  · split
    · exact ul_n h4
    · rfl
theorem ev_pop {lo hi : Nat → Nat} {C N : Nat → Nat → Nat} {lv : Lv} {tl w : Nat} (hw : w < 4) (hp : N 42 w = 3) (I : Iv0 lo hi C tl N lv) : Iv0 lo hi C tl (ev_popN N w) (ev_popL lv w) ∧ e6 (me tl (ev_popN N w) (ev_popL lv w)) (me tl N lv) := by
  obtain ⟨⟨I1, I2, I3, I4, I5, I6, I7, I8, I9, I10⟩, Ia, Id⟩ := I
  obtain ⟨x1, x2, x3⟩ := xx1 w hw
  have L := I1 w hw
  have hL : N 26 w = N 41 w + (lv w).length ∧ N 40 w = 0 ∧ N 41 w = 1 ∧ N 35 w + N 32 w = 1 ∧ N 32 w ≤ 1 ∧ N 35 w ≤ 1 ∧ N 25 w < 6 ∧ N 36 w = 0 := by
    unfold lk at L
    obtain ⟨a, b, c, d, e, f, g, h⟩ := L
    rcases h with h | h | h | h | h
    · omega
    · omega
    · omega
    · exact ⟨a, h.2.2.2.2.1, h.2.2.2.2.2.1, f h.2.2.2.2.2.1, c, d, g, h.2.2.2.2.2.2⟩
    · omega
  obtain ⟨L1, L2, L3, L4, L5, L6, L7, L8⟩ := hL
  have f26 : ev_popN N w 26 = ub_un (N 26) w (N 26 w - 1) := rfl
  have f40 : ev_popN N w 40 = ub_un (N 40) w 2 := rfl
  have f41 : ev_popN N w 41 = ub_un (N 41) w 0 := rfl
  have f42 : ev_popN N w 42 = ub_un (N 42) w 0 := rfl
  have f25 : ev_popN N w 25 = ub_un (N 25) w ((N 25 w + 1) % 6) := rfl
  have f32 : ev_popN N w 32 = ub_un (N 32) w (1 - N 32 w) := rfl
  have s40 : ∀ v, ub_un (N 40) w 2 v + 2 * ub_un (N 41) w 0 v = N 40 v + 2 * N 41 v := by
    intro v
    by_cases e : v = w
    · rw [e, ub_s, ub_s]; omega
    · rw [ub_n e, ub_n e]
  have m40 : ∀ v, max (ub_un (N 40) w 2 v) 2 = max (N 40 v) 2 := by
    intro v
    by_cases e : v = w
    · rw [e, ub_s, L2]; omega
    · rw [ub_n e]
  have c40 : ∀ v, ub_un (N 40) w 2 v + 2 * ub_un (N 26) w (N 26 w - 1) v = N 40 v + 2 * N 26 v := by
    intro v
    by_cases e : v = w
    · rw [e, ub_s, ub_s]; omega
    · rw [ub_n e, ub_n e]
  have z40 : ∀ v, ub_un (N 40) w 2 v - 2 = N 40 v - 2 := by
    intro v
    by_cases e : v = w
    · rw [e, ub_s, L2]
    · rw [ub_n e]
  have g40 : ∀ v, N 40 v ≤ ub_un (N 40) w 2 v := by
    intro v
    by_cases e : v = w
    · rw [e, ub_s, L2]; omega
    · rw [ub_n e]; exact Nat.le_refl _
  have DD : ∀ d, d < 2 → (w = 2 - d ∧ ev_popL lv w (4 + d) = []) ∨ (w ≠ 2 - d ∧ ev_popL lv w (4 + d) = lv (4 + d)) := by
    intro d hd
    rcases (by omega : d = 0 ∨ d = 1) with rfl | rfl
    · rcases (by omega : w = 0 ∨ w = 1 ∨ w = 2 ∨ w = 3) with rfl | rfl | rfl | rfl
      · exact Or.inr ⟨by decide, rfl⟩
      · exact Or.inr ⟨by decide, rfl⟩
      · exact Or.inl ⟨by decide, rfl⟩
      · exact Or.inr ⟨by decide, rfl⟩
    · rcases (by omega : w = 0 ∨ w = 1 ∨ w = 2 ∨ w = 3) with rfl | rfl | rfl | rfl
      · exact Or.inr ⟨by decide, rfl⟩
      · exact Or.inl ⟨by decide, rfl⟩
      · exact Or.inr ⟨by decide, rfl⟩
      · exact Or.inr ⟨by decide, rfl⟩
  have lo4 : ∀ j, j ≠ 4 → j ≠ 5 → ev_popL lv w j = lv j := fun j a b => ev_popL_o a b
  have emp : ∀ s, cn s (ev_popL lv w 4) ≤ cn s (lv 4) ∧ cn s (ev_popL lv w 5) ≤ cn s (lv 5) ∧ e0 s (ev_popL lv w 4) ≤ e0 s (lv 4) ∧ e0 s (ev_popL lv w 5) ≤ e0 s (lv 5) := by
    intro s
    refine ⟨?_, ?_, ?_, ?_⟩
    · rcases DD 0 (by omega) with ⟨_, e⟩ | ⟨_, e⟩ <;> rw [show (4 : Nat) + 0 = 4 from rfl] at e <;> rw [e] <;> first | exact Nat.zero_le _ | exact Nat.le_refl _
    · rcases DD 1 (by omega) with ⟨_, e⟩ | ⟨_, e⟩ <;> rw [show (4 : Nat) + 1 = 5 from rfl] at e <;> rw [e] <;> first | exact Nat.zero_le _ | exact Nat.le_refl _
    · rcases DD 0 (by omega) with ⟨_, e⟩ | ⟨_, e⟩ <;> rw [show (4 : Nat) + 0 = 4 from rfl] at e <;> rw [e] <;> first | exact Nat.zero_le _ | exact Nat.le_refl _
    · rcases DD 1 (by omega) with ⟨_, e⟩ | ⟨_, e⟩ <;> rw [show (4 : Nat) + 1 = 5 from rfl] at e <;> rw [e] <;> first | exact Nat.zero_le _ | exact Nat.le_refl _
  refine ⟨⟨⟨?_, ?_, ?_, ?_, ?_, ?_, ?_, ?_, I9, I10⟩, Ia, ?_⟩, ?_⟩
  · intro v hv
    by_cases e : v = w
    · subst e
      unfold lk
      rw [f26, f25, f32, f40, f41, f42, lo4 v (by omega) (by omega)]
      rw [ub_s, ub_s, ub_s, ub_s, ub_s, ub_s]
      refine ⟨by omega, by omega, by omega, L6, fun _ => ?_, fun c => by omega, Nat.mod_lt _ (by omega), Or.inl ⟨rfl, ub_s, ub_s, rfl, rfl, L8, fun c => absurd c Nat.zero_ne_one⟩⟩
      show N 35 v = 1 - N 32 v
      omega
    · exact lk_cg (N := N) (ub_n e) (ub_n e) (ub_n e) (ub_n e) (ub_n e) rfl rfl (ub_n e) (ub_n e) (ub_n e) (lo4 v (by omega) (by omega)) rfl rfl (I1 v hv)
  · intro v hv
    by_cases e : v = w
    · subst e
      have F := I2 v hv
      unfold fr fr_1 fr_d fr_a fr_g at *
      refine ⟨fun f a b => ?_, fun c => ?_, fun c => ?_⟩
      · obtain ⟨p, q, r, s⟩ := F.1 f a b
        refine ⟨p, q, r, fun g => ?_⟩
        rcases s g with s | ⟨u, s1, s2, s3⟩
        · have := s.2.1; omega
        · refine Or.inr ⟨u, s1, s2, ?_⟩
          rw [f42, f32, ub_n x2, ub_n x2]
          exact s3
      · rw [f42, ub_s] at c; omega
      · rw [f42, ub_s] at c; omega
    · by_cases e2 : v = w ^^^ 1
      · subst e2
        have F := I2 (w ^^^ 1) hv
        unfold fr fr_1 fr_d fr_a fr_g at *
        rw [x1] at *
        refine ⟨fun f a b => ?_, fun c => ?_, fun c => ?_⟩
        · obtain ⟨p, q, r, s⟩ := F.1 f a b
          refine ⟨p, q, r, fun g => ?_⟩
          rcases s g with s | ⟨u, s1, s2, s3⟩
          · refine Or.inl ?_
            rw [f42, f32, f41, ub_n e, ub_n e, ub_n e, lo4 _ (by omega) (by omega)]
            exact s
          · refine Or.inr ⟨u, s1, s2, Or.inr ?_⟩
            rw [f42, ub_s]
        · rw [f42, ub_n e] at c
          exact F.2.1 c
        · rw [f42, ub_n e] at c
          exact F.2.2 c
      · have e3 : v ^^^ 1 ≠ w := fun q => e2 (by rw [← q]; exact (xx1 v hv).1.symm)
        exact fr_cg (N := N) rfl rfl rfl (ub_n e) (ub_n e) (ub_n e) (ub_n e3) (ub_n e3) [] (by rw [lo4 v (by omega) (by omega), List.append_nil]) (I2 v hv)
  · intro v hv
    by_cases e : v = w
    · subst e
      have Q := I3 v hv
      unfold qo at *
      intro j x hx
      rw [lo4 v (by omega) (by omega)] at hx
      have q := Q j x hx
      rw [f25, f41, ub_s, ub_s]
      rw [show ((N 25 v + 1) % 6 + 0 + j) % 6 = (N 25 v + N 41 v + j) % 6 by omega]
      exact q
    · exact qo_cg (N := N) rfl rfl rfl (ub_n e) (ub_n e) (lo4 v (by omega) (by omega)) (I3 v hv)
  · exact fun d hd => jo_cg (N := N) rfl rfl rfl rfl rfl (lo4 _ (by omega) (by omega)) (I4 d hd)
  · exact fun s hs => si_cg (N := N) rfl rfl rfl rfl rfl rfl rfl rfl rfl rfl rfl rfl rfl rfl rfl rfl rfl rfl rfl rfl rfl rfl (I5 s hs)
  · intro d hd
    have D := I6 d hd
    have c4 : N 26 (2 - d) ≤ 4 := by unfold dr at D; exact D.2.2.2.2.2.2.2.2.1
    have c6 : N 26 (3 * d) ≤ 6 := by unfold dr at D; exact D.2.2.2.2.2.2.2.2.2.1
    refine dr_cg (N := N) rfl rfl rfl rfl rfl rfl rfl rfl rfl rfl rfl rfl (lo4 _ (by omega) (by omega)) (lo4 _ (by omega) (by omega)) (lo4 _ (by omega) (by omega)) ?_ ?_ D
    · rcases DD d hd with ⟨a, b⟩ | ⟨a, b⟩
      · refine Or.inr ⟨?_, b⟩
        rw [f26, ← a, ub_s]; rw [← a] at c4; omega
      · refine Or.inl ⟨?_, b⟩
        rw [f26, ub_n (fun q => a q.symm)]
    · rw [f26]
      by_cases e : 3 * d = w
      · rw [e, ub_s]; rw [e] at c6; omega
      · rw [ub_n e]; exact c6
  · have tmd : ∀ d, d < 2 → tm_d tl N lv d → tm_d tl (ev_popN N w) (ev_popL lv w) d := by
      intro d hd h
      refine tm_dcg (N := N) rfl rfl rfl rfl rfl ?_ (s40 _) (s40 _) (m40 _) (c40 _) (lo4 _ (by omega) (by omega)) (lo4 _ (by omega) (by omega)) ?_ h
      · unfold tm_a
        rw [f40, m40, m40]
      · rcases DD d hd with ⟨a, b⟩ | ⟨a, b⟩
        · exact Or.inr b
        · refine Or.inl ⟨?_, b⟩
          rw [f40, ub_n (fun q => a q.symm)]
    refine ⟨tmd 0 (by omega) I7.1, tmd 1 (by omega) I7.2.1, ?_⟩
    rw [f40, z40, z40, z40, z40]
    exact I7.2.2
  · intro s hs
    refine kb_cg (N := N) rfl rfl rfl rfl rfl rfl rfl ?_ (I8 s hs)
    have := emp s
    rw [lo4 0 (by omega) (by omega), lo4 1 (by omega) (by omega), lo4 2 (by omega) (by omega), lo4 3 (by omega) (by omega)]
    omega
  · intro d hd
    have D := Id d hd
    unfold du at *
    rw [show ev_popN N w 16 = N 16 from rfl, show ev_popN N w 46 = N 46 from rfl, f42, f26]
    intro q
    have q' := D (by
      rcases q with q | q
      · refine Or.inl ⟨?_, q.2⟩
        by_cases e : 1 + d = w
        · have := q.1; rw [e, ub_s] at this; omega
        · have := q.1; rw [ub_n e] at this; exact this
      · exact Or.inr q)
    by_cases e : 3 * d = w
    · rw [e, ub_s, ub_s]
      rw [e] at q'
      have := q'.2 hp
      exact ⟨by omega, fun c => by omega⟩
    · rw [ub_n e, ub_n e]
      exact q'
  · refine me_ntr ⟨rfl, rfl, rfl, rfl, rfl, rfl, rfl, rfl, rfl, rfl, rfl, rfl⟩ ?_ ?_ ?_ ?_ ?_ ?_ ?_
    · exact sam_eq (lo4 _ (by omega) (by omega)) (by rw [lo4 _ (by omega) (by omega), lo4 _ (by omega) (by omega)])
    · exact sam_eq (lo4 _ (by omega) (by omega)) (by rw [lo4 _ (by omega) (by omega), lo4 _ (by omega) (by omega)])
    · exact sam_eq (lo4 _ (by omega) (by omega)).symm (by rw [lo4 _ (by omega) (by omega), lo4 _ (by omega) (by omega)])
    · exact sam_eq (lo4 _ (by omega) (by omega)).symm (by rw [lo4 _ (by omega) (by omega), lo4 _ (by omega) (by omega)])
    · unfold m_d
      rw [f26, f40, f41]
      have a0 := s40 0
      have a3 := s40 3
      have b1 := c40 1
      have b2 := c40 2
      have z1 := g40 1
      have z2 := g40 2
      have k1 : ub_un (N 26) w (N 26 w - 1) 1 + (ub_un (N 40) w 2 1 + 3 - ub_un (N 40) w 2 3 - 2 * ub_un (N 41) w 0 3) / 2 ≤ N 26 1 + (N 40 1 + 3 - N 40 3 - 2 * N 41 3) / 2 := by
        generalize ub_un (N 26) w (N 26 w - 1) 1 = p1 at *
        generalize ub_un (N 40) w 2 1 = p2 at *
        generalize ub_un (N 40) w 2 3 = p3 at *
        generalize ub_un (N 41) w 0 3 = p4 at *
        omega
      have k2 : ub_un (N 26) w (N 26 w - 1) 2 + (ub_un (N 40) w 2 2 + 3 - ub_un (N 40) w 2 0 - 2 * ub_un (N 41) w 0 0) / 2 ≤ N 26 2 + (N 40 2 + 3 - N 40 0 - 2 * N 41 0) / 2 := by
        generalize ub_un (N 26) w (N 26 w - 1) 2 = p1 at *
        generalize ub_un (N 40) w 2 2 = p2 at *
        generalize ub_un (N 40) w 2 0 = p3 at *
        generalize ub_un (N 41) w 0 0 = p4 at *
        omega
      omega
    · intro s _
      have := emp s
      rw [lo4 0 (by omega) (by omega), lo4 1 (by omega) (by omega), lo4 2 (by omega) (by omega), lo4 3 (by omega) (by omega)]
      omega
    · unfold m_p
      rw [f26, f40, c40, c40, c40, c40, lo4 0 (by omega) (by omega), lo4 1 (by omega) (by omega), lo4 2 (by omega) (by omega), lo4 3 (by omega) (by omega)]
      exact Nat.le_refl _
end
section
/-! a data frame arrives: again; a new one at the relay -/
theorem fr_A {lo hi : Nat → Nat} {C N N' : Nat → Nat → Nat} {lv lv' : Lv} {w : Nat} (hw : w < 4) (hp : N 42 w = 1 ∨ N 42 w = 2) (h30 : N' 30 = N 30) (h31 : N' 31 = N 31) (h49 : N' 49 = N 49) (h32 : N' 32 = N 32) (h42 : N' 42 = ub_un (N 42) w 2) (h41 : ∀ v, v ≠ w → N' 41 v = N 41 v) (hl : ∀ v, v < 4 → v ≠ w → ∃ t, lv' v = lv v ++ t)
    (I2 : ∀ v, v < 4 → fr lo hi C N lv v) : ∀ v, v < 4 → fr lo hi C N' lv' v := by
  obtain ⟨x1, x2, x3⟩ := xx1 w hw
  intro v hv
  by_cases e : v = w
  · subst e
    have F := I2 v hv
    unfold fr fr_1 fr_d fr_a fr_g at *
    rw [h30, h31, h32, h42]
    refine ⟨fun f a b => ?_, fun c => ?_, fun c => ?_⟩
    · obtain ⟨p, q, r, s⟩ := F.1 f a b
      refine ⟨p, q, r, fun g => ?_⟩
      rw [ub_s, ub_n x2]
      rcases s g with s | s
      · exact Or.inl ⟨s.1, Or.inr rfl, fun c => absurd c (by omega)⟩
      · exact Or.inr s
    · rw [ub_s] at c; omega
    · rw [ub_s] at c; omega
  · obtain ⟨t, ht⟩ := hl v hv e
    by_cases e2 : v = w ^^^ 1
    · subst e2
      have F := I2 (w ^^^ 1) hv
      unfold fr fr_1 fr_d fr_a fr_g at *
      rw [x1] at *
      rw [h30, h31, h32, h42, h49, ub_n x2, h41 _ x2]
      refine ⟨fun f a b => ?_, F.2.1, F.2.2⟩
      obtain ⟨p, q, r, s⟩ := F.1 f a b
      refine ⟨p, q, r, fun g => ?_⟩
      rcases s g with s | ⟨u, s1, s2, s3⟩
      · refine Or.inl ⟨s.1, s.2.1, fun c1 c2 => ?_⟩
        obtain ⟨x, l, e1, e2, e3⟩ := s.2.2 c1 c2
        exact ⟨x, l ++ t, by rw [ht, e1]; rfl, e2, e3⟩
      · exfalso
        rcases s3 with ⟨c, _⟩ | c <;> rcases hp with h | h <;> rw [h] at c <;> exact absurd c (by decide)
    · have e3 : v ^^^ 1 ≠ w := fun q => e2 (by rw [← q]; exact (xx1 v hv).1.symm)
      exact fr_cg (N := N) h30 h31 h49 (by rw [h32]) (h41 v e) (by rw [h42, ub_n e]) (by rw [h32]) (by rw [h42, ub_n e3]) t ht (I2 v hv)
theorem lk_ph {x y : Nat → Nat} {N : Nat → Nat → Nat} {lv : Lv} {w : Nat} (L : lk x y N lv w) (hx : x w = 0) (hy : y w = 0) (hp : N 42 w = 1 ∨ N 42 w = 2) : N 26 w = N 41 w + (lv w).length ∧ N 33 w = 1 ∧ N 34 w = 4 ∧ N 40 w = 1 ∧ N 32 w ≤ 1 ∧ N 35 w ≤ 1 ∧ N 25 w < 6 ∧ (N 41 w = 0 → N 35 w = N 32 w) ∧ (N 41 w = 1 → N 35 w + N 32 w = 1) ∧ N 41 w ≤ 1 ∧ 0 < N 26 w := by
  unfold lk at L
  rw [hx, hy] at L
  omega
theorem ev_dup {lo hi : Nat → Nat} {C N : Nat → Nat → Nat} {lv : Lv} {tl w : Nat} (hw : w < 4) (hp : N 42 w = 1 ∨ N 42 w = 2) (h41 : N 41 w = 1) (I : Iv0 lo hi C tl N lv) : Iv0 lo hi C tl (st_up (st_up N 36 w (N 32 w + 1)) 42 w 2) lv ∧ e6 (me tl (st_up (st_up N 36 w (N 32 w + 1)) 42 w 2) lv) (me tl N lv) := by
  obtain ⟨⟨I1, I2, I3, I4, I5, I6, I7, I8, I9, I10⟩, Ia, Id⟩ := I
  have L := lk_ph (I1 w hw) rfl rfl hp
  refine ⟨⟨⟨?_, ?_, I3, I4, I5, I6, I7, I8, I9, I10⟩, Ia, ?_⟩, ?_⟩
  · intro v hv
    by_cases e : v = w
    · subst e
      have A := I1 v hv
      unfold lk at A ⊢
      refine ⟨A.1, A.2.1, A.2.2.1, A.2.2.2.1, A.2.2.2.2.1, A.2.2.2.2.2.1, A.2.2.2.2.2.2.1, Or.inr (Or.inr (Or.inl ⟨ub_s, L.2.1, L.2.2.1, L.2.2.2.1, h41, ub_s, rfl⟩))⟩
    · exact lk_cg (N := N) rfl rfl rfl rfl rfl rfl (ub_n e) rfl rfl (ub_n e) rfl rfl rfl (I1 v hv)
  · exact fr_A (N := N) hw hp rfl rfl rfl rfl rfl (fun _ _ => rfl) (fun v _ _ => ⟨[], (List.append_nil _).symm⟩) I2
  · intro d hd
    refine du_cg (N := N) rfl rfl ?_ ?_ rfl (Id d hd)
    · intro c
      have c' : ub_un (N 42) w 2 (1 + d) = 1 := c
      by_cases e : 1 + d = w
      · rw [e, ub_s] at c'; omega
      · rw [ub_n e] at c'; exact c'
    · intro c
      have c' : ub_un (N 42) w 2 (3 * d) = 3 := c
      by_cases e : 3 * d = w
      · rw [e, ub_s] at c'; omega
      · rw [ub_n e] at c'; exact c'
  · exact me_ntr (N := N) ⟨rfl, rfl, rfl, rfl, rfl, rfl, rfl, rfl, rfl, rfl, rfl, rfl⟩ (sam_refl _ _) (sam_refl _ _) (sam_refl _ _) (sam_refl _ _) (Nat.le_refl _) (fun _ _ => Nat.le_refl _) (Nat.le_refl _)
theorem tm_anti {tl : Nat} {N : Nat → Nat → Nat} {s g g' : Nat} (h : g' ≤ g) (k : tm_ok tl N s g) : tm_ok tl N s g' := by
  unfold tm_ok at *
  omega
theorem wx (d : Nat) (hd : d < 2) : 3 * d < 4 ∧ 2 - d < 4 ∧ 3 * d ≠ 2 - d ∧ (3 * d) ^^^ 1 = 1 + d ∧ (2 - d) ^^^ 1 = 3 - 3 * d := by
  rcases (by omega : d = 0 ∨ d = 1) with rfl | rfl
  · decide
  · decide
/-- the run of overtaking acks is shorter than the queue -/
theorem ov3 {N : Nat → Nat → Nat} {lv : Lv} {d : Nat} (hd : d < 2) (I8 : ∀ s, s < 4 → kb N lv s) {b a : List Pc} (e : lv (3 * d) = a ++ b) (hb : ∀ x, x ∈ b → pq_k x = 1 ∧ pq_s x = 2 - 2 * d ∧ pq_p x + 1 = pq_n x) : b.length ≤ 3 := by
  have k := (I8 (2 - 2 * d) (by omega)).1
  have c : cn (2 - 2 * d) (lv (3 * d)) = cn (2 - 2 * d) a + b.length := by
    rw [e, cn_app, cn_all (fun x hx => ⟨(hb x hx).2.1, (hb x hx).2.2⟩)]
  unfold kb_k at k
  generalize 2 - 2 * d = s at *
  rcases (by omega : d = 0 ∨ d = 1) with rfl | rfl
  · have c' : cn s (lv 0) = cn s a + b.length := c
    omega
  · have c' : cn s (lv 3) = cn s a + b.length := c
    omega
def ev_acN (N : Nat → Nat → Nat) (d b q : Nat) : Nat → Nat → Nat := st_up (st_up (sx_enq (sx_fr N (3 * d) b) (2 - d) 1 (q + 1)) 41 (3 * d) 1) 42 (3 * d) 2
def ev_acL (lv : Lv) (d : Nat) (x : Pc) (r : List Pc) : Lv := ul (ul lv (3 * d) r) (2 - d) (lv (2 - d) ++ [x])
theorem ev_acc {lo hi : Nat → Nat} {C N : Nat → Nat → Nat} {lv : Lv} {tl d b q : Nat} {x : Pc} {rest : List Pc} (hd : d < 2) (hp : N 42 (3 * d) = 1) (h41 : N 41 (3 * d) = 0) (hl : lv (3 * d) = x :: rest) (hc : N 26 (2 - d) < 4) (hb : b = N 32 (3 * d)) (hq : q = pq_sz x) (hq3 : q ≤ 3) (hF : ∀ j, j < q + 1 → N 37 (1 + j) = pq_c C (N 49) x j) (hB : ∀ j, j < q + 1 → N 37 (1 + j) < 256)
    (I : Iv0 lo hi C tl N lv) : Iv0 lo hi C tl (ev_acN N d b q) (ev_acL lv d x rest) ∧ e6 (me tl (ev_acN N d b q) (ev_acL lv d x rest)) (me tl N lv) := by
  obtain ⟨⟨I1, I2, I3, I4, I5, I6, I7, I8, I9, I10⟩, Ia, Id⟩ := I
  obtain ⟨hw, hr, hne, hx1, hx2⟩ := wx d hd
  have L := lk_ph (I1 _ hw) rfl rfl (Or.inl hp)
  obtain ⟨L1, L2, L3, L4, L5, L6, L7, L8, L9, L10, L11⟩ := L
  have LR := I1 _ hr
  have DR := I6 d hd
  have f26 : ev_acN N d b q 26 = ub_un (N 26) (2 - d) (N 26 (2 - d) + 1) := rfl
  have f27 : ev_acN N d b q 27 = ub_bl (N 27) (4 * (6 * (2 - d) + (N 25 (2 - d) + N 26 (2 - d)) % 6)) (q + 1) (fun k => N 37 (1 + k)) := rfl
  have f28 : ev_acN N d b q 28 = ub_un (N 28) (6 * (2 - d) + (N 25 (2 - d) + N 26 (2 - d)) % 6) (q + 1) := rfl
  have f35 : ev_acN N d b q 35 = ub_un (N 35) (3 * d) (1 - b) := rfl
  have f36 : ev_acN N d b q 36 = ub_un (N 36) (3 * d) (b + 1) := rfl
  have f41 : ev_acN N d b q 41 = ub_un (N 41) (3 * d) 1 := rfl
  have f42 : ev_acN N d b q 42 = ub_un (N 42) (3 * d) 2 := rfl
  have lw : ev_acL lv d x rest (3 * d) = rest := by unfold ev_acL; rw [ul_n hne, ul_s]
  have lr : ev_acL lv d x rest (2 - d) = lv (2 - d) ++ [x] := ul_s
  have lo' : ∀ j, j ≠ 3 * d → j ≠ 2 - d → ev_acL lv d x rest j = lv j := fun j a b => by unfold ev_acL; rw [ul_n b, ul_n a]
  have cat : ev_acL lv d x rest (2 - d) ++ ev_acL lv d x rest (3 * d) = lv (2 - d) ++ lv (3 * d) := by rw [lw, lr, hl, List.append_assoc]; rfl
  have LRl : N 26 (2 - d) = N 41 (2 - d) + (lv (2 - d)).length ∧ N 25 (2 - d) < 6 := ⟨LR.1, LR.2.2.2.2.2.2.1⟩
  refine ⟨⟨⟨?_, ?_, ?_, ?_, ?_, ?_, ?_, ?_, ?_, I10⟩, Ia, ?_⟩, ?_⟩
  · intro v hv
    by_cases e : v = 3 * d
    · subst e
      unfold lk
      rw [f26, f35, f36, f41, f42, lw, ub_n hne, ub_s, ub_s, ub_s, ub_s]
      rw [hl, List.length_cons] at L1
      have l8 := L8 h41
      refine ⟨by omega, by omega, L5, by omega, fun c => by omega, fun _ => ?_, L7, Or.inr (Or.inr (Or.inl ⟨rfl, L2, L3, L4, rfl, ?_, rfl⟩))⟩
      · show 1 - b + N 32 (3 * d) = 1
        omega
      · show b + 1 = N 32 (3 * d) + 1
        omega
    · by_cases e2 : v = 2 - d
      · subst e2
        unfold lk at LR ⊢
        rw [f26, f35, f36, f41, f42, lr, ub_n e, ub_s, ub_n e, ub_n e, ub_n e, List.length_append]
        show N 26 (2 - d) + 1 = N 41 (2 - d) + ((lv (2 - d)).length + 1) ∧ _
        refine ⟨by omega, LR.2.1, LR.2.2.1, LR.2.2.2.1, LR.2.2.2.2.1, LR.2.2.2.2.2.1, LR.2.2.2.2.2.2.1, ?_⟩
        rcases LR.2.2.2.2.2.2.2 with h | h | h | h | h
        · exact Or.inl ⟨h.1, h.2.1, h.2.2.1, h.2.2.2.1, h.2.2.2.2.1, h.2.2.2.2.2.1, fun c => absurd c Nat.zero_ne_one⟩
        · exact Or.inr (Or.inl ⟨h.1, h.2.1, h.2.2.1, h.2.2.2.1, h.2.2.2.2.1, by omega⟩)
        · exact Or.inr (Or.inr (Or.inl h))
        · exact Or.inr (Or.inr (Or.inr (Or.inl h)))
        · exact Or.inr (Or.inr (Or.inr (Or.inr ⟨h.1, h.2.1, h.2.2.1, h.2.2.2.1, h.2.2.2.2.1, by omega⟩)))
      · exact lk_cg (N := N) rfl (ub_n e2) rfl rfl rfl (ub_n e) (ub_n e) rfl (ub_n e) (ub_n e) (lo' v e e2) rfl rfl (I1 v hv)
  · refine fr_A (N := N) hw (Or.inl hp) rfl rfl rfl rfl f42 (fun v e => ub_n e) (fun v hv e => ?_) I2
    by_cases e2 : v = 2 - d
    · subst e2
      exact ⟨[x], lr⟩
    · exact ⟨[], by rw [lo' v e e2, List.append_nil]⟩
  · intro v hv
    have Q := I3 v hv
    unfold qo at *
    rw [f27, f28, show ev_acN N d b q 25 = N 25 from rfl, show ev_acN N d b q 49 = N 49 from rfl, f41]
    by_cases e2 : v = 2 - d
    · subst e2
      rw [lr, ub_n (Ne.symm hne)]
      intro j z hz
      by_cases jl : j < (lv (2 - d)).length
      · rw [List.getElem?_append_left jl] at hz
        obtain ⟨a1, a2⟩ := Q j z hz
        have ne : (N 25 (2 - d) + N 41 (2 - d) + j) % 6 ≠ (N 25 (2 - d) + N 26 (2 - d)) % 6 := by omega
        refine ⟨?_, fun k hk => ?_⟩
        · rw [ub_n (by omega)]; exact a1
        · have i9 := I9.1 (6 * (2 - d) + (N 25 (2 - d) + N 41 (2 - d) + j) % 6) (by omega)
          rw [ub_bl_out (by omega)]; exact a2 k hk
      · rw [List.getElem?_append_right (by omega)] at hz
        have jj : j = (lv (2 - d)).length := by
          rcases Nat.eq_zero_or_pos (j - (lv (2 - d)).length) with q | q
          · omega
          · rw [List.getElem?_eq_none (by rw [List.length_singleton]; omega)] at hz; cases hz
        rw [jj, Nat.sub_self] at hz
        have zx : x = z := by injection hz
        subst zx
        have eq : (N 25 (2 - d) + N 41 (2 - d) + j) % 6 = (N 25 (2 - d) + N 26 (2 - d)) % 6 := by rw [LRl.1, jj, Nat.add_assoc]
        rw [eq]
        refine ⟨by rw [ub_s, hq], fun k hk => ?_⟩
        rw [ub_bl_in (by omega)]
        exact hF k (by omega)
    · have dj : ∀ t : Nat, t < 6 → 6 * v + t ≠ 6 * (2 - d) + (N 25 (2 - d) + N 26 (2 - d)) % 6 := by
        intro t ht
        have := Nat.mod_lt (N 25 (2 - d) + N 26 (2 - d)) (y := 6) (by omega)
        omega
      have key : ∀ t y, t < 6 → N 28 (6 * v + t) = pq_sz y + 1 ∧ (∀ k, k < pq_sz y + 1 → N 27 (4 * (6 * v + t) + k) = pq_c C (N 49) y k) → ub_un (N 28) (6 * (2 - d) + (N 25 (2 - d) + N 26 (2 - d)) % 6) (q + 1) (6 * v + t) = pq_sz y + 1 ∧ (∀ k, k < pq_sz y + 1 → ub_bl (N 27) (4 * (6 * (2 - d) + (N 25 (2 - d) + N 26 (2 - d)) % 6)) (q + 1) (fun k => N 37 (1 + k)) (4 * (6 * v + t) + k) = pq_c C (N 49) y k) := by
        intro t y ht h
        have i9 := I9.1 (6 * v + t) (by omega)
        have := dj t ht
        refine ⟨by rw [ub_n this]; exact h.1, fun k hk => ?_⟩
        rw [ub_bl_out (by omega)]
        exact h.2 k hk
      by_cases e : v = 3 * d
      · subst e
        rw [lw, ub_s]
        intro j z hz
        have := Q (j + 1) z (by rw [hl]; exact hz)
        rw [h41, show N 25 (3 * d) + 0 + (j + 1) = N 25 (3 * d) + 1 + j by omega] at this
        exact key _ z (Nat.mod_lt _ (by omega)) this
      · rw [lo' v e e2, ub_n e]
        intro j z hz
        exact key _ z (Nat.mod_lt _ (by omega)) (Q j z hz)
  · exact fun d' hd' => jo_cg (N := N) rfl rfl rfl rfl rfl (lo' _ (by omega) (by omega)) (I4 d' hd')
  · exact fun s hs => si_cg (N := N) rfl rfl rfl rfl rfl rfl rfl rfl rfl rfl rfl rfl rfl rfl rfl rfl rfl rfl rfl rfl rfl rfl (I5 s hs)
  · intro d' hd'
    by_cases e : d' = d
    · subst e
      unfold dr tk_ok at DR ⊢
      obtain ⟨a1, a2, a3, a4, a5, a6, a7, a8, a9, a10, a11, a12, a13, a14⟩ := DR
      rw [cat, lw, f26, ub_s, ub_n hne, lo' (6 + d') (by omega) (by omega), lo' (4 + d') (by omega) (by omega), lr]
      rw [hl] at a1 a3 a13 a14
      have a8' : lv (4 + d') = [] := Classical.byContradiction (fun c => by have := a8 c; omega)
      refine ⟨?_, a2, a3.2.2.2, a4, a5, ?_, a7, ?_, by omega, a10, a11, a12, ?_, ?_⟩
      · intro y hy
        refine a1 y ?_
        rcases hy with hy | hy
        · rcases List.mem_append.mp hy with hy | hy
          · exact Or.inl hy
          · exact Or.inr (by rw [List.mem_singleton] at hy; rw [hy]; exact List.mem_cons_self ..)
        · exact Or.inr (List.mem_cons_of_mem _ hy)
      · intro _ y hy
        rw [lo_app] at hy
        have hy' : op_n x = [y] := hy
        unfold op_n at hy'
        split at hy'
        · next c =>
          have ey : x = y := by injection hy'
          subst ey
          have z := a3.1
          have z2 : lc (x :: rest) = lc rest := by
            show (if _ then 1 else 0) + lc rest = lc rest
            rw [if_neg (by omega)]; omega
          rw [z2] at z
          show N 43 d' ≤ _
          omega
        · cases hy'
      · intro c; exact absurd a8' c
      · intro c
        obtain ⟨p, t, e1, e2, e3⟩ := a13 c
        have e1' : lv (3 * d') = p ++ t := by rw [hl]; exact e1
        have l3 := ov3 hd I8 e1' e3
        cases p with
        | nil =>
          have DU := Id d' hd
          unfold du at DU
          by_cases z : N 46 d' = 0
          · refine ⟨rest, [], (List.append_nil _).symm, z.symm, fun y hy => absurd hy (List.not_mem_nil)⟩
          · have := DU (Or.inr (Or.inr ⟨c, by omega⟩))
            have e4 : (x :: rest).length = t.length := by rw [e1]; rfl
            rw [hl] at L1
            omega
        | cons u p' =>
          refine ⟨p', t, ?_, e2, e3⟩
          injection e1
      · intro z hz
        rw [lo_app] at hz
        have hz' : op_n x = [z] := hz
        unfold op_n at hz'
        split at hz'
        · next c =>
          have ey : x = z := by injection hz'
          subst ey
          obtain ⟨_, _, y, r', e1, e2, e3, _⟩ := a3.2.1 (by omega)
          exact Or.inr ⟨y, r', e1, e2, e3.symm⟩
        · cases hz'
    · have n1 : 2 - d' ≠ 3 * d ∧ 2 - d' ≠ 2 - d ∧ 3 * d' ≠ 3 * d ∧ 3 * d' ≠ 2 - d := by
        rcases (by omega : d = 0 ∨ d = 1) with rfl | rfl <;> omega
      refine dr_cg (N := N) rfl rfl rfl rfl rfl rfl rfl rfl rfl rfl rfl rfl (lo' _ n1.1 n1.2.1) (lo' _ n1.2.2.1 n1.2.2.2) (lo' _ (by omega) (by omega)) (Or.inl ⟨?_, lo' _ (by omega) (by omega)⟩) ?_ (I6 d' hd')
      · rw [f26, ub_n n1.2.1]
      · rw [f26, ub_n n1.2.2.2]
        have D := I6 d' hd'
        unfold dr at D
        exact D.2.2.2.2.2.2.2.2.2.1
  · have own : tm_d tl (ev_acN N d b q) (ev_acL lv d x rest) d := by
      have T : tm_d tl N lv d := by
        rcases (by omega : d = 0 ∨ d = 1) with rfl | rfl
        · exact I7.1
        · exact I7.2.1
      unfold tm_d at T ⊢
      have hk : tm_ok tl (ev_acN N d b q) = tm_ok tl N := rfl
      have ha : tm_a (ev_acN N d b q) d = tm_a N d := rfl
      rw [hk, ha, lw, lr, lo' (4 + d) (by omega) (by omega), f41, ub_s, ub_n (Ne.symm hne), f26, ub_n hne]
      rw [hl] at T
      obtain ⟨T1, T2, T3, T4, T5⟩ := T
      refine ⟨tm_snoc T1 (fun c => ?_), ?_, T3, T4, T5⟩
      · have z := T2.1 c
        by_cases k1 : pq_k x = 1
        · rw [if_pos k1] at z ⊢
          refine tm_anti ?_ z
          show N 40 (2 - d) + 2 * N 41 (2 - d) + 2 * (lv (2 - d)).length ≤ _
          omega
        · rw [if_neg k1] at z ⊢
          refine tm_anti ?_ z
          show N 40 (2 - d) + 2 * N 41 (2 - d) + 2 * (lv (2 - d)).length + _ ≤ _
          omega
      · have z := T2.2
        rw [h41] at z
        rw [show N 40 (3 * d) + 2 * 0 + max (N 40 (2 - d)) 2 + 5 + 2 = N 40 (3 * d) + 2 * 1 + max (N 40 (2 - d)) 2 + 5 by omega] at z
        exact z
    have oth : ∀ d', d' < 2 → d' ≠ d → tm_d tl N lv d' → tm_d tl (ev_acN N d b q) (ev_acL lv d x rest) d' := by
      intro d' hd' e h
      have n1 : 2 - d' ≠ 3 * d ∧ 2 - d' ≠ 2 - d ∧ 3 * d' ≠ 3 * d ∧ 3 * d' ≠ 2 - d := by
        rcases (by omega : d = 0 ∨ d = 1) with rfl | rfl <;> omega
      refine tm_dcg (N := N) rfl rfl rfl rfl rfl rfl ?_ ?_ rfl ?_ (lo' _ n1.1 n1.2.1) (lo' _ n1.2.2.1 n1.2.2.2) (Or.inl ⟨rfl, lo' _ (by omega) (by omega)⟩) h
      · rw [f41, ub_n n1.1]; rfl
      · rw [f41, ub_n n1.2.2.1]; rfl
      · rw [f26, ub_n n1.2.2.2]; rfl
    have all : ∀ d', d' < 2 → tm_d tl N lv d' → tm_d tl (ev_acN N d b q) (ev_acL lv d x rest) d' := by
      intro d' hd' h
      by_cases e : d' = d
      · subst e; exact own
      · exact oth d' hd' e h
    exact ⟨all 0 (by omega) I7.1, all 1 (by omega) I7.2.1, I7.2.2⟩
  · intro s hs
    refine kb_cg (N := N) rfl rfl rfl rfl rfl rfl rfl ?_ (I8 s hs)
    have c1 : cn s (ev_acL lv d x rest (3 * d)) + cn s (ev_acL lv d x rest (2 - d)) = cn s (lv (3 * d)) + cn s (lv (2 - d)) := by
      rw [lw, lr, hl, cn_app]
      show cn s rest + (cn s (lv (2 - d)) + (_ + 0)) = _ + cn s rest + cn s (lv (2 - d))
      omega
    rcases (by omega : d = 0 ∨ d = 1) with rfl | rfl
    · have a := lo' 1 (by decide) (by decide)
      have b' := lo' 3 (by decide) (by decide)
      have c := lo' 4 (by decide) (by decide)
      have d := lo' 5 (by decide) (by decide)
      rw [a, b', c, d]
      rw [show 3 * 0 = 0 from rfl, show 2 - 0 = 2 from rfl] at c1
      omega
    · have a := lo' 0 (by decide) (by decide)
      have b' := lo' 2 (by decide) (by decide)
      have c := lo' 4 (by decide) (by decide)
      have d := lo' 5 (by decide) (by decide)
      rw [a, b', c, d]
      rw [show 3 * 1 = 3 from rfl, show 2 - 1 = 1 from rfl] at c1
      omega
  · obtain ⟨r1, r2, r3, r4⟩ := I9
    refine ⟨?_, ?_, r3, r4⟩
    · intro t ht
      rw [f28]
      by_cases e : t = 6 * (2 - d) + (N 25 (2 - d) + N 26 (2 - d)) % 6
      · rw [e, ub_s]; omega
      · rw [ub_n e]; exact r1 t ht
    · intro t ht
      rw [f27]
      unfold ub_bl
      split
      · exact hB _ (by omega)
      · exact r2 t ht
  · intro d' hd'
    have D := Id d' hd'
    unfold du at D ⊢
    rw [show ev_acN N d b q 16 = N 16 from rfl, show ev_acN N d b q 46 = N 46 from rfl, f42, f26]
    have n1 : 3 * d' ≠ 2 - d ∧ 1 + d' ≠ 3 * d := by
      rcases (by omega : d = 0 ∨ d = 1) with rfl | rfl <;> omega
    rw [ub_n n1.1, ub_n n1.2]
    intro c
    have z := D c
    refine ⟨z.1, fun c2 => z.2 ?_⟩
    by_cases e : 3 * d' = 3 * d
    · rw [e, ub_s] at c2; omega
    · rw [ub_n e] at c2; exact c2
  · have sm : ∀ d', d' < 2 → ev_acL lv d x rest (2 - d') ++ ev_acL lv d x rest (3 * d') = lv (2 - d') ++ lv (3 * d') := by
      intro d' hd'
      by_cases e : d' = d
      · subst e; exact cat
      · have n1 : 2 - d' ≠ 3 * d ∧ 2 - d' ≠ 2 - d ∧ 3 * d' ≠ 3 * d ∧ 3 * d' ≠ 2 - d := by
          rcases (by omega : d = 0 ∨ d = 1) with rfl | rfl <;> omega
        rw [lo' _ n1.1 n1.2.1, lo' _ n1.2.2.1 n1.2.2.2]
    refine me_ntr (N := N) ⟨rfl, rfl, rfl, rfl, rfl, rfl, rfl, rfl, rfl, rfl, rfl, rfl⟩ (sam_eq (lo' _ (by omega) (by omega)) (sm 0 (by omega))) (sam_eq (lo' _ (by omega) (by omega)) (sm 1 (by omega))) (sam_eq (lo' _ (by omega) (by omega)).symm (sm 0 (by omega)).symm) (sam_eq (lo' _ (by omega) (by omega)).symm (sm 1 (by omega)).symm) ?_ ?_ ?_
    · unfold m_d
      rw [f26, f41, show ev_acN N d b q 40 = N 40 from rfl]
      rcases (by omega : d = 0 ∨ d = 1) with rfl | rfl
      · show ((N 26 2 + 1 + (N 40 2 + 3 - N 40 0 - 2 * 1) / 2) - 4) + ((N 26 1 + (N 40 1 + 3 - N 40 3 - 2 * N 41 3) / 2) - 4) ≤ _
        have h41' : N 41 0 = 0 := h41
        have L4' : N 40 0 = 1 := L4
        omega
      · show ((N 26 2 + (N 40 2 + 3 - N 40 0 - 2 * N 41 0) / 2) - 4) + ((N 26 1 + 1 + (N 40 1 + 3 - N 40 3 - 2 * 1) / 2) - 4) ≤ _
        have h41' : N 41 3 = 0 := h41
        have L4' : N 40 3 = 1 := L4
        omega
    · intro s hs
      have c1 : e0 s (ev_acL lv d x rest (3 * d)) + e0 s (ev_acL lv d x rest (2 - d)) = e0 s (lv (3 * d)) + e0 s (lv (2 - d)) := by
        rw [lw, lr, hl, e0_app]
        show e0 s rest + (e0 s (lv (2 - d)) + (_ + 0)) = _ + e0 s rest + e0 s (lv (2 - d))
        omega
      rcases (by omega : d = 0 ∨ d = 1) with rfl | rfl
      · rw [lo' 1 (by decide) (by decide), lo' 3 (by decide) (by decide), lo' 4 (by decide) (by decide), lo' 5 (by decide) (by decide)]
        rw [show 3 * 0 = 0 from rfl, show 2 - 0 = 2 from rfl] at c1
        omega
      · rw [lo' 0 (by decide) (by decide), lo' 2 (by decide) (by decide), lo' 4 (by decide) (by decide), lo' 5 (by decide) (by decide)]
        rw [show 3 * 1 = 3 from rfl, show 2 - 1 = 1 from rfl] at c1
        omega
    · have c1 : wg 3 9 (ev_acL lv d x rest (3 * d)) + wg 1 7 (ev_acL lv d x rest (2 - d)) + 2 = wg 3 9 (lv (3 * d)) + wg 1 7 (lv (2 - d)) := by
        rw [lw, lr, hl, wg_app]
        show wg 3 9 rest + (wg 1 7 (lv (2 - d)) + ((if pq_k x = 1 then 1 else 7) + 0)) + 2 = (if pq_k x = 1 then 3 else 9) + wg 3 9 rest + wg 1 7 (lv (2 - d))
        split <;> omega
      unfold m_p
      rw [f26, show ev_acN N d b q 40 = N 40 from rfl, show ev_acN N d b q 47 = N 47 from rfl, show ev_acN N d b q 16 = N 16 from rfl]
      rcases (by omega : d = 0 ∨ d = 1) with rfl | rfl
      · rw [lo' 1 (by decide) (by decide), lo' 3 (by decide) (by decide)]
        rw [show 3 * 0 = 0 from rfl, show 2 - 0 = 2 from rfl] at *
        rw [ub_s, ub_n (by decide : (0 : Nat) ≠ 2), ub_n (by decide : (1 : Nat) ≠ 2), ub_n (by decide : (3 : Nat) ≠ 2)]
        omega
      · rw [lo' 0 (by decide) (by decide), lo' 2 (by decide) (by decide)]
        rw [show 3 * 1 = 3 from rfl, show 2 - 1 = 1 from rfl] at *
        rw [ub_s, ub_n (by decide : (0 : Nat) ≠ 1), ub_n (by decide : (2 : Nat) ≠ 1), ub_n (by decide : (3 : Nat) ≠ 1)]
        omega
end
section
/-! a new piece is dropped at the relay -/
def ev_drN (N : Nat → Nat → Nat) (d b : Nat) : Nat → Nat → Nat := st_up (st_up (sx_fr N (3 * d) b) 41 (3 * d) 1) 42 (3 * d) 2
def ev_drL (lv : Lv) (d : Nat) (x : Pc) (r : List Pc) : Lv := ul (ul lv (3 * d) r) (4 + d) (if pq_p x + 1 = pq_n x then lv (4 + d) ++ [x] else lv (4 + d))
theorem k12 {N : Nat → Nat → Nat} {lv : Lv} {d : Nat} (hd : d < 2) (I8 : ∀ s, s < 4 → kb N lv s) (h1 : ∀ x, x ∈ lv (3 * d) → pq_s x < 4) (h2 : ∀ x, x ∈ lv (4 + d) → pq_s x < 4 ∧ pq_p x + 1 = pq_n x) : (lv (4 + d)).length + lc (lv (3 * d)) ≤ 12 := by
  have k0 := (I8 0 (by omega)).1
  have k1 := (I8 1 (by omega)).1
  have k2 := (I8 2 (by omega)).1
  have k3 := (I8 3 (by omega)).1
  have c1 := lc_cn h1
  have c2 := lc_cn (fun x hx => (h2 x hx).1)
  rw [lc_all (fun x hx => (h2 x hx).2)] at c2
  unfold kb_k at k0 k1 k2 k3
  rcases (by omega : d = 0 ∨ d = 1) with rfl | rfl
  · have c1' : lc (lv 0) ≤ cn 0 (lv 0) + cn 1 (lv 0) + cn 2 (lv 0) + cn 3 (lv 0) := c1
    have c2' : (lv 4).length ≤ cn 0 (lv 4) + cn 1 (lv 4) + cn 2 (lv 4) + cn 3 (lv 4) := c2
    show (lv 4).length + lc (lv 0) ≤ 12
    omega
  · have c1' : lc (lv 3) ≤ cn 0 (lv 3) + cn 1 (lv 3) + cn 2 (lv 3) + cn 3 (lv 3) := c1
    have c2' : (lv 5).length ≤ cn 0 (lv 5) + cn 1 (lv 5) + cn 2 (lv 5) + cn 3 (lv 5) := c2
    show (lv 5).length + lc (lv 3) ≤ 12
    omega
theorem lo_ne {j l : List Pc} (h : l ≠ []) : ∃ u, u ∈ l ∧ lo j l = op_n u := by
  induction l generalizing j with
  | nil => exact absurd rfl h
  | cons x r ih =>
    cases r with
    | nil => exact ⟨x, List.mem_cons_self .., rfl⟩
    | cons y q =>
      obtain ⟨u, hu, e⟩ := ih (j := op_n x) (fun c => by cases c)
      exact ⟨u, List.mem_cons_of_mem _ hu, e⟩
theorem ev_drp {lo hi : Nat → Nat} {C N : Nat → Nat → Nat} {lv : Lv} {tl d b : Nat} {x : Pc} {rest : List Pc} (hd : d < 2) (hp : N 42 (3 * d) = 1) (h41 : N 41 (3 * d) = 0) (hl : lv (3 * d) = x :: rest) (hc : 4 ≤ N 26 (2 - d)) (hb : b = N 32 (3 * d))
    (I : Iv0 lo hi C tl N lv) : Iv0 lo hi C tl (ev_drN N d b) (ev_drL lv d x rest) ∧ e6 (me tl (ev_drN N d b) (ev_drL lv d x rest)) (me tl N lv) := by
  obtain ⟨⟨I1, I2, I3, I4, I5, I6, I7, I8, I9, I10⟩, Ia, Id⟩ := I
  obtain ⟨hw, hr, hne, hx1, hx2⟩ := wx d hd
  have L := lk_ph (I1 _ hw) rfl rfl (Or.inl hp)
  obtain ⟨L1, L2, L3, L4, L5, L6, L7, L8, L9, L10, L11⟩ := L
  have LR := I1 _ hr
  have DR := I6 d hd
  have f35 : ev_drN N d b 35 = ub_un (N 35) (3 * d) (1 - b) := rfl
  have f36 : ev_drN N d b 36 = ub_un (N 36) (3 * d) (b + 1) := rfl
  have f41 : ev_drN N d b 41 = ub_un (N 41) (3 * d) 1 := rfl
  have f42 : ev_drN N d b 42 = ub_un (N 42) (3 * d) 2 := rfl
  have lw : ev_drL lv d x rest (3 * d) = rest := by unfold ev_drL; rw [ul_n (by omega), ul_s]
  have l4 : ev_drL lv d x rest (4 + d) = if pq_p x + 1 = pq_n x then lv (4 + d) ++ [x] else lv (4 + d) := ul_s
  have lo' : ∀ j, j ≠ 3 * d → j ≠ 4 + d → ev_drL lv d x rest j = lv j := fun j a b => by unfold ev_drL; rw [ul_n b, ul_n a]
  refine ⟨⟨⟨?_, ?_, ?_, ?_, ?_, ?_, ?_, ?_, I9, I10⟩, Ia, ?_⟩, ?_⟩
  · intro v hv
    by_cases e : v = 3 * d
    · subst e
      unfold lk
      rw [f35, f36, f41, f42, lw, ub_s, ub_s, ub_s, ub_s]
      rw [hl, List.length_cons] at L1
      have l8 := L8 h41
      refine ⟨?_, by omega, L5, by omega, fun c => by omega, fun _ => ?_, L7, Or.inr (Or.inr (Or.inl ⟨rfl, L2, L3, L4, rfl, ?_, rfl⟩))⟩
      · show N 26 (3 * d) = _
        omega
      · show 1 - b + N 32 (3 * d) = 1
        omega
      · show b + 1 = N 32 (3 * d) + 1
        omega
    · exact lk_cg (N := N) rfl rfl rfl rfl rfl (ub_n e) (ub_n e) rfl (ub_n e) (ub_n e) (lo' v e (by omega)) rfl rfl (I1 v hv)
  · refine fr_A (N := N) hw (Or.inl hp) rfl rfl rfl rfl f42 (fun v e => ub_n e) (fun v hv e => ?_) I2
    exact ⟨[], by rw [lo' v e (by omega), List.append_nil]⟩
  · intro v hv
    by_cases e : v = 3 * d
    · subst e
      have Q := I3 _ hv
      unfold qo at *
      rw [lw, f41, ub_s]
      intro j z hz
      have := Q (j + 1) z (by rw [hl]; exact hz)
      rw [h41, show N 25 (3 * d) + 0 + (j + 1) = N 25 (3 * d) + 1 + j by omega] at this
      exact this
    · exact qo_cg (N := N) rfl rfl rfl rfl (ub_n e) (lo' v e (by omega)) (I3 v hv)
  · exact fun d' hd' => jo_cg (N := N) rfl rfl rfl rfl rfl (lo' _ (by omega) (by omega)) (I4 d' hd')
  · exact fun s hs => si_cg (N := N) rfl rfl rfl rfl rfl rfl rfl rfl rfl rfl rfl rfl rfl rfl rfl rfl rfl rfl rfl rfl rfl rfl (I5 s hs)
  · intro d' hd'
    by_cases e : d' = d
    · subst e
      unfold dr tk_ok at DR ⊢
      obtain ⟨a1, a2, a3, a4, a5, a6, a7, a8, a9, a10, a11, a12, a13, a14⟩ := DR
      have K12 := k12 hd I8 (fun y hy => (a1 y (Or.inr hy)).1.2.1) (fun y hy => ⟨(a7 y hy).1.2.1, (a7 y hy).2⟩)
      have c4 : N 26 (2 - d') = 4 := by omega
      have a6' := a6 c4
      rw [lo' (2 - d') (by omega) (by omega), lw, lo' (6 + d') (by omega) (by omega), l4, show ev_drN N d' b 26 = N 26 from rfl]
      rw [hl] at a1 a2 a3 a6' a11 a12 a13 a14 K12
      refine ⟨?_, ?_, a3.2.2.2, a4, a5, ?_, ?_, fun _ => c4, a9, a10, ak_drop a11, ak_drop a12, ?_, ?_⟩
      · intro y hy
        refine a1 y ?_
        rcases hy with hy | hy
        · exact Or.inl hy
        · exact Or.inr (List.mem_cons_of_mem _ hy)
      · rw [adj_app] at a2 ⊢
        refine ⟨a2.1, ?_⟩
        cases rest with
        | nil => trivial
        | cons y r' =>
          refine ⟨fun py => ?_, a2.2.2.2⟩
          by_cases lx : pq_p x + 1 = pq_n x
          · have := a3.2.2.1 lx y r' rfl
            omega
          · obtain ⟨px, nx, y', r'', e1, e2, e3, e4⟩ := a3.2.1 lx
            have ey : y = y' := by injection e1
            subst ey
            have ne : lv (2 - d') ≠ [] := by
              intro c
              have := LR.1
              have := LR.2.1
              rw [c, List.length_nil] at *
              omega
            obtain ⟨u, hu, eu⟩ := lo_ne (j := lv (6 + d')) ne
            rw [eu]
            unfold op_n at eu ⊢
            split
            · next cu =>
              rw [if_pos cu] at eu
              refine Or.inr ⟨u, rfl, cu.1, Or.inr ?_⟩
              have b1 := a6' u eu
              have b2 : pq_i x + lc (x :: y :: r') = N 43 d' := a3.1
              rcases a14 u eu with b3 | ⟨y2, r2, b4, b5, b6⟩
              · have e3' : pq_i x = pq_i y := e3
                show pq_i u % 16 ≠ pq_i y % 16
                omega
              · have : x = y2 := by injection b4
                subst this
                omega
            · exact Or.inl rfl
      · intro _ y hy
        have b1 := a6' y hy
        show N 43 d' ≤ _
        by_cases lx : pq_p x + 1 = pq_n x
        · rw [if_pos lx, List.length_append]
          have : lc (x :: rest) = 1 + lc rest := by
            show (if _ then 1 else 0) + lc rest = _
            rw [if_pos lx]
          show _ ≤ pq_i y + 1 + ((lv (4 + d')).length + 1) + lc rest
          omega
        · rw [if_neg lx]
          have : lc (x :: rest) = lc rest := by
            show (if _ then 1 else 0) + lc rest = _
            rw [if_neg lx]; omega
          omega
      · intro y hy
        split at hy
        · next lx =>
          rcases List.mem_append.mp hy with hy | hy
          · exact a7 y hy
          · rw [List.mem_singleton] at hy
            rw [hy]
            exact ⟨(a1 x (Or.inr (List.mem_cons_self ..))).1, lx⟩
        · exact a7 y hy
      · intro c
        obtain ⟨p, t, e1, e2, e3⟩ := a13 c
        have e1' : lv (3 * d') = p ++ t := by rw [hl]; exact e1
        have l3 := ov3 hd I8 e1' e3
        cases p with
        | nil =>
          have DU := Id d' hd
          unfold du at DU
          by_cases z : N 46 d' = 0
          · refine ⟨rest, [], (List.append_nil _).symm, z.symm, fun y hy => absurd hy (List.not_mem_nil)⟩
          · have := DU (Or.inr (Or.inr ⟨c, by omega⟩))
            have e4 : (x :: rest).length = t.length := by rw [e1]; rfl
            rw [hl] at L1
            omega
        | cons u p' =>
          refine ⟨p', t, ?_, e2, e3⟩
          injection e1
      · intro z hz
        refine Or.inl ?_
        show _ < N 43 d'
        rcases a14 z hz with b3 | ⟨y2, r2, b4, b5, b6⟩
        · have : lc rest ≤ lc (x :: rest) := by
            show lc rest ≤ (if _ then 1 else 0) + lc rest
            omega
          omega
        · have ex : x = y2 := by injection b4
          subst ex
          have lx : pq_p x + 1 = pq_n x := by
            have := (a1 x (Or.inr (List.mem_cons_self ..))).1.2.2.1
            have n2 : pq_n x ≤ 2 := by unfold pq_n; split <;> omega
            omega
          have q1 : pq_i x + lc (x :: rest) = N 43 d' := a3.1
          have q2 : lc (x :: rest) = 1 + lc rest := by
            show (if _ then 1 else 0) + lc rest = _
            rw [if_pos lx]
          omega
    · have n1 : 2 - d' ≠ 3 * d ∧ 3 * d' ≠ 3 * d := by
        rcases (by omega : d = 0 ∨ d = 1) with rfl | rfl <;> omega
      have D := I6 d' hd'
      have c6 : N 26 (3 * d') ≤ 6 := by unfold dr at D; exact D.2.2.2.2.2.2.2.2.2.1
      exact dr_cg (N := N) rfl rfl rfl rfl rfl rfl rfl rfl rfl rfl rfl rfl (lo' _ n1.1 (by omega)) (lo' _ n1.2 (by omega)) (lo' _ (by omega) (by omega)) (Or.inl ⟨rfl, lo' _ (by omega) (by omega)⟩) c6 D
  · have own : tm_d tl (ev_drN N d b) (ev_drL lv d x rest) d := by
      have T : tm_d tl N lv d := by
        rcases (by omega : d = 0 ∨ d = 1) with rfl | rfl
        · exact I7.1
        · exact I7.2.1
      unfold tm_d at T ⊢
      have hk : tm_ok tl (ev_drN N d b) = tm_ok tl N := rfl
      have ha : tm_a (ev_drN N d b) d = tm_a N d := rfl
      rw [hk, ha, lw, l4, lo' (2 - d) (by omega) (by omega), f41, ub_s, ub_n (Ne.symm hne)]
      rw [hl] at T
      obtain ⟨T1, T2, T3, T4, T5⟩ := T
      refine ⟨T1, ?_, ?_, T4, T5⟩
      · have z := T2.2
        rw [h41] at z
        rw [show N 40 (3 * d) + 2 * 0 + max (N 40 (2 - d)) 2 + 5 + 2 = N 40 (3 * d) + 2 * 1 + max (N 40 (2 - d)) 2 + 5 by omega] at z
        exact z
      · intro y hy
        split at hy
        · next lx =>
          rcases List.mem_append.mp hy with hy | hy
          · exact T3 y hy
          · rw [List.mem_singleton] at hy
            subst hy
            have z := T2.1 lx
            refine tm_anti ?_ z
            show N 40 (2 - d) + 1 ≤ _
            split <;> omega
        · exact T3 y hy
    have oth : ∀ d', d' < 2 → d' ≠ d → tm_d tl N lv d' → tm_d tl (ev_drN N d b) (ev_drL lv d x rest) d' := by
      intro d' hd' e h
      have n1 : 2 - d' ≠ 3 * d ∧ 3 * d' ≠ 3 * d := by
        rcases (by omega : d = 0 ∨ d = 1) with rfl | rfl <;> omega
      refine tm_dcg (N := N) rfl rfl rfl rfl rfl rfl ?_ ?_ rfl rfl (lo' _ n1.1 (by omega)) (lo' _ n1.2 (by omega)) (Or.inl ⟨rfl, lo' _ (by omega) (by omega)⟩) h
      · rw [f41, ub_n n1.1]; rfl
      · rw [f41, ub_n n1.2]; rfl
    have all : ∀ d', d' < 2 → tm_d tl N lv d' → tm_d tl (ev_drN N d b) (ev_drL lv d x rest) d' := by
      intro d' hd' h
      by_cases e : d' = d
      · subst e; exact own
      · exact oth d' hd' e h
    exact ⟨all 0 (by omega) I7.1, all 1 (by omega) I7.2.1, I7.2.2⟩
  · intro s hs
    refine kb_cg (N := N) rfl rfl rfl rfl rfl rfl rfl ?_ (I8 s hs)
    have c1 : cn s (ev_drL lv d x rest (3 * d)) + cn s (ev_drL lv d x rest (4 + d)) ≤ cn s (lv (3 * d)) + cn s (lv (4 + d)) := by
      rw [lw, l4, hl]
      show _ ≤ (if pq_p x + 1 = pq_n x ∧ pq_s x = s then 1 else 0) + cn s rest + cn s (lv (4 + d))
      by_cases lx : pq_p x + 1 = pq_n x
      · rw [if_pos lx, cn_app]
        show cn s rest + (cn s (lv (4 + d)) + ((if pq_p x + 1 = pq_n x ∧ pq_s x = s then 1 else 0) + 0)) ≤ _
        omega
      · rw [if_neg lx]; omega
    rcases (by omega : d = 0 ∨ d = 1) with rfl | rfl
    · rw [lo' 1 (by decide) (by decide), lo' 3 (by decide) (by decide), lo' 2 (by decide) (by decide), lo' 5 (by decide) (by decide)]
      have c1' : cn s (ev_drL lv 0 x rest 0) + cn s (ev_drL lv 0 x rest 4) ≤ cn s (lv 0) + cn s (lv 4) := c1
      omega
    · rw [lo' 1 (by decide) (by decide), lo' 0 (by decide) (by decide), lo' 2 (by decide) (by decide), lo' 4 (by decide) (by decide)]
      have c1' : cn s (ev_drL lv 1 x rest 3) + cn s (ev_drL lv 1 x rest 5) ≤ cn s (lv 3) + cn s (lv 5) := c1
      omega
  · intro d' hd'
    refine du_cg (N := N) rfl rfl ?_ ?_ rfl (Id d' hd')
    · intro c
      have c' : ub_un (N 42) (3 * d) 2 (1 + d') = 1 := c
      rw [ub_n (by rcases (by omega : d = 0 ∨ d = 1) with rfl | rfl <;> omega)] at c'
      exact c'
    · intro c
      have c' : ub_un (N 42) (3 * d) 2 (3 * d') = 3 := c
      by_cases e : 3 * d' = 3 * d
      · rw [e, ub_s] at c'; omega
      · rw [ub_n e] at c'; exact c'
  · have DRc : N 26 (2 - d) ≤ 4 := by unfold dr at DR; exact DR.2.2.2.2.2.2.2.2.1
    have hm : m_d (ev_drN N d b) < m_d N := by
      unfold m_d
      rw [f41, show ev_drN N d b 26 = N 26 from rfl, show ev_drN N d b 40 = N 40 from rfl]
      rcases (by omega : d = 0 ∨ d = 1) with rfl | rfl
      · show ((N 26 2 + (N 40 2 + 3 - N 40 0 - 2 * 1) / 2) - 4) + ((N 26 1 + (N 40 1 + 3 - N 40 3 - 2 * N 41 3) / 2) - 4) < _
        have h41' : N 41 0 = 0 := h41
        have L4' : N 40 0 = 1 := L4
        have hc' : 4 ≤ N 26 2 := hc
        omega
      · show ((N 26 2 + (N 40 2 + 3 - N 40 0 - 2 * N 41 0) / 2) - 4) + ((N 26 1 + (N 40 1 + 3 - N 40 3 - 2 * 1) / 2) - 4) < _
        have h41' : N 41 3 = 0 := h41
        have L4' : N 40 3 = 1 := L4
        have hc' : 4 ≤ N 26 1 := hc
        omega
    exact Or.inr ⟨rfl, Or.inl hm⟩
end
section
/-! a new piece arrives at an end: what holds before its packet, if it ends one, is looked at -/
def ev_enL (lv : Lv) (d : Nat) (x : Pc) (r : List Pc) : Lv := ul (ul lv (2 - d) r) (6 + d) (op_n x)
theorem ev_end1 {lo hi : Nat → Nat} {C N N1 : Nat → Nat → Nat} {lv : Lv} {tl d b : Nat} {x : Pc} {rest : List Pc} (hd : d < 2) (hp : N 42 (2 - d) = 1) (h41 : N 41 (2 - d) = 0) (hl : lv (2 - d) = x :: rest) (hb : b = N 32 (2 - d))
    (hN : ∀ i, i ≠ 17 → i ≠ 18 → i ≠ 19 → i ≠ 20 → i ≠ 21 → i ≠ 35 → i ≠ 36 → i ≠ 37 → i ≠ 41 → i ≠ 42 → N1 i = N i) (f35 : N1 35 = ub_un (N 35) (2 - d) (1 - b)) (f36 : N1 36 = ub_un (N 36) (2 - d) (b + 1)) (f41 : N1 41 = ub_un (N 41) (2 - d) 1) (f42 : N1 42 = ub_un (N 42) (2 - d) 2)
    (hJ : ∀ d', d' < 2 → jo C N1 (ev_enL lv d x rest) d')
    (I : Inv (fun _ => 0) (fun _ => 0) lo hi C tl N lv) : Inv (fun _ => 0) (fun _ => 0) lo hi C tl N1 (ev_enL lv d x rest) := by
  obtain ⟨I1, I2, I3, I4, I5, I6, I7, I8, I9, I10⟩ := I
  obtain ⟨hw, hr, hne, hx1, hx2⟩ := wx d hd
  have L := lk_ph (I1 _ hr) rfl rfl (Or.inl hp)
  obtain ⟨L1, L2, L3, L4, L5, L6, L7, L8, L9, L10, L11⟩ := L
  have DR := I6 d hd
  have lw : ev_enL lv d x rest (2 - d) = rest := by unfold ev_enL; rw [ul_n (by omega), ul_s]
  have l6 : ev_enL lv d x rest (6 + d) = op_n x := ul_s
  have lo' : ∀ j, j ≠ 2 - d → j ≠ 6 + d → ev_enL lv d x rest j = lv j := fun j a b => by unfold ev_enL; rw [ul_n b, ul_n a]
  have g0 := hN 0 (by decide) (by decide) (by decide) (by decide) (by decide) (by decide) (by decide) (by decide) (by decide) (by decide)
  have g1 := hN 1 (by decide) (by decide) (by decide) (by decide) (by decide) (by decide) (by decide) (by decide) (by decide) (by decide)
  have g2 := hN 2 (by decide) (by decide) (by decide) (by decide) (by decide) (by decide) (by decide) (by decide) (by decide) (by decide)
  have g3 := hN 3 (by decide) (by decide) (by decide) (by decide) (by decide) (by decide) (by decide) (by decide) (by decide) (by decide)
  have g4 := hN 4 (by decide) (by decide) (by decide) (by decide) (by decide) (by decide) (by decide) (by decide) (by decide) (by decide)
  have g5 := hN 5 (by decide) (by decide) (by decide) (by decide) (by decide) (by decide) (by decide) (by decide) (by decide) (by decide)
  have g6 := hN 6 (by decide) (by decide) (by decide) (by decide) (by decide) (by decide) (by decide) (by decide) (by decide) (by decide)
  have g7 := hN 7 (by decide) (by decide) (by decide) (by decide) (by decide) (by decide) (by decide) (by decide) (by decide) (by decide)
  have g8 := hN 8 (by decide) (by decide) (by decide) (by decide) (by decide) (by decide) (by decide) (by decide) (by decide) (by decide)
  have g9 := hN 9 (by decide) (by decide) (by decide) (by decide) (by decide) (by decide) (by decide) (by decide) (by decide) (by decide)
  have g10 := hN 10 (by decide) (by decide) (by decide) (by decide) (by decide) (by decide) (by decide) (by decide) (by decide) (by decide)
  have g11 := hN 11 (by decide) (by decide) (by decide) (by decide) (by decide) (by decide) (by decide) (by decide) (by decide) (by decide)
  have g12 := hN 12 (by decide) (by decide) (by decide) (by decide) (by decide) (by decide) (by decide) (by decide) (by decide) (by decide)
  have g13 := hN 13 (by decide) (by decide) (by decide) (by decide) (by decide) (by decide) (by decide) (by decide) (by decide) (by decide)
  have g14 := hN 14 (by decide) (by decide) (by decide) (by decide) (by decide) (by decide) (by decide) (by decide) (by decide) (by decide)
  have g15 := hN 15 (by decide) (by decide) (by decide) (by decide) (by decide) (by decide) (by decide) (by decide) (by decide) (by decide)
  have g16 := hN 16 (by decide) (by decide) (by decide) (by decide) (by decide) (by decide) (by decide) (by decide) (by decide) (by decide)
  have g22 := hN 22 (by decide) (by decide) (by decide) (by decide) (by decide) (by decide) (by decide) (by decide) (by decide) (by decide)
  have g23 := hN 23 (by decide) (by decide) (by decide) (by decide) (by decide) (by decide) (by decide) (by decide) (by decide) (by decide)
  have g25 := hN 25 (by decide) (by decide) (by decide) (by decide) (by decide) (by decide) (by decide) (by decide) (by decide) (by decide)
  have g26 := hN 26 (by decide) (by decide) (by decide) (by decide) (by decide) (by decide) (by decide) (by decide) (by decide) (by decide)
  have g27 := hN 27 (by decide) (by decide) (by decide) (by decide) (by decide) (by decide) (by decide) (by decide) (by decide) (by decide)
  have g28 := hN 28 (by decide) (by decide) (by decide) (by decide) (by decide) (by decide) (by decide) (by decide) (by decide) (by decide)
  have g29 := hN 29 (by decide) (by decide) (by decide) (by decide) (by decide) (by decide) (by decide) (by decide) (by decide) (by decide)
  have g30 := hN 30 (by decide) (by decide) (by decide) (by decide) (by decide) (by decide) (by decide) (by decide) (by decide) (by decide)
  have g31 := hN 31 (by decide) (by decide) (by decide) (by decide) (by decide) (by decide) (by decide) (by decide) (by decide) (by decide)
  have g32 := hN 32 (by decide) (by decide) (by decide) (by decide) (by decide) (by decide) (by decide) (by decide) (by decide) (by decide)
  have g33 := hN 33 (by decide) (by decide) (by decide) (by decide) (by decide) (by decide) (by decide) (by decide) (by decide) (by decide)
  have g34 := hN 34 (by decide) (by decide) (by decide) (by decide) (by decide) (by decide) (by decide) (by decide) (by decide) (by decide)
  have g40 := hN 40 (by decide) (by decide) (by decide) (by decide) (by decide) (by decide) (by decide) (by decide) (by decide) (by decide)
  have g43 := hN 43 (by decide) (by decide) (by decide) (by decide) (by decide) (by decide) (by decide) (by decide) (by decide) (by decide)
  have g44 := hN 44 (by decide) (by decide) (by decide) (by decide) (by decide) (by decide) (by decide) (by decide) (by decide) (by decide)
  have g45 := hN 45 (by decide) (by decide) (by decide) (by decide) (by decide) (by decide) (by decide) (by decide) (by decide) (by decide)
  have g46 := hN 46 (by decide) (by decide) (by decide) (by decide) (by decide) (by decide) (by decide) (by decide) (by decide) (by decide)
  have g47 := hN 47 (by decide) (by decide) (by decide) (by decide) (by decide) (by decide) (by decide) (by decide) (by decide) (by decide)
  have g48 := hN 48 (by decide) (by decide) (by decide) (by decide) (by decide) (by decide) (by decide) (by decide) (by decide) (by decide)
  have g49 := hN 49 (by decide) (by decide) (by decide) (by decide) (by decide) (by decide) (by decide) (by decide) (by decide) (by decide)
  have g50 := hN 50 (by decide) (by decide) (by decide) (by decide) (by decide) (by decide) (by decide) (by decide) (by decide) (by decide)
  refine ⟨?_, ?_, ?_, hJ, ?_, ?_, ?_, ?_, ?_, I10⟩
  · intro v hv
    by_cases e : v = 2 - d
    · subst e
      unfold lk
      rw [f35, f36, f41, f42, lw, ub_s, ub_s, ub_s, ub_s, g25, g26, g32, g33, g34, g40]
      rw [hl, List.length_cons] at L1
      have l8 := L8 h41
      refine ⟨by omega, by omega, L5, by omega, fun c => by omega, fun _ => by omega, L7, Or.inr (Or.inr (Or.inl ⟨rfl, L2, L3, L4, rfl, by omega, rfl⟩))⟩
    · exact lk_cg (N := N) (by rw [g25]) (by rw [g26]) (by rw [g32]) (by rw [g33]) (by rw [g34]) (by rw [f35, ub_n e]) (by rw [f36, ub_n e]) (by rw [g40]) (by rw [f41, ub_n e]) (by rw [f42, ub_n e]) (lo' v e (by omega)) rfl rfl (I1 v hv)
  · refine fr_A (N := N) hr (Or.inl hp) g30 g31 g49 g32 f42 (fun v e => by rw [f41, ub_n e]) (fun v hv e => ?_) I2
    exact ⟨[], by rw [lo' v e (by omega), List.append_nil]⟩
  · intro v hv
    by_cases e : v = 2 - d
    · subst e
      have Q := I3 _ hv
      unfold qo at *
      rw [lw, f41, ub_s, g28, g27, g25, g49]
      intro j z hz
      have := Q (j + 1) z (by rw [hl]; exact hz)
      rw [h41, show N 25 (2 - d) + 0 + (j + 1) = N 25 (2 - d) + 1 + j by omega] at this
      exact this
    · exact qo_cg (N := N) g27 g28 g49 (by rw [g25]) (by rw [f41, ub_n e]) (lo' v e (by omega)) (I3 v hv)
  · exact fun s hs => si_cg (N := N) g0 g1 g2 g3 g4 g5 g6 g7 g8 g9 g10 g11 g12 g13 g14 g15 g16 g44 g45 g48 g49 g50 (I5 s hs)
  · intro d' hd'
    by_cases e : d' = d
    · subst e
      unfold dr tk_ok at DR ⊢
      obtain ⟨a1, a2, a3, a4, a5, a6, a7, a8, a9, a10, a11, a12, a13, a14⟩ := DR
      rw [lw, l6, lo' (3 * d') (by omega) (by omega), lo' (4 + d') (by omega) (by omega), g48, g44, g45, g11, g50, g7, g8, g43, g22, g23, g26, g16, g46]
      rw [hl] at a1 a2 a6 a11 a12 a14
      refine ⟨?_, a2.2, a3, a4, a5, a6, a7, a8, a9, a10, ak_tail a11, ak_tail a12, a13, a14⟩
      intro y hy
      refine a1 y ?_
      rcases hy with hy | hy
      · exact Or.inl (List.mem_cons_of_mem _ hy)
      · exact Or.inr hy
    · have n1 : 2 - d' ≠ 2 - d ∧ 3 * d' ≠ 2 - d := by
        rcases (by omega : d = 0 ∨ d = 1) with rfl | rfl <;> omega
      have D := I6 d' hd'
      have c6 : N 26 (3 * d') ≤ 6 := by unfold dr at D; exact D.2.2.2.2.2.2.2.2.2.1
      exact dr_cg (N := N) g48 g44 g45 g11 g50 g7 g8 g16 g43 g22 g23 g46 (lo' _ n1.1 (by omega)) (lo' _ n1.2 (by omega)) (lo' _ (by omega) (by omega)) (Or.inl ⟨by rw [g26], lo' _ (by omega) (by omega)⟩) (by rw [g26]; exact c6) D
  · have hk : tm_ok tl N1 = tm_ok tl N := by
      funext s g
      unfold tm_ok
      rw [g47, g11, g12]
    have own : tm_d tl N1 (ev_enL lv d x rest) d := by
      have T : tm_d tl N lv d := by
        rcases (by omega : d = 0 ∨ d = 1) with rfl | rfl
        · exact I7.1
        · exact I7.2.1
      unfold tm_d tm_a at T ⊢
      rw [hk, lw, lo' (3 * d) (by omega) (by omega), lo' (4 + d) (by omega) (by omega), f41, ub_s, ub_n hne, g40, g26, g16, g46]
      rw [hl] at T
      obtain ⟨T1, T2, T3, T4, T5⟩ := T
      refine ⟨?_, T2, T3, T4, T5⟩
      have z := T1.2
      rw [h41] at z
      exact z
    have oth : ∀ d', d' < 2 → d' ≠ d → tm_d tl N lv d' → tm_d tl N1 (ev_enL lv d x rest) d' := by
      intro d' hd' e h
      have n1 : 2 - d' ≠ 2 - d ∧ 3 * d' ≠ 2 - d := by
        rcases (by omega : d = 0 ∨ d = 1) with rfl | rfl <;> omega
      refine tm_dcg (N := N) g47 g11 g12 g16 g46 (by unfold tm_a; rw [g40]) ?_ ?_ (by rw [g40]) (by rw [g40, g26]) (lo' _ n1.1 (by omega)) (lo' _ n1.2 (by omega)) (Or.inl ⟨by rw [g40], lo' _ (by omega) (by omega)⟩) h
      · rw [f41, ub_n n1.1, g40]
      · rw [f41, ub_n n1.2, g40]
    have all : ∀ d', d' < 2 → tm_d tl N lv d' → tm_d tl N1 (ev_enL lv d x rest) d' := by
      intro d' hd' h
      by_cases e : d' = d
      · subst e; exact own
      · exact oth d' hd' e h
    refine ⟨all 0 (by omega) I7.1, all 1 (by omega) I7.2.1, ?_⟩
    rw [g40]; exact I7.2.2
  · intro s hs
    refine kb_cg (N := N) g1 g7 g10 g12 g14 g16 g47 ?_ (I8 s hs)
    have c1 : cn s (ev_enL lv d x rest (2 - d)) ≤ cn s (lv (2 - d)) := by
      rw [lw, hl]
      show cn s rest ≤ _ + cn s rest
      omega
    rcases (by omega : d = 0 ∨ d = 1) with rfl | rfl
    · rw [lo' 0 (by decide) (by decide), lo' 1 (by decide) (by decide), lo' 3 (by decide) (by decide), lo' 4 (by decide) (by decide), lo' 5 (by decide) (by decide)]
      have c1' : cn s (ev_enL lv 0 x rest 2) ≤ cn s (lv 2) := c1
      omega
    · rw [lo' 0 (by decide) (by decide), lo' 2 (by decide) (by decide), lo' 3 (by decide) (by decide), lo' 4 (by decide) (by decide), lo' 5 (by decide) (by decide)]
      have c1' : cn s (ev_enL lv 1 x rest 1) ≤ cn s (lv 1) := c1
      omega
  · obtain ⟨r1, r2, r3, r4⟩ := I9
    exact ⟨by rw [g28]; exact r1, by rw [g27]; exact r2, r3, by rw [g29]; exact r4⟩
end
section
/-! a piece at an end that ends no packet -/
theorem ev_end0 {lo hi : Nat → Nat} {C N N1 : Nat → Nat → Nat} {lv : Lv} {tl d b : Nat} {x : Pc} {rest : List Pc} (hd : d < 2) (hp : N 42 (2 - d) = 1) (h41 : N 41 (2 - d) = 0) (hl : lv (2 - d) = x :: rest) (hb : b = N 32 (2 - d))
    (hN : ∀ i, i ≠ 17 → i ≠ 18 → i ≠ 19 → i ≠ 20 → i ≠ 21 → i ≠ 35 → i ≠ 36 → i ≠ 37 → i ≠ 41 → i ≠ 42 → N1 i = N i) (f35 : N1 35 = ub_un (N 35) (2 - d) (1 - b)) (f36 : N1 36 = ub_un (N 36) (2 - d) (b + 1)) (f41 : N1 41 = ub_un (N 41) (2 - d) 1) (f42 : N1 42 = ub_un (N 42) (2 - d) 2)
    (hJ : ∀ d', d' < 2 → jo C N1 (ev_enL lv d x rest) d') (hnc : ¬ (pq_p x + 1 = pq_n x ∧ (pq_p x = 0 ∨ ∃ z, lv (6 + d) = [z] ∧ z.1 = x.1)))
    (I : Iv0 lo hi C tl N lv) : Iv0 lo hi C tl N1 (ev_enL lv d x rest) ∧ e6 (me tl N1 (ev_enL lv d x rest)) (me tl N lv) := by
  have J := ev_end1 hd hp h41 hl hb hN f35 f36 f41 f42 hJ I.1
  obtain ⟨_, Ia, Id⟩ := I
  have lw : ev_enL lv d x rest (2 - d) = rest := by unfold ev_enL; rw [ul_n (by omega), ul_s]
  have l6 : ev_enL lv d x rest (6 + d) = op_n x := ul_s
  have lo' : ∀ j, j ≠ 2 - d → j ≠ 6 + d → ev_enL lv d x rest j = lv j := fun j a b => by unfold ev_enL; rw [ul_n b, ul_n a]
  have g1 := hN 1 (by decide) (by decide) (by decide) (by decide) (by decide) (by decide) (by decide) (by decide) (by decide) (by decide)
  have g7 := hN 7 (by decide) (by decide) (by decide) (by decide) (by decide) (by decide) (by decide) (by decide) (by decide) (by decide)
  have g8 := hN 8 (by decide) (by decide) (by decide) (by decide) (by decide) (by decide) (by decide) (by decide) (by decide) (by decide)
  have g10 := hN 10 (by decide) (by decide) (by decide) (by decide) (by decide) (by decide) (by decide) (by decide) (by decide) (by decide)
  have g12 := hN 12 (by decide) (by decide) (by decide) (by decide) (by decide) (by decide) (by decide) (by decide) (by decide) (by decide)
  have g13 := hN 13 (by decide) (by decide) (by decide) (by decide) (by decide) (by decide) (by decide) (by decide) (by decide) (by decide)
  have g14 := hN 14 (by decide) (by decide) (by decide) (by decide) (by decide) (by decide) (by decide) (by decide) (by decide) (by decide)
  have g16 := hN 16 (by decide) (by decide) (by decide) (by decide) (by decide) (by decide) (by decide) (by decide) (by decide) (by decide)
  have g26 := hN 26 (by decide) (by decide) (by decide) (by decide) (by decide) (by decide) (by decide) (by decide) (by decide) (by decide)
  have g40 := hN 40 (by decide) (by decide) (by decide) (by decide) (by decide) (by decide) (by decide) (by decide) (by decide) (by decide)
  have g44 := hN 44 (by decide) (by decide) (by decide) (by decide) (by decide) (by decide) (by decide) (by decide) (by decide) (by decide)
  have g45 := hN 45 (by decide) (by decide) (by decide) (by decide) (by decide) (by decide) (by decide) (by decide) (by decide) (by decide)
  have g46 := hN 46 (by decide) (by decide) (by decide) (by decide) (by decide) (by decide) (by decide) (by decide) (by decide) (by decide)
  have g47 := hN 47 (by decide) (by decide) (by decide) (by decide) (by decide) (by decide) (by decide) (by decide) (by decide) (by decide)
  have g49 := hN 49 (by decide) (by decide) (by decide) (by decide) (by decide) (by decide) (by decide) (by decide) (by decide) (by decide)
  have g50 := hN 50 (by decide) (by decide) (by decide) (by decide) (by decide) (by decide) (by decide) (by decide) (by decide) (by decide)
  refine ⟨⟨J, ?_, ?_⟩, ?_⟩
  · rw [g47, g13]; exact Ia
  · intro d' hd'
    refine du_cg (N := N) g16 g46 ?_ ?_ (by rw [g26]) (Id d' hd')
    · intro c
      rw [f42] at c
      by_cases e : 1 + d' = 2 - d
      · rw [e, ub_s] at c; omega
      · rw [ub_n e] at c; exact c
    · intro c
      rw [f42, ub_n (by rcases (by omega : d = 0 ∨ d = 1) with rfl | rfl <;> omega)] at c
      exact c
  · have sm : ∀ d', d' < 2 → sam lv (ev_enL lv d x rest) d' ∧ sam (ev_enL lv d x rest) lv d' := by
      intro d' hd'
      by_cases e : d' = d
      · subst e
        constructor
        · intro y hy
          rw [hl] at hy
          rw [lw, l6, lo' (3 * d') (by omega) (by omega)]
          rcases hy with ⟨_, c1, c2⟩ | hy
          · exact absurd ⟨c1, c2⟩ hnc
          · exact hy
        · intro y hy
          rw [lw, l6, lo' (3 * d') (by omega) (by omega)] at hy
          rw [hl]
          exact Or.inr hy
      · have n1 : 2 - d' ≠ 2 - d ∧ 3 * d' ≠ 2 - d := by
          rcases (by omega : d = 0 ∨ d = 1) with rfl | rfl <;> omega
        have e1 := lo' (2 - d') n1.1 (by omega)
        have e2 := lo' (3 * d') n1.2 (by omega)
        have e3 := lo' (6 + d') (by omega) (by omega)
        exact ⟨sam_eq e3 (by rw [e1, e2]), sam_eq e3.symm (by rw [e1, e2])⟩
    refine me_ntr (N := N) ⟨g1, g7, g8, g10, g12, g14, g16, g44, g45, g47, g49, g50⟩ (sm 0 (by omega)).1 (sm 1 (by omega)).1 (sm 0 (by omega)).2 (sm 1 (by omega)).2 ?_ ?_ ?_
    · unfold m_d
      rw [f41, g26, g40]
      rcases (by omega : d = 0 ∨ d = 1) with rfl | rfl
      · exact Nat.le_refl _
      · exact Nat.le_refl _
    · intro s hs
      have c1 : e0 s (ev_enL lv d x rest (2 - d)) ≤ e0 s (lv (2 - d)) := by
        rw [lw, hl]
        show e0 s rest ≤ _ + e0 s rest
        omega
      rcases (by omega : d = 0 ∨ d = 1) with rfl | rfl
      · rw [lo' 0 (by decide) (by decide), lo' 1 (by decide) (by decide), lo' 3 (by decide) (by decide), lo' 4 (by decide) (by decide), lo' 5 (by decide) (by decide)]
        have c1' : e0 s (ev_enL lv 0 x rest 2) ≤ e0 s (lv 2) := c1
        omega
      · rw [lo' 0 (by decide) (by decide), lo' 2 (by decide) (by decide), lo' 3 (by decide) (by decide), lo' 4 (by decide) (by decide), lo' 5 (by decide) (by decide)]
        have c1' : e0 s (ev_enL lv 1 x rest 1) ≤ e0 s (lv 1) := c1
        omega
    · have c1 : wg 1 7 (ev_enL lv d x rest (2 - d)) ≤ wg 1 7 (lv (2 - d)) := by
        rw [lw, hl]
        show wg 1 7 rest ≤ _ + wg 1 7 rest
        omega
      unfold m_p
      rw [g26, g40, g47, g16]
      rcases (by omega : d = 0 ∨ d = 1) with rfl | rfl
      · rw [lo' 0 (by decide) (by decide), lo' 1 (by decide) (by decide), lo' 3 (by decide) (by decide)]
        have c1' : wg 1 7 (ev_enL lv 0 x rest 2) ≤ wg 1 7 (lv 2) := c1
        omega
      · rw [lo' 0 (by decide) (by decide), lo' 2 (by decide) (by decide), lo' 3 (by decide) (by decide)]
        have c1' : wg 1 7 (ev_enL lv 1 x rest 1) ≤ wg 1 7 (lv 1) := c1
        omega
/-- progress tokens that stay: either their number falls or they are the same -/
theorem mr_cmp {N N' : Nat → Nat → Nat} {lv lv' : Lv} (h : ∀ s, s < 4 → pt N lv s → pt N' lv' s) : m_r N' lv' < m_r N lv ∨ m_r N' lv' = m_r N lv ∧ ∀ s, s < 4 → (pt N' lv' s ↔ pt N lv s) := by
  by_cases c : ∀ s, s < 4 → (pt N' lv' s → pt N lv s)
  · have pe : ∀ s, s < 4 → (pt N' lv' s ↔ pt N lv s) := fun s hs => ⟨c s hs, h s hs⟩
    refine Or.inr ⟨?_, pe⟩
    unfold m_r
    rw [bq_congr (not_congr (pe 0 (by omega))), bq_congr (not_congr (pe 1 (by omega))), bq_congr (not_congr (pe 2 (by omega))), bq_congr (not_congr (pe 3 (by omega)))]
  · refine Or.inl ?_
    have m : ∀ s, s < 4 → bq (¬ pt N' lv' s) ≤ bq (¬ pt N lv s) := fun s hs => bq_mono (fun a b => a (h s hs b))
    obtain ⟨s, hs⟩ := Classical.not_forall.mp c
    have hs4 : s < 4 := Classical.byContradiction (fun q => hs (fun q' => absurd q' q))
    have a1 : pt N' lv' s := Classical.byContradiction (fun q => hs (fun _ q' => absurd q' q))
    have a2 : ¬ pt N lv s := fun q => hs (fun _ _ => q)
    have b1 : bq (¬ pt N' lv' s) = 0 := bq_f (fun q => q a1)
    have b2 : bq (¬ pt N lv s) = 1 := bq_t a2
    have m0 := m 0 (by omega)
    have m1 := m 1 (by omega)
    have m2 := m 2 (by omega)
    have m3 := m 3 (by omega)
    unfold m_r
    rcases (by omega : s = 0 ∨ s = 1 ∨ s = 2 ∨ s = 3) with rfl | rfl | rfl | rfl <;> omega
end
section
/-! a packet of a stream's own has come to its end: an answer is due -/
theorem pt_x {N : Nat → Nat → Nat} {x : Pc} (h : pq_k x ≠ 1) (s : Nat) : ¬ pt_ack N s x := fun c => h c.1
theorem ev_own {lo hi : Nat → Nat} {C N N1 N2 : Nat → Nat → Nat} {lv : Lv} {tl d s : Nat} {x : Pc} {rest : List Pc} (hd : d < 2) (hp : N 42 (2 - d) = 1) (hdel : N 41 (2 - d) = 0) (hl : lv (2 - d) = x :: rest)
    (hN : ∀ i, i ≠ 17 → i ≠ 18 → i ≠ 19 → i ≠ 20 → i ≠ 21 → i ≠ 35 → i ≠ 36 → i ≠ 37 → i ≠ 41 → i ≠ 42 → N1 i = N i) (f41 : N1 41 = ub_un (N 41) (2 - d) 1) (f42 : N1 42 = ub_un (N 42) (2 - d) 2)
    (J : Inv (fun _ => 0) (fun _ => 0) lo hi C tl N1 (ev_enL lv d x rest))
    (hs : pq_s x = s) (hk : pq_k x ≠ 1) (hlast : pq_p x + 1 = pq_n x)
    (hN2 : ∀ i, i ≠ 4 → i ≠ 5 → i ≠ 6 → i ≠ 8 → i ≠ 15 → i ≠ 16 → i ≠ 45 → i ≠ 46 → N2 i = N1 i) (e16 : N2 16 = ub_un (N 16) s 1)
    (e8 : ∀ t, N2 8 t = if t = s ∧ pq_k x = 2 then 1 else N 8 t) (e45 : ∀ t, t ≠ s → N2 45 t = N 45 t) (g45' : N 45 s ≤ N2 45 s) (p45 : pq_k x = 0 → pq_a x ≤ N 45 s → N 45 s < pq_a x + pq_z x → N 45 s < N2 45 s)
    (e46 : N2 46 = ub_un (N 46) (1 - d) (if s % 2 = 1 ∧ N 16 s = 0 then 0 else N 46 (1 - d))) (hS : ∀ t, t < 4 → si C N2 t)
    (I : Iv0 lo hi C tl N lv) : Iv0 lo hi C tl N2 (ev_enL lv d x rest) ∧ e6 (me tl N2 (ev_enL lv d x rest)) (me tl N lv) := by
  obtain ⟨⟨I1, I2, I3, I4, I5, I6, I7, I8, I9, I10⟩, Ia, Id⟩ := I
  obtain ⟨J1, J2, J3, J4, J5, J6, J7, J8, J9, J10⟩ := J
  obtain ⟨hw, hr, hne, hx1, hx2⟩ := wx d hd
  have L := lk_ph (I1 _ hr) rfl rfl (Or.inl hp)
  have lw : ev_enL lv d x rest (2 - d) = rest := by unfold ev_enL; rw [ul_n (by omega), ul_s]
  have l6 : ev_enL lv d x rest (6 + d) = op_n x := ul_s
  have lo' : ∀ j, j ≠ 2 - d → j ≠ 6 + d → ev_enL lv d x rest j = lv j := fun j a b => by unfold ev_enL; rw [ul_n b, ul_n a]
  have wf : pq_wf d x := by
    have D := I6 d hd
    unfold dr at D
    exact (D.1 x (Or.inl (by rw [hl]; exact List.mem_cons_self ..))).1
  have s4 : s < 4 := by rw [← hs]; exact wf.2.1
  have sd : s / 2 = d := by rw [← hs]; exact wf.2.2.2.2.1 hk
  have g0 := hN 0 (by decide) (by decide) (by decide) (by decide) (by decide) (by decide) (by decide) (by decide) (by decide) (by decide)
  have g1 := hN 1 (by decide) (by decide) (by decide) (by decide) (by decide) (by decide) (by decide) (by decide) (by decide) (by decide)
  have g2 := hN 2 (by decide) (by decide) (by decide) (by decide) (by decide) (by decide) (by decide) (by decide) (by decide) (by decide)
  have g3 := hN 3 (by decide) (by decide) (by decide) (by decide) (by decide) (by decide) (by decide) (by decide) (by decide) (by decide)
  have g7 := hN 7 (by decide) (by decide) (by decide) (by decide) (by decide) (by decide) (by decide) (by decide) (by decide) (by decide)
  have g9 := hN 9 (by decide) (by decide) (by decide) (by decide) (by decide) (by decide) (by decide) (by decide) (by decide) (by decide)
  have g10 := hN 10 (by decide) (by decide) (by decide) (by decide) (by decide) (by decide) (by decide) (by decide) (by decide) (by decide)
  have g11 := hN 11 (by decide) (by decide) (by decide) (by decide) (by decide) (by decide) (by decide) (by decide) (by decide) (by decide)
  have g12 := hN 12 (by decide) (by decide) (by decide) (by decide) (by decide) (by decide) (by decide) (by decide) (by decide) (by decide)
  have g13 := hN 13 (by decide) (by decide) (by decide) (by decide) (by decide) (by decide) (by decide) (by decide) (by decide) (by decide)
  have g14 := hN 14 (by decide) (by decide) (by decide) (by decide) (by decide) (by decide) (by decide) (by decide) (by decide) (by decide)
  have g16 := hN 16 (by decide) (by decide) (by decide) (by decide) (by decide) (by decide) (by decide) (by decide) (by decide) (by decide)
  have g22 := hN 22 (by decide) (by decide) (by decide) (by decide) (by decide) (by decide) (by decide) (by decide) (by decide) (by decide)
  have g23 := hN 23 (by decide) (by decide) (by decide) (by decide) (by decide) (by decide) (by decide) (by decide) (by decide) (by decide)
  have g25 := hN 25 (by decide) (by decide) (by decide) (by decide) (by decide) (by decide) (by decide) (by decide) (by decide) (by decide)
  have g26 := hN 26 (by decide) (by decide) (by decide) (by decide) (by decide) (by decide) (by decide) (by decide) (by decide) (by decide)
  have g27 := hN 27 (by decide) (by decide) (by decide) (by decide) (by decide) (by decide) (by decide) (by decide) (by decide) (by decide)
  have g28 := hN 28 (by decide) (by decide) (by decide) (by decide) (by decide) (by decide) (by decide) (by decide) (by decide) (by decide)
  have g29 := hN 29 (by decide) (by decide) (by decide) (by decide) (by decide) (by decide) (by decide) (by decide) (by decide) (by decide)
  have g30 := hN 30 (by decide) (by decide) (by decide) (by decide) (by decide) (by decide) (by decide) (by decide) (by decide) (by decide)
  have g31 := hN 31 (by decide) (by decide) (by decide) (by decide) (by decide) (by decide) (by decide) (by decide) (by decide) (by decide)
  have g32 := hN 32 (by decide) (by decide) (by decide) (by decide) (by decide) (by decide) (by decide) (by decide) (by decide) (by decide)
  have g33 := hN 33 (by decide) (by decide) (by decide) (by decide) (by decide) (by decide) (by decide) (by decide) (by decide) (by decide)
  have g34 := hN 34 (by decide) (by decide) (by decide) (by decide) (by decide) (by decide) (by decide) (by decide) (by decide) (by decide)
  have g40 := hN 40 (by decide) (by decide) (by decide) (by decide) (by decide) (by decide) (by decide) (by decide) (by decide) (by decide)
  have g43 := hN 43 (by decide) (by decide) (by decide) (by decide) (by decide) (by decide) (by decide) (by decide) (by decide) (by decide)
  have g44 := hN 44 (by decide) (by decide) (by decide) (by decide) (by decide) (by decide) (by decide) (by decide) (by decide) (by decide)
  have g45 := hN 45 (by decide) (by decide) (by decide) (by decide) (by decide) (by decide) (by decide) (by decide) (by decide) (by decide)
  have g46 := hN 46 (by decide) (by decide) (by decide) (by decide) (by decide) (by decide) (by decide) (by decide) (by decide) (by decide)
  have g47 := hN 47 (by decide) (by decide) (by decide) (by decide) (by decide) (by decide) (by decide) (by decide) (by decide) (by decide)
  have g48 := hN 48 (by decide) (by decide) (by decide) (by decide) (by decide) (by decide) (by decide) (by decide) (by decide) (by decide)
  have g49 := hN 49 (by decide) (by decide) (by decide) (by decide) (by decide) (by decide) (by decide) (by decide) (by decide) (by decide)
  have g50 := hN 50 (by decide) (by decide) (by decide) (by decide) (by decide) (by decide) (by decide) (by decide) (by decide) (by decide)
  have g8 := hN 8 (by decide) (by decide) (by decide) (by decide) (by decide) (by decide) (by decide) (by decide) (by decide) (by decide)
  have h0 := hN2 0 (by decide) (by decide) (by decide) (by decide) (by decide) (by decide) (by decide) (by decide)
  have h1 := hN2 1 (by decide) (by decide) (by decide) (by decide) (by decide) (by decide) (by decide) (by decide)
  have h2 := hN2 2 (by decide) (by decide) (by decide) (by decide) (by decide) (by decide) (by decide) (by decide)
  have h3 := hN2 3 (by decide) (by decide) (by decide) (by decide) (by decide) (by decide) (by decide) (by decide)
  have h7 := hN2 7 (by decide) (by decide) (by decide) (by decide) (by decide) (by decide) (by decide) (by decide)
  have h9 := hN2 9 (by decide) (by decide) (by decide) (by decide) (by decide) (by decide) (by decide) (by decide)
  have h10 := hN2 10 (by decide) (by decide) (by decide) (by decide) (by decide) (by decide) (by decide) (by decide)
  have h11 := hN2 11 (by decide) (by decide) (by decide) (by decide) (by decide) (by decide) (by decide) (by decide)
  have h12 := hN2 12 (by decide) (by decide) (by decide) (by decide) (by decide) (by decide) (by decide) (by decide)
  have h13 := hN2 13 (by decide) (by decide) (by decide) (by decide) (by decide) (by decide) (by decide) (by decide)
  have h14 := hN2 14 (by decide) (by decide) (by decide) (by decide) (by decide) (by decide) (by decide) (by decide)
  have h17 := hN2 17 (by decide) (by decide) (by decide) (by decide) (by decide) (by decide) (by decide) (by decide)
  have h18 := hN2 18 (by decide) (by decide) (by decide) (by decide) (by decide) (by decide) (by decide) (by decide)
  have h19 := hN2 19 (by decide) (by decide) (by decide) (by decide) (by decide) (by decide) (by decide) (by decide)
  have h20 := hN2 20 (by decide) (by decide) (by decide) (by decide) (by decide) (by decide) (by decide) (by decide)
  have h21 := hN2 21 (by decide) (by decide) (by decide) (by decide) (by decide) (by decide) (by decide) (by decide)
  have h22 := hN2 22 (by decide) (by decide) (by decide) (by decide) (by decide) (by decide) (by decide) (by decide)
  have h23 := hN2 23 (by decide) (by decide) (by decide) (by decide) (by decide) (by decide) (by decide) (by decide)
  have h25 := hN2 25 (by decide) (by decide) (by decide) (by decide) (by decide) (by decide) (by decide) (by decide)
  have h26 := hN2 26 (by decide) (by decide) (by decide) (by decide) (by decide) (by decide) (by decide) (by decide)
  have h27 := hN2 27 (by decide) (by decide) (by decide) (by decide) (by decide) (by decide) (by decide) (by decide)
  have h28 := hN2 28 (by decide) (by decide) (by decide) (by decide) (by decide) (by decide) (by decide) (by decide)
  have h29 := hN2 29 (by decide) (by decide) (by decide) (by decide) (by decide) (by decide) (by decide) (by decide)
  have h30 := hN2 30 (by decide) (by decide) (by decide) (by decide) (by decide) (by decide) (by decide) (by decide)
  have h31 := hN2 31 (by decide) (by decide) (by decide) (by decide) (by decide) (by decide) (by decide) (by decide)
  have h32 := hN2 32 (by decide) (by decide) (by decide) (by decide) (by decide) (by decide) (by decide) (by decide)
  have h33 := hN2 33 (by decide) (by decide) (by decide) (by decide) (by decide) (by decide) (by decide) (by decide)
  have h34 := hN2 34 (by decide) (by decide) (by decide) (by decide) (by decide) (by decide) (by decide) (by decide)
  have h35 := hN2 35 (by decide) (by decide) (by decide) (by decide) (by decide) (by decide) (by decide) (by decide)
  have h36 := hN2 36 (by decide) (by decide) (by decide) (by decide) (by decide) (by decide) (by decide) (by decide)
  have h40 := hN2 40 (by decide) (by decide) (by decide) (by decide) (by decide) (by decide) (by decide) (by decide)
  have h41 := hN2 41 (by decide) (by decide) (by decide) (by decide) (by decide) (by decide) (by decide) (by decide)
  have h42 := hN2 42 (by decide) (by decide) (by decide) (by decide) (by decide) (by decide) (by decide) (by decide)
  have h43 := hN2 43 (by decide) (by decide) (by decide) (by decide) (by decide) (by decide) (by decide) (by decide)
  have h44 := hN2 44 (by decide) (by decide) (by decide) (by decide) (by decide) (by decide) (by decide) (by decide)
  have h47 := hN2 47 (by decide) (by decide) (by decide) (by decide) (by decide) (by decide) (by decide) (by decide)
  have h48 := hN2 48 (by decide) (by decide) (by decide) (by decide) (by decide) (by decide) (by decide) (by decide)
  have h49 := hN2 49 (by decide) (by decide) (by decide) (by decide) (by decide) (by decide) (by decide) (by decide)
  have h50 := hN2 50 (by decide) (by decide) (by decide) (by decide) (by decide) (by decide) (by decide) (by decide)
  have q16 : ∀ t, t ≠ s → N2 16 t = N 16 t := fun t ht => by rw [e16, ub_n ht]
  have q16s : N2 16 s = 1 := by rw [e16, ub_s]
  have a16 := (I5 s s4).2.1.2.2.2.2.1
  have hX : tm_ok tl N s (1 + tm_a N d) := by
    have T : tm_d tl N lv d := by
      rcases (by omega : d = 0 ∨ d = 1) with rfl | rfl
      · exact I7.1
      · exact I7.2.1
    unfold tm_d at T
    rw [hl, hdel, L.2.2.2.1] at T
    have z := T.1.1 hlast
    rw [if_neg hk, hs] at z
    exact z
  have cns : ∀ t, cn t (lv 0) + cn t (lv 1) + cn t (lv 2) + cn t (lv 3) + cn t (lv 4) + cn t (lv 5) = cn t (ev_enL lv d x rest 0) + cn t (ev_enL lv d x rest 1) + cn t (ev_enL lv d x rest 2) + cn t (ev_enL lv d x rest 3) + cn t (ev_enL lv d x rest 4) + cn t (ev_enL lv d x rest 5) + (if pq_s x = t then 1 else 0) := by
    intro t
    have c1 : cn t (lv (2 - d)) = cn t (ev_enL lv d x rest (2 - d)) + (if pq_s x = t then 1 else 0) := by
      rw [lw, hl]
      show (if _ then 1 else 0) + cn t rest = _
      by_cases q : pq_s x = t
      · rw [if_pos ⟨hlast, q⟩, if_pos q]; omega
      · rw [if_neg (fun h => q h.2), if_neg q]; omega
    rcases (by omega : d = 0 ∨ d = 1) with rfl | rfl
    · rw [lo' 0 (by decide) (by decide), lo' 1 (by decide) (by decide), lo' 3 (by decide) (by decide), lo' 4 (by decide) (by decide), lo' 5 (by decide) (by decide)]
      have c1' : cn t (lv 2) = cn t (ev_enL lv 0 x rest 2) + (if pq_s x = t then 1 else 0) := c1
      omega
    · rw [lo' 0 (by decide) (by decide), lo' 2 (by decide) (by decide), lo' 3 (by decide) (by decide), lo' 4 (by decide) (by decide), lo' 5 (by decide) (by decide)]
      have c1' : cn t (lv 1) = cn t (ev_enL lv 1 x rest 1) + (if pq_s x = t then 1 else 0) := c1
      omega
  have e0s : ∀ t, e0 t (lv 0) + e0 t (lv 1) + e0 t (lv 2) + e0 t (lv 3) + e0 t (lv 4) + e0 t (lv 5) = e0 t (ev_enL lv d x rest 0) + e0 t (ev_enL lv d x rest 1) + e0 t (ev_enL lv d x rest 2) + e0 t (ev_enL lv d x rest 3) + e0 t (ev_enL lv d x rest 4) + e0 t (ev_enL lv d x rest 5) + (if pq_s x = t ∧ pq_k x ≠ 2 then 1 else 0) := by
    intro t
    have c1 : e0 t (lv (2 - d)) = e0 t (ev_enL lv d x rest (2 - d)) + (if pq_s x = t ∧ pq_k x ≠ 2 then 1 else 0) := by
      rw [lw, hl]
      show (if _ then 1 else 0) + e0 t rest = _
      by_cases q : pq_s x = t ∧ pq_k x ≠ 2
      · rw [if_pos ⟨hlast, q.1, q.2, fun c => absurd c hk⟩, if_pos q]; omega
      · rw [if_neg (fun h => q ⟨h.2.1, h.2.2.1⟩), if_neg q]; omega
    rcases (by omega : d = 0 ∨ d = 1) with rfl | rfl
    · rw [lo' 0 (by decide) (by decide), lo' 1 (by decide) (by decide), lo' 3 (by decide) (by decide), lo' 4 (by decide) (by decide), lo' 5 (by decide) (by decide)]
      have c1' : e0 t (lv 2) = e0 t (ev_enL lv 0 x rest 2) + (if pq_s x = t ∧ pq_k x ≠ 2 then 1 else 0) := c1
      omega
    · rw [lo' 0 (by decide) (by decide), lo' 2 (by decide) (by decide), lo' 3 (by decide) (by decide), lo' 4 (by decide) (by decide), lo' 5 (by decide) (by decide)]
      have c1' : e0 t (lv 1) = e0 t (ev_enL lv 1 x rest 1) + (if pq_s x = t ∧ pq_k x ≠ 2 then 1 else 0) := c1
      omega
  have le45 : ∀ t, N1 45 t ≤ N2 45 t := by
    intro t
    rw [g45]
    by_cases e : t = s
    · rw [e]; exact g45'
    · rw [e45 t e]; exact Nat.le_refl _
  refine ⟨⟨⟨?_, ?_, ?_, ?_, hS, ?_, ?_, ?_, ?_, I10⟩, ?_, ?_⟩, ?_⟩
  · exact fun v hv => lk_cg (N := N1) (by rw [h25]) (by rw [h26]) (by rw [h32]) (by rw [h33]) (by rw [h34]) (by rw [h35]) (by rw [h36]) (by rw [h40]) (by rw [h41]) (by rw [h42]) rfl rfl rfl (J1 v hv)
  · exact fun v hv => fr_cg (N := N1) h30 h31 h49 (by rw [h32]) (by rw [h41]) (by rw [h42]) (by rw [h32]) (by rw [h42]) [] (List.append_nil _).symm (J2 v hv)
  · exact fun v hv => qo_cg (N := N1) h27 h28 h49 (by rw [h25]) (by rw [h41]) rfl (J3 v hv)
  · exact fun d' hd' => jo_cg (N := N1) h18 h19 h20 h21 h49 rfl (J4 d' hd')
  · intro d' hd'
    have D := J6 d' hd'
    unfold dr tk_ok at D ⊢
    obtain ⟨a1, a2, a3, a4, a5, a6, a7, a8, a9, a10, a11, a12, a13, a14⟩ := D
    rw [h48, h44, h11, h50, h7, h43, h22, h23, h26]
    refine ⟨?_, a2, a3, a4, a5, a6, a7, a8, a9, a10, ak_hi (le45 _) a11, ak_hi (le45 _) a12, ?_, a14⟩
    · intro y hy
      obtain ⟨b1, b2, b3, b4⟩ := a1 y hy
      refine ⟨b1, b2, b3, fun c1 c2 => ?_⟩
      obtain ⟨c3, c4⟩ := b4 c1 c2
      rw [g8] at c3
      refine ⟨?_, c4⟩
      rw [e8]
      split
      · rfl
      · exact c3
    · rw [g16, g46] at a13
      intro c
      rw [e46]
      by_cases e : 3 - 2 * d' = s
      · have ed : d' = 1 - d := by omega
        have so : s % 2 = 1 := by omega
        rw [ed, ub_s]
        by_cases z : N 16 s = 0
        · rw [if_pos ⟨so, z⟩]
          exact ⟨_, [], (List.append_nil _).symm, rfl, fun y hy => absurd hy (List.not_mem_nil)⟩
        · rw [if_neg (fun h => z h.2)]
          have := a13 (by rw [e]; omega)
          rw [ed] at this
          exact this
      · rw [q16 _ e] at c
        have := a13 c
        by_cases ed : d' = 1 - d
        · rw [ed, ub_s, if_neg (by intro h; apply e; omega)]
          rw [ed] at this
          exact this
        · rw [ub_n ed]; exact this
  · have hk2 : tm_ok tl N2 = tm_ok tl N := by
      funext s g
      unfold tm_ok
      rw [h47, h11, h12, g47, g11, g12]
    have hk1 : tm_ok tl N1 = tm_ok tl N := by
      funext s g
      unfold tm_ok
      rw [g47, g11, g12]
    have all : ∀ d', d' < 2 → tm_d tl N1 (ev_enL lv d x rest) d' → tm_d tl N2 (ev_enL lv d x rest) d' := by
      intro d' hd' T
      unfold tm_d tm_a at T ⊢
      rw [hk2, h40, h41, h26]
      rw [hk1] at T
      have c6 : N 26 (3 * d') ≤ 6 := by
        have D := I6 d' hd'
        unfold dr at D
        exact D.2.2.2.2.2.2.2.2.2.1
      refine ⟨T.1, T.2.1, T.2.2.1, ?_, ?_⟩
      · intro c
        by_cases e : 2 - 2 * d' = s
        · rw [e]
          refine tm_anti ?_ hX
          rw [g40, g26]
          have ed : d' = 1 - d := by omega
          unfold tm_a
          rw [ed] at c6 ⊢
          rw [show 3 * (1 - d) = 3 - 3 * d by omega] at c6 ⊢
          rw [show 2 - (1 - d) = 1 + d by omega]
          omega
        · rw [q16 _ e, ← g16] at c
          exact T.2.2.2.1 c
      · intro c
        by_cases e : 3 - 2 * d' = s
        · have ed : d' = 1 - d := by omega
          have so : s % 2 = 1 := by omega
          by_cases z : N 16 s = 0
          · rw [e]
            refine tm_anti ?_ hX
            rw [g40, g26]
            unfold tm_a
            rw [ed] at c6 ⊢
            rw [show 3 * (1 - d) = 3 - 3 * d by omega] at c6 ⊢
            rw [show 2 - (1 - d) = 1 + d by omega]
            omega
          · have t5 := T.2.2.2.2 (by rw [g16, e]; omega)
            rw [e46, ed, ub_s, if_neg (fun h => z h.2)]
            rw [g46, ed] at t5
            exact t5
        · rw [q16 _ e, ← g16] at c
          have t5 := T.2.2.2.2 c
          rw [e46]
          by_cases ed : d' = 1 - d
          · rw [ed, ub_s, if_neg (by intro h; apply e; omega)]
            rw [ed, g46] at t5
            exact t5
          · rw [ub_n ed]
            rw [g46] at t5
            exact t5
    refine ⟨all 0 (by omega) J7.1, all 1 (by omega) J7.2.1, ?_⟩
    rw [h40]; exact J7.2.2
  · intro t ht
    have k := I8 t ht
    unfold kb kb_k kb_u sx_lim at k ⊢
    rw [h1, h7, h10, h12, h14, h47, g1, g7, g10, g12, g14, g47]
    have c := cns t
    have c16 : N2 16 t ≤ N 16 t + (if pq_s x = t then 1 else 0) := by
      by_cases e : t = s
      · rw [e, q16s, hs, if_pos rfl]; omega
      · rw [q16 t e]; omega
    generalize (if 0 < N 1 t then if N 12 t = 0 then if N 47 t = 0 then 1 else 0 else ((if N 12 t - 1 ≤ N 1 t then N 12 t - 1 else N 1 t) - N 10 t + 3) / 4 else if N 7 t = 0 ∨ N 14 t ≠ 0 then 0 else if N 47 t = 0 then 1 else 0) = u at *
    exact ⟨by omega, fun c => by have := k.2 c; omega⟩
  · obtain ⟨r1, r2, r3, r4⟩ := J9
    exact ⟨by rw [h28]; exact r1, by rw [h27]; exact r2, r3, by rw [h29]; exact r4⟩
  · rw [h47, h13, g47, g13]; exact Ia
  · intro d' hd'
    have D := Id d' hd'
    unfold du at D ⊢
    rw [h42, f42, h26, g26, e46, e16]
    have n3 : 3 * d' ≠ 2 - d := by rcases (by omega : d = 0 ∨ d = 1) with rfl | rfl <;> omega
    rw [ub_n n3]
    intro q
    refine D ?_
    by_cases ed : d' = 1 - d
    · have e1 : 1 + d' = 2 - d := by omega
      rw [e1, ub_s] at q
      rw [e1]
      have ss : s = 2 - 2 * d' ∨ s = 3 - 2 * d' := by omega
      rcases q with q | q | q
      · exact absurd q.1 (by decide)
      · rcases ss with e | e
        · have q2 := q.2
          rw [ub_n (by omega)] at q2
          exact Or.inl ⟨hp, Or.inr q2⟩
        · have q2 := q.1
          rw [ub_n (by omega)] at q2
          exact Or.inl ⟨hp, Or.inl q2⟩
      · rw [ed, ub_s] at q
        rcases ss with e | e
        · have q2 := q.1
          rw [← ed, ub_n (by omega)] at q2
          exact Or.inl ⟨hp, Or.inr q2⟩
        · by_cases z : N 16 s = 0
          · have := q.2
            rw [if_pos ⟨by omega, z⟩] at this
            omega
          · exact Or.inl ⟨hp, Or.inr (by rw [← e]; omega)⟩
    · have e1 : 1 + d' ≠ 2 - d := by omega
      rw [ub_n e1, ub_n ed, ub_n (by omega), ub_n (by omega)] at q
      exact q
  · have hset : ∀ t, sx_set N2 t = sx_set N t := by
      intro t
      unfold sx_set
      rw [h1, h12, h7, h14, g1, g12, g7, g14]
    have mono : ∀ t, t < 4 → pt N lv t → pt N2 (ev_enL lv d x rest) t := by
      intro t ht p
      have own : ∀ y, inA y (lv (6 + d)) (lv (2 - d) ++ lv (3 * d)) → y = x ∨ inA y (ev_enL lv d x rest (6 + d)) (ev_enL lv d x rest (2 - d) ++ ev_enL lv d x rest (3 * d)) := by
        intro y hy
        rw [hl] at hy
        rw [lw, l6, lo' (3 * d) (by omega) (by omega)]
        rcases hy with ⟨e, _⟩ | hy
        · exact Or.inl e
        · exact Or.inr hy
      have other : ∀ d', d' < 2 → d' ≠ d → (ev_enL lv d x rest (6 + d') = lv (6 + d') ∧ ev_enL lv d x rest (2 - d') = lv (2 - d') ∧ ev_enL lv d x rest (3 * d') = lv (3 * d')) := by
        intro d' hd' e
        have n1 : 2 - d' ≠ 2 - d ∧ 3 * d' ≠ 2 - d := by
          rcases (by omega : d = 0 ∨ d = 1) with rfl | rfl <;> omega
        exact ⟨lo' _ (by omega) (by omega), lo' _ n1.1 (by omega), lo' _ n1.2 (by omega)⟩
      have acks : ∀ y d', d' < 2 → inA y (lv (6 + d')) (lv (2 - d') ++ lv (3 * d')) → pt_ack N t y → inA y (ev_enL lv d x rest (6 + d')) (ev_enL lv d x rest (2 - d') ++ ev_enL lv d x rest (3 * d')) := by
        intro y d' hd' hy hpa
        by_cases e : d' = d
        · subst e
          rcases own y hy with z | z
          · rw [z] at hpa; exact absurd hpa (pt_x hk t)
          · exact z
        · obtain ⟨o1, o2, o3⟩ := other d' hd' e
          rw [o1, o2, o3]; exact hy
      have pa : ∀ y, pt_ack N t y → pt_ack N2 t y := by
        intro y h
        unfold pt_ack at h ⊢
        rw [h12, h1, h44, g12, g1, g44]; exact h
      have po : ∀ y, pt_own N t y → pt_own N2 t y := by
        intro y h
        unfold pt_own at h ⊢
        rw [h12, h1, h44, g12, g1, g44]
        refine ⟨h.1, h.2.1, ?_⟩
        rcases h.2.2 with c | c | c
        · exact Or.inl c
        · exact Or.inr (Or.inl c)
        · refine Or.inr (Or.inr ⟨c.1, c.2.1, ?_⟩)
          have l45 := le45 t
          rw [g45] at l45
          have f45 := (I5 t ht).1.2.2.2.2.2.2.2.2.2.1
          omega
      unfold pt at p ⊢
      rw [hset]
      rcases p with p | p | p | ⟨y, p, q⟩ | ⟨y, p, q⟩
      · exact Or.inl p
      · refine Or.inr (Or.inl ?_)
        rw [h12, h1, h10, g12, g1, g10]; exact p
      · refine Or.inr (Or.inr (Or.inl ?_))
        unfold pt_due at p ⊢
        rw [h12, h1, h44, g12, g1, g44]
        refine ⟨?_, ?_⟩
        · by_cases e : t = s
          · rw [e]; exact q16s
          · rw [q16 t e]; exact p.1
        · rcases p.2 with c | c | c
          · exact Or.inl c
          · refine Or.inr (Or.inl ⟨c.1, ?_⟩)
            rw [e8]
            split
            · rfl
            · exact c.2
          · have l45 := le45 t
            rw [g45] at l45
            exact Or.inr (Or.inr ⟨c.1, by omega⟩)
      · by_cases e : t / 2 = d
        · rw [e] at p ⊢
          rcases own y p with z | z
          · subst z
            have ts : t = s := by rw [← hs]; exact q.2.1.symm
            subst ts
            refine Or.inr (Or.inr (Or.inl ?_))
            unfold pt_due
            rw [h12, h1, h44, g12, g1, g44]
            refine ⟨q16s, ?_⟩
            rcases q.2.2 with c | c | c
            · exact Or.inl c
            · exact Or.inr (Or.inl ⟨c.1, by rw [e8, if_pos ⟨rfl, c.2⟩]⟩)
            · refine Or.inr (Or.inr ⟨c.1, ?_⟩)
              have f45 := (I5 t ht).1.2.2.2.2.2.2.2.2.2.1
              rcases c.2.2 with c3 | c3
              · omega
              · have := p45 c.2.1 c3.1 c3.2; omega
          · exact Or.inr (Or.inr (Or.inr (Or.inl ⟨y, z, po y q⟩)))
        · obtain ⟨o1, o2, o3⟩ := other (t / 2) (by omega) e
          refine Or.inr (Or.inr (Or.inr (Or.inl ⟨y, ?_, po y q⟩)))
          rw [o1, o2, o3]; exact p
      · refine Or.inr (Or.inr (Or.inr (Or.inr ⟨y, ?_, pa y q⟩)))
        have z := acks y (1 - t / 2) (by omega) (by
          rw [show 6 + (1 - t / 2) = 7 - t / 2 by omega, show 2 - (1 - t / 2) = 1 + t / 2 by omega, show 3 * (1 - t / 2) = 3 - 3 * (t / 2) by omega]; exact p) q
        rw [show 6 + (1 - t / 2) = 7 - t / 2 by omega, show 2 - (1 - t / 2) = 1 + t / 2 by omega, show 3 * (1 - t / 2) = 3 - 3 * (t / 2) by omega] at z
        exact z
    have hmd : m_d N2 = m_d N := by
      unfold m_d
      rw [h26, h40, h41, g26, g40, f41]
      rcases (by omega : d = 0 ∨ d = 1) with rfl | rfl
      · rfl
      · rfl
    have hml : m_l N2 = m_l N := by
      unfold m_l m_ls
      rw [h50, h49, h44, h12, h14, g50, g49, g44, g12, g14]
    rcases mr_cmp mono with c | ⟨c, pe⟩
    · exact Or.inr ⟨rfl, Or.inr ⟨hmd, Or.inr ⟨hml, Or.inl c⟩⟩⟩
    · have hq : ∀ t, t < 4 → m_qs N2 (ev_enL lv d x rest) t ≤ m_qs N lv t := by
        intro t ht
        have hpe := pe t ht
        have ee := e0s t
        have e1 : bq (N2 1 t = 0 ∧ N2 7 t = 1 ∧ N2 14 t = 0 ∧ N2 47 t = 0 ∧ pt N2 (ev_enL lv d x rest) t) = bq (N 1 t = 0 ∧ N 7 t = 1 ∧ N 14 t = 0 ∧ N 47 t = 0 ∧ pt N lv t) := by
          rw [h1, h7, h14, h47, g1, g7, g14, g47, propext hpe]
        have e2 : sx_lim N2 t = sx_lim N t := by unfold sx_lim; rw [h12, h1, g12, g1]
        unfold m_qs m_e
        rw [e1, e2, h10, g10]
        have dd : (if N2 16 t = 1 ∧ N2 8 t = 0 then 1 else 0) ≤ (if N 16 t = 1 ∧ N 8 t = 0 then 1 else 0) + (if pq_s x = t ∧ pq_k x ≠ 2 then 1 else 0) := by
          by_cases e : t = s
          · subst e
            by_cases k2 : pq_k x = 2
            · have e81 : N2 8 t = 1 := by rw [e8, if_pos ⟨rfl, k2⟩]
              have b1 : (if N2 16 t = 1 ∧ N2 8 t = 0 then 1 else 0) = 0 := if_neg (fun h => by have := h.2; omega)
              rw [b1]; exact Nat.zero_le _
            · have a1 : (if pq_s x = t ∧ pq_k x ≠ 2 then 1 else 0) = 1 := if_pos ⟨hs, k2⟩
              have b1 : (if N2 16 t = 1 ∧ N2 8 t = 0 then 1 else 0) ≤ 1 := by split <;> decide
              rw [a1]; exact Nat.le_trans b1 (Nat.le_add_left _ _)
          · have e8t : N2 8 t = N 8 t := by rw [e8, if_neg (fun h => e h.1)]
            rw [q16 t e, e8t]; exact Nat.le_add_right _ _
        omega
      have q0 := hq 0 (by omega)
      have q1 := hq 1 (by omega)
      have q2 := hq 2 (by omega)
      have q3 := hq 3 (by omega)
      have hqq : m_q N2 (ev_enL lv d x rest) ≤ m_q N lv := by unfold m_q; omega
      have hpp : m_p N2 (ev_enL lv d x rest) ≤ m_p N lv := by
        have c1 : wg 1 7 (ev_enL lv d x rest (2 - d)) + 7 = wg 1 7 (lv (2 - d)) := by
          rw [lw, hl]
          show wg 1 7 rest + 7 = (if pq_k x = 1 then 1 else 7) + wg 1 7 rest
          rw [if_neg hk]; omega
        have sum16 : N2 16 0 + N2 16 1 + N2 16 2 + N2 16 3 ≤ N 16 0 + N 16 1 + N 16 2 + N 16 3 + 1 := by
          rcases (by omega : s = 0 ∨ s = 1 ∨ s = 2 ∨ s = 3) with e | e | e | e
          · rw [q16 1 (by omega), q16 2 (by omega), q16 3 (by omega), ← e, q16s]; omega
          · rw [q16 0 (by omega), q16 2 (by omega), q16 3 (by omega), ← e, q16s]; omega
          · rw [q16 0 (by omega), q16 1 (by omega), q16 3 (by omega), ← e, q16s]; omega
          · rw [q16 0 (by omega), q16 1 (by omega), q16 2 (by omega), ← e, q16s]; omega
        unfold m_p
        rw [h26, h40, h47, g26, g40, g47]
        rcases (by omega : d = 0 ∨ d = 1) with rfl | rfl
        · rw [lo' 0 (by decide) (by decide), lo' 1 (by decide) (by decide), lo' 3 (by decide) (by decide)]
          have c1' : wg 1 7 (ev_enL lv 0 x rest 2) + 7 = wg 1 7 (lv 2) := c1
          omega
        · rw [lo' 0 (by decide) (by decide), lo' 2 (by decide) (by decide), lo' 3 (by decide) (by decide)]
          have c1' : wg 1 7 (ev_enL lv 1 x rest 1) + 7 = wg 1 7 (lv 1) := c1
          omega
      refine Or.inr ⟨rfl, Or.inr ⟨hmd, Or.inr ⟨hml, Or.inr ⟨c, ?_⟩⟩⟩⟩
      show m_q N2 _ < m_q N lv ∨ m_q N2 _ = m_q N lv ∧ m_p N2 _ ≤ m_p N lv
      omega
end
section
/-! an acknowledgement has come -/
theorem tm_bd {P P' : Nat → Nat → Prop} {ap s : Nat} (hne : ∀ t h, t ≠ s → P t h → P' t h) {l : List Pc} : ∀ {g : Nat}, ((∀ h, P s h → P' s h) ∨ (∀ h, h + 2 ≤ g + 2 * l.length + ap → P' s h)) → tm_l P ap g l → tm_l P' ap g l := by
  induction l with
  | nil => exact fun _ _ => trivial
  | cons x r ih =>
    intro g hs h
    refine ⟨fun q => ?_, ih ?_ h.2⟩
    · have z := h.1 q
      by_cases e : pq_s x = s
      · rw [e] at z ⊢
        rcases hs with hs | hs
        · exact hs _ z
        · refine hs _ ?_
          rw [List.length_cons]
          split <;> omega
      · exact hne _ _ e z
    · rcases hs with hs | hs
      · exact Or.inl hs
      · refine Or.inr (fun h' c => hs h' ?_)
        rw [List.length_cons]
        omega
theorem tm_mx (v : Nat) : max v 2 = (v - 2) + 2 := by omega
theorem tm_n1 {tl a b c e : Nat} (h : 5 * tl + (a - 2) + (b - 2) + (c - 2) + (e - 2) ≤ 100) : 5 * tl + (a + 12 + max b 2 + 5 + (max c 2 + max e 2 + 22)) ≤ 151 := by
  rw [tm_mx, tm_mx, tm_mx]
  omega
theorem tm_n2 {tl a b c e : Nat} (h : 5 * tl + (a - 2) + (b - 2) + (c - 2) + (e - 2) ≤ 100) : 5 * tl + (b + 8 + (max c 2 + max e 2 + 22)) ≤ 151 := by
  rw [tm_mx, tm_mx]
  omega
theorem tm_n3 {tl a b c e q v : Nat} (h : 5 * tl + (a - 2) + (b - 2) + (c - 2) + (e - 2) ≤ 100) (hq : q ≤ 6) (hv : v ≤ 3) : 5 * tl + (a + 2 * q + max b 2 + 5 + 2 * v) ≤ 149 := by
  rw [tm_mx]
  omega
theorem dd_eq {d d' k : Nat} (hd : d < 2) (hd' : d' < 2) (h : k = 1 - d) (h' : k = 1 - d') : d' = d := by omega
theorem tm_s {tl s : Nat} {N N' : Nat → Nat → Nat} {lv : Lv} (h40 : N' 40 = N 40) (h41 : N' 41 = N 41) (h26 : N' 26 = N 26) (h16 : N' 16 = N 16) (h46 : N' 46 = N 46) (hne : ∀ t h, t ≠ s → tm_ok tl N t h → tm_ok tl N' t h)
    (hs : (∀ h, tm_ok tl N s h → tm_ok tl N' s h) ∨ (∀ h, 5 * tl + h ≤ 149 → tm_ok tl N' s h)) (hlen : ∀ w, w < 4 → N 26 w = N 41 w + (lv w).length) (c4 : N 26 1 ≤ 4 ∧ N 26 2 ≤ 4) (c6 : N 26 0 ≤ 6 ∧ N 26 3 ≤ 6) (T : tm tl N lv) : tm tl N' lv := by
  have st := T.2.2
  have z0 := hlen 0 (by omega)
  have z1 := hlen 1 (by omega)
  have z2 := hlen 2 (by omega)
  have z3 := hlen 3 (by omega)
  have any : ∀ (t h : Nat), (5 * tl + h ≤ 149) → tm_ok tl N t h → tm_ok tl N' t h := by
    intro t h hb k
    by_cases e : t = s
    · rw [e] at k ⊢
      rcases hs with hs | hs
      · exact hs h k
      · exact hs h hb
    · exact hne t h e k
  have half : ∀ {B : Nat}, 5 * tl + B ≤ 151 → ∀ {g ap : Nat} {l : List Pc}, g + 2 * l.length + ap ≤ B → tm_l (tm_ok tl N) ap g l → tm_l (tm_ok tl N') ap g l := by
    intro B hB g ap l hb k
    refine tm_bd hne ?_ k
    rcases hs with hs | hs
    · exact Or.inl hs
    · exact Or.inr (fun h c => hs h (by omega))
  unfold tm tm_d tm_a at T ⊢
  rw [h40, h41, h26, h16, h46]
  obtain ⟨⟨a1, a2, a3, a4, a5⟩, ⟨b1, b2, b3, b4, b5⟩, _⟩ := T
  refine ⟨⟨?_, ?_, fun x hx => any _ _ ?_ (a3 x hx), fun c => any _ _ ?_ (a4 c), fun c => any _ _ ?_ (a5 c)⟩, ⟨?_, ?_, fun x hx => any _ _ ?_ (b3 x hx), fun c => any _ _ ?_ (b4 c), fun c => any _ _ ?_ (b5 c)⟩, st⟩
  · refine half (B := N 40 2 + 8 + (max (N 40 3) 2 + max (N 40 1) 2 + 22)) ?_ ?_ a1
    · exact tm_n2 (a := N 40 0) (by omega)
    · show N 40 2 + 2 * N 41 2 + 2 * (lv 2).length + (max (N 40 3) 2 + max (N 40 1) 2 + 22) ≤ _
      generalize max (N 40 3) 2 + max (N 40 1) 2 + 22 = q
      omega
  · refine half (B := N 40 0 + 12 + max (N 40 2) 2 + 5 + (max (N 40 3) 2 + max (N 40 1) 2 + 22)) ?_ ?_ a2
    · exact tm_n1 (by omega)
    · show N 40 0 + 2 * N 41 0 + max (N 40 2) 2 + 5 + 2 * (lv 0).length + (max (N 40 3) 2 + max (N 40 1) 2 + 22) ≤ _
      generalize max (N 40 3) 2 + max (N 40 1) 2 + 22 = q
      generalize max (N 40 2) 2 = q2
      omega
  · show 5 * tl + (N 40 2 + 1) ≤ 149
    omega
  · exact tm_n3 (a := N 40 0) (b := N 40 2) (c := N 40 1) (e := N 40 3) (q := N 26 0) (v := 0) (by omega) c6.1 (by omega)
  · exact tm_n3 (a := N 40 0) (b := N 40 2) (c := N 40 1) (e := N 40 3) (q := N 26 0) (v := 3 - N 46 0) (by omega) c6.1 (by omega)
  · refine half (B := N 40 1 + 8 + (max (N 40 0) 2 + max (N 40 2) 2 + 22)) ?_ ?_ b1
    · exact tm_n2 (a := N 40 3) (by omega)
    · show N 40 1 + 2 * N 41 1 + 2 * (lv 1).length + (max (N 40 0) 2 + max (N 40 2) 2 + 22) ≤ _
      generalize max (N 40 0) 2 + max (N 40 2) 2 + 22 = q
      omega
  · refine half (B := N 40 3 + 12 + max (N 40 1) 2 + 5 + (max (N 40 0) 2 + max (N 40 2) 2 + 22)) ?_ ?_ b2
    · exact tm_n1 (by omega)
    · show N 40 3 + 2 * N 41 3 + max (N 40 1) 2 + 5 + 2 * (lv 3).length + (max (N 40 0) 2 + max (N 40 2) 2 + 22) ≤ _
      generalize max (N 40 0) 2 + max (N 40 2) 2 + 22 = q
      generalize max (N 40 1) 2 = q2
      omega
  · show 5 * tl + (N 40 1 + 1) ≤ 149
    omega
  · exact tm_n3 (a := N 40 3) (b := N 40 1) (c := N 40 0) (e := N 40 2) (q := N 26 3) (v := 0) (by omega) c6.2 (by omega)
  · exact tm_n3 (a := N 40 3) (b := N 40 1) (c := N 40 0) (e := N 40 2) (q := N 26 3) (v := 3 - N 46 1) (by omega) c6.2 (by omega)
theorem ub_id {f : Nat → Nat} {k v : Nat} (h : v = f k) : ub_un f k v = f := by
  funext j
  unfold ub_un
  split
  · next e => rw [h, e]
  · rfl
theorem kb_ack {K f a OC MS SE AL W O FI FI' CL aw aw' : Nat} (h : K + 1 + (if 0 < OC then (if AL = 0 then (if aw = 0 then 1 else 0) else ((if AL - 1 ≤ OC then AL - 1 else OC) - SE + 3) / 4) else (if CL = 0 ∨ FI ≠ 0 then 0 else if aw = 0 then 1 else 0)) ≤ 3)
    (h0 : AL = 0 → K + 1 + (if 0 < OC then (if AL = 0 then (if aw = 0 then 1 else 0) else ((if AL - 1 ≤ OC then AL - 1 else OC) - SE + 3) / 4) else (if CL = 0 ∨ FI ≠ 0 then 0 else if aw = 0 then 1 else 0)) ≤ 1)
    (ha : f ≤ a) (ham : a ≤ f + MS) (hO : OC + f = O) (hMO : f + MS ≤ O) (hMW : f + MS ≤ W) (hW : W ≤ f + 12) (hS : SE ≤ MS) (hAL : AL = 0 ∧ MS = 0 ∨ AL + f = W + 1 ∧ 1 ≤ AL) :
    K + (if 0 < OC - (a - f) then (if W - a + 1 = 0 then (if aw' = 0 then 1 else 0) else ((if W - a + 1 - 1 ≤ OC - (a - f) then W - a + 1 - 1 else OC - (a - f)) - (SE - (a - f)) + 3) / 4) else (if CL = 0 ∨ FI' ≠ 0 then 0 else if aw' = 0 then 1 else 0)) ≤ 3 := by
  have u1 : (if CL = 0 ∨ FI' ≠ 0 then 0 else if aw' = 0 then 1 else 0) ≤ 1 := by
    split
    · omega
    · split <;> omega
  by_cases c : 0 < OC - (a - f)
  · rw [if_pos c, if_neg (by omega)]
    rw [if_pos (by omega : 0 < OC)] at h h0
    by_cases z : AL = 0
    · rw [if_pos z] at h0
      have := h0 z
      split <;> omega
    · rw [if_neg z] at h
      split at h <;> split <;> omega
  · rw [if_neg c]
    omega
theorem ev_ack {lo hi : Nat → Nat} {C N N1 N2 : Nat → Nat → Nat} {lv : Lv} {tl d s a z wt : Nat} {x : Pc} {rest : List Pc} (hd : d < 2) (hp : N 42 (2 - d) = 1) (hdel : N 41 (2 - d) = 0) (hl : lv (2 - d) = x :: rest)
    (hN : ∀ i, i ≠ 17 → i ≠ 18 → i ≠ 19 → i ≠ 20 → i ≠ 21 → i ≠ 35 → i ≠ 36 → i ≠ 37 → i ≠ 41 → i ≠ 42 → N1 i = N i) (f41 : N1 41 = ub_un (N 41) (2 - d) 1) (f42 : N1 42 = ub_un (N 42) (2 - d) 2)
    (J : Inv (fun _ => 0) (fun _ => 0) lo hi C tl N1 (ev_enL lv d x rest))
    (hs : pq_s x = s) (hk : pq_k x = 1) (hlast : pq_p x + 1 = pq_n x) (ha : pq_a x = a) (hz : pq_z x = z)
    (hN2 : ∀ i, i ≠ 0 → i ≠ 1 → i ≠ 9 → i ≠ 10 → i ≠ 11 → i ≠ 12 → i ≠ 13 → i ≠ 14 → i ≠ 44 → i ≠ 47 → N2 i = N1 i)
    (e1 : N2 1 = ub_un (N 1) s (N 1 s - (a - N 44 s))) (e10 : N2 10 = ub_un (N 10) s (N 10 s - (a - N 44 s))) (e11 : N2 11 = ub_un (N 11) s (N 11 s - (a - N 44 s))) (e12 : N2 12 = ub_un (N 12) s (N 49 s - a + 1)) (e14 : N2 14 = ub_un (N 14) s (if z = 0 then N 14 s else 1)) (e44 : N2 44 = ub_un (N 44) s a)
    (hwt : wt = if 0 < N 11 s - (a - N 44 s) then 150 else if 0 < a - N 44 s ∨ N 1 s - (a - N 44 s) = 0 then 0 else N 13 s) (e13 : N2 13 = ub_un (N 13) s wt) (e47 : N2 47 = ub_un (N 47) s (wt - 1)) (hS : ∀ t, t < 4 → si C N2 t)
    (I : Iv0 lo hi C tl N lv) : Iv0 lo hi C tl N2 (ev_enL lv d x rest) ∧ e6 (me tl N2 (ev_enL lv d x rest)) (me tl N lv) := by
  obtain ⟨⟨I1, I2, I3, I4, I5, I6, I7, I8, I9, I10⟩, Ia, Id⟩ := I
  obtain ⟨J1, J2, J3, J4, J5, J6, J7, J8, J9, J10⟩ := J
  obtain ⟨hw, hr, hne, hx1, hx2⟩ := wx d hd
  have lw : ev_enL lv d x rest (2 - d) = rest := by unfold ev_enL; rw [ul_n (by omega), ul_s]
  have l6 : ev_enL lv d x rest (6 + d) = op_n x := ul_s
  have lo' : ∀ j, j ≠ 2 - d → j ≠ 6 + d → ev_enL lv d x rest j = lv j := fun j a b => by unfold ev_enL; rw [ul_n b, ul_n a]
  have hdr := I6 d hd
  have wfx : pq_wf d x ∧ tk_ok N x := by
    unfold dr at hdr
    exact hdr.1 x (Or.inl (by rw [hl]; exact List.mem_cons_self ..))
  have wf := wfx.1
  have tkx := wfx.2.2.2 hk
  have s4 : s < 4 := by rw [← hs]; exact wf.2.1
  have sd : s / 2 = 1 - d := by rw [← hs]; exact (wf.2.2.2.1 hk).1
  have z1 : z ≤ 1 := by rw [← hz]; exact (wf.2.2.2.1 hk).2
  rw [hz, hs, ha] at tkx
  have akx : ak s (N 45 s) (N 44 s) (x :: (rest ++ lv (3 * d))) := by
    unfold dr at hdr
    have q1 := hdr.2.2.2.2.2.2.2.2.2.2.1
    have q2 := hdr.2.2.2.2.2.2.2.2.2.2.2.1
    rw [hl] at q1 q2
    rcases (by omega : s = 2 - 2 * d ∨ s = 3 - 2 * d) with e | e
    · rw [e]; exact q1
    · rw [e]; exact q2
  have ax := akx.1 ⟨hk, hs⟩
  rw [ha] at ax
  have ale := ak_le ax.2
  have g0 := hN 0 (by decide) (by decide) (by decide) (by decide) (by decide) (by decide) (by decide) (by decide) (by decide) (by decide)
  have g1 := hN 1 (by decide) (by decide) (by decide) (by decide) (by decide) (by decide) (by decide) (by decide) (by decide) (by decide)
  have g2 := hN 2 (by decide) (by decide) (by decide) (by decide) (by decide) (by decide) (by decide) (by decide) (by decide) (by decide)
  have g3 := hN 3 (by decide) (by decide) (by decide) (by decide) (by decide) (by decide) (by decide) (by decide) (by decide) (by decide)
  have g4 := hN 4 (by decide) (by decide) (by decide) (by decide) (by decide) (by decide) (by decide) (by decide) (by decide) (by decide)
  have g5 := hN 5 (by decide) (by decide) (by decide) (by decide) (by decide) (by decide) (by decide) (by decide) (by decide) (by decide)
  have g6 := hN 6 (by decide) (by decide) (by decide) (by decide) (by decide) (by decide) (by decide) (by decide) (by decide) (by decide)
  have g7 := hN 7 (by decide) (by decide) (by decide) (by decide) (by decide) (by decide) (by decide) (by decide) (by decide) (by decide)
  have g8 := hN 8 (by decide) (by decide) (by decide) (by decide) (by decide) (by decide) (by decide) (by decide) (by decide) (by decide)
  have g9 := hN 9 (by decide) (by decide) (by decide) (by decide) (by decide) (by decide) (by decide) (by decide) (by decide) (by decide)
  have g10 := hN 10 (by decide) (by decide) (by decide) (by decide) (by decide) (by decide) (by decide) (by decide) (by decide) (by decide)
  have g11 := hN 11 (by decide) (by decide) (by decide) (by decide) (by decide) (by decide) (by decide) (by decide) (by decide) (by decide)
  have g12 := hN 12 (by decide) (by decide) (by decide) (by decide) (by decide) (by decide) (by decide) (by decide) (by decide) (by decide)
  have g13 := hN 13 (by decide) (by decide) (by decide) (by decide) (by decide) (by decide) (by decide) (by decide) (by decide) (by decide)
  have g14 := hN 14 (by decide) (by decide) (by decide) (by decide) (by decide) (by decide) (by decide) (by decide) (by decide) (by decide)
  have g15 := hN 15 (by decide) (by decide) (by decide) (by decide) (by decide) (by decide) (by decide) (by decide) (by decide) (by decide)
  have g16 := hN 16 (by decide) (by decide) (by decide) (by decide) (by decide) (by decide) (by decide) (by decide) (by decide) (by decide)
  have g22 := hN 22 (by decide) (by decide) (by decide) (by decide) (by decide) (by decide) (by decide) (by decide) (by decide) (by decide)
  have g23 := hN 23 (by decide) (by decide) (by decide) (by decide) (by decide) (by decide) (by decide) (by decide) (by decide) (by decide)
  have g25 := hN 25 (by decide) (by decide) (by decide) (by decide) (by decide) (by decide) (by decide) (by decide) (by decide) (by decide)
  have g26 := hN 26 (by decide) (by decide) (by decide) (by decide) (by decide) (by decide) (by decide) (by decide) (by decide) (by decide)
  have g27 := hN 27 (by decide) (by decide) (by decide) (by decide) (by decide) (by decide) (by decide) (by decide) (by decide) (by decide)
  have g28 := hN 28 (by decide) (by decide) (by decide) (by decide) (by decide) (by decide) (by decide) (by decide) (by decide) (by decide)
  have g29 := hN 29 (by decide) (by decide) (by decide) (by decide) (by decide) (by decide) (by decide) (by decide) (by decide) (by decide)
  have g30 := hN 30 (by decide) (by decide) (by decide) (by decide) (by decide) (by decide) (by decide) (by decide) (by decide) (by decide)
  have g31 := hN 31 (by decide) (by decide) (by decide) (by decide) (by decide) (by decide) (by decide) (by decide) (by decide) (by decide)
  have g32 := hN 32 (by decide) (by decide) (by decide) (by decide) (by decide) (by decide) (by decide) (by decide) (by decide) (by decide)
  have g33 := hN 33 (by decide) (by decide) (by decide) (by decide) (by decide) (by decide) (by decide) (by decide) (by decide) (by decide)
  have g34 := hN 34 (by decide) (by decide) (by decide) (by decide) (by decide) (by decide) (by decide) (by decide) (by decide) (by decide)
  have g40 := hN 40 (by decide) (by decide) (by decide) (by decide) (by decide) (by decide) (by decide) (by decide) (by decide) (by decide)
  have g43 := hN 43 (by decide) (by decide) (by decide) (by decide) (by decide) (by decide) (by decide) (by decide) (by decide) (by decide)
  have g44 := hN 44 (by decide) (by decide) (by decide) (by decide) (by decide) (by decide) (by decide) (by decide) (by decide) (by decide)
  have g45 := hN 45 (by decide) (by decide) (by decide) (by decide) (by decide) (by decide) (by decide) (by decide) (by decide) (by decide)
  have g46 := hN 46 (by decide) (by decide) (by decide) (by decide) (by decide) (by decide) (by decide) (by decide) (by decide) (by decide)
  have g47 := hN 47 (by decide) (by decide) (by decide) (by decide) (by decide) (by decide) (by decide) (by decide) (by decide) (by decide)
  have g48 := hN 48 (by decide) (by decide) (by decide) (by decide) (by decide) (by decide) (by decide) (by decide) (by decide) (by decide)
  have g49 := hN 49 (by decide) (by decide) (by decide) (by decide) (by decide) (by decide) (by decide) (by decide) (by decide) (by decide)
  have g50 := hN 50 (by decide) (by decide) (by decide) (by decide) (by decide) (by decide) (by decide) (by decide) (by decide) (by decide)
  have h2 := hN2 2 (by decide) (by decide) (by decide) (by decide) (by decide) (by decide) (by decide) (by decide) (by decide) (by decide)
  have h3 := hN2 3 (by decide) (by decide) (by decide) (by decide) (by decide) (by decide) (by decide) (by decide) (by decide) (by decide)
  have h4 := hN2 4 (by decide) (by decide) (by decide) (by decide) (by decide) (by decide) (by decide) (by decide) (by decide) (by decide)
  have h5 := hN2 5 (by decide) (by decide) (by decide) (by decide) (by decide) (by decide) (by decide) (by decide) (by decide) (by decide)
  have h6 := hN2 6 (by decide) (by decide) (by decide) (by decide) (by decide) (by decide) (by decide) (by decide) (by decide) (by decide)
  have h7 := hN2 7 (by decide) (by decide) (by decide) (by decide) (by decide) (by decide) (by decide) (by decide) (by decide) (by decide)
  have h8 := hN2 8 (by decide) (by decide) (by decide) (by decide) (by decide) (by decide) (by decide) (by decide) (by decide) (by decide)
  have h15 := hN2 15 (by decide) (by decide) (by decide) (by decide) (by decide) (by decide) (by decide) (by decide) (by decide) (by decide)
  have h16 := hN2 16 (by decide) (by decide) (by decide) (by decide) (by decide) (by decide) (by decide) (by decide) (by decide) (by decide)
  have h17 := hN2 17 (by decide) (by decide) (by decide) (by decide) (by decide) (by decide) (by decide) (by decide) (by decide) (by decide)
  have h18 := hN2 18 (by decide) (by decide) (by decide) (by decide) (by decide) (by decide) (by decide) (by decide) (by decide) (by decide)
  have h19 := hN2 19 (by decide) (by decide) (by decide) (by decide) (by decide) (by decide) (by decide) (by decide) (by decide) (by decide)
  have h20 := hN2 20 (by decide) (by decide) (by decide) (by decide) (by decide) (by decide) (by decide) (by decide) (by decide) (by decide)
  have h21 := hN2 21 (by decide) (by decide) (by decide) (by decide) (by decide) (by decide) (by decide) (by decide) (by decide) (by decide)
  have h22 := hN2 22 (by decide) (by decide) (by decide) (by decide) (by decide) (by decide) (by decide) (by decide) (by decide) (by decide)
  have h23 := hN2 23 (by decide) (by decide) (by decide) (by decide) (by decide) (by decide) (by decide) (by decide) (by decide) (by decide)
  have h25 := hN2 25 (by decide) (by decide) (by decide) (by decide) (by decide) (by decide) (by decide) (by decide) (by decide) (by decide)
  have h26 := hN2 26 (by decide) (by decide) (by decide) (by decide) (by decide) (by decide) (by decide) (by decide) (by decide) (by decide)
  have h27 := hN2 27 (by decide) (by decide) (by decide) (by decide) (by decide) (by decide) (by decide) (by decide) (by decide) (by decide)
  have h28 := hN2 28 (by decide) (by decide) (by decide) (by decide) (by decide) (by decide) (by decide) (by decide) (by decide) (by decide)
  have h29 := hN2 29 (by decide) (by decide) (by decide) (by decide) (by decide) (by decide) (by decide) (by decide) (by decide) (by decide)
  have h30 := hN2 30 (by decide) (by decide) (by decide) (by decide) (by decide) (by decide) (by decide) (by decide) (by decide) (by decide)
  have h31 := hN2 31 (by decide) (by decide) (by decide) (by decide) (by decide) (by decide) (by decide) (by decide) (by decide) (by decide)
  have h32 := hN2 32 (by decide) (by decide) (by decide) (by decide) (by decide) (by decide) (by decide) (by decide) (by decide) (by decide)
  have h33 := hN2 33 (by decide) (by decide) (by decide) (by decide) (by decide) (by decide) (by decide) (by decide) (by decide) (by decide)
  have h34 := hN2 34 (by decide) (by decide) (by decide) (by decide) (by decide) (by decide) (by decide) (by decide) (by decide) (by decide)
  have h35 := hN2 35 (by decide) (by decide) (by decide) (by decide) (by decide) (by decide) (by decide) (by decide) (by decide) (by decide)
  have h36 := hN2 36 (by decide) (by decide) (by decide) (by decide) (by decide) (by decide) (by decide) (by decide) (by decide) (by decide)
  have h40 := hN2 40 (by decide) (by decide) (by decide) (by decide) (by decide) (by decide) (by decide) (by decide) (by decide) (by decide)
  have h41 := hN2 41 (by decide) (by decide) (by decide) (by decide) (by decide) (by decide) (by decide) (by decide) (by decide) (by decide)
  have h42 := hN2 42 (by decide) (by decide) (by decide) (by decide) (by decide) (by decide) (by decide) (by decide) (by decide) (by decide)
  have h43 := hN2 43 (by decide) (by decide) (by decide) (by decide) (by decide) (by decide) (by decide) (by decide) (by decide) (by decide)
  have h45 := hN2 45 (by decide) (by decide) (by decide) (by decide) (by decide) (by decide) (by decide) (by decide) (by decide) (by decide)
  have h46 := hN2 46 (by decide) (by decide) (by decide) (by decide) (by decide) (by decide) (by decide) (by decide) (by decide) (by decide)
  have h48 := hN2 48 (by decide) (by decide) (by decide) (by decide) (by decide) (by decide) (by decide) (by decide) (by decide) (by decide)
  have h49 := hN2 49 (by decide) (by decide) (by decide) (by decide) (by decide) (by decide) (by decide) (by decide) (by decide) (by decide)
  have h50 := hN2 50 (by decide) (by decide) (by decide) (by decide) (by decide) (by decide) (by decide) (by decide) (by decide) (by decide)
  obtain ⟨s0, s3, s4', s6, s1, s9, s15, s49, t1, t2, t3, t4, t5, t6, t7, t8, t9⟩ := (I5 s s4).1
  obtain ⟨u1, u2, u3, u4, u5, u6, u7, u8⟩ := (I5 s s4).2.1
  have cns : ∀ t, cn t (lv 0) + cn t (lv 1) + cn t (lv 2) + cn t (lv 3) + cn t (lv 4) + cn t (lv 5) = cn t (ev_enL lv d x rest 0) + cn t (ev_enL lv d x rest 1) + cn t (ev_enL lv d x rest 2) + cn t (ev_enL lv d x rest 3) + cn t (ev_enL lv d x rest 4) + cn t (ev_enL lv d x rest 5) + (if pq_s x = t then 1 else 0) := by
    clear hN hN2
    intro t
    have c1 : cn t (lv (2 - d)) = cn t (ev_enL lv d x rest (2 - d)) + (if pq_s x = t then 1 else 0) := by
      rw [lw, hl]
      show (if _ then 1 else 0) + cn t rest = _
      by_cases q : pq_s x = t
      · rw [if_pos ⟨hlast, q⟩, if_pos q]; exact Nat.add_comm _ _
      · rw [if_neg (fun h => q h.2), if_neg q]; exact Nat.add_comm _ _
    generalize (if pq_s x = t then 1 else 0) = k at *
    rcases (by omega : d = 0 ∨ d = 1) with rfl | rfl
    · rw [lo' 0 (by decide) (by decide), lo' 1 (by decide) (by decide), lo' 3 (by decide) (by decide), lo' 4 (by decide) (by decide), lo' 5 (by decide) (by decide)]
      have c1' : cn t (lv 2) = cn t (ev_enL lv 0 x rest 2) + k := c1
      omega
    · rw [lo' 0 (by decide) (by decide), lo' 2 (by decide) (by decide), lo' 3 (by decide) (by decide), lo' 4 (by decide) (by decide), lo' 5 (by decide) (by decide)]
      have c1' : cn t (lv 1) = cn t (ev_enL lv 1 x rest 1) + k := c1
      omega
  have e0s : ∀ t, e0 t (lv 0) + e0 t (lv 1) + e0 t (lv 2) + e0 t (lv 3) + e0 t (lv 4) + e0 t (lv 5) = e0 t (ev_enL lv d x rest 0) + e0 t (ev_enL lv d x rest 1) + e0 t (ev_enL lv d x rest 2) + e0 t (ev_enL lv d x rest 3) + e0 t (ev_enL lv d x rest 4) + e0 t (ev_enL lv d x rest 5) + (if pq_s x = t ∧ z = 0 then 1 else 0) := by
    clear hN hN2
    intro t
    have c1 : e0 t (lv (2 - d)) = e0 t (ev_enL lv d x rest (2 - d)) + (if pq_s x = t ∧ z = 0 then 1 else 0) := by
      rw [lw, hl]
      show (if _ then 1 else 0) + e0 t rest = _
      by_cases q : pq_s x = t ∧ z = 0
      · rw [if_pos ⟨hlast, q.1, by omega, fun c => by rw [hz]; exact q.2⟩, if_pos q]; exact Nat.add_comm _ _
      · rw [if_neg (fun h => q ⟨h.2.1, by rw [← hz]; exact h.2.2.2 hk⟩), if_neg q]; exact Nat.add_comm _ _
    generalize (if pq_s x = t ∧ z = 0 then 1 else 0) = k at *
    rcases (by omega : d = 0 ∨ d = 1) with rfl | rfl
    · rw [lo' 0 (by decide) (by decide), lo' 1 (by decide) (by decide), lo' 3 (by decide) (by decide), lo' 4 (by decide) (by decide), lo' 5 (by decide) (by decide)]
      have c1' : e0 t (lv 2) = e0 t (ev_enL lv 0 x rest 2) + k := c1
      omega
    · rw [lo' 0 (by decide) (by decide), lo' 2 (by decide) (by decide), lo' 3 (by decide) (by decide), lo' 4 (by decide) (by decide), lo' 5 (by decide) (by decide)]
      have c1' : e0 t (lv 1) = e0 t (ev_enL lv 1 x rest 1) + k := c1
      omega
  refine ⟨⟨⟨?_, ?_, ?_, ?_, hS, ?_, ?_, ?_, ?_, I10⟩, ?_, ?_⟩, ?_⟩
  · exact fun v hv => lk_cg (N := N1) (by rw [h25]) (by rw [h26]) (by rw [h32]) (by rw [h33]) (by rw [h34]) (by rw [h35]) (by rw [h36]) (by rw [h40]) (by rw [h41]) (by rw [h42]) rfl rfl rfl (J1 v hv)
  · exact fun v hv => fr_cg (N := N1) h30 h31 h49 (by rw [h32]) (by rw [h41]) (by rw [h42]) (by rw [h32]) (by rw [h42]) [] (List.append_nil _).symm (J2 v hv)
  · exact fun v hv => qo_cg (N := N1) h27 h28 h49 (by rw [h25]) (by rw [h41]) rfl (J3 v hv)
  · exact fun d' hd' => jo_cg (N := N1) h18 h19 h20 h21 h49 rfl (J4 d' hd')
  · intro d' hd'
    have D := J6 d' hd'
    unfold dr tk_ok at D ⊢
    obtain ⟨a1, a2, a3, a4, a5, a6, a7, a8, a9, a10, a11, a12, a13, a14⟩ := D
    rw [h48, h50, h7, h8, h43, h22, h23, h26, h45, h16, h46]
    have akk : ∀ t, t / 2 = 1 - d' → t < 4 → ak t (N1 45 t) (N1 44 t) (ev_enL lv d x rest (2 - d') ++ ev_enL lv d x rest (3 * d')) → ak t (N1 45 t) (N2 44 t) (ev_enL lv d x rest (2 - d') ++ ev_enL lv d x rest (3 * d')) := by
      intro t ht t4 k
      by_cases e : t = s
      · have ed : d' = d := dd_eq hd hd' sd (by rw [← e]; exact ht)
        subst ed
        rw [e, e44, ub_s, lw, lo' (3 * d') (by omega) (by omega), g45]
        exact ax.2
      · rw [e44, ub_n e, ← g44]; exact k
    refine ⟨?_, a2, a3, a4, a5, a6, a7, a8, a9, a10, akk _ (by omega) (by omega) a11, akk _ (by omega) (by omega) a12, a13, a14⟩
    intro y hy
    obtain ⟨b1, b2, b3, b4⟩ := a1 y hy
    rw [g44, g11] at b2
    rw [g44] at b3
    refine ⟨b1, fun c => ?_, fun c => ?_, b4⟩
    · have q := b2 c
      by_cases e : pq_s y = s
      · rw [e] at q ⊢
        rw [e44, e11, ub_s, ub_s]
        exact ⟨q.1, by omega⟩
      · rw [e44, e11, ub_n e, ub_n e]; exact q
    · have q := b3 c
      by_cases e : pq_s y = s
      · rw [e] at q ⊢
        rw [e44, ub_s]
        rw [g50] at q ⊢
        exact ⟨q.1, by omega, q.2.2⟩
      · rw [e44, ub_n e]; exact q
  · have cap : ∀ d', d' < 2 → N1 26 (2 - d') ≤ 4 ∧ N1 26 (3 * d') ≤ 6 := by
      intro d' hd'
      have D := J6 d' hd'
      unfold dr at D
      exact ⟨D.2.2.2.2.2.2.2.2.1, D.2.2.2.2.2.2.2.2.2.1⟩
    refine tm_s (s := s) h40 h41 h26 h16 h46 ?_ ?_ (fun w hw => (J1 w hw).1) ⟨(cap 1 (by omega)).1, (cap 0 (by omega)).1⟩ ⟨(cap 0 (by omega)).2, (cap 1 (by omega)).2⟩ J7
    · intro t h e k
      unfold tm_ok at k ⊢
      rw [g47, g11, g12] at k
      rw [e47, e11, e12, ub_n e, ub_n e, ub_n e]; exact k
    · unfold tm_ok
      rw [e47, e11, e12, ub_s, ub_s, ub_s, g47, g11, g12]
      by_cases c1 : 0 < N 11 s - (a - N 44 s)
      · refine Or.inr (fun h q => Or.inr ?_)
        rw [hwt, if_pos c1]; omega
      · by_cases c2 : 0 < a - N 44 s ∨ N 1 s - (a - N 44 s) = 0
        · refine Or.inr (fun h q => Or.inl ?_)
          rw [hwt, if_neg c1, if_pos c2]
          exact ⟨rfl, by omega, by omega⟩
        · refine Or.inl (fun h q => ?_)
          rw [hwt, if_neg c1, if_neg c2, ← Ia s s4]
          rcases q with q | q
          · exact Or.inl ⟨q.1, by omega, by omega⟩
          · exact Or.inr q
  · intro t ht
    have k := I8 t ht
    have c := cns t
    by_cases e : t = s
    · subst e
      unfold kb kb_k at k ⊢
      rw [hs, if_pos rfl] at c
      unfold kb_u sx_lim at k ⊢
      rw [h7, h16, g7, g16, e1, e10, e12, e14, e47, ub_s, ub_s, ub_s, ub_s, ub_s]
      generalize hK : cn t (ev_enL lv d x rest 0) + cn t (ev_enL lv d x rest 1) + cn t (ev_enL lv d x rest 2) + cn t (ev_enL lv d x rest 3) + cn t (ev_enL lv d x rest 4) + cn t (ev_enL lv d x rest 5) = K at *
      rw [c] at k
      have kk := kb_ack (K := K + N 16 t) (f := N 44 t) (a := a) (OC := N 1 t) (MS := N 11 t) (SE := N 10 t) (AL := N 12 t) (W := N 49 t) (O := N 50 t) (FI := N 14 t) (FI' := if z = 0 then N 14 t else 1) (CL := N 7 t) (aw := N 47 t) (aw' := wt - 1) (by rw [show K + N 16 t + 1 = K + 1 + N 16 t by omega]; exact k.1) (by rw [show K + N 16 t + 1 = K + 1 + N 16 t by omega]; exact k.2) ax.1 (by omega) s1 t4 t5 (by omega) t9 u1
      exact ⟨kk, fun q => by omega⟩
    · unfold kb kb_k kb_u sx_lim at k ⊢
      rw [h7, h16, g7, g16, e1, e10, e12, e14, e47, ub_n e, ub_n e, ub_n e, ub_n e, ub_n e]
      rw [hs, if_neg (fun q => e q.symm)] at c
      generalize (if 0 < N 1 t then if N 12 t = 0 then if N 47 t = 0 then 1 else 0 else ((if N 12 t - 1 ≤ N 1 t then N 12 t - 1 else N 1 t) - N 10 t + 3) / 4 else if N 7 t = 0 ∨ N 14 t ≠ 0 then 0 else if N 47 t = 0 then 1 else 0) = u at *
      clear hN hN2 akx ax hS I1 I2 I3 I4 I5 I6 I7 I8 J1 J2 J3 J4 J5 J6 J7 J8 Ia Id u7 u8
      exact ⟨by omega, fun c => by have := k.2 c; omega⟩
  · obtain ⟨r1, r2, r3, r4⟩ := J9
    exact ⟨by rw [h28]; exact r1, by rw [h27]; exact r2, r3, by rw [h29]; exact r4⟩
  · intro t ht
    rw [e47, e13]
    by_cases e : t = s
    · rw [e, ub_s, ub_s]
    · rw [ub_n e, ub_n e]; exact Ia t ht
  · intro d' hd'
    refine du_cg (N := N) (by rw [h16, g16]) (by rw [h46, g46]) ?_ ?_ (by rw [h26, g26]) (Id d' hd')
    · intro c
      rw [h42, f42] at c
      by_cases e : 1 + d' = 2 - d
      · rw [e, ub_s] at c; omega
      · rw [ub_n e] at c; exact c
    · intro c
      rw [h42, f42, ub_n (by rcases (by omega : d = 0 ∨ d = 1) with rfl | rfl <;> omega)] at c
      exact c
  · have hmd : m_d N2 = m_d N := by
      unfold m_d
      rw [h26, h40, h41, g26, g40, f41]
      rcases (by omega : d = 0 ∨ d = 1) with rfl | rfl
      · rfl
      · rfl
    have ls : ∀ t, t < 4 → t ≠ s → m_ls N2 t = m_ls N t := by
      intro t ht e
      unfold m_ls
      rw [h50, h49, e44, e12, e14, ub_n e, ub_n e, ub_n e, g50, g49]
    have lss : m_ls N2 s ≤ m_ls N s ∧ (m_ls N2 s = m_ls N s → a = N 44 s ∧ 1 ≤ N 12 s ∧ (z = 0 ∨ N 14 s = 1)) := by
      unfold m_ls
      rw [h50, h49, e44, e12, e14, ub_s, ub_s, ub_s, g50, g49, if_neg (by omega : ¬ N 49 s - a + 1 = 0)]
      have b1 : a ≤ min (N 50 s) (N 49 s) := by omega
      have b2 : N 44 s ≤ a := ax.1
      generalize min (N 50 s) (N 49 s) = m at *
      by_cases c1 : z = 0
      · rw [if_pos c1]
        by_cases c2 : N 12 s = 0
        · rw [if_pos c2]; exact ⟨by omega, fun q => by omega⟩
        · rw [if_neg c2]; exact ⟨by omega, fun q => ⟨by omega, by omega, Or.inl c1⟩⟩
      · rw [if_neg c1]
        by_cases c2 : N 12 s = 0
        · rw [if_pos c2]; exact ⟨by omega, fun q => by omega⟩
        · rw [if_neg c2]; exact ⟨by omega, fun q => ⟨by omega, by omega, Or.inr (by omega)⟩⟩
    have hml : m_l N2 ≤ m_l N ∧ (m_l N2 = m_l N → m_ls N2 s = m_ls N s) := by
      unfold m_l
      rcases (by omega : s = 0 ∨ s = 1 ∨ s = 2 ∨ s = 3) with e | e | e | e
      · rw [ls 1 (by omega) (by omega), ls 2 (by omega) (by omega), ls 3 (by omega) (by omega), ← e]
        have := lss.1; exact ⟨by omega, fun q => by omega⟩
      · rw [ls 0 (by omega) (by omega), ls 2 (by omega) (by omega), ls 3 (by omega) (by omega), ← e]
        have := lss.1; exact ⟨by omega, fun q => by omega⟩
      · rw [ls 0 (by omega) (by omega), ls 1 (by omega) (by omega), ls 3 (by omega) (by omega), ← e]
        have := lss.1; exact ⟨by omega, fun q => by omega⟩
      · rw [ls 0 (by omega) (by omega), ls 1 (by omega) (by omega), ls 2 (by omega) (by omega), ← e]
        have := lss.1; exact ⟨by omega, fun q => by omega⟩
    by_cases eff : m_l N2 = m_l N
    · obtain ⟨ea, e12p, ez⟩ := lss.2 (hml.2 eff)
      have i1 : N2 1 = N 1 := by rw [e1, ub_id]; omega
      have i10 : N2 10 = N 10 := by rw [e10, ub_id]; omega
      have i12 : N2 12 = N 12 := by rw [e12, ub_id]; omega
      have i14 : N2 14 = N 14 := by
        rw [e14, ub_id]
        split
        · rfl
        · omega
      have i44 : N2 44 = N 44 := by rw [e44, ub_id]; exact ea
      have hset : ∀ t, sx_set N2 t = sx_set N t := by
        intro t
        unfold sx_set
        rw [i1, i12, h7, i14, g7]
      have mono : ∀ t, t < 4 → pt N lv t → pt N2 (ev_enL lv d x rest) t := by
        intro t ht p
        have own : ∀ y, inA y (lv (6 + d)) (lv (2 - d) ++ lv (3 * d)) → y = x ∨ inA y (ev_enL lv d x rest (6 + d)) (ev_enL lv d x rest (2 - d) ++ ev_enL lv d x rest (3 * d)) := by
          intro y hy
          rw [hl] at hy
          rw [lw, l6, lo' (3 * d) (by omega) (by omega)]
          rcases hy with ⟨e, _⟩ | hy
          · exact Or.inl e
          · exact Or.inr hy
        have other : ∀ d', d' < 2 → d' ≠ d → (ev_enL lv d x rest (6 + d') = lv (6 + d') ∧ ev_enL lv d x rest (2 - d') = lv (2 - d') ∧ ev_enL lv d x rest (3 * d') = lv (3 * d')) := by
          intro d' hd' e
          have n1 : 2 - d' ≠ 2 - d ∧ 3 * d' ≠ 2 - d := by
            rcases (by omega : d = 0 ∨ d = 1) with rfl | rfl <;> omega
          exact ⟨lo' _ (by omega) (by omega), lo' _ n1.1 (by omega), lo' _ n1.2 (by omega)⟩
        have po : pt_own N2 t = pt_own N t := by
          funext y
          unfold pt_own
          rw [i12, i1, i44, h45, g45]
        have pa : pt_ack N2 t = pt_ack N t := by
          funext y
          unfold pt_ack
          rw [i12, i1, i44]
        have pd : pt_due N2 t = pt_due N t := by
          unfold pt_due
          rw [i12, i1, i44, h45, g45, h16, g16, h8, g8]
        unfold pt at p ⊢
        rw [hset, po, pa, pd, i12, i1, i10]
        rcases p with p | p | p | ⟨y, p, q⟩ | ⟨y, p, q⟩
        · exact Or.inl p
        · exact Or.inr (Or.inl p)
        · exact Or.inr (Or.inr (Or.inl p))
        · refine Or.inr (Or.inr (Or.inr (Or.inl ⟨y, ?_, q⟩)))
          by_cases e : t / 2 = d
          · rw [e] at p ⊢
            rcases own y p with e2 | e2
            · rw [e2] at q; exact absurd hk q.1
            · exact e2
          · obtain ⟨o1, o2, o3⟩ := other (t / 2) (by omega) e
            rw [o1, o2, o3]; exact p
        · by_cases e : 1 - t / 2 = d
          · rw [show 7 - t / 2 = 6 + d by omega, show 1 + t / 2 = 2 - d by omega, show 3 - 3 * (t / 2) = 3 * d by omega] at p ⊢
            rcases own y p with e2 | e2
            · rw [e2] at q
              have ts : t = s := by rw [← hs]; exact q.2.1.symm
              rcases q.2.2 with c | c | c
              · rw [ts] at c; omega
              · refine Or.inl ?_
                rw [ts] at c ⊢
                refine Or.inr ⟨c.1, Or.inr ?_⟩
                have c2 := c.2
                rw [hz] at c2
                omega
              · rw [ts, ha] at c; omega
            · exact Or.inr (Or.inr (Or.inr (Or.inr ⟨y, e2, q⟩)))
          · obtain ⟨o1, o2, o3⟩ := other (1 - t / 2) (by omega) e
            rw [show 6 + (1 - t / 2) = 7 - t / 2 by omega] at o1
            rw [show 2 - (1 - t / 2) = 1 + t / 2 by omega] at o2
            rw [show 3 * (1 - t / 2) = 3 - 3 * (t / 2) by omega] at o3
            refine Or.inr (Or.inr (Or.inr (Or.inr ⟨y, ?_, q⟩)))
            rw [o1, o2, o3]; exact p
      rcases mr_cmp mono with c | ⟨c, pe⟩
      · exact Or.inr ⟨rfl, Or.inr ⟨hmd, Or.inr ⟨eff, Or.inl c⟩⟩⟩
      · have e2 : ∀ t, sx_lim N2 t = sx_lim N t := by intro t; unfold sx_lim; rw [i12, i1]
        have hq : ∀ t, t < 4 → t ≠ s → m_qs N2 (ev_enL lv d x rest) t = m_qs N lv t := by
          intro t ht e
          have hpe := pe t ht
          have ee := e0s t
          rw [hs, if_neg (fun q => e q.1.symm)] at ee
          have e1' : bq (N2 1 t = 0 ∧ N2 7 t = 1 ∧ N2 14 t = 0 ∧ N2 47 t = 0 ∧ pt N2 (ev_enL lv d x rest) t) = bq (N 1 t = 0 ∧ N 7 t = 1 ∧ N 14 t = 0 ∧ N 47 t = 0 ∧ pt N lv t) := by
            rw [i1, h7, i14, e47, ub_n e, g7, propext hpe]
          unfold m_qs m_e
          rw [e1', e2, i10, h16, h8, g16, g8, ee, Nat.add_zero]
        have hqs : (z = 0 → m_qs N2 (ev_enL lv d x rest) s < m_qs N lv s) ∧ (z ≠ 0 → m_qs N2 (ev_enL lv d x rest) s ≤ m_qs N lv s) := by
          have ee := e0s s
          unfold m_qs m_e
          rw [e2, i10, h16, h8, g16, g8]
          have b1 := bq_le (N2 1 s = 0 ∧ N2 7 s = 1 ∧ N2 14 s = 0 ∧ N2 47 s = 0 ∧ pt N2 (ev_enL lv d x rest) s)
          generalize (if N 16 s = 1 ∧ N 8 s = 0 then 1 else 0) = k16 at *
          constructor
          · intro q
            rw [if_pos ⟨hs, q⟩] at ee
            rw [ee]
            generalize bq (N 1 s = 0 ∧ N 7 s = 1 ∧ N 14 s = 0 ∧ N 47 s = 0 ∧ pt N lv s) = bb
            generalize bq (N2 1 s = 0 ∧ N2 7 s = 1 ∧ N2 14 s = 0 ∧ N2 47 s = 0 ∧ pt N2 (ev_enL lv d x rest) s) = bb2 at *
            clear hN hN2
            omega
          · intro q
            rw [if_neg (fun c => q c.2)] at ee
            have b2 : bq (N2 1 s = 0 ∧ N2 7 s = 1 ∧ N2 14 s = 0 ∧ N2 47 s = 0 ∧ pt N2 (ev_enL lv d x rest) s) = 0 := bq_f (fun c => by have := c.2.2.1; rw [i14] at this; omega)
            rw [b2, ee]
            generalize bq (N 1 s = 0 ∧ N 7 s = 1 ∧ N 14 s = 0 ∧ N 47 s = 0 ∧ pt N lv s) = bb
            clear hN hN2
            omega
        have hqq : (z = 0 → m_q N2 (ev_enL lv d x rest) < m_q N lv) ∧ (z ≠ 0 → m_q N2 (ev_enL lv d x rest) ≤ m_q N lv) := by
          unfold m_q
          rcases (by omega : s = 0 ∨ s = 1 ∨ s = 2 ∨ s = 3) with e | e | e | e
          · rw [hq 1 (by omega) (by omega), hq 2 (by omega) (by omega), hq 3 (by omega) (by omega)]
            rw [e] at hqs
            exact ⟨fun q => by have := hqs.1 q; omega, fun q => by have := hqs.2 q; omega⟩
          · rw [hq 0 (by omega) (by omega), hq 2 (by omega) (by omega), hq 3 (by omega) (by omega)]
            rw [e] at hqs
            exact ⟨fun q => by have := hqs.1 q; omega, fun q => by have := hqs.2 q; omega⟩
          · rw [hq 0 (by omega) (by omega), hq 1 (by omega) (by omega), hq 3 (by omega) (by omega)]
            rw [e] at hqs
            exact ⟨fun q => by have := hqs.1 q; omega, fun q => by have := hqs.2 q; omega⟩
          · rw [hq 0 (by omega) (by omega), hq 1 (by omega) (by omega), hq 2 (by omega) (by omega)]
            rw [e] at hqs
            exact ⟨fun q => by have := hqs.1 q; omega, fun q => by have := hqs.2 q; omega⟩
        refine Or.inr ⟨rfl, Or.inr ⟨hmd, Or.inr ⟨eff, Or.inr ⟨c, ?_⟩⟩⟩⟩
        show m_q N2 _ < m_q N lv ∨ m_q N2 _ = m_q N lv ∧ m_p N2 _ ≤ m_p N lv
        by_cases z0 : z = 0
        · exact Or.inl (hqq.1 z0)
        · have f1 : N 14 s = 1 := by omega
          have fO := (u8 f1).2
          have w0 : wt = 0 := by
            rw [hwt, if_neg (by omega), if_pos (by omega)]
          have hpp : m_p N2 (ev_enL lv d x rest) ≤ m_p N lv := by
            have c1 : wg 1 7 (ev_enL lv d x rest (2 - d)) ≤ wg 1 7 (lv (2 - d)) := by
              rw [lw, hl]
              show wg 1 7 rest ≤ _ + wg 1 7 rest
              exact Nat.le_add_left _ _
            have n47 : ∀ t, N2 47 t ≤ N 47 t := by
              intro t
              rw [e47, w0]
              by_cases e : t = s
              · rw [e, ub_s]; exact Nat.zero_le _
              · rw [ub_n e]; exact Nat.le_refl _
            have n0 := n47 0
            have n1 := n47 1
            have n2 := n47 2
            have n3 := n47 3
            unfold m_p
            rw [h26, h40, h16, g26, g40, g16]
            clear hN hN2
            rcases (by omega : d = 0 ∨ d = 1) with rfl | rfl
            · rw [lo' 0 (by decide) (by decide), lo' 1 (by decide) (by decide), lo' 3 (by decide) (by decide)]
              have c1' : wg 1 7 (ev_enL lv 0 x rest 2) ≤ wg 1 7 (lv 2) := c1
              omega
            · rw [lo' 0 (by decide) (by decide), lo' 2 (by decide) (by decide), lo' 3 (by decide) (by decide)]
              have c1' : wg 1 7 (ev_enL lv 1 x rest 1) ≤ wg 1 7 (lv 1) := c1
              omega
          have := hqq.2 z0
          omega
    · refine Or.inr ⟨rfl, Or.inr ⟨hmd, Or.inl ?_⟩⟩
      show m_l N2 < m_l N
      have := hml.1
      omega
end
section
/-! data into the ring: what holds afterwards -/
theorem bt_d (E j : Nat) : (E / 2 ^ j % 2 = 1) ↔ E.testBit j = true := by
  rw [Nat.testBit_eq_decide_div_mod_eq, decide_eq_true_iff]
theorem bt_run (E : Nat) (hE : E < 4096) : ∃ t, t ≤ 12 ∧ (∀ j, j < t → E / 2 ^ j % 2 = 1) ∧ E / 2 ^ t % 2 = 0 := by
  have key : ∀ n, (∃ t, t ≤ n ∧ (∀ j, j < t → E / 2 ^ j % 2 = 1) ∧ E / 2 ^ t % 2 = 0) ∨ ∀ j, j < n + 1 → E / 2 ^ j % 2 = 1 := by
    intro n
    induction n with
    | zero =>
      rcases Nat.mod_two_eq_zero_or_one (E / 2 ^ 0) with c | c
      · exact Or.inl ⟨0, Nat.le_refl 0, fun j h => absurd h (by omega), c⟩
      · exact Or.inr (fun j h => by rw [show j = 0 by omega]; exact c)
    | succ n ih =>
      rcases ih with ⟨t, h1, h2⟩ | h
      · exact Or.inl ⟨t, by omega, h2⟩
      · rcases Nat.mod_two_eq_zero_or_one (E / 2 ^ (n + 1)) with c | c
        · exact Or.inl ⟨n + 1, Nat.le_refl _, h, c⟩
        · refine Or.inr (fun j hj => ?_)
          rcases (by omega : j < n + 1 ∨ j = n + 1) with q | q
          · exact h j q
          · rw [q]; exact c
  rcases key 12 with h | h
  · exact h
  · have := h 12 (by omega)
    rw [Nat.div_eq_of_lt (by omega)] at this
    omega
theorem td_off {a k nx B W : Nat} (h1 : B ≤ a) (h2 : nx ≤ B + 12) (h3 : a + k < W) (h4 : W ≤ nx + 12) (h5 : nx ≤ W) : ((((a % 64) + 64 - nx % 64) % 64 + k) % 64 < W - nx ↔ nx ≤ a + k) ∧ (nx ≤ a + k → (((a % 64) + 64 - nx % 64) % 64 + k) % 64 = a + k - nx) := by
  have e : (((a % 64) + 64 - nx % 64) % 64 + k) % 64 = (a + k + 64 - nx) % 64 := by omega
  rw [e]
  constructor
  · constructor
    · intro q
      omega
    · intro q
      omega
  · intro q
    omega
/-- the state of the ring while data comes -/
def td_I (C A : Nat → Nat → Nat) (s a nx W IC IS : Nat) (E0 : Nat) (IB0 : Nat → Nat) (k E : Nat) (IB : Nat → Nat) : Prop :=
  (∀ j, E.testBit j = true ↔ (E0.testBit j = true ∨ ∃ i, i < k ∧ nx ≤ a + i ∧ j = a + i - nx)) ∧
  (∀ i, i < 12 → (i < IC ∨ IC ≤ i ∧ E.testBit (i - IC) = true) → IB (12 * s + (IS + i) % 12) = C s (W - 12 + i)) ∧
  (∀ q, (q < 12 * s ∨ 12 * s + 12 ≤ q) → IB q = IB0 q)
theorem td_inv {C A : Nat → Nat → Nat} {s a z nx B W : Nat} (h1 : B ≤ a) (h2 : nx ≤ B + 12) (h3 : a + z ≤ W) (h4 : W + A 4 s = nx + 12) (h5 : nx ≤ W) (h12 : 12 ≤ W) (hIC : A 4 s ≤ 12) (hIS : A 3 s < 12)
    (hpk : ∀ k, k < z → A 17 (2 + k) = C s (a + k)) (hb : ∀ j, (A 6 s).testBit j = true → nx + j < W) (hr : ∀ i, i < 12 → (i < A 4 s ∨ A 4 s ≤ i ∧ (A 6 s).testBit (i - A 4 s) = true) → A 5 (12 * s + (A 3 s + i) % 12) = C s (W - 12 + i)) :
    ∀ k, k ≤ z → td_I C A s a nx W (A 4 s) (A 3 s) (A 6 s) (A 5) k (sx_td A s (((a % 64) + 64 - nx % 64) % 64) k 6 s) (sx_td A s (((a % 64) + 64 - nx % 64) % 64) k 5) := by
  intro k
  induction k with
  | zero =>
    intro _
    refine ⟨fun j => ⟨fun h => Or.inl h, fun h => ?_⟩, hr, fun _ _ => rfl⟩
    rcases h with h | ⟨i, h, _⟩
    · exact h
    · omega
  | succ k ih =>
    intro hk
    obtain ⟨i1, i2, i3⟩ := ih (by omega)
    have off := td_off (k := k) h1 h2 (by omega : a + k < W) (by omega) h5
    have room : 12 - A 4 s = W - nx := by omega
    unfold sx_td
    rw [room]
    by_cases c : nx ≤ a + k
    · rw [if_pos (off.1.mpr c), off.2 c]
      refine ⟨fun j => ?_, fun i hi h => ?_, fun q hq => ?_⟩
      · rw [ss_up_s, ub_s, Nat.testBit_or, Bool.or_eq_true, i1, Nat.testBit_two_pow, decide_eq_true_iff]
        constructor
        · rintro ((h | ⟨i, p1, p2, p3⟩) | h)
          · exact Or.inl h
          · exact Or.inr ⟨i, by omega, p2, p3⟩
          · exact Or.inr ⟨k, by omega, c, h.symm⟩
        · rintro (h | ⟨i, p1, p2, p3⟩)
          · exact Or.inl (Or.inl h)
          · rcases (by omega : i < k ∨ i = k) with q | q
            · exact Or.inl (Or.inr ⟨i, q, p2, p3⟩)
            · exact Or.inr (by rw [p3, q])
      · rw [ss_up_s, ub_s] at h
        rw [ss_up_n (by decide), ss_up_s]
        by_cases e : i = A 4 s + (a + k - nx)
        · subst e
          rw [show A 3 s + (A 4 s + (a + k - nx)) = A 3 s + A 4 s + (a + k - nx) by omega, ub_s, hpk k (by omega)]
          exact congrArg (C s) (by omega)
        · have ne : 12 * s + (A 3 s + i) % 12 ≠ 12 * s + (A 3 s + A 4 s + (a + k - nx)) % 12 := by omega
          rw [ub_n ne]
          refine i2 i hi ?_
          rcases h with h | h
          · exact Or.inl h
          · refine Or.inr ⟨h.1, ?_⟩
            have h2' := h.2
            rw [Nat.testBit_or, Bool.or_eq_true, Nat.testBit_two_pow, decide_eq_true_iff] at h2'
            rcases h2' with h2' | h2'
            · exact h2'
            · omega
      · rw [ss_up_n (by decide), ss_up_s, ub_n (by omega)]
        exact i3 q hq
    · rw [if_neg (fun h => c (off.1.mp h))]
      refine ⟨fun j => ?_, i2, i3⟩
      rw [i1]
      constructor
      · rintro (h | ⟨i, p1, p2, p3⟩)
        · exact Or.inl h
        · exact Or.inr ⟨i, by omega, p2, p3⟩
      · rintro (h | ⟨i, p1, p2, p3⟩)
        · exact Or.inl h
        · rcases (by omega : i < k ∨ i = k) with q | q
          · exact Or.inr ⟨i, q, p2, p3⟩
          · subst q; exact absurd p2 c
end
section
/-! a piece at an end: the four ways -/
theorem jo_oth {C N N' : Nat → Nat → Nat} {lv lv' : Lv} {d : Nat} (hd : d < 2) (h18 : ∀ j, j < 3 → N' 18 (8 * d + j) = N 18 (8 * d + j)) (h19 : N' 19 d = N 19 d) (h20 : N' 20 d = N 20 d) (h21 : N' 21 d = N 21 d) (h49 : N' 49 = N 49) (hl : lv' (6 + (1 - d)) = lv (6 + (1 - d))) (h : jo C N lv (1 - d)) : jo C N' lv' (1 - d) := by
  have e : 1 - (1 - d) = d := by omega
  unfold jo at h ⊢
  rw [e] at h ⊢
  rw [h19, h20, h21, h49, hl]
  rcases h with h | ⟨x, h1, h2, h3, h4⟩
  · exact Or.inl h
  · refine Or.inr ⟨x, h1, h2, h3, fun c => ⟨(h4 c).1, fun j hj => ?_⟩⟩
    rw [h18 j hj]
    exact (h4 c).2 j hj
theorem pq_n12 (x : Pc) : pq_n x = 1 ∨ pq_n x = 2 := by unfold pq_n; split <;> omega
theorem pq_len2 {d : Nat} {x : Pc} (h : pq_wf d x) : (pq_n x = 2 → 4 ≤ pq_len x ∧ pq_len x ≤ 6) ∧ (pq_n x = 1 → 2 ≤ pq_len x ∧ pq_len x ≤ 3) := by
  obtain ⟨h1, h2, h3, h4, h5, h6, h7⟩ := h
  constructor
  · intro c
    unfold pq_n at c
    split at c
    · next q =>
      have := h6 q.1
      unfold pq_len
      rw [if_pos q.1]; omega
    · omega
  · intro c
    unfold pq_n at c
    split at c
    · omega
    · next q =>
      unfold pq_len
      by_cases k0 : pq_k x = 0
      · have := h6 k0
        rw [if_pos k0]; omega
      · rw [if_neg k0]
        split <;> omega
theorem pq_b_eq {C : Nat → Nat → Nat} {W : Nat → Nat} {x y : Pc} (h : y.2.2 = x.2.2) (j : Nat) : pq_b C W y j = pq_b C W x j := by
  unfold pq_b pq_k pq_z pq_s pq_a
  rw [h]
/-- what the table is behind the join, with the ghosts -/
def en_g (A : Nat → Nat → Nat) (d : Nat) : Nat → Nat → Nat := st_up (st_up A 41 (2 - d) 1) 42 (2 - d) 2
/-- facts on a packet that has come together -/
def en_P (C N Np : Nat → Nat → Nat) (lv : Lv) (d b : Nat) (x : Pc) (rest : List Pc) : Prop :=
  (∀ i, i ≠ 17 → i ≠ 18 → i ≠ 19 → i ≠ 20 → i ≠ 21 → i ≠ 35 → i ≠ 36 → Np i = N i) ∧ Np 35 = ub_un (N 35) (2 - d) (1 - b) ∧ Np 36 = ub_un (N 36) (2 - d) (b + 1) ∧
  (∀ k, k < pq_len x → Np 17 k = pq_b C (N 49) x k) ∧ (∀ d', d' < 2 → jo C (en_g Np d) (ev_enL lv d x rest) d')
theorem jP17 (A : Nat → Nat → Nat) (e c : Nat) : sx_jP A e c 17 = ub_bl (A 17) 0 c (fun k => A 18 (8 * e + k)) := rfl
theorem jn18 (M : Nat → Nat → Nat) (e c q v : Nat) : st_up (sx_jn M e c q) 21 e v 18 = ub_bl (M 18) (8 * e + c) q (fun j => M 37 (2 + j)) := rfl
theorem jP18 (A : Nat → Nat → Nat) (e c : Nat) : sx_jP A e c 18 = A 18 := rfl
theorem en_join {lo hi : Nat → Nat} {C N : Nat → Nat → Nat} {lv : Lv} {tl d b q : Nat} {x : Pc} {rest : List Pc} (hd : d < 2) (hl : lv (2 - d) = x :: rest) (hq : q = pq_sz x) (hF : ∀ j, j < q + 1 → N 37 (1 + j) = pq_c C (N 49) x j)
    (I : Inv (fun _ => 0) (fun _ => 0) lo hi C tl N lv) :
    (∃ N', (∀ i, i ≠ 17 → i ≠ 18 → i ≠ 19 → i ≠ 20 → i ≠ 21 → i ≠ 35 → i ≠ 36 → N' i = N i) ∧ N' 35 = ub_un (N 35) (2 - d) (1 - b) ∧ N' 36 = ub_un (N 36) (2 - d) (b + 1) ∧ (∀ d', d' < 2 → jo C (en_g N' d) (ev_enL lv d x rest) d') ∧ ¬ (pq_p x + 1 = pq_n x ∧ (pq_p x = 0 ∨ ∃ z, lv (6 + d) = [z] ∧ z.1 = x.1)) ∧
      ∀ (post : SX → Prop) ch, post (ss_st tl ch N') → wpX_takePiece post (ss_st tl ch (sx_fr N (2 - d) b)) (nI (1 - d)) (nI (q + 1))) ∨
    (∃ Np, en_P C N Np lv d b x rest ∧ pq_p x + 1 = pq_n x ∧
      ∀ (post : SX → Prop) ch, wpX_takePacket post (ss_st tl ch Np) → wpX_takePiece post (ss_st tl ch (sx_fr N (2 - d) b)) (nI (1 - d)) (nI (q + 1))) := by
  obtain ⟨I1, I2, I3, I4, I5, I6, I7, I8, I9, I10⟩ := I
  have DR := I6 d hd
  unfold dr at DR
  have wf := (DR.1 x (Or.inl (by rw [hl]; exact List.mem_cons_self ..))).1
  have AD := DR.2.1
  rw [hl] at AD
  have AD1 := AD.1
  have len := pq_len2 wf
  have n12 := pq_n12 x
  have pn := wf.2.2.1
  have nm : pq_i x % 16 < 16 := Nat.mod_lt _ (by decide)
  have F0 : N 37 1 = 16 * (pq_i x % 16) + 2 * pq_p x + (if pq_p x + 1 = pq_n x then 1 else 0) := by
    have := hF 0 (by omega)
    rw [this]; rfl
  have FB : ∀ j, j < q → N 37 (2 + j) = pq_b C (N 49) x (3 * pq_p x + j) := by
    intro j hj
    have := hF (1 + j) (by omega)
    rw [show 1 + (1 + j) = 2 + j by omega] at this
    rw [this]
    unfold pq_c
    rw [if_neg (by omega), show 1 + j - 1 = j by omega]
  have l6 : ev_enL lv d x rest (6 + d) = op_n x := ul_s
  have lo' : ∀ j, j ≠ 2 - d → j ≠ 6 + d → ev_enL lv d x rest j = lv j := fun j a b => by unfold ev_enL; rw [ul_n b, ul_n a]
  have e1d : 1 - d < 2 := by omega
  have dne : d ≠ 1 - d := by omega
  -- jo for both directions, given the parts at the end 1 - d
  have mk : ∀ A : Nat → Nat → Nat, A 49 = N 49 → (∀ j, j < 3 → A 18 (8 * d + j) = N 18 (8 * d + j)) → A 19 d = N 19 d → A 20 d = N 20 d → A 21 d = N 21 d → jo C (en_g A d) (ev_enL lv d x rest) d → ∀ d', d' < 2 → jo C (en_g A d) (ev_enL lv d x rest) d' := by
    intro A a49 a18 a19 a20 a21 h d' hd'
    by_cases e : d' = d
    · rw [e]; exact h
    · have e' : d' = 1 - d := by omega
      rw [e']
      exact jo_oth (N := N) hd a18 a19 a20 a21 a49 (lo' _ (by omega) (by omega)) (I4 (1 - d) (by omega))
  have out18 : ∀ (f g : Nat → Nat) (c k j : Nat), c + k ≤ 8 → j < 3 → ub_bl f (8 * (1 - d) + c) k g (8 * d + j) = f (8 * d + j) := by
    intro f g c k j hc hj
    exact ub_bl_out (by omega)
  by_cases p0 : pq_p x = 0
  · rw [p0] at F0 FB
    rcases n12 with n1 | n2
    · -- one piece
      rw [if_pos (by omega)] at F0
      have hq' : q = pq_len x := by
        rw [hq]; unfold pq_sz; rw [if_pos p0]
        have := len.2 n1
        split <;> omega
      have hlen := len.2 n1
      have on : op_n x = [] := by unfold op_n; rw [if_neg (by omega)]
      refine Or.inr ⟨sx_jP (st_up (sx_jn (sx_j0 (sx_fr N (2 - d) b) (1 - d) (pq_i x % 16)) (1 - d) 0 q) 21 (1 - d) 1) (1 - d) q, ⟨?_, rfl, rfl, ?_, ?_⟩, by omega, ?_⟩
      · intro i a1 a2 a3 a4 a5 a6 a7
        unfold sx_jP sx_jn sx_j0 sx_fr st_bl
        simp only [ss_up_n a1, ss_up_n a2, ss_up_n a3, ss_up_n a4, ss_up_n a5, ss_up_n a6, ss_up_n a7]
        rw [show Nat.beq i 17 = false from (Bool.eq_false_iff).mpr (fun e => a1 (Nat.eq_of_beq_eq_true e)), show Nat.beq i 18 = false from (Bool.eq_false_iff).mpr (fun e => a2 (Nat.eq_of_beq_eq_true e))]
        rfl
      · intro k hk
        rw [jP17, show k = 0 + k by omega, ub_bl_in (by omega), jn18]
        rw [show 8 * (1 - d) + k = 8 * (1 - d) + 0 + k by omega, ub_bl_in (by omega)]
        have := FB k (by omega)
        rw [show 3 * 0 + k = 0 + k by omega] at this
        exact this
      · refine mk _ rfl ?_ ?_ ?_ ?_ ?_
        · intro j hj
          rw [jP18, jn18, out18 _ _ 0 q j (by omega) hj]
          rfl
        · show ub_un (ub_un (N 19) (1 - d) 0) (1 - d) (0 + q) d = _
          rw [ub_n dne, ub_n dne]
        · show ub_un (ub_un (N 20) (1 - d) (pq_i x % 16 + 1)) (1 - d) 0 d = _
          rw [ub_n dne, ub_n dne]
        · show ub_un (ub_un (N 21) (1 - d) 0) (1 - d) 1 d = _
          rw [ub_n dne, ub_n dne]
        · refine Or.inl ⟨by rw [l6, on], ?_⟩
          show ub_un (ub_un (N 20) (1 - d) (pq_i x % 16 + 1)) (1 - d) 0 (1 - d) = 0
          exact ub_s
      · intro post ch h
        exact sx_takePieceB (N := sx_fr N (2 - d) b) e1d (by omega) nm (by show N 37 1 = _; omega) h
    · -- first of two
      rw [if_neg (by omega)] at F0
      have hlen := len.1 n2
      have hq' : q = 3 := by
        rw [hq]; unfold pq_sz; rw [if_pos p0, if_pos (by omega)]
      have on : op_n x = [x] := by unfold op_n; rw [if_pos ⟨p0, n2⟩]
      refine Or.inl ⟨st_up (sx_jn (sx_j0 (sx_fr N (2 - d) b) (1 - d) (pq_i x % 16)) (1 - d) 0 q) 21 (1 - d) 1, ?_, rfl, rfl, ?_, by omega, ?_⟩
      · intro i a1 a2 a3 a4 a5 a6 a7
        unfold sx_jn sx_j0 sx_fr st_bl
        simp only [ss_up_n a1, ss_up_n a2, ss_up_n a3, ss_up_n a4, ss_up_n a5, ss_up_n a6, ss_up_n a7]
        rw [show Nat.beq i 18 = false from (Bool.eq_false_iff).mpr (fun e => a2 (Nat.eq_of_beq_eq_true e))]
        rfl
      · refine mk _ rfl ?_ ?_ ?_ ?_ ?_
        · intro j hj
          rw [jn18, out18 _ _ 0 q j (by omega) hj]
          rfl
        · show ub_un (ub_un (N 19) (1 - d) 0) (1 - d) (0 + q) d = _
          rw [ub_n dne, ub_n dne]
        · show ub_un (N 20) (1 - d) (pq_i x % 16 + 1) d = _
          rw [ub_n dne]
        · show ub_un (ub_un (N 21) (1 - d) 0) (1 - d) 1 d = _
          rw [ub_n dne, ub_n dne]
        · refine Or.inr ⟨x, by rw [l6, on], ?_, ?_, fun _ => ⟨?_, fun j hj => ?_⟩⟩
          · show ub_un (N 20) (1 - d) (pq_i x % 16 + 1) (1 - d) = _
            rw [ub_s]
          · show ub_un (ub_un (N 21) (1 - d) 0) (1 - d) 1 (1 - d) = 1
            exact ub_s
          · show ub_un (ub_un (N 19) (1 - d) 0) (1 - d) (0 + q) (1 - d) = 3
            rw [ub_s]; omega
          · show st_up (sx_jn (sx_j0 (sx_fr N (2 - d) b) (1 - d) (pq_i x % 16)) (1 - d) 0 q) 21 (1 - d) 1 18 (8 * (1 - d) + j) = _
            rw [jn18, show 8 * (1 - d) + j = 8 * (1 - d) + 0 + j by omega, ub_bl_in (by omega)]
            have := FB j (by omega)
            rw [show 3 * 0 + j = j by omega] at this
            exact this
      · intro post ch h
        exact sx_takePieceA (N := sx_fr N (2 - d) b) e1d (by omega) nm (by show N 37 1 = _; omega) h
  · -- a second piece
    have p1 : pq_p x = 1 := by omega
    have n2 : pq_n x = 2 := by omega
    rw [p1] at F0 FB
    rw [if_pos (by omega)] at F0
    have hlen := len.1 n2
    have hq' : q = pq_len x - 3 := by
      rw [hq]; unfold pq_sz; rw [if_neg p0]
    have on : op_n x = [] := by unfold op_n; rw [if_neg (by omega)]
    have JD := I4 d hd
    have mis : (N 20 (1 - d) ≠ pq_i x % 16 + 1) → N 20 (1 - d) ≤ 16 → (¬ ∃ z, lv (6 + d) = [z] ∧ z.1 = x.1) → (∃ N', (∀ i, i ≠ 17 → i ≠ 18 → i ≠ 19 → i ≠ 20 → i ≠ 21 → i ≠ 35 → i ≠ 36 → N' i = N i) ∧ N' 35 = ub_un (N 35) (2 - d) (1 - b) ∧ N' 36 = ub_un (N 36) (2 - d) (b + 1) ∧ (∀ d', d' < 2 → jo C (en_g N' d) (ev_enL lv d x rest) d') ∧ ¬ (pq_p x + 1 = pq_n x ∧ (pq_p x = 0 ∨ ∃ z, lv (6 + d) = [z] ∧ z.1 = x.1)) ∧
      ∀ (post : SX → Prop) ch, post (ss_st tl ch N') → wpX_takePiece post (ss_st tl ch (sx_fr N (2 - d) b)) (nI (1 - d)) (nI (q + 1))) := by
      intro c1 c2 c3
      refine ⟨st_up (sx_fr N (2 - d) b) 20 (1 - d) 0, ?_, rfl, rfl, ?_, ?_, ?_⟩
      · intro i a1 a2 a3 a4 a5 a6 a7
        unfold sx_fr
        simp only [ss_up_n a4, ss_up_n a6, ss_up_n a7]
      · refine mk _ rfl (fun _ _ => rfl) rfl ?_ rfl ?_
        · show ub_un (N 20) (1 - d) 0 d = _
          rw [ub_n dne]
        · refine Or.inl ⟨by rw [l6, on], ?_⟩
          show ub_un (N 20) (1 - d) 0 (1 - d) = 0
          exact ub_s
      · rintro ⟨_, h | h⟩
        · exact p0 h
        · exact c3 h
      · intro post ch h
        exact sx_takePieceD (N := sx_fr N (2 - d) b) e1d nm (by show N 37 1 = _; omega) c1 c2 h
    rcases AD1 p1 with j0 | ⟨y, j1, j2, j3⟩
    · refine Or.inl (mis ?_ ?_ ?_)
      · unfold jo at JD
        rcases JD with JD | ⟨u, JD, _⟩
        · rw [JD.2]; omega
        · rw [j0] at JD; cases JD
      · unfold jo at JD
        rcases JD with JD | ⟨u, JD, _⟩
        · rw [JD.2]; omega
        · rw [j0] at JD; cases JD
      · rintro ⟨z, hz, _⟩
        rw [j0] at hz; cases hz
    · unfold jo at JD
      rcases JD with JD | ⟨u, k1, k2, k3, k4⟩
      · rw [j1] at JD; cases JD.1
      · have eu : y = u := by rw [j1] at k1; injection k1
        subst eu
        rcases j3 with ⟨s1, s2⟩ | s1
        · have hk4 : pq_k y < 4 := by
            have : pq_k y = pq_k x := by unfold pq_k; rw [s2]
            rw [this]; exact wf.1
          obtain ⟨m1, m2⟩ := k4 hk4
          refine Or.inr ⟨sx_jP (st_up (sx_jn (sx_fr N (2 - d) b) (1 - d) 3 q) 21 (1 - d) 2) (1 - d) (3 + q), ⟨?_, rfl, rfl, ?_, ?_⟩, by omega, ?_⟩
          · intro i a1 a2 a3 a4 a5 a6 a7
            unfold sx_jP sx_jn sx_fr st_bl
            simp only [ss_up_n a1, ss_up_n a2, ss_up_n a3, ss_up_n a4, ss_up_n a5, ss_up_n a6, ss_up_n a7]
            rw [show Nat.beq i 17 = false from (Bool.eq_false_iff).mpr (fun e => a1 (Nat.eq_of_beq_eq_true e)), show Nat.beq i 18 = false from (Bool.eq_false_iff).mpr (fun e => a2 (Nat.eq_of_beq_eq_true e))]
            rfl
          · intro k hk
            rw [jP17, show k = 0 + k by omega, ub_bl_in (by omega), jn18]
            by_cases k3' : k < 3
            · rw [ub_bl_out (by omega), Nat.zero_add]
              exact (m2 k k3').trans (pq_b_eq s2 k)
            · rw [Nat.zero_add, show 8 * (1 - d) + k = 8 * (1 - d) + 3 + (k - 3) by omega, ub_bl_in (by omega)]
              have := FB (k - 3) (by omega)
              rw [show 3 * 1 + (k - 3) = k by omega] at this
              exact this
          · refine mk _ rfl ?_ ?_ ?_ ?_ ?_
            · intro j hj
              rw [jP18, jn18, out18 _ _ 3 q j (by omega) hj]
              rfl
            · show ub_un (N 19) (1 - d) (3 + q) d = _
              rw [ub_n dne]
            · show ub_un (N 20) (1 - d) 0 d = _
              rw [ub_n dne]
            · show ub_un (N 21) (1 - d) 2 d = _
              rw [ub_n dne]
            · refine Or.inl ⟨by rw [l6, on], ?_⟩
              show ub_un (N 20) (1 - d) 0 (1 - d) = 0
              exact ub_s
          · intro post ch h
            have e16 : pq_i y % 16 = pq_i x % 16 := by show y.1 % 16 = x.1 % 16; rw [s1]
            exact sx_takePieceC (N := sx_fr N (2 - d) b) (c := 3) e1d (by omega) nm (by show N 37 1 = _; omega) (by rw [← e16]; exact k2) k3 m1 (by omega) h
        · refine Or.inl (mis ?_ ?_ ?_)
          · rw [k2]
            intro c
            exact s1 (by show pq_i y % 16 = pq_i x % 16; omega)
          · rw [k2]
            have : pq_i y % 16 < 16 := Nat.mod_lt _ (by decide)
            omega
          · rintro ⟨z, hz, hz2⟩
            rw [j1] at hz
            have : y = z := by injection hz
            rw [this, hz2] at s1
            exact s1 rfl
end
section
/-! a new piece at an end, with its packet -/
theorem si_pt {C N N' : Nat → Nat → Nat} {t : Nat} (h0 : N' 0 t = N 0 t) (h1 : N' 1 t = N 1 t) (h3 : N' 3 t = N 3 t) (h4 : N' 4 t = N 4 t) (h6 : N' 6 t = N 6 t) (h7 : N' 7 t = N 7 t) (h8 : N' 8 t = N 8 t) (h9 : N' 9 t = N 9 t) (h10 : N' 10 t = N 10 t) (h11 : N' 11 t = N 11 t) (h12 : N' 12 t = N 12 t) (h13 : N' 13 t = N 13 t) (h14 : N' 14 t = N 14 t) (h15 : N' 15 t = N 15 t) (h16 : N' 16 t = N 16 t) (h44 : N' 44 t = N 44 t) (h45 : N' 45 t = N 45 t) (h48 : N' 48 t = N 48 t) (h49 : N' 49 t = N 49 t) (h50 : N' 50 t = N 50 t) (h2 : N' 2 = N 2) (h5 : ∀ q, 12 * t ≤ q → q < 12 * t + 12 → N' 5 q = N 5 q) (h : si C N t) : si C N' t := by
  unfold si si_n si_f si_o si_i at *
  rw [h0, h1, h3, h4, h6, h7, h8, h9, h10, h11, h12, h13, h14, h15, h16, h44, h45, h48, h49, h50, h2]
  refine ⟨h.1, h.2.1, h.2.2.1, h.2.2.2.1, h.2.2.2.2.1, fun i hi q => ?_⟩
  rw [h5 _ (by omega) (by omega)]
  exact h.2.2.2.2.2 i hi q
theorem ack_o {N : Nat → Nat → Nat} {s e num room i : Nat} (h13 : i ≠ 13) (h14 : i ≠ 14) : sx_ack N s e num room i = sx_ack0 N s num room i := by
  unfold sx_ack sx_ack2 sx_ack1
  split
  · split
    · exact ss_up_n h13
    · split
      · exact ss_up_n h13
      · rfl
  · rw [ss_up_n h14]
    split
    · exact ss_up_n h13
    · split
      · exact ss_up_n h13
      · rfl
theorem ack_o2 {N : Nat → Nat → Nat} {s e num room i : Nat} (h0 : i ≠ 0) (h1 : i ≠ 1) (h9 : i ≠ 9) (h10 : i ≠ 10) (h11 : i ≠ 11) (h12 : i ≠ 12) (h13 : i ≠ 13) (h14 : i ≠ 14) : sx_ack N s e num room i = N i := by
  rw [ack_o h13 h14]
  unfold sx_ack0
  rw [ss_up_n h12, ss_up_n h10, ss_up_n h11, ss_up_n h9, ss_up_n h1, ss_up_n h0]
theorem ack_13 {N : Nat → Nat → Nat} {s e num room : Nat} : sx_ack N s e num room 13 = ub_un (N 13) s (if 0 < N 11 s - (num + 64 - N 9 s) % 64 then 150 else if 0 < (num + 64 - N 9 s) % 64 ∨ N 1 s - (num + 64 - N 9 s) % 64 = 0 then 0 else N 13 s) := by
  have z : sx_ack1 N (sx_ack0 N s num room) s num 13 = ub_un (N 13) s (if 0 < N 11 s - (num + 64 - N 9 s) % 64 then 150 else if 0 < (num + 64 - N 9 s) % 64 ∨ N 1 s - (num + 64 - N 9 s) % 64 = 0 then 0 else N 13 s) := by
    unfold sx_ack1
    split
    · rfl
    · split
      · rfl
      · rw [ub_id rfl]; rfl
  unfold sx_ack sx_ack2
  split
  · exact z
  · rw [ss_up_n (by decide)]; exact z
theorem ack_14 {N : Nat → Nat → Nat} {s e num room : Nat} : sx_ack N s e num room 14 = ub_un (N 14) s (if e = 0 then N 14 s else 1) := by
  have z : sx_ack1 N (sx_ack0 N s num room) s num 14 = N 14 := by
    unfold sx_ack1
    split
    · rfl
    · split <;> rfl
  unfold sx_ack sx_ack2
  split
  · rw [ub_id rfl]; exact z
  · rw [ss_up_s, z]
theorem a_mod {a f : Nat} (h : f ≤ a) (h2 : a ≤ f + 24) : (a % 64 + 64 - f % 64) % 64 = a - f := by omega
/-- an acknowledgement: the sending side afterwards -/
theorem si_ack {C N N2 : Nat → Nat → Nat} {s a z wt : Nat} (h : si C N s) (ha : N 44 s ≤ a) (hn : a ≤ N 45 s) (hz : z = 1 → N 8 s = 1 ∧ a = N 50 s) (hz1 : z ≤ 1) (hwt : wt ≤ 150)
    (e0' : N2 0 s = (N 0 s + (a - N 44 s)) % 24) (e1 : N2 1 s = N 1 s - (a - N 44 s)) (e9 : N2 9 s = a % 64) (e10 : N2 10 s = N 10 s - (a - N 44 s)) (e11 : N2 11 s = N 11 s - (a - N 44 s)) (e12 : N2 12 s = N 49 s - a + 1) (e13 : N2 13 s = wt) (e14 : N2 14 s = if z = 0 then N 14 s else 1) (e44 : N2 44 s = a)
    (h2 : N2 2 = N 2) (h3 : N2 3 = N 3) (h4 : N2 4 = N 4) (h5 : N2 5 = N 5) (h6 : N2 6 = N 6) (h7 : N2 7 = N 7) (h8 : N2 8 = N 8) (h15 : N2 15 = N 15) (h16 : N2 16 = N 16) (h45 : N2 45 = N 45) (h48 : N2 48 = N 48) (h49 : N2 49 = N 49) (h50 : N2 50 = N 50) : si C N2 s := by
  obtain ⟨⟨s0, s3, s4, s6, s1, s9, s15, s49, t1, t2, t3, t4, t5, t6, t7, t8, t9⟩, ⟨u1, u2, u3, u4, u5, u6, u7, u8⟩, o, i1, i2, i3⟩ := h
  unfold si si_n si_f si_o si_i
  rw [e0', e1, e9, e10, e11, e12, e13, e14, e44, h2, h3, h4, h5, h6, h7, h8, h15, h16, h45, h48, h49, h50]
  refine ⟨⟨Nat.mod_lt _ (by omega), s3, s4, s6, by omega, rfl, s15, s49, by omega, hn, by omega, by omega, by omega, t6, t7, t8, by omega⟩, ⟨Or.inr ⟨by omega, by omega⟩, u2, u3, ?_, u5, hwt, u7, ?_⟩, ?_, i1, ?_, i3⟩
  · split <;> omega
  · intro c
    split at c
    · have := u8 c; exact ⟨this.1, by omega⟩
    · exact hz (by omega)
  · intro i hi
    have := o (a - N 44 s + i) (by omega)
    rw [show (N 0 s + (a - N 44 s + i)) % 24 = ((N 0 s + (a - N 44 s)) % 24 + i) % 24 by omega, show N 44 s + (a - N 44 s + i) = a + i by omega] at this
    exact this
  · intro j hj
    have := i2 j hj
    omega
/-- data: the receiving side afterwards -/
theorem si_dat {C A N2 : Nat → Nat → Nat} {s a z t : Nat} (h : si C A s) (h1 : A 48 s ≤ a) (h2 : a + z ≤ A 44 s + A 11 s) (hpk : ∀ k, k < z → A 17 (2 + k) = C s (a + k))
    (ht : ∀ j, j < t → sx_td A s ((a % 64 + 64 - A 15 s) % 64) z 6 s / 2 ^ j % 2 = 1) (hn : sx_td A s ((a % 64 + 64 - A 15 s) % 64) z 6 s / 2 ^ t % 2 = 0)
    (hN : ∀ i, i ≠ 4 → i ≠ 5 → i ≠ 6 → i ≠ 15 → i ≠ 45 → N2 i = A i) (e4 : N2 4 s = A 4 s + t) (e5 : N2 5 = sx_td A s ((a % 64 + 64 - A 15 s) % 64) z 5) (e6' : N2 6 s = sx_td A s ((a % 64 + 64 - A 15 s) % 64) z 6 s / 2 ^ t) (e15 : N2 15 s = (A 15 s + t) % 64) (e45 : N2 45 s = A 45 s + t) :
    si C N2 s ∧ (a ≤ A 45 s → A 45 s < a + z → 1 ≤ t) ∧ A 4 s + t ≤ 12 := by
  obtain ⟨⟨s0, s3, s4, s6, s1, s9, s15, s49, t1, t2, t3, t4, t5, t6, t7, t8, t9⟩, ⟨u1, u2, u3, u4, u5, u6, u7, u8⟩, o, i1, i2, i3⟩ := h
  have T := td_inv (C := C) (A := A) (s := s) (a := a) (z := z) (nx := A 45 s) (B := A 48 s) (W := A 49 s) h1 (by omega) (by omega) s49 (by omega) (by omega) s4 s3 hpk (fun j hj => by have := i2 j hj; omega) i3 z (Nat.le_refl z)
  rw [← s15] at T
  have lt6 := sx_td_6 (N := A) (s := s) (off := (a % 64 + 64 - A 15 s) % 64) s6 z
  obtain ⟨T1, T2, T3⟩ := T
  generalize hE : sx_td A s ((a % 64 + 64 - A 15 s) % 64) z 6 s = E at *
  generalize hIB : sx_td A s ((a % 64 + 64 - A 15 s) % 64) z 5 = IB at *
  have bE : ∀ j, E.testBit j = true → A 45 s + j < A 44 s + A 11 s := by
    intro j hj
    rcases (T1 j).mp hj with q | ⟨i, q1, q2, q3⟩
    · exact i2 j q
    · omega
  have bt : ∀ j, j < t → A 45 s + j < A 44 s + A 11 s := fun j hj => bE j ((bt_d E j).mp (ht j hj))
  have nt : A 45 s + t ≤ A 44 s + A 11 s := by
    rcases Nat.eq_zero_or_pos t with q | q
    · omega
    · have := bt (t - 1) (by omega); omega
  have sh : ∀ j, (E / 2 ^ t).testBit j = E.testBit (t + j) := by
    intro j
    rw [Nat.testBit_div_two_pow, Nat.add_comm]
  refine ⟨?_, ?_, by omega⟩
  · unfold si si_n si_f si_o si_i
    rw [e4, e5, e6', e15, e45, hN 0 (by decide) (by decide) (by decide) (by decide) (by decide), hN 1 (by decide) (by decide) (by decide) (by decide) (by decide), hN 2 (by decide) (by decide) (by decide) (by decide) (by decide), hN 3 (by decide) (by decide) (by decide) (by decide) (by decide), hN 7 (by decide) (by decide) (by decide) (by decide) (by decide), hN 8 (by decide) (by decide) (by decide) (by decide) (by decide), hN 9 (by decide) (by decide) (by decide) (by decide) (by decide), hN 10 (by decide) (by decide) (by decide) (by decide) (by decide), hN 11 (by decide) (by decide) (by decide) (by decide) (by decide), hN 12 (by decide) (by decide) (by decide) (by decide) (by decide), hN 13 (by decide) (by decide) (by decide) (by decide) (by decide), hN 14 (by decide) (by decide) (by decide) (by decide) (by decide), hN 16 (by decide) (by decide) (by decide) (by decide) (by decide), hN 44 (by decide) (by decide) (by decide) (by decide) (by decide), hN 48 (by decide) (by decide) (by decide) (by decide) (by decide), hN 49 (by decide) (by decide) (by decide) (by decide) (by decide), hN 50 (by decide) (by decide) (by decide) (by decide) (by decide)]
    refine ⟨⟨s0, s3, by omega, ?_, s1, s9, by omega, by omega, t1, by omega, by omega, t4, t5, t6, t7, t8, t9⟩, ⟨u1, u2, u3, u4, u5, u6, fun c => ?_, u8⟩, o, hn, ?_, ?_⟩
    · exact Nat.lt_of_le_of_lt (Nat.div_le_self _ _) lt6
    · have := u7 c
      exact ⟨this.1, by omega⟩
    · intro j hj
      rw [sh] at hj
      have := bE _ hj
      omega
    · intro i hi q
      refine T2 i hi ?_
      rcases q with q | q
      · rcases (by omega : i < A 4 s ∨ A 4 s ≤ i) with q2 | q2
        · exact Or.inl q2
        · exact Or.inr ⟨q2, (bt_d E _).mp (ht _ (by omega))⟩
      · refine Or.inr ⟨by omega, ?_⟩
        have q2 := q.2
        rw [sh, show t + (i - (A 4 s + t)) = i - A 4 s by omega] at q2
        exact q2
  · intro c1 c2
    rcases Nat.eq_zero_or_pos t with q | q
    · exfalso
      rw [q] at hn
      have b0 : E.testBit 0 = true := (T1 0).mpr (Or.inr ⟨A 45 s - a, by omega, by omega, by omega⟩)
      rw [← bt_d] at b0
      omega
    · exact q
end
section
/-! a new piece at an end: the whole event -/
theorem sx_td_u6 {N : Nat → Nat → Nat} {s off u : Nat} (h : u ≠ s) : ∀ k : Nat, sx_td N s off k 6 u = N 6 u := by
  intro k
  induction k with
  | zero => rfl
  | succ k ih =>
    unfold sx_td
    split
    · rw [ss_up_s, ub_n h, ss_up_n (by decide)]; exact ih
    · exact ih
theorem sx_td_5 {N : Nat → Nat → Nat} {s off q : Nat} (h : q < 12 * s ∨ 12 * s + 12 ≤ q) : ∀ k : Nat, sx_td N s off k 5 q = N 5 q := by
  intro k
  induction k with
  | zero => rfl
  | succ k ih =>
    unfold sx_td
    split
    · rw [ss_up_n (by decide), ss_up_s, ub_n (by omega)]; exact ih
    · exact ih
def kc (N N' : Nat → Nat → Nat) : Prop := N' 7 = N 7 ∧ N' 24 = N 24 ∧ N' 49 = N 49 ∧ N' 50 = N 50
theorem kc_r (N : Nat → Nat → Nat) : kc N N := ⟨rfl, rfl, rfl, rfl⟩
theorem kc_t {A B D : Nat → Nat → Nat} (h : kc A B) (k : kc B D) : kc A D := ⟨k.1.trans h.1, k.2.1.trans h.2.1, k.2.2.1.trans h.2.2.1, k.2.2.2.trans h.2.2.2⟩
theorem en_full {lo hi : Nat → Nat} {C N : Nat → Nat → Nat} {lv : Lv} {tl d b q : Nat} {x : Pc} {rest : List Pc} (hd : d < 2) (hp : N 42 (2 - d) = 1) (hdel : N 41 (2 - d) = 0) (hl : lv (2 - d) = x :: rest) (hb : b = N 32 (2 - d)) (hq : q = pq_sz x) (hF : ∀ j, j < q + 1 → N 37 (1 + j) = pq_c C (N 49) x j)
    (I : Iv0 lo hi C tl N lv) : ∃ N' lv', Iv0 lo hi C tl N' lv' ∧ e6 (me tl N' lv') (me tl N lv) ∧ N' 29 = N 29 ∧ N' 30 = N 30 ∧ N' 42 (2 - d) = 2 ∧ kc N N' ∧
      ∀ (post : SX → Prop) ch, post (ss_st tl ch N') → wpX_takePiece post (ss_st tl ch (sx_fr N (2 - d) b)) (nI (1 - d)) (nI (q + 1)) := by
  rcases en_join (b := b) hd hl hq hF I.1 with ⟨N', n1, n2, n3, n4, n5, n6⟩ | ⟨Np, ⟨n1, n2, n3, n4, n5⟩, n6, n7⟩
  · have hN : ∀ i, i ≠ 17 → i ≠ 18 → i ≠ 19 → i ≠ 20 → i ≠ 21 → i ≠ 35 → i ≠ 36 → i ≠ 37 → i ≠ 41 → i ≠ 42 → en_g N' d i = N i := by
      intro i a1 a2 a3 a4 a5 a6 a7 a8 a9 a10
      unfold en_g
      rw [ss_up_n a10, ss_up_n a9]
      exact n1 i a1 a2 a3 a4 a5 a6 a7
    have g41 : en_g N' d 41 = ub_un (N 41) (2 - d) 1 := by
      show ub_un (N' 41) (2 - d) 1 = _
      rw [n1 41 (by decide) (by decide) (by decide) (by decide) (by decide) (by decide) (by decide)]
    have g42 : en_g N' d 42 = ub_un (N 42) (2 - d) 2 := by
      show ub_un (N' 42) (2 - d) 2 = _
      rw [n1 42 (by decide) (by decide) (by decide) (by decide) (by decide) (by decide) (by decide)]
    obtain ⟨r1, r2⟩ := ev_end0 hd hp hdel hl hb hN n2 n3 g41 g42 n4 n5 I
    refine ⟨en_g N' d, ev_enL lv d x rest, r1, r2, ?_, ?_, by rw [g42, ub_s], ⟨hN 7 (by decide) (by decide) (by decide) (by decide) (by decide) (by decide) (by decide) (by decide) (by decide) (by decide), hN 24 (by decide) (by decide) (by decide) (by decide) (by decide) (by decide) (by decide) (by decide) (by decide) (by decide), hN 49 (by decide) (by decide) (by decide) (by decide) (by decide) (by decide) (by decide) (by decide) (by decide) (by decide), hN 50 (by decide) (by decide) (by decide) (by decide) (by decide) (by decide) (by decide) (by decide) (by decide) (by decide)⟩, fun post ch h => n6 post ch h⟩
    rotate_left
    · exact hN 30 (by decide) (by decide) (by decide) (by decide) (by decide) (by decide) (by decide) (by decide) (by decide) (by decide)
    exact hN 29 (by decide) (by decide) (by decide) (by decide) (by decide) (by decide) (by decide) (by decide) (by decide) (by decide)
  · have hN : ∀ i, i ≠ 17 → i ≠ 18 → i ≠ 19 → i ≠ 20 → i ≠ 21 → i ≠ 35 → i ≠ 36 → i ≠ 37 → i ≠ 41 → i ≠ 42 → en_g Np d i = N i := by
      intro i a1 a2 a3 a4 a5 a6 a7 a8 a9 a10
      unfold en_g
      rw [ss_up_n a10, ss_up_n a9]
      exact n1 i a1 a2 a3 a4 a5 a6 a7
    have g41 : en_g Np d 41 = ub_un (N 41) (2 - d) 1 := by
      show ub_un (Np 41) (2 - d) 1 = _
      rw [n1 41 (by decide) (by decide) (by decide) (by decide) (by decide) (by decide) (by decide)]
    have g42 : en_g Np d 42 = ub_un (N 42) (2 - d) 2 := by
      show ub_un (Np 42) (2 - d) 2 = _
      rw [n1 42 (by decide) (by decide) (by decide) (by decide) (by decide) (by decide) (by decide)]
    have J := ev_end1 hd hp hdel hl hb hN n2 n3 g41 g42 n5 I.1
    have I5 := I.1.2.2.2.2.1
    have DR := I.1.2.2.2.2.2.1 d hd
    unfold dr at DR
    obtain ⟨wf, tk⟩ := DR.1 x (Or.inl (by rw [hl]; exact List.mem_cons_self ..))
    have s4 : pq_s x < 4 := wf.2.1
    have SI := I5 (pq_s x) s4
    have n30 : en_g Np d 30 = N 30 := hN 30 (by decide) (by decide) (by decide) (by decide) (by decide) (by decide) (by decide) (by decide) (by decide) (by decide)
    have n29 : en_g Np d 29 = N 29 := hN 29 (by decide) (by decide) (by decide) (by decide) (by decide) (by decide) (by decide) (by decide) (by decide) (by decide)
    obtain ⟨⟨s0, s3, s4', s6, s1, s9, s15, s49, t1, t2, t3, t4, t5, t6, t7, t8, t9⟩, ⟨u1, u2, u3, u4, u5, u6, u7, u8⟩, _, _⟩ := SI
    have len := pq_len2 wf
    have n12 := pq_n12 x
    have ln2 : 2 ≤ pq_len x := by
      rcases n12 with c | c
      · exact (len.2 c).1
      · have := (len.1 c).1; omega
    have P0 : Np 17 0 = 64 * pq_k x + 8 * pq_z x + pq_s x := n4 0 (by omega)
    have P1 : Np 17 1 = pq_a x % 64 := n4 1 (by omega)
    have p0 : Np 0 = N 0 := n1 0 (by decide) (by decide) (by decide) (by decide) (by decide) (by decide) (by decide)
    have p1 : Np 1 = N 1 := n1 1 (by decide) (by decide) (by decide) (by decide) (by decide) (by decide) (by decide)
    have p2 : Np 2 = N 2 := n1 2 (by decide) (by decide) (by decide) (by decide) (by decide) (by decide) (by decide)
    have p3 : Np 3 = N 3 := n1 3 (by decide) (by decide) (by decide) (by decide) (by decide) (by decide) (by decide)
    have p4 : Np 4 = N 4 := n1 4 (by decide) (by decide) (by decide) (by decide) (by decide) (by decide) (by decide)
    have p5 : Np 5 = N 5 := n1 5 (by decide) (by decide) (by decide) (by decide) (by decide) (by decide) (by decide)
    have p6 : Np 6 = N 6 := n1 6 (by decide) (by decide) (by decide) (by decide) (by decide) (by decide) (by decide)
    have p7 : Np 7 = N 7 := n1 7 (by decide) (by decide) (by decide) (by decide) (by decide) (by decide) (by decide)
    have p8 : Np 8 = N 8 := n1 8 (by decide) (by decide) (by decide) (by decide) (by decide) (by decide) (by decide)
    have p9 : Np 9 = N 9 := n1 9 (by decide) (by decide) (by decide) (by decide) (by decide) (by decide) (by decide)
    have p10 : Np 10 = N 10 := n1 10 (by decide) (by decide) (by decide) (by decide) (by decide) (by decide) (by decide)
    have p11 : Np 11 = N 11 := n1 11 (by decide) (by decide) (by decide) (by decide) (by decide) (by decide) (by decide)
    have p12 : Np 12 = N 12 := n1 12 (by decide) (by decide) (by decide) (by decide) (by decide) (by decide) (by decide)
    have p13 : Np 13 = N 13 := n1 13 (by decide) (by decide) (by decide) (by decide) (by decide) (by decide) (by decide)
    have p14 : Np 14 = N 14 := n1 14 (by decide) (by decide) (by decide) (by decide) (by decide) (by decide) (by decide)
    have p15 : Np 15 = N 15 := n1 15 (by decide) (by decide) (by decide) (by decide) (by decide) (by decide) (by decide)
    have p16 : Np 16 = N 16 := n1 16 (by decide) (by decide) (by decide) (by decide) (by decide) (by decide) (by decide)
    have p44 : Np 44 = N 44 := n1 44 (by decide) (by decide) (by decide) (by decide) (by decide) (by decide) (by decide)
    have p45 : Np 45 = N 45 := n1 45 (by decide) (by decide) (by decide) (by decide) (by decide) (by decide) (by decide)
    have p46 : Np 46 = N 46 := n1 46 (by decide) (by decide) (by decide) (by decide) (by decide) (by decide) (by decide)
    have p47 : Np 47 = N 47 := n1 47 (by decide) (by decide) (by decide) (by decide) (by decide) (by decide) (by decide)
    have p48 : Np 48 = N 48 := n1 48 (by decide) (by decide) (by decide) (by decide) (by decide) (by decide) (by decide)
    have p49 : Np 49 = N 49 := n1 49 (by decide) (by decide) (by decide) (by decide) (by decide) (by decide) (by decide)
    have p50 : Np 50 = N 50 := n1 50 (by decide) (by decide) (by decide) (by decide) (by decide) (by decide) (by decide)
    have p42 : Np 42 = N 42 := n1 42 (by decide) (by decide) (by decide) (by decide) (by decide) (by decide) (by decide)
    have p41 : Np 41 = N 41 := n1 41 (by decide) (by decide) (by decide) (by decide) (by decide) (by decide) (by decide)
    have k4 : pq_k x = 0 ∨ pq_k x = 1 ∨ pq_k x = 2 ∨ pq_k x = 3 := by have := wf.1; omega
    rcases k4 with k0 | k1 | k2 | k3
    · -- data
      obtain ⟨z1, z4⟩ := wf.2.2.2.2.2.1 k0
      obtain ⟨tka, tkb⟩ := tk.1 k0
      have hlen : pq_len x = 2 + pq_z x := by unfold pq_len; rw [if_pos k0]
      have PK : ∀ k, k < pq_z x → Np 17 (2 + k) = C (pq_s x) (pq_a x + k) := by
        intro k hk
        rw [n4 (2 + k) (by omega)]
        unfold pq_b
        rw [if_neg (by omega), if_neg (by omega), if_neg (by omega), show 2 + k - 2 = k by omega]
      have lt6 := sx_td_6 (N := st_up Np 16 (pq_s x) 1) (s := pq_s x) (off := (pq_a x % 64 + 64 - N 15 (pq_s x)) % 64) (by show Np 6 (pq_s x) < 4096; rw [p6]; exact s6) (pq_z x)
      obtain ⟨t, tt1, tt2, tt3⟩ := bt_run _ lt6
      have SIA : si C (st_up Np 16 (pq_s x) 1) (pq_s x) := by
        have := I5 (pq_s x) s4
        unfold si si_n si_f si_o si_i at this ⊢
        show _ ∧ _ ∧ _ ∧ _
        rw [ss_up_s, ub_s]
        simp only [ss_up_n (show (0 : Nat) ≠ 16 by decide), ss_up_n (show (1 : Nat) ≠ 16 by decide), ss_up_n (show (2 : Nat) ≠ 16 by decide), ss_up_n (show (3 : Nat) ≠ 16 by decide), ss_up_n (show (4 : Nat) ≠ 16 by decide), ss_up_n (show (5 : Nat) ≠ 16 by decide), ss_up_n (show (6 : Nat) ≠ 16 by decide), ss_up_n (show (7 : Nat) ≠ 16 by decide), ss_up_n (show (8 : Nat) ≠ 16 by decide), ss_up_n (show (9 : Nat) ≠ 16 by decide), ss_up_n (show (10 : Nat) ≠ 16 by decide), ss_up_n (show (11 : Nat) ≠ 16 by decide), ss_up_n (show (12 : Nat) ≠ 16 by decide), ss_up_n (show (13 : Nat) ≠ 16 by decide), ss_up_n (show (14 : Nat) ≠ 16 by decide), ss_up_n (show (15 : Nat) ≠ 16 by decide), ss_up_n (show (44 : Nat) ≠ 16 by decide), ss_up_n (show (45 : Nat) ≠ 16 by decide), ss_up_n (show (48 : Nat) ≠ 16 by decide), ss_up_n (show (49 : Nat) ≠ 16 by decide), ss_up_n (show (50 : Nat) ≠ 16 by decide), p0, p1, p2, p3, p4, p5, p6, p7, p8, p9, p10, p11, p12, p13, p14, p15, p44, p45, p48, p49, p50]
        exact ⟨this.1, ⟨this.2.1.1, this.2.1.2.1, this.2.1.2.2.1, this.2.1.2.2.2.1, Nat.le_refl 1, this.2.1.2.2.2.2.2.1, this.2.1.2.2.2.2.2.2⟩, this.2.2⟩
      let T := sx_shf (sx_td (st_up Np 16 (pq_s x) 1) (pq_s x) ((pq_a x % 64 + 64 - N 15 (pq_s x)) % 64) (pq_z x)) (pq_s x) t
      let ov := if pq_s x % 2 = 1 ∧ N 16 (pq_s x) = 0 then 0 else N 46 (1 - d)
      let N2 := st_up (st_up (en_g T d) 45 (pq_s x) (N 45 (pq_s x) + t)) 46 (1 - d) ov
      have tdo : ∀ i, i ≠ 5 → i ≠ 6 → sx_td (st_up Np 16 (pq_s x) 1) (pq_s x) ((pq_a x % 64 + 64 - N 15 (pq_s x)) % 64) (pq_z x) i = st_up Np 16 (pq_s x) 1 i := fun i a b => sx_td_o _ i a b
      have TO : ∀ i, i ≠ 4 → i ≠ 5 → i ≠ 6 → i ≠ 15 → T i = st_up Np 16 (pq_s x) 1 i := by
        intro i a4 a5 a6 a15
        show sx_shf _ _ _ i = _
        unfold sx_shf
        rw [ss_up_n a15, ss_up_n a4, ss_up_n a6]
        exact tdo i a5 a6
      have N2o : ∀ i, i ≠ 4 → i ≠ 5 → i ≠ 6 → i ≠ 8 → i ≠ 15 → i ≠ 16 → i ≠ 45 → i ≠ 46 → N2 i = en_g Np d i := by
        intro i a4 a5 a6 a8 a15 a16 a45 a46
        show st_up (st_up (en_g T d) 45 _ _) 46 _ _ i = _
        rw [ss_up_n a46, ss_up_n a45]
        unfold en_g
        by_cases e42 : i = 42
        · subst e42
          show ub_un (T 42) _ _ = ub_un (Np 42) _ _
          rw [TO 42 (by decide) (by decide) (by decide) (by decide)]; rfl
        · rw [ss_up_n e42, ss_up_n e42]
          by_cases e41 : i = 41
          · subst e41
            show ub_un (T 41) _ _ = ub_un (Np 41) _ _
            rw [TO 41 (by decide) (by decide) (by decide) (by decide)]; rfl
          · rw [ss_up_n e41, ss_up_n e41, TO i a4 a5 a6 a15, ss_up_n a16]
      have SD := si_dat (C := C) (A := st_up Np 16 (pq_s x) 1) (N2 := st_up T 45 (pq_s x) (N 45 (pq_s x) + t)) (s := pq_s x) (a := pq_a x) (z := pq_z x) (t := t) SIA (by show Np 48 _ ≤ _; rw [p48]; exact tka) (by show _ ≤ Np 44 _ + Np 11 _; rw [p44, p11]; exact tkb) PK
        (by show ∀ j, j < t → sx_td _ _ ((pq_a x % 64 + 64 - Np 15 _) % 64) _ 6 _ / 2 ^ j % 2 = 1; rw [p15]; exact tt2) (by show sx_td _ _ ((pq_a x % 64 + 64 - Np 15 _) % 64) _ 6 _ / 2 ^ t % 2 = 0; rw [p15]; exact tt3)
        (fun i a4 a5 a6 a15 a45 => by rw [ss_up_n a45]; exact TO i a4 a5 a6 a15)
        (by
          show ub_un (sx_td _ _ _ _ 4) (pq_s x) (sx_td _ _ _ _ 4 (pq_s x) + t) (pq_s x) = _
          rw [ub_s, tdo 4 (by decide) (by decide)])
        (by
          show sx_td _ _ _ _ 5 = sx_td _ _ ((pq_a x % 64 + 64 - Np 15 _) % 64) _ 5
          rw [p15])
        (by
          show ub_un (sx_td _ _ _ _ 6) (pq_s x) (sx_td _ _ _ _ 6 (pq_s x) / 2 ^ t) (pq_s x) = sx_td _ _ ((pq_a x % 64 + 64 - Np 15 _) % 64) _ 6 _ / 2 ^ t
          rw [ub_s, p15])
        (by
          show ub_un (sx_td _ _ _ _ 15) (pq_s x) ((sx_td _ _ _ _ 15 (pq_s x) + t) % 64) (pq_s x) = _
          rw [ub_s, tdo 15 (by decide) (by decide)])
        (by
          rw [ss_up_s, ub_s]
          show _ = Np 45 (pq_s x) + t
          rw [p45])
      obtain ⟨SD1, SD2, SD3⟩ := SD
      have ic : Np 4 (pq_s x) + t ≤ 12 := SD3
      have hS : ∀ u, u < 4 → si C N2 u := by
        intro u hu
        by_cases e : u = pq_s x
        · subst e
          exact si_cg (N := st_up T 45 (pq_s x) (N 45 (pq_s x) + t)) rfl rfl rfl rfl rfl rfl rfl rfl rfl rfl rfl rfl rfl rfl rfl rfl rfl rfl rfl rfl rfl rfl SD1
        · have TOu : ∀ i, i ≠ 5 → i ≠ 41 → i ≠ 42 → i ≠ 46 → N2 i u = Np i u := by
            intro i a5 a41 a42 a46
            show st_up (st_up (en_g T d) 45 _ _) 46 _ _ i u = _
            rw [ss_up_n a46]
            unfold en_g
            by_cases c45 : i = 45
            · subst c45
              rw [ss_up_s, ub_n e, ss_up_n a42, ss_up_n a41, TO 45 (by decide) (by decide) (by decide) (by decide)]; rfl
            · rw [ss_up_n c45, ss_up_n a42, ss_up_n a41]
              by_cases c : i = 4 ∨ i = 6 ∨ i = 15
              · rcases c with c | c | c
                · subst c
                  show ub_un (sx_td _ _ _ _ 4) _ _ u = _
                  rw [ub_n e, tdo 4 (by decide) (by decide)]; rfl
                · subst c
                  show ub_un (sx_td _ _ _ _ 6) _ _ u = _
                  rw [ub_n e]
                  have := sx_td_u6 (N := st_up Np 16 (pq_s x) 1) (s := pq_s x) (off := (pq_a x % 64 + 64 - N 15 (pq_s x)) % 64) e (pq_z x)
                  rw [this]; rfl
                · subst c
                  show ub_un (sx_td _ _ _ _ 15) _ _ u = _
                  rw [ub_n e, tdo 15 (by decide) (by decide)]; rfl
              · rw [TO i (by omega) a5 (by omega) (by omega)]
                by_cases c16 : i = 16
                · subst c16
                  rw [ss_up_s, ub_n e]
                · rw [ss_up_n c16]
          refine si_pt (N := N) ?_ ?_ ?_ ?_ ?_ ?_ ?_ ?_ ?_ ?_ ?_ ?_ ?_ ?_ ?_ ?_ ?_ ?_ ?_ ?_ ?_ ?_ (I5 u hu)
          · rw [TOu 0 (by decide) (by decide) (by decide) (by decide), p0]
          · rw [TOu 1 (by decide) (by decide) (by decide) (by decide), p1]
          · rw [TOu 3 (by decide) (by decide) (by decide) (by decide), p3]
          · rw [TOu 4 (by decide) (by decide) (by decide) (by decide), p4]
          · rw [TOu 6 (by decide) (by decide) (by decide) (by decide), p6]
          · rw [TOu 7 (by decide) (by decide) (by decide) (by decide), p7]
          · rw [TOu 8 (by decide) (by decide) (by decide) (by decide), p8]
          · rw [TOu 9 (by decide) (by decide) (by decide) (by decide), p9]
          · rw [TOu 10 (by decide) (by decide) (by decide) (by decide), p10]
          · rw [TOu 11 (by decide) (by decide) (by decide) (by decide), p11]
          · rw [TOu 12 (by decide) (by decide) (by decide) (by decide), p12]
          · rw [TOu 13 (by decide) (by decide) (by decide) (by decide), p13]
          · rw [TOu 14 (by decide) (by decide) (by decide) (by decide), p14]
          · rw [TOu 15 (by decide) (by decide) (by decide) (by decide), p15]
          · rw [TOu 16 (by decide) (by decide) (by decide) (by decide), p16]
          · rw [TOu 44 (by decide) (by decide) (by decide) (by decide), p44]
          · rw [TOu 45 (by decide) (by decide) (by decide) (by decide), p45]
          · rw [TOu 48 (by decide) (by decide) (by decide) (by decide), p48]
          · rw [TOu 49 (by decide) (by decide) (by decide) (by decide), p49]
          · rw [TOu 50 (by decide) (by decide) (by decide) (by decide), p50]
          · show T 2 = _
            rw [TO 2 (by decide) (by decide) (by decide) (by decide)]; exact p2
          · intro w hw1 hw2
            show sx_td _ _ _ _ 5 w = _
            have T3 := sx_td_5 (N := st_up Np 16 (pq_s x) 1) (s := pq_s x) (off := (pq_a x % 64 + 64 - N 15 (pq_s x)) % 64) (q := w) (by omega) (pq_z x)
            rw [T3]
            show Np 5 w = _
            rw [p5]
      obtain ⟨r1, r2⟩ := ev_own (N := N) (N1 := en_g Np d) (N2 := N2) (s := pq_s x) hd hp hdel hl hN g41 g42 J rfl (by omega) n6 N2o
        (by show T 16 = _; rw [TO 16 (by decide) (by decide) (by decide) (by decide), ss_up_s, p16])
        (by
          intro u
          rw [if_neg (fun h => by omega)]
          show T 8 u = _
          rw [TO 8 (by decide) (by decide) (by decide) (by decide)]
          show Np 8 u = _
          rw [p8])
        (by
          intro u hu
          show ub_un (T 45) (pq_s x) _ u = _
          rw [ub_n hu, TO 45 (by decide) (by decide) (by decide) (by decide)]
          show Np 45 u = _
          rw [p45])
        (by
          show _ ≤ ub_un (T 45) (pq_s x) (N 45 (pq_s x) + t) (pq_s x)
          rw [ub_s]; omega)
        (by
          intro _ c1 c2
          show _ < ub_un (T 45) (pq_s x) (N 45 (pq_s x) + t) (pq_s x)
          rw [ub_s]
          have := SD2 (by show _ ≤ Np 45 _; rw [p45]; exact c1) (by show Np 45 _ < _; rw [p45]; exact c2)
          omega)
        (by
          show ub_un (T 46) (1 - d) ov = _
          rw [TO 46 (by decide) (by decide) (by decide) (by decide)]
          show ub_un (Np 46) (1 - d) ov = _
          rw [p46])
        hS I
      have KC : kc N N2 := ⟨(N2o 7 (by decide) (by decide) (by decide) (by decide) (by decide) (by decide) (by decide) (by decide)).trans (hN 7 (by decide) (by decide) (by decide) (by decide) (by decide) (by decide) (by decide) (by decide) (by decide) (by decide)), (N2o 24 (by decide) (by decide) (by decide) (by decide) (by decide) (by decide) (by decide) (by decide)).trans (hN 24 (by decide) (by decide) (by decide) (by decide) (by decide) (by decide) (by decide) (by decide) (by decide) (by decide)), (N2o 49 (by decide) (by decide) (by decide) (by decide) (by decide) (by decide) (by decide) (by decide)).trans (hN 49 (by decide) (by decide) (by decide) (by decide) (by decide) (by decide) (by decide) (by decide) (by decide) (by decide)), (N2o 50 (by decide) (by decide) (by decide) (by decide) (by decide) (by decide) (by decide) (by decide)).trans (hN 50 (by decide) (by decide) (by decide) (by decide) (by decide) (by decide) (by decide) (by decide) (by decide) (by decide))⟩
      refine ⟨N2, ev_enL lv d x rest, r1, r2, ?_, ?_, ?_, KC, fun post ch h => n7 post ch ?_⟩
      · rw [N2o 29 (by decide) (by decide) (by decide) (by decide) (by decide) (by decide) (by decide) (by decide)]; exact n29
      · rw [N2o 30 (by decide) (by decide) (by decide) (by decide) (by decide) (by decide) (by decide) (by decide)]; exact n30
      · rw [N2o 42 (by decide) (by decide) (by decide) (by decide) (by decide) (by decide) (by decide) (by decide), g42, ub_s]
      · refine sx_takePacket0 (N := Np) (s := pq_s x) (z := pq_z x) (t := t) s4 z4 (by rw [P0]; omega) (by rw [P1]; exact Nat.mod_lt _ (by decide)) (by rw [p3]; exact s3) (by rw [p4]; exact s4') (by rw [p6]; exact s6) (by rw [p15, s15]; exact Nat.mod_lt _ (by decide)) tt1 ?_ ?_ ?_
        · rw [P1, p15]; exact tt2
        · rw [P1, p15]; exact tt3
        · rw [P1, p15]; exact h
    · -- an acknowledgement
      have hz1 := (wf.2.2.2.1 k1).2
      have sdd := (wf.2.2.2.1 k1).1
      have tkc := tk.2.2 k1
      have akx : ak (pq_s x) (N 45 (pq_s x)) (N 44 (pq_s x)) (x :: (rest ++ lv (3 * d))) := by
        have q1 := DR.2.2.2.2.2.2.2.2.2.2.1
        have q2 := DR.2.2.2.2.2.2.2.2.2.2.2.1
        rw [hl] at q1 q2
        clear DR
        rcases (by omega : pq_s x = 2 - 2 * d ∨ pq_s x = 3 - 2 * d) with e | e
        · rw [e]; exact q1
        · rw [e]; exact q2
      have ax := akx.1 ⟨k1, rfl⟩
      have ale := ak_le ax.2
      have ax1 := ax.1
      clear DR akx ax
      have hlen : pq_len x = 3 := by unfold pq_len; rw [if_neg (by omega), if_pos k1]
      have P2 : Np 17 2 = N 49 (pq_s x) - pq_a x := by
        rw [n4 2 (by omega)]
        unfold pq_b
        rw [if_neg (by decide), if_neg (by decide), if_pos k1]
      have am : (pq_a x % 64 + 64 - N 9 (pq_s x)) % 64 = pq_a x - N 44 (pq_s x) := by
        rw [s9]; exact a_mod ax1 (by omega)
      let wt := if 0 < N 11 (pq_s x) - (pq_a x - N 44 (pq_s x)) then 150 else if 0 < pq_a x - N 44 (pq_s x) ∨ N 1 (pq_s x) - (pq_a x - N 44 (pq_s x)) = 0 then 0 else N 13 (pq_s x)
      have wt150 : wt ≤ 150 := by
        show (if _ then 150 else if _ then 0 else N 13 (pq_s x)) ≤ 150
        split
        · omega
        · split <;> omega
      let A := sx_ack Np (pq_s x) (pq_z x) (pq_a x % 64) (N 49 (pq_s x) - pq_a x)
      let N2 := st_up (st_up (en_g A d) 44 (pq_s x) (pq_a x)) 47 (pq_s x) (wt - 1)
      have A0 : A 0 = ub_un (N 0) (pq_s x) ((N 0 (pq_s x) + (pq_a x - N 44 (pq_s x))) % 24) := by
        show sx_ack _ _ _ _ _ 0 = _
        rw [ack_o (by decide) (by decide)]
        show ub_un (Np 0) _ _ = _
        rw [p0, p9, am]
      have A1 : A 1 = ub_un (N 1) (pq_s x) (N 1 (pq_s x) - (pq_a x - N 44 (pq_s x))) := by
        show sx_ack _ _ _ _ _ 1 = _
        rw [ack_o (by decide) (by decide)]
        show ub_un (Np 1) _ _ = _
        rw [p1, p9, am]
      have A9 : A 9 = ub_un (N 9) (pq_s x) (pq_a x % 64) := by
        show sx_ack _ _ _ _ _ 9 = _
        rw [ack_o (by decide) (by decide)]
        show ub_un (Np 9) _ _ = _
        rw [p9]
      have A10 : A 10 = ub_un (N 10) (pq_s x) (N 10 (pq_s x) - (pq_a x - N 44 (pq_s x))) := by
        show sx_ack _ _ _ _ _ 10 = _
        rw [ack_o (by decide) (by decide)]
        show ub_un (Np 10) _ _ = _
        rw [p10, p9, am]
      have A11 : A 11 = ub_un (N 11) (pq_s x) (N 11 (pq_s x) - (pq_a x - N 44 (pq_s x))) := by
        show sx_ack _ _ _ _ _ 11 = _
        rw [ack_o (by decide) (by decide)]
        show ub_un (Np 11) _ _ = _
        rw [p11, p9, am]
      have A12 : A 12 = ub_un (N 12) (pq_s x) (N 49 (pq_s x) - pq_a x + 1) := by
        show sx_ack _ _ _ _ _ 12 = _
        rw [ack_o (by decide) (by decide)]
        show ub_un (Np 12) _ _ = _
        rw [p12]
      have A13 : A 13 = ub_un (N 13) (pq_s x) wt := by
        show sx_ack _ _ _ _ _ 13 = _
        rw [ack_13, p13, p11, p9, p1, am]
      have A14 : A 14 = ub_un (N 14) (pq_s x) (if pq_z x = 0 then N 14 (pq_s x) else 1) := by
        show sx_ack _ _ _ _ _ 14 = _
        rw [ack_14, p14]
      have AO : ∀ i, i ≠ 0 → i ≠ 1 → i ≠ 9 → i ≠ 10 → i ≠ 11 → i ≠ 12 → i ≠ 13 → i ≠ 14 → A i = Np i := fun i a b c e f g h k => ack_o2 a b c e f g h k
      have N2o : ∀ i, i ≠ 0 → i ≠ 1 → i ≠ 9 → i ≠ 10 → i ≠ 11 → i ≠ 12 → i ≠ 13 → i ≠ 14 → i ≠ 44 → i ≠ 47 → N2 i = en_g Np d i := by
        intro i a0 a1 a9 a10 a11 a12 a13 a14 a44 a47
        show st_up (st_up (en_g A d) 44 _ _) 47 _ _ i = _
        rw [ss_up_n a47, ss_up_n a44]
        unfold en_g
        by_cases e42 : i = 42
        · subst e42
          show ub_un (A 42) _ _ = ub_un (Np 42) _ _
          rw [AO 42 (by decide) (by decide) (by decide) (by decide) (by decide) (by decide) (by decide) (by decide)]
        · rw [ss_up_n e42, ss_up_n e42]
          by_cases e41 : i = 41
          · subst e41
            show ub_un (A 41) _ _ = ub_un (Np 41) _ _
            rw [AO 41 (by decide) (by decide) (by decide) (by decide) (by decide) (by decide) (by decide) (by decide)]
          · rw [ss_up_n e41, ss_up_n e41, AO i a0 a1 a9 a10 a11 a12 a13 a14]
      have hS : ∀ u, u < 4 → si C N2 u := by
        intro u hu
        by_cases e : u = pq_s x
        · subst e
          refine si_ack (N := N) (a := pq_a x) (z := pq_z x) (wt := wt) (I5 _ hu) ax1 ale tkc hz1 wt150 ?_ ?_ ?_ ?_ ?_ ?_ ?_ ?_ ?_ (by rw [N2o 2 (by decide) (by decide) (by decide) (by decide) (by decide) (by decide) (by decide) (by decide) (by decide) (by decide)]; show Np 2 = _; exact p2) (by rw [N2o 3 (by decide) (by decide) (by decide) (by decide) (by decide) (by decide) (by decide) (by decide) (by decide) (by decide)]; show Np 3 = _; exact p3) (by rw [N2o 4 (by decide) (by decide) (by decide) (by decide) (by decide) (by decide) (by decide) (by decide) (by decide) (by decide)]; show Np 4 = _; exact p4) (by rw [N2o 5 (by decide) (by decide) (by decide) (by decide) (by decide) (by decide) (by decide) (by decide) (by decide) (by decide)]; show Np 5 = _; exact p5) (by rw [N2o 6 (by decide) (by decide) (by decide) (by decide) (by decide) (by decide) (by decide) (by decide) (by decide) (by decide)]; show Np 6 = _; exact p6) (by rw [N2o 7 (by decide) (by decide) (by decide) (by decide) (by decide) (by decide) (by decide) (by decide) (by decide) (by decide)]; show Np 7 = _; exact p7) (by rw [N2o 8 (by decide) (by decide) (by decide) (by decide) (by decide) (by decide) (by decide) (by decide) (by decide) (by decide)]; show Np 8 = _; exact p8) (by rw [N2o 15 (by decide) (by decide) (by decide) (by decide) (by decide) (by decide) (by decide) (by decide) (by decide) (by decide)]; show Np 15 = _; exact p15) (by rw [N2o 16 (by decide) (by decide) (by decide) (by decide) (by decide) (by decide) (by decide) (by decide) (by decide) (by decide)]; show Np 16 = _; exact p16) (by rw [N2o 45 (by decide) (by decide) (by decide) (by decide) (by decide) (by decide) (by decide) (by decide) (by decide) (by decide)]; show Np 45 = _; exact p45) (by rw [N2o 48 (by decide) (by decide) (by decide) (by decide) (by decide) (by decide) (by decide) (by decide) (by decide) (by decide)]; show Np 48 = _; exact p48) (by rw [N2o 49 (by decide) (by decide) (by decide) (by decide) (by decide) (by decide) (by decide) (by decide) (by decide) (by decide)]; show Np 49 = _; exact p49) (by rw [N2o 50 (by decide) (by decide) (by decide) (by decide) (by decide) (by decide) (by decide) (by decide) (by decide) (by decide)]; show Np 50 = _; exact p50)
          · show A 0 _ = _
            rw [A0, ub_s]
          · show A 1 _ = _
            rw [A1, ub_s]
          · show A 9 _ = _
            rw [A9, ub_s]
          · show A 10 _ = _
            rw [A10, ub_s]
          · show A 11 _ = _
            rw [A11, ub_s]
          · show A 12 _ = _
            rw [A12, ub_s]
          · show A 13 _ = _
            rw [A13, ub_s]
          · show A 14 _ = _
            rw [A14, ub_s]
          · show ub_un (A 44) _ _ _ = _
            rw [ub_s]
        · refine si_pt (N := N) (by show A 0 u = _; rw [A0, ub_n e]) (by show A 1 u = _; rw [A1, ub_n e]) (by rw [N2o 3 (by decide) (by decide) (by decide) (by decide) (by decide) (by decide) (by decide) (by decide) (by decide) (by decide)]; show Np 3 u = _; rw [p3]) (by rw [N2o 4 (by decide) (by decide) (by decide) (by decide) (by decide) (by decide) (by decide) (by decide) (by decide) (by decide)]; show Np 4 u = _; rw [p4]) (by rw [N2o 6 (by decide) (by decide) (by decide) (by decide) (by decide) (by decide) (by decide) (by decide) (by decide) (by decide)]; show Np 6 u = _; rw [p6]) (by rw [N2o 7 (by decide) (by decide) (by decide) (by decide) (by decide) (by decide) (by decide) (by decide) (by decide) (by decide)]; show Np 7 u = _; rw [p7]) (by rw [N2o 8 (by decide) (by decide) (by decide) (by decide) (by decide) (by decide) (by decide) (by decide) (by decide) (by decide)]; show Np 8 u = _; rw [p8]) (by show A 9 u = _; rw [A9, ub_n e]) (by show A 10 u = _; rw [A10, ub_n e]) (by show A 11 u = _; rw [A11, ub_n e]) (by show A 12 u = _; rw [A12, ub_n e]) (by show A 13 u = _; rw [A13, ub_n e]) (by show A 14 u = _; rw [A14, ub_n e]) (by rw [N2o 15 (by decide) (by decide) (by decide) (by decide) (by decide) (by decide) (by decide) (by decide) (by decide) (by decide)]; show Np 15 u = _; rw [p15]) (by rw [N2o 16 (by decide) (by decide) (by decide) (by decide) (by decide) (by decide) (by decide) (by decide) (by decide) (by decide)]; show Np 16 u = _; rw [p16]) (by show ub_un (A 44) _ _ u = _; rw [ub_n e, AO 44 (by decide) (by decide) (by decide) (by decide) (by decide) (by decide) (by decide) (by decide), p44]) (by rw [N2o 45 (by decide) (by decide) (by decide) (by decide) (by decide) (by decide) (by decide) (by decide) (by decide) (by decide)]; show Np 45 u = _; rw [p45]) (by rw [N2o 48 (by decide) (by decide) (by decide) (by decide) (by decide) (by decide) (by decide) (by decide) (by decide) (by decide)]; show Np 48 u = _; rw [p48]) (by rw [N2o 49 (by decide) (by decide) (by decide) (by decide) (by decide) (by decide) (by decide) (by decide) (by decide) (by decide)]; show Np 49 u = _; rw [p49]) (by rw [N2o 50 (by decide) (by decide) (by decide) (by decide) (by decide) (by decide) (by decide) (by decide) (by decide) (by decide)]; show Np 50 u = _; rw [p50]) (by rw [N2o 2 (by decide) (by decide) (by decide) (by decide) (by decide) (by decide) (by decide) (by decide) (by decide) (by decide)]; show Np 2 = _; exact p2) (fun q _ _ => by rw [N2o 5 (by decide) (by decide) (by decide) (by decide) (by decide) (by decide) (by decide) (by decide) (by decide) (by decide)]; show Np 5 q = _; rw [p5]) (I5 u hu)
      obtain ⟨r1, r2⟩ := ev_ack (N := N) (N1 := en_g Np d) (N2 := N2) (s := pq_s x) (a := pq_a x) (z := pq_z x) (wt := wt) hd hp hdel hl hN g41 g42 J rfl k1 n6 rfl rfl N2o A1 A10 A11 A12 A14
        (by show ub_un (A 44) _ _ = _; rw [AO 44 (by decide) (by decide) (by decide) (by decide) (by decide) (by decide) (by decide) (by decide), p44]) rfl A13
        (by show ub_un (A 47) _ _ = _; rw [AO 47 (by decide) (by decide) (by decide) (by decide) (by decide) (by decide) (by decide) (by decide), p47]) hS I
      have KC : kc N N2 := ⟨(N2o 7 (by decide) (by decide) (by decide) (by decide) (by decide) (by decide) (by decide) (by decide) (by decide) (by decide)).trans (hN 7 (by decide) (by decide) (by decide) (by decide) (by decide) (by decide) (by decide) (by decide) (by decide) (by decide)), (N2o 24 (by decide) (by decide) (by decide) (by decide) (by decide) (by decide) (by decide) (by decide) (by decide) (by decide)).trans (hN 24 (by decide) (by decide) (by decide) (by decide) (by decide) (by decide) (by decide) (by decide) (by decide) (by decide)), (N2o 49 (by decide) (by decide) (by decide) (by decide) (by decide) (by decide) (by decide) (by decide) (by decide) (by decide)).trans (hN 49 (by decide) (by decide) (by decide) (by decide) (by decide) (by decide) (by decide) (by decide) (by decide) (by decide)), (N2o 50 (by decide) (by decide) (by decide) (by decide) (by decide) (by decide) (by decide) (by decide) (by decide) (by decide)).trans (hN 50 (by decide) (by decide) (by decide) (by decide) (by decide) (by decide) (by decide) (by decide) (by decide) (by decide))⟩
      refine ⟨N2, ev_enL lv d x rest, r1, r2, ?_, ?_, ?_, KC, fun post ch h => n7 post ch ?_⟩
      · rw [N2o 29 (by decide) (by decide) (by decide) (by decide) (by decide) (by decide) (by decide) (by decide) (by decide) (by decide)]; exact n29
      · rw [N2o 30 (by decide) (by decide) (by decide) (by decide) (by decide) (by decide) (by decide) (by decide) (by decide) (by decide)]; exact n30
      · rw [N2o 42 (by decide) (by decide) (by decide) (by decide) (by decide) (by decide) (by decide) (by decide) (by decide) (by decide), g42, ub_s]
      · refine sx_takePacket1 (N := Np) (s := pq_s x) (e := pq_z x) s4 hz1 (by rw [P0, k1]) (by rw [P1]; exact Nat.mod_lt _ (by decide)) (by rw [P2]; omega) (by rw [p9, s9]; exact Nat.mod_lt _ (by decide)) (by rw [P1, p9, p11, am]; omega) (by rw [p11, p1]; omega) (by rw [p1]; omega) (by rw [p0]; exact s0) (by rw [p10]; omega) ?_
        rw [P1, P2]
        exact h
    · -- the end of a stream
      obtain ⟨q1, q2, q3⟩ := tk.2.1 k2
      have z0 := wf.2.2.2.2.2.2 (by omega)
      clear DR
      let ov := if pq_s x % 2 = 1 ∧ N 16 (pq_s x) = 0 then 0 else N 46 (1 - d)
      let A := st_up (st_up Np 16 (pq_s x) 1) 8 (pq_s x) 1
      let N2 := st_up (en_g A d) 46 (1 - d) ov
      have N2o : ∀ i, i ≠ 4 → i ≠ 5 → i ≠ 6 → i ≠ 8 → i ≠ 15 → i ≠ 16 → i ≠ 45 → i ≠ 46 → N2 i = en_g Np d i := by
        intro i a4 a5 a6 a8 a15 a16 a45 a46
        show st_up (en_g A d) 46 _ _ i = _
        rw [ss_up_n a46]
        unfold en_g
        by_cases e42 : i = 42
        · subst e42; rfl
        · rw [ss_up_n e42, ss_up_n e42]
          by_cases e41 : i = 41
          · subst e41; rfl
          · rw [ss_up_n e41, ss_up_n e41]
            show st_up (st_up Np 16 _ _) 8 _ _ i = _
            rw [ss_up_n a8, ss_up_n a16]
      have hS : ∀ u, u < 4 → si C N2 u := by
        intro u hu
        have h := I5 u hu
        unfold si si_n si_f si_o si_i at h ⊢
        rw [show N2 0 = N 0 from p0]
        rw [show N2 1 = N 1 from p1]
        rw [show N2 2 = N 2 from p2]
        rw [show N2 3 = N 3 from p3]
        rw [show N2 4 = N 4 from p4]
        rw [show N2 5 = N 5 from p5]
        rw [show N2 6 = N 6 from p6]
        rw [show N2 7 = N 7 from p7]
        rw [show N2 9 = N 9 from p9]
        rw [show N2 10 = N 10 from p10]
        rw [show N2 11 = N 11 from p11]
        rw [show N2 12 = N 12 from p12]
        rw [show N2 13 = N 13 from p13]
        rw [show N2 14 = N 14 from p14]
        rw [show N2 15 = N 15 from p15]
        rw [show N2 44 = N 44 from p44]
        rw [show N2 45 = N 45 from p45]
        rw [show N2 48 = N 48 from p48]
        rw [show N2 49 = N 49 from p49]
        rw [show N2 50 = N 50 from p50]
        rw [show N2 8 = ub_un (N 8) (pq_s x) 1 from by show ub_un (Np 8) _ _ = _; rw [p8], show N2 16 = ub_un (N 16) (pq_s x) 1 from by show ub_un (Np 16) _ _ = _; rw [p16]]
        by_cases e : u = pq_s x
        · subst e
          rw [ub_s, ub_s]
          exact ⟨h.1, ⟨h.2.1.1, h.2.1.2.1, Nat.le_refl 1, h.2.1.2.2.2.1, Nat.le_refl 1, h.2.1.2.2.2.2.2.1, fun _ => ⟨q3, by omega⟩, fun c => ⟨rfl, (h.2.1.2.2.2.2.2.2.2 c).2⟩⟩, h.2.2⟩
        · rw [ub_n e, ub_n e]; exact h
      obtain ⟨r1, r2⟩ := ev_own (N := N) (N1 := en_g Np d) (N2 := N2) (s := pq_s x) hd hp hdel hl hN g41 g42 J rfl (by omega) n6 N2o
        (by show ub_un (Np 16) _ _ = _; rw [p16])
        (by
          intro u
          show ub_un (Np 8) _ _ u = _
          rw [p8]
          by_cases e : u = pq_s x
          · rw [e, ub_s, if_pos ⟨rfl, k2⟩]
          · rw [ub_n e, if_neg (fun h => e h.1)])
        (by intro u _; show Np 45 u = _; rw [p45]) (by show _ ≤ Np 45 _; rw [p45]; exact Nat.le_refl _) (by intro c; omega)
        (by show ub_un (Np 46) (1 - d) ov = _; rw [p46]) hS I
      have KC : kc N N2 := ⟨(N2o 7 (by decide) (by decide) (by decide) (by decide) (by decide) (by decide) (by decide) (by decide)).trans (hN 7 (by decide) (by decide) (by decide) (by decide) (by decide) (by decide) (by decide) (by decide) (by decide) (by decide)), (N2o 24 (by decide) (by decide) (by decide) (by decide) (by decide) (by decide) (by decide) (by decide)).trans (hN 24 (by decide) (by decide) (by decide) (by decide) (by decide) (by decide) (by decide) (by decide) (by decide) (by decide)), (N2o 49 (by decide) (by decide) (by decide) (by decide) (by decide) (by decide) (by decide) (by decide)).trans (hN 49 (by decide) (by decide) (by decide) (by decide) (by decide) (by decide) (by decide) (by decide) (by decide) (by decide)), (N2o 50 (by decide) (by decide) (by decide) (by decide) (by decide) (by decide) (by decide) (by decide)).trans (hN 50 (by decide) (by decide) (by decide) (by decide) (by decide) (by decide) (by decide) (by decide) (by decide) (by decide))⟩
      refine ⟨N2, ev_enL lv d x rest, r1, r2, ?_, ?_, ?_, KC, fun post ch h => n7 post ch ?_⟩
      · rw [N2o 29 (by decide) (by decide) (by decide) (by decide) (by decide) (by decide) (by decide) (by decide)]; exact n29
      · rw [N2o 30 (by decide) (by decide) (by decide) (by decide) (by decide) (by decide) (by decide) (by decide)]; exact n30
      · rw [N2o 42 (by decide) (by decide) (by decide) (by decide) (by decide) (by decide) (by decide) (by decide), g42, ub_s]
      · refine sx_takePacket2 (N := Np) (s := pq_s x) s4 (by rw [P0, k2, z0]) (by rw [P1, p15, s15, q1]; congr 1; omega) h
    · -- a question
      have z0 := wf.2.2.2.2.2.2 (by omega)
      clear DR
      let ov := if pq_s x % 2 = 1 ∧ N 16 (pq_s x) = 0 then 0 else N 46 (1 - d)
      let A := st_up Np 16 (pq_s x) 1
      let N2 := st_up (en_g A d) 46 (1 - d) ov
      have N2o : ∀ i, i ≠ 4 → i ≠ 5 → i ≠ 6 → i ≠ 8 → i ≠ 15 → i ≠ 16 → i ≠ 45 → i ≠ 46 → N2 i = en_g Np d i := by
        intro i a4 a5 a6 a8 a15 a16 a45 a46
        show st_up (en_g A d) 46 _ _ i = _
        rw [ss_up_n a46]
        unfold en_g
        by_cases e42 : i = 42
        · subst e42; rfl
        · rw [ss_up_n e42, ss_up_n e42]
          by_cases e41 : i = 41
          · subst e41; rfl
          · rw [ss_up_n e41, ss_up_n e41]
            show st_up Np 16 _ _ i = _
            rw [ss_up_n a16]
      have hS : ∀ u, u < 4 → si C N2 u := by
        intro u hu
        have h := I5 u hu
        unfold si si_n si_f si_o si_i at h ⊢
        rw [show N2 0 = N 0 from p0]
        rw [show N2 1 = N 1 from p1]
        rw [show N2 2 = N 2 from p2]
        rw [show N2 3 = N 3 from p3]
        rw [show N2 4 = N 4 from p4]
        rw [show N2 5 = N 5 from p5]
        rw [show N2 6 = N 6 from p6]
        rw [show N2 7 = N 7 from p7]
        rw [show N2 9 = N 9 from p9]
        rw [show N2 10 = N 10 from p10]
        rw [show N2 11 = N 11 from p11]
        rw [show N2 12 = N 12 from p12]
        rw [show N2 13 = N 13 from p13]
        rw [show N2 14 = N 14 from p14]
        rw [show N2 15 = N 15 from p15]
        rw [show N2 44 = N 44 from p44]
        rw [show N2 45 = N 45 from p45]
        rw [show N2 48 = N 48 from p48]
        rw [show N2 49 = N 49 from p49]
        rw [show N2 50 = N 50 from p50]
        rw [show N2 8 = N 8 from p8, show N2 16 = ub_un (N 16) (pq_s x) 1 from by show ub_un (Np 16) _ _ = _; rw [p16]]
        by_cases e : u = pq_s x
        · subst e
          rw [ub_s]
          exact ⟨h.1, ⟨h.2.1.1, h.2.1.2.1, h.2.1.2.2.1, h.2.1.2.2.2.1, Nat.le_refl 1, h.2.1.2.2.2.2.2.1, h.2.1.2.2.2.2.2.2⟩, h.2.2⟩
        · rw [ub_n e]; exact h
      obtain ⟨r1, r2⟩ := ev_own (N := N) (N1 := en_g Np d) (N2 := N2) (s := pq_s x) hd hp hdel hl hN g41 g42 J rfl (by omega) n6 N2o
        (by show ub_un (Np 16) _ _ = _; rw [p16])
        (by
          intro u
          show Np 8 u = _
          rw [p8, if_neg (fun h => by omega)])
        (by intro u _; show Np 45 u = _; rw [p45]) (by show _ ≤ Np 45 _; rw [p45]; exact Nat.le_refl _) (by intro c; omega)
        (by show ub_un (Np 46) (1 - d) ov = _; rw [p46]) hS I
      have KC : kc N N2 := ⟨(N2o 7 (by decide) (by decide) (by decide) (by decide) (by decide) (by decide) (by decide) (by decide)).trans (hN 7 (by decide) (by decide) (by decide) (by decide) (by decide) (by decide) (by decide) (by decide) (by decide) (by decide)), (N2o 24 (by decide) (by decide) (by decide) (by decide) (by decide) (by decide) (by decide) (by decide)).trans (hN 24 (by decide) (by decide) (by decide) (by decide) (by decide) (by decide) (by decide) (by decide) (by decide) (by decide)), (N2o 49 (by decide) (by decide) (by decide) (by decide) (by decide) (by decide) (by decide) (by decide)).trans (hN 49 (by decide) (by decide) (by decide) (by decide) (by decide) (by decide) (by decide) (by decide) (by decide) (by decide)), (N2o 50 (by decide) (by decide) (by decide) (by decide) (by decide) (by decide) (by decide) (by decide)).trans (hN 50 (by decide) (by decide) (by decide) (by decide) (by decide) (by decide) (by decide) (by decide) (by decide) (by decide))⟩
      refine ⟨N2, ev_enL lv d x rest, r1, r2, ?_, ?_, ?_, KC, fun post ch h => n7 post ch ?_⟩
      · rw [N2o 29 (by decide) (by decide) (by decide) (by decide) (by decide) (by decide) (by decide) (by decide)]; exact n29
      · rw [N2o 30 (by decide) (by decide) (by decide) (by decide) (by decide) (by decide) (by decide) (by decide)]; exact n30
      · rw [N2o 42 (by decide) (by decide) (by decide) (by decide) (by decide) (by decide) (by decide) (by decide), g42, ub_s]
      · exact sx_takePacket3 (N := Np) (s := pq_s x) s4 (by rw [P0, k3, z0]) h
end
section
/-! a frame arrives -/
abbrev SJ : Type := Int32 → Int32 → Int32 → (Nat → Int32) → (Nat → Int32) → (Nat → Int32) → (Nat → Int32) → (Nat → Int32) → (Nat → Int32) → (Nat → Int32) → (Nat → Int32) → (Nat → Int32) → (Nat → Int32) → (Nat → Int32) → (Nat → Int32) → (Nat → Int32) → (Nat → Int32) → (Nat → Int32) → (Nat → Int32) → (Nat → Int32) → (Nat → Int32) → (Nat → Int32) → (Nat → Int32) → (Nat → Int32) → (Nat → Int32) → (Nat → Int32) → (Nat → Int32) → (Nat → Int32) → (Nat → Int32) → (Nat → Int32) → (Nat → Int32) → (Nat → Int32) → (Nat → Int32) → (Nat → Int32) → (Nat → Int32) → (Nat → Int32) → (Nat → Int32) → (Nat → Int32) → (Nat → Int32) → (Nat → Int32) → (Nat → Int32) → Prop
def sj (J : SJ) (i : Nat) : SX → Prop := fun u => match u with | (a0, a1, a2, a3, a4, a5, a6, a7, a8, a9, a10, a11, a12, a13, a14, a15, a16, a17, a18, a19, a20, a21, a22, a23, a24, a25, a26, a27, a28, a29, a30, a31, a32, a33, a34, a35, a36, a37, a38, a39) => ∀ y : Int32, y = nI i + 1 → J y a0 a1 a2 a3 a4 a5 a6 a7 a8 a9 a10 a11 a12 a13 a14 a15 a16 a17 a18 a19 a20 a21 a22 a23 a24 a25 a26 a27 a28 a29 a30 a31 a32 a33 a34 a35 a36 a37 a38 a39
theorem ar_40 {post : SX → Prop} {J : SJ} {x2 : Int32} {w i len tl : Nat} {ch : Int32} {N : Nat → Nat → Nat} (hw : w < 4) (hi : i < 4) (h2 : 2 ≤ len) (h6 : len ≤ 6) (hB : ∀ j, j < len → N 30 (6 * (4 * w + i) + j) < 256)
    (hbad : cr_f (fun j => N 30 (6 * (4 * w + i) + j)) (len - 1) ≠ N 30 (6 * (4 * w + i) + (len - 1)) → ss_S (J (nI (i + 1))) tl ch (st_bl N 37 0 len (fun j => N 30 (6 * (4 * w + i) + j))))
    (hans : cr_f (fun j => N 30 (6 * (4 * w + i) + j)) (len - 1) = N 30 (6 * (4 * w + i) + (len - 1)) → 2 ≤ N 30 (6 * (4 * w + i)) → wpX_takeAnswer (sj J i) (ss_st tl ch (st_bl N 37 0 len (fun j => N 30 (6 * (4 * w + i) + j)))) (nI (w ^^^ 1)) (nI (N 30 (6 * (4 * w + i)) - 2)))
    (hdat : cr_f (fun j => N 30 (6 * (4 * w + i) + j)) (len - 1) = N 30 (6 * (4 * w + i) + (len - 1)) → N 30 (6 * (4 * w + i)) < 2 → wpX_takeFrame (sj J i) (ss_st tl ch (st_bl N 37 0 len (fun j => N 30 (6 * (4 * w + i) + j)))) (nI w) (nI (len - 2))) :
    ∀ d n k, k + d = len → d < n → ss_A (wX_arrive_40 post J (nI w) x2 (nI i) (nI (4 * w + i)) (nI len) (nI tl) ch n (nI k)) (st_bl N 37 0 k (fun j => N 30 (6 * (4 * w + i) + j))) := by
  intro d
  induction d with
  | zero =>
    intro n k hk hn
    obtain ⟨m, rfl⟩ : ∃ m, n = m + 1 := ⟨n - 1, by omega⟩
    obtain rfl : k = len := by omega
    have ef : ∀ j, j < k → st_bl N 37 0 k (fun j => N 30 (6 * (4 * w + i) + j)) 37 j = N 30 (6 * (4 * w + i) + j) := by
      intro j hj
      show ub_bl (N 37) 0 k (fun j => N 30 (6 * (4 * w + i) + j)) j = _
      have := ub_bl_in (f := N 37) (b := 0) (n := k) (g := fun j => N 30 (6 * (4 * w + i) + j)) hj
      rw [Nat.zero_add] at this
      exact this
    have e1 : nI k - 1 = nI (k - 1) := pk_sub (b := 1) (by omega)
    have e2 : nI k - 2 = nI (k - 2) := pk_sub (b := 2) (by omega)
    refine br_t (nI_le (by omega) (by omega)) ?_
    rw [e1, e2]
    refine cr_w (N := st_bl N 37 0 k (fun j => N 30 (6 * (4 * w + i) + j))) (by omega) (fun j hj => by rw [ef j (by omega)]; exact hB j (by omega)) ?_
    have ec : cr_f (st_bl N 37 0 k (fun j => N 30 (6 * (4 * w + i) + j)) 37) (k - 1) = cr_f (fun j => N 30 (6 * (4 * w + i) + j)) (k - 1) := cr_f_eq _ (fun j hj => ef j (by omega))
    have lt1 : cr_f (fun j => N 30 (6 * (4 * w + i) + j)) (k - 1) < 256 := cr_f_lt _ (fun j hj => hB j (by omega))
    have lt2 := hB (k - 1) (by omega)
    have e0 : ss_c (st_bl N 37 0 k (fun j => N 30 (6 * (4 * w + i) + j)) 37) 0 = nI (N 30 (6 * (4 * w + i))) := by
      rw [ss_cr, ef 0 (by omega)]; rfl
    have b0 := hB 0 (by omega)
    rw [Nat.add_zero] at b0
    refine ⟨ss_in (by omega), ?_⟩
    rw [ss_rd (by omega), ef (k - 1) (by omega), ec]
    by_cases g : cr_f (fun j => N 30 (6 * (4 * w + i) + j)) (k - 1) = N 30 (6 * (4 * w + i) + (k - 1))
    · refine br_t (by rw [g]) ?_
      rw [e0]
      by_cases z : N 30 (6 * (4 * w + i)) < 2
      · exact br_t (nI_lt (b := 2) z (by omega)) (hdat g z)
      · refine br_f (nI_nlt (b := 2) (by omega) (by omega)) ?_
        rw [show nI w ^^^ 1 = nI (w ^^^ 1) from nx_xor w 1, show nI (N 30 (6 * (4 * w + i))) - 2 = nI (N 30 (6 * (4 * w + i)) - 2) from pk_sub (b := 2) (by omega)]
        exact hans g (by omega)
    · refine br_f ?_ (nm_r (nI_1 i) (hbad g))
      rw [nI_eq (by omega) (by omega)]; exact g
  | succ d ih =>
    intro n k hk hn
    obtain ⟨m, rfl⟩ : ∃ m, n = m + 1 := ⟨n - 1, by omega⟩
    refine br_f (nI_ge (by omega) (by omega)) ⟨?_, ss_in (by omega), nm_r (e' := ss_c (ub_bl (N 37) 0 (k + 1) (fun j => N 30 (6 * (4 * w + i) + j)))) ?_ (nm_r (nI_1 k) (ih m (k + 1) (by omega) (by omega)))⟩
    · rw [ss_mul6, nI_add]; exact ss_in (by omega)
    · rw [← ub_bls, Nat.zero_add]
      refine ss_stv k _ rfl ?_ (by omega)
      show ss_c (N 30) _ = _
      rw [ss_mul6, nI_add, ss_rd (by omega)]
theorem sj_e {J : SJ} {i tl : Nat} {ch : Int32} {N : Nat → Nat → Nat} (h : ss_S (J (nI (i + 1))) tl ch N) : sj J i (ss_st tl ch N) := nm_r (nI_1 i) h
/-- past a frame that is done with -/
theorem fr_adv {lo hi : Nat → Nat} {C N : Nat → Nat → Nat} {lv : Lv} {w i : Nat} (hw : w < 4) (hlo : lo w = i) (c1 : N 42 w = 1 → ¬ (fr_g N w i ∧ N 30 (6 * (4 * w + i)) < 2)) (c2 : N 42 (w ^^^ 1) = 3 → ¬ (fr_g N w i ∧ 2 ≤ N 30 (6 * (4 * w + i)))) (I2 : ∀ v, v < 4 → fr lo hi C N lv v) : ∀ v, v < 4 → fr (ub_un lo w (i + 1)) hi C N lv v := by
  obtain ⟨x1, x2, x3⟩ := xx1 w hw
  intro v hv
  have F := I2 v hv
  unfold fr at F ⊢
  refine ⟨fun f a b => F.1 f ?_ b, fun c => ?_, fun c => ?_⟩
  · by_cases e : v = w
    · rw [e, ub_s] at a; rw [e]; omega
    · rw [ub_n e] at a; exact a
  · obtain ⟨f, p1, p2, p3, p4⟩ := F.2.1 c
    by_cases e : v = w
    · subst e
      refine ⟨f, ?_, p2, p3, p4⟩
      rw [ub_s]
      have : f ≠ i := fun q => by rw [q] at p3 p4; exact c1 c ⟨p3, p4⟩
      omega
    · exact ⟨f, by rw [ub_n e]; exact p1, p2, p3, p4⟩
  · obtain ⟨f, p1, p2, p3, p4⟩ := F.2.2 c
    by_cases e : v ^^^ 1 = w
    · have ev : v = w ^^^ 1 := by rw [← e]; exact (xx1 v hv).1.symm
      rw [ev] at c
      rw [e] at p1 p2 p3 p4 ⊢
      refine ⟨f, ?_, p2, p3, p4⟩
      rw [ub_s]
      have : f ≠ i := fun q => by rw [q] at p3 p4; exact c2 c ⟨p3, p4⟩
      omega
    · exact ⟨f, by rw [ub_n e]; exact p1, p2, p3, p4⟩
theorem Iv0_adv {lo hi : Nat → Nat} {C N : Nat → Nat → Nat} {lv : Lv} {tl w i : Nat} (hw : w < 4) (hlo : lo w = i) (c1 : N 42 w = 1 → ¬ (fr_g N w i ∧ N 30 (6 * (4 * w + i)) < 2)) (c2 : N 42 (w ^^^ 1) = 3 → ¬ (fr_g N w i ∧ 2 ≤ N 30 (6 * (4 * w + i)))) (I : Iv0 lo hi C tl N lv) : Iv0 (ub_un lo w (i + 1)) hi C tl N lv := by
  obtain ⟨⟨I1, I2, I3, I4, I5, I6, I7, I8, I9, I10⟩, Ia, Id⟩ := I
  exact ⟨⟨I1, fr_adv hw hlo c1 c2 I2, I3, I4, I5, I6, I7, I8, I9, I10⟩, Ia, Id⟩
/-- the table with the frame's bytes read -/
def ar_N (N : Nat → Nat → Nat) (w i : Nat) : Nat → Nat → Nat := st_bl N 37 0 (N 31 (4 * w + i)) (fun j => N 30 (6 * (4 * w + i) + j))
theorem ar_frame {lo hi : Nat → Nat} {C N : Nat → Nat → Nat} {lv : Lv} {tl w i : Nat} (hw : w < 4) (hi4 : hi w ≤ 4) (hlo : lo w = i) (hlt : i < hi w) (I : Iv0 lo hi C tl N lv) :
    ∃ N' lv', Iv0 (ub_un lo w (i + 1)) hi C tl N' lv' ∧ e6 (me tl N' lv') (me tl N lv) ∧ (N' 29 = N 29 ∧ kc N N') ∧
      ∀ (post : SX → Prop) (J : SJ) (x2 : Int32) ch, ss_S (J (nI (i + 1))) tl ch N' → ∃ n, ss_A (wX_arrive_40 post J (nI w) x2 (nI i) (nI (4 * w + i)) (nI (N 31 (4 * w + i))) (nI tl) ch n 0) N := by
  obtain ⟨x1, x2, x3⟩ := xx1 w hw
  have I1 := I.1.1
  have F := I.1.2.1 w hw
  unfold fr at F
  obtain ⟨F2, F6, FB, FG⟩ := F.1 i (by omega) hlt
  have IN : Iv0 lo hi C tl (ar_N N w i) lv := I
  have mk : ∀ (post : SX → Prop) (J : SJ) (y2 : Int32) ch, (¬ fr_g N w i → ss_S (J (nI (i + 1))) tl ch (ar_N N w i)) → (fr_g N w i → 2 ≤ N 30 (6 * (4 * w + i)) → wpX_takeAnswer (sj J i) (ss_st tl ch (ar_N N w i)) (nI (w ^^^ 1)) (nI (N 30 (6 * (4 * w + i)) - 2))) →
      (fr_g N w i → N 30 (6 * (4 * w + i)) < 2 → wpX_takeFrame (sj J i) (ss_st tl ch (ar_N N w i)) (nI w) (nI (N 31 (4 * w + i) - 2))) → ∃ n, ss_A (wX_arrive_40 post J (nI w) y2 (nI i) (nI (4 * w + i)) (nI (N 31 (4 * w + i))) (nI tl) ch n 0) N := by
    intro post J y2 ch a1 a2 a3
    have z := ar_40 (post := post) (J := J) (x2 := y2) (w := w) (i := i) (len := N 31 (4 * w + i)) (tl := tl) (ch := ch) (N := N) hw (by omega) F2 F6 FB a1 a2 a3 (N 31 (4 * w + i)) (N 31 (4 * w + i) + 1) 0 (by omega) (by omega)
    rw [st_bl0] at z
    exact ⟨_, z⟩
  by_cases g : fr_g N w i
  · rcases FG g with D | A
    · -- a data frame
      obtain ⟨D1, D2, D3⟩ := D
      have L := lk_ph (I1 w hw) rfl rfl D2
      obtain ⟨L1, L2, L3, L4, L5, L6, L7, L8, L9, L10, L11⟩ := L
      have lt2 : N 30 (6 * (4 * w + i)) < 2 := by omega
      have f0 : ar_N N w i 37 0 = N 32 w := by
        show ub_bl (N 37) 0 (N 31 (4 * w + i)) (fun j => N 30 (6 * (4 * w + i) + j)) 0 = _
        have := ub_bl_in (f := N 37) (b := 0) (n := N 31 (4 * w + i)) (g := fun j => N 30 (6 * (4 * w + i) + j)) (k := 0) (by omega)
        rw [Nat.zero_add] at this
        rw [this, Nat.add_zero, D1]
      rcases (by omega : N 41 w = 1 ∨ N 41 w = 0) with del | del
      · -- again
        obtain ⟨r1, r2⟩ := ev_dup (N := ar_N N w i) hw D2 del IN
        refine ⟨_, lv, Iv0_adv hw hlo ?_ ?_ r1, r2, ⟨rfl, kc_r N⟩, fun post J y2 ch h => mk post J y2 ch (fun c => absurd g c) (fun _ c => by omega) (fun _ _ => ?_)⟩
        · intro c
          have c' : ub_un (N 42) w 2 w = 1 := c
          rw [ub_s] at c'; omega
        · intro _ c
          have c2 : 2 ≤ N 30 (6 * (4 * w + i)) := c.2
          omega
        · have l9 := L9 del
          exact sx_takeFrame0 (N := ar_N N w i) (b := N 32 w) hw L5 f0 L6 (by show N 35 w ≠ _; omega) (sj_e h)
      · have p1 : N 42 w = 1 := by
          rcases D2 with c | c
          · exact c
          · have := I1 w hw
            unfold lk at this
            omega
        obtain ⟨x, rest, hl, d1, d2⟩ := D3 p1 del
        have ex := L8 del
        have hq3 : pq_sz x ≤ 3 := by omega
        have FR : ∀ j, j < pq_sz x + 1 → ar_N N w i 37 (1 + j) = pq_c C (ar_N N w i 49) x j := by
          intro j hj
          show ub_bl (N 37) 0 (N 31 (4 * w + i)) (fun j => N 30 (6 * (4 * w + i) + j)) (1 + j) = _
          have := ub_bl_in (f := N 37) (b := 0) (n := N 31 (4 * w + i)) (g := fun j => N 30 (6 * (4 * w + i) + j)) (k := 1 + j) (by omega)
          rw [Nat.zero_add] at this
          rw [this]
          exact d2 j hj
        have B0 : ∀ j, j < pq_sz x + 2 → ar_N N w i 37 j < 256 := by
          intro j hj
          show ub_bl (N 37) 0 (N 31 (4 * w + i)) (fun j => N 30 (6 * (4 * w + i) + j)) j < 256
          have := ub_bl_in (f := N 37) (b := 0) (n := N 31 (4 * w + i)) (g := fun j => N 30 (6 * (4 * w + i) + j)) (k := j) (by omega)
          rw [Nat.zero_add] at this
          rw [this]
          exact FB j (by omega)
        have eL : N 31 (4 * w + i) - 2 = pq_sz x + 1 := by omega
        have adv : ∀ (M : Nat → Nat → Nat) (l : Lv), M 42 w = 2 → M 30 = N 30 → Iv0 lo hi C tl M l → Iv0 (ub_un lo w (i + 1)) hi C tl M l := by
          intro M l m42 m30 IM
          refine Iv0_adv hw hlo (fun c => by omega) ?_ IM
          intro _ c
          have c2 := c.2
          rw [m30] at c2
          omega
        rcases (by omega : (w = 0 ∨ w = 3) ∨ (w = 1 ∨ w = 2)) with w03 | w12
        · -- at the relay
          obtain ⟨d, hd, hwd⟩ : ∃ d, d < 2 ∧ w = 3 * d := by
            rcases w03 with c | c
            · exact ⟨0, by omega, by omega⟩
            · exact ⟨1, by omega, by omega⟩
          have er : (if w = 0 then 2 else 1) = 2 - d := by
            rcases w03 with c | c
            · rw [if_pos c]; omega
            · rw [if_neg (by omega)]; omega
          have LR := (I1 (2 - d) (by omega)).2.2.2.2.2.2.1
          by_cases full : 4 ≤ N 26 (2 - d)
          · obtain ⟨r1, r2⟩ := ev_drp (N := ar_N N w i) (b := N 32 w) hd (by rw [← hwd]; exact p1) (by rw [← hwd]; exact del) (by rw [← hwd]; exact hl) full (by rw [hwd]; rfl) IN
            have c4 : N 26 (2 - d) ≤ 4 := by
              have := I.1.2.2.2.2.2.1 d hd
              unfold dr at this
              exact this.2.2.2.2.2.2.2.2.1
            refine ⟨ev_drN (ar_N N w i) d (N 32 w), ev_drL lv d x rest, adv (ev_drN (ar_N N w i) d (N 32 w)) (ev_drL lv d x rest) ?_ rfl r1, r2, ⟨rfl, kc_r N⟩, fun post J y2 ch h => mk post J y2 ch (fun c => absurd g c) (fun _ c => by omega) (fun _ _ => ?_)⟩
            · show ub_un (N 42) (3 * d) 2 w = 2
              rw [← hwd, ub_s]
            · rw [eL]
              refine sx_takeFrame1 (N := ar_N N w i) (b := N 32 w) hw L5 f0 ex (fun _ => ?_) (fun c => by omega)
              rw [er]
              refine sx_forward0 (N := sx_fr (ar_N N w i) w (N 32 w)) (by omega) full (by show N 26 (2 - d) < 100; omega) (sj_e ?_)
              rw [hwd] at h ⊢
              exact h
          · obtain ⟨r1, r2⟩ := ev_acc (N := ar_N N w i) (b := N 32 w) (q := pq_sz x) hd (by rw [← hwd]; exact p1) (by rw [← hwd]; exact del) (by rw [← hwd]; exact hl) (by show N 26 (2 - d) < 4; omega) (by rw [hwd]; rfl) rfl hq3 FR (fun j hj => B0 (1 + j) (by omega)) IN
            refine ⟨ev_acN (ar_N N w i) d (N 32 w) (pq_sz x), ev_acL lv d x rest, adv (ev_acN (ar_N N w i) d (N 32 w) (pq_sz x)) (ev_acL lv d x rest) ?_ rfl r1, r2, ⟨rfl, kc_r N⟩, fun post J y2 ch h => mk post J y2 ch (fun c => absurd g c) (fun _ c => by omega) (fun _ _ => ?_)⟩
            · show ub_un (N 42) (3 * d) 2 w = 2
              rw [← hwd, ub_s]
            · rw [eL]
              refine sx_takeFrame1 (N := ar_N N w i) (b := N 32 w) hw L5 f0 ex (fun _ => ?_) (fun c => by omega)
              rw [er]
              refine sx_forward1 (N := sx_fr (ar_N N w i) w (N 32 w)) (by omega) (by show N 26 (2 - d) < 4; omega) (by omega) LR (sj_e ?_)
              rw [hwd] at h ⊢
              exact h
        · -- at an end
          obtain ⟨d, hd, hwd⟩ : ∃ d, d < 2 ∧ w = 2 - d := by
            rcases w12 with c | c
            · exact ⟨1, by omega, by omega⟩
            · exact ⟨0, by omega, by omega⟩
          obtain ⟨N', lv', r1, r2, r3, r30, r42, rkc, r4⟩ := en_full (N := ar_N N w i) (b := N 32 w) (q := pq_sz x) hd (by rw [← hwd]; exact p1) (by rw [← hwd]; exact del) (by rw [← hwd]; exact hl) (by rw [hwd]; rfl) rfl FR IN
          refine ⟨N', lv', adv N' lv' (by rw [hwd]; exact r42) r30 r1, r2, ⟨r3, rkc⟩, fun post J y2 ch h => mk post J y2 ch (fun c => absurd g c) (fun _ c => by omega) (fun _ _ => ?_)⟩
          rw [eL]
          refine sx_takeFrame1 (N := ar_N N w i) (b := N 32 w) hw L5 f0 ex (fun c => by omega) (fun _ => ?_)
          rw [show w - 1 = 1 - d by omega]
          have z := r4 (sj J i) ch (sj_e h)
          rw [← hwd] at z
          exact z
    · -- an answer
      obtain ⟨v, v1, v2, v3⟩ := A
      have f42 : ∀ M : Nat → Nat → Nat, M 42 (w ^^^ 1) ≠ 3 → M 30 = N 30 → ∀ l, Iv0 lo hi C tl M l → Iv0 (ub_un lo w (i + 1)) hi C tl M l := by
        intro M m42 m30 l IM
        refine Iv0_adv hw hlo ?_ (fun c => absurd c m42) IM
        intro _ c
        have c2 := c.2
        rw [m30] at c2
        omega
      have ev : N 30 (6 * (4 * w + i)) - 2 = v := by omega
      rcases v3 with ⟨c1, c2⟩ | c1
      · obtain ⟨r1, r2⟩ := ev_pop (N := ar_N N w i) (w := w ^^^ 1) x3 c1 IN
        refine ⟨ev_popN (ar_N N w i) (w ^^^ 1), ev_popL lv (w ^^^ 1), f42 (ev_popN (ar_N N w i) (w ^^^ 1)) ?_ rfl (ev_popL lv (w ^^^ 1)) r1, r2, ⟨rfl, kc_r N⟩, fun post J y2 ch h => mk post J y2 ch (fun c => absurd g c) (fun _ _ => ?_) (fun _ c => by omega)⟩
        · show ub_un (N 42) (w ^^^ 1) 0 (w ^^^ 1) ≠ 3
          rw [ub_s]; decide
        · rw [ev]
          have L := I1 (w ^^^ 1) x3
          have LL : N 33 (w ^^^ 1) = 1 ∧ N 32 (w ^^^ 1) ≤ 1 ∧ N 25 (w ^^^ 1) < 6 ∧ 0 < N 26 (w ^^^ 1) := by
            unfold lk at L
            refine ⟨?_, L.2.2.1, L.2.2.2.2.2.2.1, ?_⟩
            · rcases L.2.2.2.2.2.2.2 with h | h | h | h | h
              · omega
              · exact h.2.1
              · exact h.2.1
              · exact h.2.1
              · exact h.2.1
            · rcases L.2.2.2.2.2.2.2 with h | h | h | h | h
              · omega
              · omega
              · omega
              · have := L.1
                have := h.2.2.2.2.2.1
                omega
              · omega
          have c100 : N 26 (w ^^^ 1) < 100 := by
            have D0 := I.1.2.2.2.2.2.1 0 (by omega)
            have D1 := I.1.2.2.2.2.2.1 1 (by omega)
            unfold dr at D0 D1
            have a0 := D0.2.2.2.2.2.2.2.2.1
            have a1 := D0.2.2.2.2.2.2.2.2.2.1
            have a2 := D1.2.2.2.2.2.2.2.2.1
            have a3 := D1.2.2.2.2.2.2.2.2.2.1
            clear D0 D1
            rcases (by omega : w ^^^ 1 = 0 ∨ w ^^^ 1 = 1 ∨ w ^^^ 1 = 2 ∨ w ^^^ 1 = 3) with e | e | e | e <;> rw [e]
            · exact Nat.lt_of_le_of_lt a1 (by decide)
            · exact Nat.lt_of_le_of_lt a2 (by decide)
            · exact Nat.lt_of_le_of_lt a0 (by decide)
            · exact Nat.lt_of_le_of_lt a3 (by decide)
          exact sx_takeAnswer1 (N := ar_N N w i) x3 LL.1 c2.symm LL.2.1 LL.2.2.1 c100 LL.2.2.2 (sj_e h)
      · refine ⟨ar_N N w i, lv, f42 _ (by show N 42 (w ^^^ 1) ≠ 3; omega) rfl lv IN, e6_refl _, ⟨rfl, kc_r N⟩, fun post J y2 ch h => mk post J y2 ch (fun c => absurd g c) (fun _ _ => ?_) (fun _ c => by omega)⟩
        have b0 : N 33 (w ^^^ 1) = 0 := by
          have L := I1 (w ^^^ 1) x3
          unfold lk at L
          rcases L.2.2.2.2.2.2.2 with h | h | h | h | h
          · exact h.2.1
          · omega
          · omega
          · omega
          · omega
        exact sx_takeAnswer0 (N := ar_N N w i) x3 b0 (sj_e h)
  · refine ⟨ar_N N w i, lv, Iv0_adv hw hlo (fun _ c => g c.1) (fun _ c => g c.1) IN, e6_refl _, ⟨rfl, kc_r N⟩, fun post J y2 ch h => mk post J y2 ch (fun _ => h) (fun c => absurd c g) (fun c => absurd c g)⟩
end
section
/-! all frames of a way, of all ways; the waits -/
theorem ar_loop {hi : Nat → Nat} {C : Nat → Nat → Nat} {tl w : Nat} (hw : w < 4) (hi4 : hi w ≤ 4) : ∀ (k i : Nat) (lo : Nat → Nat) (N : Nat → Nat → Nat) (lv : Lv), i + k = hi w → lo w = i → Iv0 lo hi C tl N lv →
    ∃ N' lv', Iv0 (ub_un lo w (hi w)) hi C tl N' lv' ∧ e6 (me tl N' lv') (me tl N lv) ∧ (N' 29 = N 29 ∧ kc N N') ∧ ∀ (post : SX → Prop) ch, post (ss_st tl ch N') → ss_S (wX_arrive_16 post (nI w) (nI (hi w)) (k + 1) (nI i)) tl ch N := by
  intro k
  induction k with
  | zero =>
    intro i lo N lv hk hlo I
    refine ⟨N, lv, ?_, e6_refl _, ⟨rfl, kc_r N⟩, fun post ch h => br_t (nI_le (by omega) (by omega)) h⟩
    rw [ub_id (by omega)]
    exact I
  | succ k ih =>
    intro i lo N lv hk hlo I
    obtain ⟨N1, lv1, r1, r2, r3, r4⟩ := ar_frame hw hi4 hlo (by omega) I
    obtain ⟨N2, lv2, q1, q2, q3, q4⟩ := ih (i + 1) (ub_un lo w (i + 1)) N1 lv1 (by omega) ub_s r1
    rw [ub_uu] at q1
    refine ⟨N2, lv2, q1, e6_trans q2 r2, ⟨by rw [q3.1, r3.1], kc_t r3.2 q3.2⟩, fun post ch h => ?_⟩
    obtain ⟨n, z⟩ := r4 post (wX_arrive_16 post (nI w) (nI (hi w)) (k + 1)) (nI (hi w)) ch (q4 post ch h)
    have lt31 : N 31 (4 * w + i) ≤ 6 := by
      have F := I.1.2.1 w hw
      unfold fr at F
      exact (F.1 i (by omega) (by omega)).2.1
    refine br_f (nI_ge (by omega) (by omega)) (nm_r (e' := nI (4 * w + i)) (by rw [ss_mul4, nI_add]) ⟨ss_in (by omega), nm_r (e' := nI (N 31 (4 * w + i))) (ss_rd (by omega)) ⟨n, z⟩⟩)
theorem ar_way {lo hi : Nat → Nat} {C N : Nat → Nat → Nat} {lv : Lv} {tl w : Nat} (hw : w < 4) (hlo : lo w = 0) (hh : hi w = N 29 w) (I : Iv0 lo hi C tl N lv) :
    ∃ N' lv', Iv0 (ub_un lo w (hi w)) hi C tl N' lv' ∧ e6 (me tl N' lv') (me tl N lv) ∧ (N' 29 = ub_un (N 29) w 0 ∧ kc N N') ∧ ∀ (post : SX → Prop) ch, post (ss_st tl ch N') → wpX_arrive post (ss_st tl ch N) (nI w) := by
  have h4 : N 29 w ≤ 4 := I.1.2.2.2.2.2.2.2.2.1.2.2.2 w hw
  have I0 : Iv0 lo hi C tl (st_up N 29 w 0) lv := by
    obtain ⟨⟨I1, I2, I3, I4, I5, I6, I7, I8, ⟨r1, r2, r3, r4⟩, I10⟩, Ia, Id⟩ := I
    refine ⟨⟨I1, I2, I3, I4, I5, I6, I7, I8, ⟨r1, r2, r3, fun v hv => ?_⟩, I10⟩, Ia, Id⟩
    show ub_un (N 29) w 0 v ≤ 4
    by_cases e : v = w
    · rw [e, ub_s]; omega
    · rw [ub_n e]; exact r4 v hv
  obtain ⟨N', lv', r1, r2, r3, r4⟩ := ar_loop hw (by omega) (hi w) 0 lo (st_up N 29 w 0) lv (by omega) hlo I0
  refine ⟨N', lv', r1, r2, r3, fun post ch h => ⟨ss_in hw, nm_r (e' := nI (hi w)) (by rw [ss_rd (by omega), hh]) ⟨ss_in hw, nm_r (e' := ss_c (ub_un (N 29) w 0)) ?_ ⟨_, r4 post ch h⟩⟩⟩⟩
  rw [ss_nb0]; exact ss_stv w 0 rfl rfl (by omega)
/-- the second part of a tick, and its end: no frames but those that hi counts -/
def Iv1 (x y : Nat → Nat) (C : Nat → Nat → Nat) (tl : Nat) (N : Nat → Nat → Nat) (lv : Lv) : Prop :=
  Inv x y (fun _ => 0) (N 29) C tl N lv ∧ (∀ s, s < 4 → N 47 s = N 13 s)
def bth (N : Nat → Nat → Nat) (d : Nat) : Prop := N 16 (2 - 2 * d) = 1 → N 16 (3 - 2 * d) = 1 → 4 ≤ N 26 (3 * d)
def bnd (N : Nat → Nat → Nat) (d : Nat) : Prop := N 16 (2 - 2 * d) = 1 ∨ N 16 (3 - 2 * d) = 1 → 5 ≤ N 26 (3 * d)
theorem ar_all {hi : Nat → Nat} {C N : Nat → Nat → Nat} {lv : Lv} {tl : Nat} (hh : hi = N 29) (I : Iv0 (fun _ => 0) hi C tl N lv) :
    ∃ N' lv', Iv0 hi hi C tl N' lv' ∧ e6 (me tl N' lv') (me tl N lv) ∧ (∀ w, w < 4 → N' 29 w = 0) ∧ kc N N' ∧ ∀ (post : SX → Prop) ch, (∃ n20, ss_A (wX_tick_20 post (nI tl) ch n20 0) N') → wpX_tick post (ss_st tl ch N) := by
  obtain ⟨A0, l0, a1, a2, a3, a4⟩ := ar_way (w := 0) (by omega) rfl (by rw [hh]) I
  obtain ⟨A1, l1, b1, b2, b3, b4⟩ := ar_way (w := 1) (by omega) rfl (by rw [a3.1, hh]; rfl) a1
  obtain ⟨A2, l2, c1, c2, c3, c4⟩ := ar_way (w := 2) (by omega) rfl (by rw [b3.1, a3.1, hh]; rfl) b1
  obtain ⟨A3, l3, d1, d2, d3, d4⟩ := ar_way (w := 3) (by omega) rfl (by rw [c3.1, b3.1, a3.1, hh]; rfl) c1
  refine ⟨A3, l3, ?_, e6_trans d2 (e6_trans c2 (e6_trans b2 a2)), ?_, kc_t a3.2 (kc_t b3.2 (kc_t c3.2 d3.2)), fun post ch h => ⟨5, ?_⟩⟩
  · obtain ⟨⟨I1, I2, I3, I4, I5, I6, I7, I8, I9, I10⟩, Ia, Id⟩ := d1
    refine ⟨⟨I1, fun w hw => ?_, I3, I4, I5, I6, I7, I8, I9, I10⟩, Ia, Id⟩
    have F := I2 w hw
    have el : ∀ v, v < 4 → ub_un (ub_un (ub_un (ub_un (fun _ => 0) 0 (hi 0)) 1 (hi 1)) 2 (hi 2)) 3 (hi 3) v = hi v := by
      intro v hv
      rcases (by omega : v = 0 ∨ v = 1 ∨ v = 2 ∨ v = 3) with rfl | rfl | rfl | rfl <;> rfl
    unfold fr at F ⊢
    rw [el w hw, el (w ^^^ 1) (xx1 w hw).2.2] at F
    exact F
  · intro w hw
    rw [d3.1, c3.1, b3.1, a3.1]
    rcases (by omega : w = 0 ∨ w = 1 ∨ w = 2 ∨ w = 3) with rfl | rfl | rfl | rfl <;> rfl
  · refine br_f (by decide) (a4 _ ch ?_)
    refine nm_r (e' := nI 1) rfl (br_f (by decide) (b4 _ ch ?_))
    refine nm_r (e' := nI 2) rfl (br_f (by decide) (c4 _ ch ?_))
    refine nm_r (e' := nI 3) rfl (br_f (by decide) (d4 _ ch ?_))
    exact nm_r (e' := nI 4) rfl (br_t (by decide) h)
/-- the waits count down -/
def tmr (N : Nat → Nat → Nat) : Nat → Nat → Nat → Nat
  | 0 => N
  | k + 1 => if 0 < N 13 k then st_up (tmr N k) 13 k (N 13 k - 1) else tmr N k
theorem tmr_o {N : Nat → Nat → Nat} : ∀ (k i : Nat), i ≠ 13 → tmr N k i = N i := by
  intro k
  induction k with
  | zero => exact fun _ _ => rfl
  | succ k ih =>
    intro i h
    unfold tmr
    split
    · rw [ss_up_n h]; exact ih i h
    · exact ih i h
theorem tmr_13 {N : Nat → Nat → Nat} : ∀ (k s : Nat), tmr N k 13 s = if s < k then N 13 s - 1 else N 13 s := by
  intro k
  induction k with
  | zero => exact fun s => (if_neg (by omega)).symm
  | succ k ih =>
    intro s
    unfold tmr
    split
    · rw [ss_up_s]
      by_cases e : s = k
      · rw [e, ub_s, if_pos (by omega)]
      · rw [ub_n e, ih]
        by_cases c : s < k
        · rw [if_pos c, if_pos (by omega)]
        · rw [if_neg c, if_neg (by omega)]
    · rw [ih]
      by_cases c : s < k
      · rw [if_pos c, if_pos (by omega)]
      · rw [if_neg c]
        by_cases e : s = k
        · rw [if_pos (by omega)]; rw [e]; omega
        · rw [if_neg (by omega)]
theorem tmr_w {post : SX → Prop} {tl : Nat} {ch : Int32} {N : Nat → Nat → Nat} (hN : ∀ s, s < 4 → N 13 s ≤ 150) (h : wpX_serveEnd (fun u => wpX_serveEnd (fun u => match u with | (a0, a1, a2, a3, a4, a5, a6, a7, a8, a9, a10, a11, a12, a13, a14, a15, a16, a17, a18, a19, a20, a21, a22, a23, a24, a25, a26, a27, a28, a29, a30, a31, a32, a33, a34, a35, a36, a37, a38, a39) => ∃ n63, wX_tick_63 post n63 0 a0 a1 a2 a3 a4 a5 a6 a7 a8 a9 a10 a11 a12 a13 a14 a15 a16 a17 a18 a19 a20 a21 a22 a23 a24 a25 a26 a27 a28 a29 a30 a31 a32 a33 a34 a35 a36 a37 a38 a39) u 1) (ss_st tl ch (tmr N 4)) 0) :
    ∀ d n k, k + d = 4 → d < n → ss_A (wX_tick_20 post (nI tl) ch n (nI k)) (tmr N k) := by
  intro d
  induction d with
  | zero =>
    intro n k hk hn
    obtain ⟨m, rfl⟩ : ∃ m, n = m + 1 := ⟨n - 1, by omega⟩
    obtain rfl : k = 4 := by omega
    exact br_t (by decide) h
  | succ d ih =>
    intro n k hk hn
    obtain ⟨m, rfl⟩ : ∃ m, n = m + 1 := ⟨n - 1, by omega⟩
    have i4 := ss_in (n := k) (N := 4) (by omega)
    have z := ih m (k + 1) (by omega) (by omega)
    have b := hN k (by omega)
    have e13 : tmr N k 13 k = N 13 k := by rw [tmr_13, if_neg (by omega)]
    refine br_f (nI_ge (b := 4) (by omega) (by omega)) ⟨i4, ?_⟩
    by_cases c : 0 < N 13 k
    · have et : tmr N (k + 1) = st_up (tmr N k) 13 k (N 13 k - 1) := by rw [tmr, if_pos c]
      rw [et] at z
      refine br_f ?_ ⟨i4, i4, nm_r (e' := ss_c (ub_un (tmr N k 13) k (N 13 k - 1))) ?_ (nm_r (nI_1 k) z)⟩
      · rw [ss_rd (by omega), e13]; exact nI_nle c (by omega)
      · rw [ss_rd (by omega), e13, show nI (N 13 k) - 1 = nI (N 13 k - 1) from pk_sub (b := 1) c, ss_ns (by omega)]
        exact ss_stv k _ rfl rfl (by omega)
    · have et : tmr N (k + 1) = tmr N k := by rw [tmr, if_neg c]
      rw [et] at z
      refine br_t ?_ (nm_r (nI_1 k) z)
      rw [ss_rd (by omega), e13, show N 13 k = 0 by omega]; decide
end
section
/-! the middle of a tick -/
theorem me_13 {tl : Nat} {N N' : Nat → Nat → Nat} {lv : Lv} (h : ∀ i, i ≠ 13 → N' i = N i) : me tl N' lv = me tl N lv := by
  have g : ∀ i, i ≠ 13 → N' i = N i := h
  unfold me m_d m_l m_ls m_r m_q m_qs m_e m_p pt pt_due pt_own pt_ack sx_set sx_lim
  rw [g 1 (by decide)]
  rw [g 7 (by decide)]
  rw [g 8 (by decide)]
  rw [g 10 (by decide)]
  rw [g 12 (by decide)]
  rw [g 14 (by decide)]
  rw [g 16 (by decide)]
  rw [g 26 (by decide)]
  rw [g 40 (by decide)]
  rw [g 41 (by decide)]
  rw [g 44 (by decide)]
  rw [g 45 (by decide)]
  rw [g 47 (by decide)]
  rw [g 49 (by decide)]
  rw [g 50 (by decide)]
theorem Inv_13 {x y lo hi : Nat → Nat} {C N N' : Nat → Nat → Nat} {lv : Lv} {tl : Nat} (h : ∀ i, i ≠ 13 → N' i = N i) (h13 : ∀ s, s < 4 → N' 13 s ≤ 150) (I : Inv x y lo hi C tl N lv) : Inv x y lo hi C tl N' lv := by
  obtain ⟨I1, I2, I3, I4, I5, I6, I7, I8, I9, I10⟩ := I
  have g : ∀ i, i ≠ 13 → N' i = N i := h
  have g0 := g 0 (by decide)
  have g1 := g 1 (by decide)
  have g2 := g 2 (by decide)
  have g3 := g 3 (by decide)
  have g4 := g 4 (by decide)
  have g5 := g 5 (by decide)
  have g6 := g 6 (by decide)
  have g7 := g 7 (by decide)
  have g8 := g 8 (by decide)
  have g9 := g 9 (by decide)
  have g10 := g 10 (by decide)
  have g11 := g 11 (by decide)
  have g12 := g 12 (by decide)
  have g14 := g 14 (by decide)
  have g15 := g 15 (by decide)
  have g16 := g 16 (by decide)
  have g18 := g 18 (by decide)
  have g19 := g 19 (by decide)
  have g20 := g 20 (by decide)
  have g21 := g 21 (by decide)
  have g22 := g 22 (by decide)
  have g23 := g 23 (by decide)
  have g25 := g 25 (by decide)
  have g26 := g 26 (by decide)
  have g27 := g 27 (by decide)
  have g28 := g 28 (by decide)
  have g29 := g 29 (by decide)
  have g30 := g 30 (by decide)
  have g31 := g 31 (by decide)
  have g32 := g 32 (by decide)
  have g33 := g 33 (by decide)
  have g34 := g 34 (by decide)
  have g35 := g 35 (by decide)
  have g36 := g 36 (by decide)
  have g40 := g 40 (by decide)
  have g41 := g 41 (by decide)
  have g42 := g 42 (by decide)
  have g43 := g 43 (by decide)
  have g44 := g 44 (by decide)
  have g45 := g 45 (by decide)
  have g46 := g 46 (by decide)
  have g47 := g 47 (by decide)
  have g48 := g 48 (by decide)
  have g49 := g 49 (by decide)
  have g50 := g 50 (by decide)
  refine ⟨fun v hv => lk_cg (N := N) (by rw [g25]) (by rw [g26]) (by rw [g32]) (by rw [g33]) (by rw [g34]) (by rw [g35]) (by rw [g36]) (by rw [g40]) (by rw [g41]) (by rw [g42]) rfl rfl rfl (I1 v hv),
    fun v hv => fr_cg (N := N) g30 g31 g49 (by rw [g32]) (by rw [g41]) (by rw [g42]) (by rw [g32]) (by rw [g42]) [] (List.append_nil _).symm (I2 v hv),
    fun v hv => qo_cg (N := N) g27 g28 g49 (by rw [g25]) (by rw [g41]) rfl (I3 v hv), fun d hd => jo_cg (N := N) g18 g19 g20 g21 g49 rfl (I4 d hd), ?_, ?_, ?_, ?_, ?_, I10⟩
  · intro s hs
    have S := I5 s hs
    unfold si si_n si_f si_o si_i at S ⊢
    rw [g0, g1, g2, g3, g4, g5, g6, g7, g8, g9, g10, g11, g12, g14, g15, g16, g44, g45, g48, g49, g50]
    exact ⟨S.1, ⟨S.2.1.1, S.2.1.2.1, S.2.1.2.2.1, S.2.1.2.2.2.1, S.2.1.2.2.2.2.1, h13 s hs, S.2.1.2.2.2.2.2.2⟩, S.2.2⟩
  · intro d hd
    have D := I6 d hd
    exact dr_cg (N := N) g48 g44 g45 g11 g50 g7 g8 g16 g43 g22 g23 g46 rfl rfl rfl (Or.inl ⟨by rw [g26], rfl⟩) (by rw [g26]; unfold dr at D; exact D.2.2.2.2.2.2.2.2.2.1) D
  · have all : ∀ d, tm_d tl N lv d → tm_d tl N' lv d := fun d h => tm_dcg (N := N) g47 g11 g12 g16 g46 (by unfold tm_a; rw [g40]) (by rw [g40, g41]) (by rw [g40, g41]) (by rw [g40]) (by rw [g40, g26]) rfl rfl (Or.inl ⟨by rw [g40], rfl⟩) h
    refine ⟨all 0 I7.1, all 1 I7.2.1, ?_⟩
    rw [g40]; exact I7.2.2
  · exact fun s hs => kb_cg (N := N) g1 g7 g10 g12 g14 g16 g47 (Nat.le_refl _) (I8 s hs)
  · obtain ⟨r1, r2, r3, r4⟩ := I9
    exact ⟨by rw [g28]; exact r1, by rw [g27]; exact r2, r3, by rw [g29]; exact r4⟩
theorem ar_mid {hi : Nat → Nat} {C N : Nat → Nat → Nat} {lv : Lv} {tl : Nat} (h29 : ∀ w, w < 4 → N 29 w = 0) (I : Iv0 hi hi C tl N lv) :
    Iv1 (fun _ => 0) (fun _ => 0) C tl (tmr N 4) lv ∧ me tl (tmr N 4) lv = me tl N lv ∧ (∀ w, w < 4 → tmr N 4 29 w = 0 ∧ tmr N 4 42 w ≠ 1 ∧ tmr N 4 42 w ≠ 3) ∧ (∀ d, d < 2 → bth (tmr N 4) d) := by
  have oth : ∀ i, i ≠ 13 → tmr N 4 i = N i := fun i h => tmr_o 4 i h
  obtain ⟨II, Ia, Id⟩ := I
  have ph : ∀ w, w < 4 → N 42 w ≠ 1 ∧ N 42 w ≠ 3 := by
    intro w hw
    have F := II.2.1 w hw
    unfold fr at F
    constructor
    · intro c
      obtain ⟨f, p1, p2, _⟩ := F.2.1 c
      omega
    · intro c
      obtain ⟨f, p1, p2, _⟩ := F.2.2 c
      omega
  have I' : Inv (fun _ => 0) (fun _ => 0) (fun _ => 0) (tmr N 4 29) C tl N lv := by
    obtain ⟨I1, I2, I3, I4, I5, I6, I7, I8, I9, I10⟩ := II
    refine ⟨I1, fun w hw => ?_, I3, I4, I5, I6, I7, I8, I9, I10⟩
    unfold fr
    refine ⟨fun f a b => ?_, fun c => absurd c (ph w hw).1, fun c => absurd c (ph w hw).2⟩
    rw [oth 29 (by decide), h29 w hw] at b
    omega
  have h150 : ∀ s, s < 4 → N 13 s ≤ 150 := fun s hs => (II.2.2.2.2.1 s hs).2.1.2.2.2.2.2.1
  refine ⟨⟨Inv_13 oth ?_ I', ?_⟩, me_13 oth, ?_, ?_⟩
  · intro s hs
    rw [tmr_13, if_pos hs]
    have := h150 s hs
    omega
  · intro s hs
    rw [oth 47 (by decide), tmr_13, if_pos hs]
    exact Ia s hs
  · intro w hw
    rw [oth 29 (by decide), oth 42 (by decide)]
    exact ⟨h29 w hw, (ph w hw).1, (ph w hw).2⟩
  · intro d hd
    unfold bth
    rw [oth 16 (by decide), oth 26 (by decide)]
    intro c1 c2
    have D := Id d hd
    unfold du at D
    exact (D (Or.inr (Or.inl ⟨c1, c2⟩))).1
end
section
/-! a packet's pieces are put behind an end's queue -/
theorem qo_enq {C N : Nat → Nat → Nat} {lv : Lv} {w f q : Nat} {x : Pc} (hw : w < 4) (hlen : N 26 w = N 41 w + (lv w).length) (hc : N 26 w < 6) (hq : q = pq_sz x) (hq3 : q ≤ 3) (hF : ∀ k, k < q + 1 → N 37 (f + k) = pq_c C (N 49) x k) (r28 : ∀ t, t < 24 → N 28 t ≤ 4)
    (Q : ∀ v, v < 4 → qo C N lv v) : ∀ v, v < 4 → qo C (sx_enq N w f (q + 1)) (ul lv w (lv w ++ [x])) v := by
  intro v hv
  have Qv := Q v hv
  unfold qo at Qv ⊢
  show ∀ j z, (ul lv w (lv w ++ [x]) v)[j]? = some z → ub_un (N 28) (6 * w + (N 25 w + N 26 w) % 6) (q + 1) (6 * v + (N 25 v + N 41 v + j) % 6) = pq_sz z + 1 ∧ ∀ k, k < pq_sz z + 1 → ub_bl (N 27) (4 * (6 * w + (N 25 w + N 26 w) % 6)) (q + 1) (fun k => N 37 (f + k)) (4 * (6 * v + (N 25 v + N 41 v + j) % 6) + k) = pq_c C (N 49) z k
  have key : ∀ t y, t < 6 → 6 * v + t ≠ 6 * w + (N 25 w + N 26 w) % 6 → N 28 (6 * v + t) = pq_sz y + 1 ∧ (∀ k, k < pq_sz y + 1 → N 27 (4 * (6 * v + t) + k) = pq_c C (N 49) y k) → ub_un (N 28) (6 * w + (N 25 w + N 26 w) % 6) (q + 1) (6 * v + t) = pq_sz y + 1 ∧ (∀ k, k < pq_sz y + 1 → ub_bl (N 27) (4 * (6 * w + (N 25 w + N 26 w) % 6)) (q + 1) (fun k => N 37 (f + k)) (4 * (6 * v + t) + k) = pq_c C (N 49) y k) := by
    intro t y ht ne h
    have i9 := r28 (6 * v + t) (by omega)
    refine ⟨by rw [ub_n ne]; exact h.1, fun k hk => ?_⟩
    rw [ub_bl_out (by omega)]
    exact h.2 k hk
  by_cases e : v = w
  · subst e
    rw [ul_s]
    intro j z hz
    by_cases jl : j < (lv v).length
    · rw [List.getElem?_append_left jl] at hz
      exact key _ z (Nat.mod_lt _ (by omega)) (by omega) (Qv j z hz)
    · rw [List.getElem?_append_right (by omega)] at hz
      have jj : j = (lv v).length := by
        rcases Nat.eq_zero_or_pos (j - (lv v).length) with q | q
        · omega
        · rw [List.getElem?_eq_none (by rw [List.length_singleton]; omega)] at hz; cases hz
      rw [jj, Nat.sub_self] at hz
      have zx : x = z := by injection hz
      subst zx
      have eq : (N 25 v + N 41 v + j) % 6 = (N 25 v + N 26 v) % 6 := by rw [hlen, jj, Nat.add_assoc]
      rw [eq]
      refine ⟨by rw [ub_s, hq], fun k hk => ?_⟩
      rw [ub_bl_in (by omega)]
      exact hF k (by omega)
  · rw [ul_n e]
    intro j z hz
    refine key _ z (Nat.mod_lt _ (by omega)) ?_ (Qv j z hz)
    have := Nat.mod_lt (N 25 w + N 26 w) (y := 6) (by omega)
    have := Nat.mod_lt (N 25 v + N 41 v + j) (y := 6) (by omega)
    omega
theorem rg_enq {C N : Nat → Nat → Nat} {w f q : Nat} (hq3 : q ≤ 3) (hB : ∀ k, k < q + 1 → N 37 (f + k) < 256) (R : rg C N) : rg C (sx_enq N w f (q + 1)) := by
  obtain ⟨r1, r2, r3, r4⟩ := R
  refine ⟨?_, ?_, r3, r4⟩
  · intro t ht
    show ub_un (N 28) (6 * w + (N 25 w + N 26 w) % 6) (q + 1) t ≤ 4
    by_cases e : t = 6 * w + (N 25 w + N 26 w) % 6
    · rw [e, ub_s]; omega
    · rw [ub_n e]; exact r1 t ht
  · intro t ht
    show ub_bl (N 27) (4 * (6 * w + (N 25 w + N 26 w) % 6)) (q + 1) (fun k => N 37 (f + k)) t < 256
    unfold ub_bl
    split
    · exact hB _ (by omega)
    · exact r2 t ht
theorem pf_c {C N : Nat → Nat → Nat} {W : Nat → Nat} {x : Pc} {nm l q : Nat} (hn : nm = pq_i x % 16) (hl : l = if pq_p x + 1 = pq_n x then 1 else 0) (hq : q = pq_sz x) (hsz : 3 * pq_p x + q ≤ pq_len x) (hP : ∀ j, j < pq_len x → N 17 j = pq_b C W x j) : ∀ k, k < q + 1 → sx_pf N nm (pq_p x) l q 37 (0 + k) = pq_c C W x k := by
  intro k hk
  show ub_bl (ub_un (N 37) 0 (16 * nm + 2 * pq_p x + l)) 1 q (fun k => N 17 (3 * pq_p x + k)) (0 + k) = _
  unfold pq_c
  by_cases e : k = 0
  · subst e
    rw [ub_bl_out (by omega), if_pos rfl, hn, hl]
    exact ub_s
  · rw [if_neg e, show 0 + k = 1 + (k - 1) by omega, ub_bl_in (by omega)]
    exact hP _ (by omega)
/-- the pieces of one packet -/
def pkp (id : Nat) (ps : List Pc) : Prop :=
  (∃ a, ps = [a] ∧ pq_i a = id ∧ pq_p a = 0 ∧ pq_n a = 1) ∨ ∃ a b, ps = [a, b] ∧ pq_i a = id ∧ pq_p a = 0 ∧ pq_n a = 2 ∧ a.1 = b.1 ∧ a.2.2 = b.2.2 ∧ pq_p b = 1
theorem pkp_lc {id : Nat} {ps : List Pc} (h : pkp id ps) : lc ps = 1 := by
  rcases h with ⟨a, e, _, h1, h2⟩ | ⟨a, b, e, _, h1, h2, h3, h4, h5⟩
  · subst e
    show (if _ then 1 else 0) + 0 = 1
    rw [if_pos (by omega)]
  · subst e
    have hny : pq_n b = 2 := by rw [← h2]; unfold pq_n pq_k pq_z; rw [h4]
    show (if _ then 1 else 0) + ((if _ then 1 else 0) + 0) = 1
    rw [if_neg (by omega), if_pos (by omega)]
theorem pkp_ct {id : Nat} {ps l : List Pc} (h : pkp id ps) (c : ct id l) : ct (id + 1) (l ++ ps) := by
  rcases h with ⟨a, e, h0, h1, h2⟩ | ⟨a, b, e, h0, h1, h2, h3, h4, h5⟩
  · subst e; exact ct_snoc1 h0 h1 h2 c
  · subst e; exact ct_snoc2 h0 h1 h2 h3 h4 h5 c
theorem pkp_adj {id : Nat} {ps j : List Pc} (h : pkp id ps) : adj j ps := by
  rcases h with ⟨a, e, h0, h1, h2⟩ | ⟨a, b, e, h0, h1, h2, h3, h4, h5⟩
  · subst e
    exact ⟨fun c => by omega, trivial⟩
  · subst e
    refine ⟨fun c => by omega, fun _ => Or.inr ⟨a, ?_, h1, Or.inl ⟨h3, h4⟩⟩, trivial⟩
    unfold op_n; rw [if_pos ⟨h1, h2⟩]
theorem pkp_cn {id s t : Nat} {ps : List Pc} (h : pkp id ps) (hs : ∀ x, x ∈ ps → pq_s x = s) : cn t ps = if s = t then 1 else 0 := by
  rcases h with ⟨a, e, h0, h1, h2⟩ | ⟨a, b, e, h0, h1, h2, h3, h4, h5⟩
  · subst e
    have := hs a (List.mem_cons_self ..)
    show (if _ then 1 else 0) + 0 = _
    rw [this]
    by_cases c : s = t
    · rw [if_pos ⟨by omega, c⟩, if_pos c]
    · rw [if_neg (fun q => c q.2), if_neg c]
  · subst e
    have s1 := hs a (List.mem_cons_self ..)
    have s2 := hs b (List.mem_cons_of_mem _ (List.mem_cons_self ..))
    have hny : pq_n b = 2 := by rw [← h2]; unfold pq_n pq_k pq_z; rw [h4]
    show (if _ then 1 else 0) + ((if _ then 1 else 0) + 0) = _
    rw [s1, s2, if_neg (fun q => by omega)]
    by_cases c : s = t
    · rw [if_pos ⟨by omega, c⟩, if_pos c]
    · rw [if_neg (fun q => c q.2), if_neg c]
theorem pkp_tm {P : Nat → Nat → Prop} {ap id g s k : Nat} {ps l : List Pc} (h : pkp id ps) (hs : ∀ x, x ∈ ps → pq_s x = s ∧ pq_k x = k) (T : tm_l P ap g l) (hP : P s (g + 2 * (l.length + ps.length - 1) + (if k = 1 then 0 else ap))) : tm_l P ap g (l ++ ps) := by
  rcases h with ⟨a, e, h0, h1, h2⟩ | ⟨a, b, e, h0, h1, h2, h3, h4, h5⟩
  · subst e
    obtain ⟨s1, k1⟩ := hs a (List.mem_cons_self ..)
    refine tm_snoc T (fun _ => ?_)
    rw [s1, k1]
    rw [List.length_singleton, Nat.add_sub_cancel] at hP
    by_cases c : k = 1
    · rw [if_pos c] at hP ⊢; exact hP
    · rw [if_neg c] at hP ⊢; exact hP
  · subst e
    obtain ⟨s1, k1⟩ := hs b (List.mem_cons_of_mem _ (List.mem_cons_self ..))
    have T1 : tm_l P ap g (l ++ [a]) := tm_snoc T (fun c => by omega)
    have T2 := tm_snoc (x := b) T1 (fun _ => by
      rw [s1, k1, List.length_append]
      have e : l.length + [a, b].length - 1 = l.length + [a].length := by
        show l.length + 2 - 1 = l.length + 1
        omega
      rw [e] at hP
      by_cases c : k = 1
      · rw [if_pos c] at hP ⊢; exact hP
      · rw [if_neg c] at hP ⊢; exact hP)
    rw [List.append_assoc] at T2
    exact T2
theorem ak_app {s hi id : Nat} {ps l : List Pc} (h : pkp id ps) (hx : ∀ x, x ∈ ps → pq_k x = 1 → pq_s x = s → pq_a x = hi) {lo : Nat} (A : ak s hi lo l) : ak s hi lo (l ++ ps) := by
  rcases h with ⟨a, e, _⟩ | ⟨a, b, e, _⟩
  · subst e
    exact ak_snoc (hx a (List.mem_cons_self ..)) A
  · subst e
    have := ak_snoc (hx b (List.mem_cons_of_mem _ (List.mem_cons_self ..))) (ak_snoc (hx a (List.mem_cons_self ..)) A)
    rw [List.append_assoc] at this
    exact this
theorem ev_push {x y lo' hi : Nat → Nat} {C N N' : Nat → Nat → Nat} {lv : Lv} {tl e s k ov : Nat} {ps : List Pc} (he : e < 2) (hx : x (3 * e) = 0)
    (hN : ∀ i, i ≠ 17 → i ≠ 22 → i ≠ 26 → i ≠ 27 → i ≠ 28 → i ≠ 37 → i ≠ 43 → i ≠ 46 → N' i = N i) (f22 : N' 22 = ub_un (N 22) e ((N 43 e + 1) % 16)) (f26 : N' 26 = ub_un (N 26) (3 * e) (N 26 (3 * e) + ps.length)) (f43 : N' 43 = ub_un (N 43) e (N 43 e + 1)) (f46 : N' 46 = ub_un (N 46) e ov)
    (hQ : ∀ v, v < 4 → qo C N' (ul lv (3 * e) (lv (3 * e) ++ ps)) v) (hR : rg C N') (hps : pkp (N 43 e) ps) (hw : ∀ z, z ∈ ps → pq_wf e z ∧ tk_ok N z ∧ pq_s z = s ∧ pq_k z = k ∧ (k = 1 → pq_a z = N 45 s))
    (hk : kb_k N lv s + 1 + kb_u N s ≤ 3 ∧ (N 12 s = 0 → kb_k N lv s + 1 + kb_u N s ≤ 1))
    (hT : tm_ok tl N s (N 40 (3 * e) + 2 * N 41 (3 * e) + max (N 40 (2 - e)) 2 + 5 + 2 * ((lv (3 * e)).length + ps.length - 1) + (if k = 1 then 0 else tm_a N e)))
    (d0 : N 16 (2 - 2 * e) ≠ 1) (d1 : N 16 (3 - 2 * e) = 1 → k = 1 ∧ s = 2 - 2 * e ∧ ov = N 46 e + 1 ∧ ps.length = 1) (d2 : N 16 (3 - 2 * e) ≠ 1 → ov = N 46 e) (cap : N 26 (3 * e) + ps.length ≤ 6)
    (I : Inv x y lo' hi C tl N lv) : Inv x y lo' hi C tl N' (ul lv (3 * e) (lv (3 * e) ++ ps)) := by
  obtain ⟨I1, I2, I3, I4, I5, I6, I7, I8, I9, I10⟩ := I
  have l3 : ul lv (3 * e) (lv (3 * e) ++ ps) (3 * e) = lv (3 * e) ++ ps := ul_s
  have lo'' : ∀ j, j ≠ 3 * e → ul lv (3 * e) (lv (3 * e) ++ ps) j = lv j := fun j h => ul_n h
  have g0 := hN 0 (by decide) (by decide) (by decide) (by decide) (by decide) (by decide) (by decide) (by decide)
  have g1 := hN 1 (by decide) (by decide) (by decide) (by decide) (by decide) (by decide) (by decide) (by decide)
  have g2 := hN 2 (by decide) (by decide) (by decide) (by decide) (by decide) (by decide) (by decide) (by decide)
  have g3 := hN 3 (by decide) (by decide) (by decide) (by decide) (by decide) (by decide) (by decide) (by decide)
  have g4 := hN 4 (by decide) (by decide) (by decide) (by decide) (by decide) (by decide) (by decide) (by decide)
  have g5 := hN 5 (by decide) (by decide) (by decide) (by decide) (by decide) (by decide) (by decide) (by decide)
  have g6 := hN 6 (by decide) (by decide) (by decide) (by decide) (by decide) (by decide) (by decide) (by decide)
  have g7 := hN 7 (by decide) (by decide) (by decide) (by decide) (by decide) (by decide) (by decide) (by decide)
  have g8 := hN 8 (by decide) (by decide) (by decide) (by decide) (by decide) (by decide) (by decide) (by decide)
  have g9 := hN 9 (by decide) (by decide) (by decide) (by decide) (by decide) (by decide) (by decide) (by decide)
  have g10 := hN 10 (by decide) (by decide) (by decide) (by decide) (by decide) (by decide) (by decide) (by decide)
  have g11 := hN 11 (by decide) (by decide) (by decide) (by decide) (by decide) (by decide) (by decide) (by decide)
  have g12 := hN 12 (by decide) (by decide) (by decide) (by decide) (by decide) (by decide) (by decide) (by decide)
  have g13 := hN 13 (by decide) (by decide) (by decide) (by decide) (by decide) (by decide) (by decide) (by decide)
  have g14 := hN 14 (by decide) (by decide) (by decide) (by decide) (by decide) (by decide) (by decide) (by decide)
  have g15 := hN 15 (by decide) (by decide) (by decide) (by decide) (by decide) (by decide) (by decide) (by decide)
  have g16 := hN 16 (by decide) (by decide) (by decide) (by decide) (by decide) (by decide) (by decide) (by decide)
  have g18 := hN 18 (by decide) (by decide) (by decide) (by decide) (by decide) (by decide) (by decide) (by decide)
  have g19 := hN 19 (by decide) (by decide) (by decide) (by decide) (by decide) (by decide) (by decide) (by decide)
  have g20 := hN 20 (by decide) (by decide) (by decide) (by decide) (by decide) (by decide) (by decide) (by decide)
  have g21 := hN 21 (by decide) (by decide) (by decide) (by decide) (by decide) (by decide) (by decide) (by decide)
  have g23 := hN 23 (by decide) (by decide) (by decide) (by decide) (by decide) (by decide) (by decide) (by decide)
  have g25 := hN 25 (by decide) (by decide) (by decide) (by decide) (by decide) (by decide) (by decide) (by decide)
  have g29 := hN 29 (by decide) (by decide) (by decide) (by decide) (by decide) (by decide) (by decide) (by decide)
  have g30 := hN 30 (by decide) (by decide) (by decide) (by decide) (by decide) (by decide) (by decide) (by decide)
  have g31 := hN 31 (by decide) (by decide) (by decide) (by decide) (by decide) (by decide) (by decide) (by decide)
  have g32 := hN 32 (by decide) (by decide) (by decide) (by decide) (by decide) (by decide) (by decide) (by decide)
  have g33 := hN 33 (by decide) (by decide) (by decide) (by decide) (by decide) (by decide) (by decide) (by decide)
  have g34 := hN 34 (by decide) (by decide) (by decide) (by decide) (by decide) (by decide) (by decide) (by decide)
  have g35 := hN 35 (by decide) (by decide) (by decide) (by decide) (by decide) (by decide) (by decide) (by decide)
  have g36 := hN 36 (by decide) (by decide) (by decide) (by decide) (by decide) (by decide) (by decide) (by decide)
  have g40 := hN 40 (by decide) (by decide) (by decide) (by decide) (by decide) (by decide) (by decide) (by decide)
  have g41 := hN 41 (by decide) (by decide) (by decide) (by decide) (by decide) (by decide) (by decide) (by decide)
  have g42 := hN 42 (by decide) (by decide) (by decide) (by decide) (by decide) (by decide) (by decide) (by decide)
  have g44 := hN 44 (by decide) (by decide) (by decide) (by decide) (by decide) (by decide) (by decide) (by decide)
  have g45 := hN 45 (by decide) (by decide) (by decide) (by decide) (by decide) (by decide) (by decide) (by decide)
  have g47 := hN 47 (by decide) (by decide) (by decide) (by decide) (by decide) (by decide) (by decide) (by decide)
  have g48 := hN 48 (by decide) (by decide) (by decide) (by decide) (by decide) (by decide) (by decide) (by decide)
  have g49 := hN 49 (by decide) (by decide) (by decide) (by decide) (by decide) (by decide) (by decide) (by decide)
  have g50 := hN 50 (by decide) (by decide) (by decide) (by decide) (by decide) (by decide) (by decide) (by decide)
  refine ⟨?_, ?_, hQ, ?_, ?_, ?_, ?_, ?_, hR, I10⟩
  · intro v hv
    by_cases c : v = 3 * e
    · subst c
      have L := I1 _ hv
      unfold lk at L ⊢
      rw [l3, f26, ub_s, g25, g32, g33, g34, g35, g36, g40, g41, g42, List.length_append, hx]
      rw [hx] at L
      refine ⟨by have := L.1; omega, L.2.1, L.2.2.1, L.2.2.2.1, L.2.2.2.2.1, L.2.2.2.2.2.1, L.2.2.2.2.2.2.1, ?_⟩
      rcases L.2.2.2.2.2.2.2 with h | h | h | h | h
      · exact Or.inl ⟨h.1, h.2.1, h.2.2.1, h.2.2.2.1, h.2.2.2.2.1, h.2.2.2.2.2.1, fun c => absurd c Nat.zero_ne_one⟩
      · exact Or.inr (Or.inl ⟨h.1, h.2.1, h.2.2.1, h.2.2.2.1, h.2.2.2.2.1, by omega⟩)
      · exact Or.inr (Or.inr (Or.inl h))
      · exact Or.inr (Or.inr (Or.inr (Or.inl h)))
      · exact Or.inr (Or.inr (Or.inr (Or.inr ⟨h.1, h.2.1, h.2.2.1, h.2.2.2.1, h.2.2.2.2.1, by omega⟩)))
    · exact lk_cg (N := N) (by rw [g25]) (by rw [f26, ub_n c]) (by rw [g32]) (by rw [g33]) (by rw [g34]) (by rw [g35]) (by rw [g36]) (by rw [g40]) (by rw [g41]) (by rw [g42]) (lo'' v c) rfl rfl (I1 v hv)
  · intro v hv
    by_cases c : v = 3 * e
    · subst c
      exact fr_cg (N := N) g30 g31 g49 (by rw [g32]) (by rw [g41]) (by rw [g42]) (by rw [g32]) (by rw [g42]) ps l3 (I2 _ hv)
    · exact fr_cg (N := N) g30 g31 g49 (by rw [g32]) (by rw [g41]) (by rw [g42]) (by rw [g32]) (by rw [g42]) [] (by rw [lo'' v c, List.append_nil]) (I2 _ hv)
  · exact fun d hd => jo_cg (N := N) g18 g19 g20 g21 g49 (lo'' _ (by omega)) (I4 d hd)
  · exact fun t ht => si_cg (N := N) g0 g1 g2 g3 g4 g5 g6 g7 g8 g9 g10 g11 g12 g13 g14 g15 g16 g44 g45 g48 g49 g50 (I5 t ht)
  · intro d hd
    have D := I6 d hd
    by_cases c : d = e
    · subst c
      unfold dr tk_ok at D ⊢
      obtain ⟨a1, a2, a3, a4, a5, a6, a7, a8, a9, a10, a11, a12, a13, a14⟩ := D
      rw [l3, lo'' (2 - d) (by omega), lo'' (4 + d) (by omega), lo'' (6 + d) (by omega), f22, f26, f43, f46, ub_s, ub_s, ub_s, ub_s, ub_n (by omega : 2 - d ≠ 3 * d), g48, g44, g45, g11, g50, g7, g8, g16, g23]
      refine ⟨?_, ?_, pkp_ct hps a3, rfl, a5, ?_, a7, a8, a9, cap, ?_, ?_, ?_, ?_⟩
      · intro z hz
        rcases hz with hz | hz
        · exact a1 z (Or.inl hz)
        · rcases List.mem_append.mp hz with hz | hz
          · exact a1 z (Or.inr hz)
          · have := hw z hz
            exact ⟨this.1, this.2.1⟩
      · rw [← List.append_assoc, adj_app]
        exact ⟨a2, pkp_adj hps⟩
      · intro q z hz
        have := a6 q z hz
        rw [lc_app, pkp_lc hps]
        omega
      · rw [← List.append_assoc]
        refine ak_app hps (fun z hz c1 c2 => ?_) a11
        have := hw z hz
        rw [this.2.2.2.2 (by rw [← this.2.2.2.1]; exact c1), ← this.2.2.1, c2]
      · rw [← List.append_assoc]
        refine ak_app hps (fun z hz c1 c2 => ?_) a12
        have := hw z hz
        rw [this.2.2.2.2 (by rw [← this.2.2.2.1]; exact c1), ← this.2.2.1, c2]
      · intro q
        obtain ⟨k1, s1, o1, p1⟩ := d1 q
        obtain ⟨u, b, e1, e2, e3⟩ := a13 q
        refine ⟨u, b ++ ps, by rw [e1, List.append_assoc], by rw [List.length_append, e2, o1, p1], fun z hz => ?_⟩
        rcases List.mem_append.mp hz with hz | hz
        · exact e3 z hz
        · obtain ⟨w1, w2, w3, w4, _⟩ := hw z hz
          refine ⟨by rw [w4]; exact k1, by rw [w3]; exact s1, ?_⟩
          have n1 : pq_n z = 1 := by unfold pq_n; rw [if_neg (by rw [w4]; omega)]
          have := w1.2.2.1
          omega
      · intro z hz
        rcases a14 z hz with q | ⟨y', r, q1, q2, q3⟩
        · refine Or.inl ?_
          rw [lc_app, pkp_lc hps]; omega
        · exact Or.inr ⟨y', r ++ ps, by rw [q1]; rfl, q2, q3⟩
    · have c3 : 3 * d ≠ 3 * e := by omega
      have c2 : 2 - d ≠ 3 * e := by omega
      unfold dr tk_ok at D ⊢
      rw [lo'' _ c2, lo'' _ c3, lo'' (4 + d) (by omega), lo'' (6 + d) (by omega), f22, f26, f43, f46, ub_n c, ub_n c, ub_n c, ub_n c2, ub_n c3, g48, g44, g45, g11, g50, g7, g8, g16, g23]
      exact D
  · have hkk : tm_ok tl N' = tm_ok tl N := by
      funext t g
      unfold tm_ok
      rw [g47, g11, g12]
    have all : ∀ d, d < 2 → tm_d tl N lv d → tm_d tl N' (ul lv (3 * e) (lv (3 * e) ++ ps)) d := by
      intro d hd T
      by_cases c : d = e
      · subst c
        unfold tm_d at T ⊢
        have ha : tm_a N' d = tm_a N d := by unfold tm_a; rw [g40]
        rw [hkk, ha, l3, lo'' (2 - d) (by omega), lo'' (4 + d) (by omega), g40, g41, g16, f26, f46, ub_s, ub_s]
        obtain ⟨T1, T2, T3, T4, T5⟩ := T
        refine ⟨T1, pkp_tm hps (fun z hz => ⟨(hw z hz).2.2.1, (hw z hz).2.2.2.1⟩) T2 hT, T3, fun q => absurd q d0, fun q => ?_⟩
        obtain ⟨k1, s1, o1, p1⟩ := d1 q
        have t5 := T5 q
        refine tm_anti ?_ t5
        have ov2 : N 46 d + 1 ≤ 3 := by
          have D := I6 d hd
          unfold dr at D
          obtain ⟨u, b, e1, e2, e3⟩ := D.2.2.2.2.2.2.2.2.2.2.2.2.1 q
          have cb : cn s (lv (3 * d)) = cn s u + b.length := by
            rw [e1, cn_app, cn_all (fun z hz => ⟨by rw [s1]; exact (e3 z hz).2.1, (e3 z hz).2.2⟩)]
          have hk1 := hk.1
          unfold kb_k at hk1
          clear D
          rcases (by omega : d = 0 ∨ d = 1) with r | r
          · rw [r] at cb e2 ⊢
            have cb' : cn s (lv 0) = cn s u + b.length := cb
            omega
          · rw [r] at cb e2 ⊢
            have cb' : cn s (lv 3) = cn s u + b.length := cb
            omega
        rw [p1, o1]
        omega
      · have c3 : 3 * d ≠ 3 * e := by omega
        have c2 : 2 - d ≠ 3 * e := by omega
        unfold tm_d at T ⊢
        have ha : tm_a N' d = tm_a N d := by unfold tm_a; rw [g40]
        rw [hkk, ha, lo'' _ c3, lo'' _ c2, lo'' (4 + d) (by omega), g40, g41, g16, f26, f46, ub_n c, ub_n c3]
        exact T
    refine ⟨all 0 (by omega) I7.1, all 1 (by omega) I7.2.1, ?_⟩
    rw [g40]; exact I7.2.2
  · intro t ht
    have kt := I8 t ht
    have cc : cn t (lv (3 * e) ++ ps) = cn t (lv (3 * e)) + (if s = t then 1 else 0) := by
      rw [cn_app, pkp_cn hps (fun z hz => (hw z hz).2.2.1)]
    have kk : kb_k N' (ul lv (3 * e) (lv (3 * e) ++ ps)) t = kb_k N lv t + (if s = t then 1 else 0) := by
      unfold kb_k
      rw [g16]
      rcases (by omega : e = 0 ∨ e = 1) with r | r
      · rw [r] at lo'' l3 cc ⊢
        have l3' : ul lv 0 (lv 0 ++ ps) 0 = lv 0 ++ ps := l3
        have cc' : cn t (lv 0 ++ ps) = cn t (lv 0) + (if s = t then 1 else 0) := cc
        have h1 : ul lv 0 (lv 0 ++ ps) 1 = lv 1 := rfl
        have h2 : ul lv 0 (lv 0 ++ ps) 2 = lv 2 := rfl
        have h3 : ul lv 0 (lv 0 ++ ps) 3 = lv 3 := rfl
        have h4 : ul lv 0 (lv 0 ++ ps) 4 = lv 4 := rfl
        have h5 : ul lv 0 (lv 0 ++ ps) 5 = lv 5 := rfl
        show cn t (ul lv 0 (lv 0 ++ ps) 0) + cn t (ul lv 0 (lv 0 ++ ps) 1) + cn t (ul lv 0 (lv 0 ++ ps) 2) + cn t (ul lv 0 (lv 0 ++ ps) 3) + cn t (ul lv 0 (lv 0 ++ ps) 4) + cn t (ul lv 0 (lv 0 ++ ps) 5) + N 16 t = _
        rw [l3', h1, h2, h3, h4, h5, cc']
        generalize (if s = t then 1 else 0) = q
        omega
      · rw [r] at lo'' l3 cc ⊢
        have l3' : ul lv 3 (lv 3 ++ ps) 3 = lv 3 ++ ps := l3
        have cc' : cn t (lv 3 ++ ps) = cn t (lv 3) + (if s = t then 1 else 0) := cc
        have h1 : ul lv 3 (lv 3 ++ ps) 1 = lv 1 := rfl
        have h2 : ul lv 3 (lv 3 ++ ps) 2 = lv 2 := rfl
        have h0 : ul lv 3 (lv 3 ++ ps) 0 = lv 0 := rfl
        have h4 : ul lv 3 (lv 3 ++ ps) 4 = lv 4 := rfl
        have h5 : ul lv 3 (lv 3 ++ ps) 5 = lv 5 := rfl
        show cn t (ul lv 3 (lv 3 ++ ps) 0) + cn t (ul lv 3 (lv 3 ++ ps) 1) + cn t (ul lv 3 (lv 3 ++ ps) 2) + cn t (ul lv 3 (lv 3 ++ ps) 3) + cn t (ul lv 3 (lv 3 ++ ps) 4) + cn t (ul lv 3 (lv 3 ++ ps) 5) + N 16 t = _
        rw [l3', h1, h2, h0, h4, h5, cc']
        generalize (if s = t then 1 else 0) = q
        omega
    have uu : kb_u N' t = kb_u N t := by
      unfold kb_u sx_lim
      rw [g1, g7, g10, g12, g14, g47]
    unfold kb at kt ⊢
    rw [kk, uu, g12]
    by_cases c : s = t
    · subst c
      rw [if_pos rfl]; exact hk
    · rw [if_neg c]; exact kt
end
section
/-! the pieces of a packet, concretely -/
theorem pq_c_lt {C : Nat → Nat → Nat} {W : Nat → Nat} {d : Nat} {x : Pc} (h : pq_wf d x) (hC : ∀ s q, C s q < 256) (hW : pq_k x = 1 → W (pq_s x) - pq_a x < 256) (j : Nat) : pq_c C W x j < 256 := by
  obtain ⟨h1, h2, h3, h4, h5, h6, h7⟩ := h
  have n2 : pq_n x ≤ 2 := by rcases pq_n12 x with c | c <;> omega
  unfold pq_c
  split
  · have : pq_i x % 16 < 16 := Nat.mod_lt _ (by decide)
    split <;> omega
  · unfold pq_b
    split
    · rcases (by omega : pq_k x = 0 ∨ pq_k x = 1 ∨ 2 ≤ pq_k x) with c | c | c
      · have := h6 c; omega
      · have := h4 c; omega
      · have := h7 c; omega
    · split
      · exact Nat.lt_of_lt_of_le (Nat.mod_lt _ (by decide)) (by decide)
      · split
        · next c => exact hW c
        · exact hC _ _
theorem ul_ul (lv : Lv) (k : Nat) (a b : List Pc) : ul (ul lv k a) k b = ul lv k b := by
  funext j
  by_cases e : j = k
  · rw [e, ul_s, ul_s]
  · rw [ul_n e, ul_n e, ul_n e]
theorem bl_o {N : Nat → Nat → Nat} {i i' b n : Nat} {g : Nat → Nat} (h : i' ≠ i) : st_bl N i b n g i' = N i' := by
  unfold st_bl
  rw [show Nat.beq i' i = false from (Bool.eq_false_iff).mpr (fun e => h (Nat.eq_of_beq_eq_true e))]
  rfl
theorem sp_o {N : Nat → Nat → Nat} {w nm p l q i : Nat} (h26 : i ≠ 26) (h27 : i ≠ 27) (h28 : i ≠ 28) (h37 : i ≠ 37) : sx_sp N w nm p l q i = N i := by
  unfold sx_sp sx_enq sx_pf
  rw [ss_up_n h26, ss_up_n h28, bl_o h27, bl_o h37, ss_up_n h37]
def pN1 (M : Nat → Nat → Nat) (e L ov : Nat) : Nat → Nat → Nat := st_up (st_up (sx_snd1 M e L) 43 e (M 43 e + 1)) 46 e ov
def pN2 (M : Nat → Nat → Nat) (e L ov : Nat) : Nat → Nat → Nat := st_up (st_up (sx_snd2 M e L) 43 e (M 43 e + 1)) 46 e ov
theorem pN1_o {M : Nat → Nat → Nat} {e L ov i : Nat} (h22 : i ≠ 22) (h26 : i ≠ 26) (h27 : i ≠ 27) (h28 : i ≠ 28) (h37 : i ≠ 37) (h43 : i ≠ 43) (h46 : i ≠ 46) : pN1 M e L ov i = M i := by
  unfold pN1 sx_snd1
  rw [ss_up_n h46, ss_up_n h43, sp_o h26 h27 h28 h37, ss_up_n h22]
theorem pN2_o {M : Nat → Nat → Nat} {e L ov i : Nat} (h22 : i ≠ 22) (h26 : i ≠ 26) (h27 : i ≠ 27) (h28 : i ≠ 28) (h37 : i ≠ 37) (h43 : i ≠ 43) (h46 : i ≠ 46) : pN2 M e L ov i = M i := by
  unfold pN2 sx_snd2
  rw [ss_up_n h46, ss_up_n h43, sp_o h26 h27 h28 h37, sp_o h26 h27 h28 h37, ss_up_n h22]
/-- a packet of one piece goes behind the queue -/
theorem push1 {x y lo' hi : Nat → Nat} {C M : Nat → Nat → Nat} {lv : Lv} {tl e s k ov : Nat} {X : Pc} (he : e < 2) (hx : x (3 * e) = 0) (Xi : pq_i X = M 43 e) (Xp : pq_p X = 0) (Xn : pq_n X = 1) (hP : ∀ j, j < pq_len X → M 17 j = pq_b C (M 49) X j) (hW : k = 1 → M 49 s - pq_a X < 256)
    (hw : pq_wf e X ∧ tk_ok M X ∧ pq_s X = s ∧ pq_k X = k ∧ (k = 1 → pq_a X = M 45 s)) (hk : kb_k M lv s + 1 + kb_u M s ≤ 3 ∧ (M 12 s = 0 → kb_k M lv s + 1 + kb_u M s ≤ 1))
    (hT : tm_ok tl M s (M 40 (3 * e) + 2 * M 26 (3 * e) + max (M 40 (2 - e)) 2 + 5 + (if k = 1 then 0 else tm_a M e)))
    (d0 : M 16 (2 - 2 * e) ≠ 1) (d1 : M 16 (3 - 2 * e) = 1 → k = 1 ∧ s = 2 - 2 * e ∧ ov = M 46 e + 1) (d2 : M 16 (3 - 2 * e) ≠ 1 → ov = M 46 e) (cap : M 26 (3 * e) ≤ 4)
    (I : Inv x y lo' hi C tl M lv) : Inv x y lo' hi C tl (pN1 M e (pq_len X) ov) (ul lv (3 * e) (lv (3 * e) ++ [X])) := by
  have hwx := (wx e he).1
  obtain ⟨w1, w2, w3, w4, w5⟩ := hw
  have len := (pq_len2 w1).2 Xn
  have sz : pq_len X = pq_sz X := by
    unfold pq_sz
    rw [if_pos Xp]
    split <;> omega
  have L1 := I.1 _ hwx
  have nm : M 22 e = pq_i X % 16 := by
    have D := I.2.2.2.2.2.1 e he
    unfold dr at D
    rw [D.2.2.2.1, Xi]
  have hC := I.2.2.2.2.2.2.2.2.1.2.2.1
  have F : ∀ j, j < pq_len X + 1 → sx_pf (st_up M 22 e ((M 22 e + 1) % 16)) (M 22 e) 0 1 (pq_len X) 37 (0 + j) = pq_c C (M 49) X j := by
    have z := pf_c (C := C) (N := st_up M 22 e ((M 22 e + 1) % 16)) (W := M 49) (x := X) (nm := M 22 e) (l := 1) (q := pq_len X) nm (by rw [if_pos (by omega)]) sz (by omega) hP
    rw [Xp] at z
    exact z
  refine ev_push (N := M) (k := k) (s := s) (ov := ov) (ps := [X]) he hx (fun i _ a2 a3 a4 a5 a6 a7 a8 => pN1_o a2 a3 a4 a5 a6 a7 a8) ?_ rfl rfl rfl ?_ ?_ (Or.inl ⟨X, rfl, Xi, Xp, Xn⟩) ?_ hk ?_ d0 (fun q => ⟨(d1 q).1, (d1 q).2.1, (d1 q).2.2, rfl⟩) d2 (by show _ + 1 ≤ 6; omega) I
  · show ub_un (M 22) e ((M 22 e + 1) % 16) = _
    rw [nm, Xi]
    congr 1
    omega
  · exact qo_enq (N := sx_pf (st_up M 22 e ((M 22 e + 1) % 16)) (M 22 e) 0 1 (pq_len X)) (f := 0) hwx L1.1 (by show M 26 (3 * e) < 6; omega) sz (by omega) F I.2.2.2.2.2.2.2.2.1.1 I.2.2.1
  · exact rg_enq (N := sx_pf (st_up M 22 e ((M 22 e + 1) % 16)) (M 22 e) 0 1 (pq_len X)) (f := 0) (by omega) (fun j hj => by rw [F j hj]; exact pq_c_lt w1 hC (fun c => by rw [w3]; exact hW (by rw [← w4]; exact c)) j) I.2.2.2.2.2.2.2.2.1
  · intro z hz
    rw [List.mem_singleton] at hz
    rw [hz]
    exact ⟨w1, w2, w3, w4, w5⟩
  · have l1 := L1.1
    refine tm_anti ?_ hT
    show M 40 (3 * e) + 2 * M 41 (3 * e) + max (M 40 (2 - e)) 2 + 5 + 2 * ((lv (3 * e)).length + 1 - 1) + _ ≤ _
    omega
/-- a packet of two pieces -/
theorem push2 {x y lo' hi : Nat → Nat} {C M : Nat → Nat → Nat} {lv : Lv} {tl e s ov : Nat} {X Y : Pc} (he : e < 2) (hx : x (3 * e) = 0) (Xi : pq_i X = M 43 e) (Xp : pq_p X = 0) (Xn : pq_n X = 2) (Y1 : X.1 = Y.1) (Y2 : X.2.2 = Y.2.2) (Yp : pq_p Y = 1) (hP : ∀ j, j < pq_len X → M 17 j = pq_b C (M 49) X j)
    (hw : pq_wf e X ∧ tk_ok M X ∧ pq_s X = s ∧ pq_k X = 0) (hk : kb_k M lv s + 1 + kb_u M s ≤ 3 ∧ (M 12 s = 0 → kb_k M lv s + 1 + kb_u M s ≤ 1))
    (hT : tm_ok tl M s (M 40 (3 * e) + 2 * M 26 (3 * e) + 2 + max (M 40 (2 - e)) 2 + 5 + tm_a M e))
    (d0 : M 16 (2 - 2 * e) ≠ 1) (d1 : M 16 (3 - 2 * e) ≠ 1) (cap : M 26 (3 * e) ≤ 4)
    (I : Inv x y lo' hi C tl M lv) : Inv x y lo' hi C tl (pN2 M e (pq_len X) (M 46 e)) (ul lv (3 * e) (lv (3 * e) ++ [X, Y])) := by
  have hwx := (wx e he).1
  obtain ⟨w1, w2, w3, w4⟩ := hw
  have len := (pq_len2 w1).1 Xn
  have yk : pq_k Y = pq_k X := by unfold pq_k; rw [Y2]
  have ys : pq_s Y = pq_s X := by unfold pq_s; rw [Y2]
  have ya : pq_a Y = pq_a X := by unfold pq_a; rw [Y2]
  have yz : pq_z Y = pq_z X := by unfold pq_z; rw [Y2]
  have yn : pq_n Y = 2 := by rw [← Xn]; unfold pq_n; rw [yk, yz]
  have yl : pq_len Y = pq_len X := by unfold pq_len; rw [yk, yz]
  have yi : pq_i Y = pq_i X := Y1.symm
  have wY : pq_wf e Y := by
    unfold pq_wf at w1 ⊢
    rw [yk, ys, yz, yn, Yp]
    exact ⟨w1.1, w1.2.1, by omega, w1.2.2.2⟩
  have szX : (3 : Nat) = pq_sz X := by
    unfold pq_sz
    rw [if_pos Xp, if_pos (by omega)]
  have szY : pq_len X - 3 = pq_sz Y := by
    unfold pq_sz
    rw [if_neg (by omega), yl]
  have L1 := I.1 _ hwx
  have nm : M 22 e = pq_i X % 16 := by
    have D := I.2.2.2.2.2.1 e he
    unfold dr at D
    rw [D.2.2.2.1, Xi]
  have hC := I.2.2.2.2.2.2.2.2.1.2.2.1
  have F1 : ∀ j, j < 3 + 1 → sx_pf (st_up M 22 e ((M 22 e + 1) % 16)) (M 22 e) 0 0 3 37 (0 + j) = pq_c C (M 49) X j := by
    have z := pf_c (C := C) (N := st_up M 22 e ((M 22 e + 1) % 16)) (W := M 49) (x := X) (nm := M 22 e) (l := 0) (q := 3) nm (by rw [if_neg (by omega)]) szX (by omega) hP
    rw [Xp] at z
    exact z
  have F2 : ∀ j, j < (pq_len X - 3) + 1 → sx_pf (sx_sp (st_up M 22 e ((M 22 e + 1) % 16)) (3 * e) (M 22 e) 0 0 3) (M 22 e) 1 1 (pq_len X - 3) 37 (0 + j) = pq_c C (M 49) Y j := by
    have z := pf_c (C := C) (N := sx_sp (st_up M 22 e ((M 22 e + 1) % 16)) (3 * e) (M 22 e) 0 0 3) (W := M 49) (x := Y) (nm := M 22 e) (l := 1) (q := pq_len X - 3) (by rw [nm, yi]) (by rw [if_pos (by omega)]) szY (by rw [Yp, yl]; omega) (fun j hj => by
      rw [pq_b_eq Y2.symm]
      exact hP j (by omega))
    rw [Yp] at z
    exact z
  have Q1 := qo_enq (C := C) (lv := lv) (w := 3 * e) (x := X) (q := 3) (N := sx_pf (st_up M 22 e ((M 22 e + 1) % 16)) (M 22 e) 0 0 3) (f := 0) hwx L1.1 (by show M 26 (3 * e) < 6; omega) szX (by omega) F1 I.2.2.2.2.2.2.2.2.1.1 I.2.2.1
  have R1 := rg_enq (C := C) (w := 3 * e) (q := 3) (N := sx_pf (st_up M 22 e ((M 22 e + 1) % 16)) (M 22 e) 0 0 3) (f := 0) (by omega) (fun j hj => by rw [F1 j hj]; exact pq_c_lt w1 hC (fun c => by omega) j) I.2.2.2.2.2.2.2.2.1
  have Q2 := qo_enq (C := C) (lv := ul lv (3 * e) (lv (3 * e) ++ [X])) (w := 3 * e) (x := Y) (q := pq_len X - 3) (N := sx_pf (sx_sp (st_up M 22 e ((M 22 e + 1) % 16)) (3 * e) (M 22 e) 0 0 3) (M 22 e) 1 1 (pq_len X - 3)) (f := 0) hwx (by
      show ub_un (M 26) (3 * e) (M 26 (3 * e) + 1) (3 * e) = M 41 (3 * e) + _
      rw [ub_s, ul_s, List.length_append, L1.1]
      show _ = _ + (_ + 1)
      omega) (by show ub_un (M 26) (3 * e) (M 26 (3 * e) + 1) (3 * e) < 6; rw [ub_s]; omega) szY (by omega) F2 R1.1 Q1
  have R2 := rg_enq (C := C) (w := 3 * e) (q := pq_len X - 3) (N := sx_pf (sx_sp (st_up M 22 e ((M 22 e + 1) % 16)) (3 * e) (M 22 e) 0 0 3) (M 22 e) 1 1 (pq_len X - 3)) (f := 0) (by omega) (fun j hj => by rw [F2 j hj]; exact pq_c_lt wY hC (fun c => by omega) j) R1
  refine ev_push (N := M) (k := 0) (s := s) (ov := M 46 e) (ps := [X, Y]) he hx (fun i _ a2 a3 a4 a5 a6 a7 a8 => pN2_o a2 a3 a4 a5 a6 a7 a8) ?_ ?_ rfl rfl ?_ R2 (Or.inr ⟨X, Y, rfl, Xi, Xp, Xn, Y1, Y2, Yp⟩) ?_ hk ?_ d0 (fun q => absurd q d1) (fun _ => rfl) (by show _ + 2 ≤ 6; omega) I
  · show ub_un (M 22) e ((M 22 e + 1) % 16) = _
    rw [nm, Xi]
    congr 1
    omega
  · show ub_un (ub_un (M 26) (3 * e) (M 26 (3 * e) + 1)) (3 * e) (ub_un (M 26) (3 * e) (M 26 (3 * e) + 1) (3 * e) + 1) = _
    rw [ub_uu, ub_s]
    rfl
  · rw [ul_s, ul_ul, List.append_assoc] at Q2
    exact Q2
  · intro z hz
    rcases List.mem_cons.mp hz with hz | hz
    · rw [hz]; exact ⟨w1, w2, w3, w4, fun c => by omega⟩
    · rw [List.mem_singleton] at hz
      rw [hz]
      refine ⟨wY, ?_, by rw [ys]; exact w3, by rw [yk]; exact w4, fun c => by omega⟩
      unfold tk_ok at w2 ⊢
      rw [yk, ys, ya, yz]
      exact w2
  · have l1 := L1.1
    refine tm_anti ?_ hT
    show M 40 (3 * e) + 2 * M 41 (3 * e) + max (M 40 (2 - e)) 2 + 5 + 2 * ((lv (3 * e)).length + 2 - 1) + (if (0 : Nat) = 1 then 0 else tm_a M e) ≤ _
    rw [if_neg (by decide)]
    omega
end
section
/-! an end sends an acknowledgement -/
theorem sak_o {N : Nat → Nat → Nat} {s i : Nat} (h16 : i ≠ 16) (h17 : i ≠ 17) : sx_sak N s i = N i := by
  unfold sx_sak
  rw [ss_up_n h17, ss_up_n h17, ss_up_n h17, ss_up_n h16]
theorem sak_16 {N : Nat → Nat → Nat} {s : Nat} : sx_sak N s 16 = ub_un (N 16) s 0 := rfl
theorem Inv_16 {x y lo hi : Nat → Nat} {C N : Nat → Nat → Nat} {lv : Lv} {tl s : Nat} (I : Inv x y lo hi C tl N lv) : Inv x y lo hi C tl (sx_sak N s) lv := by
  obtain ⟨I1, I2, I3, I4, I5, I6, I7, I8, I9, I10⟩ := I
  have q : ∀ t, ub_un (N 16) s 0 t = 1 → N 16 t = 1 := by
    intro t h
    by_cases e : t = s
    · rw [e, ub_s] at h; omega
    · rw [ub_n e] at h; exact h
  have q' : ∀ t, ub_un (N 16) s 0 t ≤ N 16 t := by
    intro t
    by_cases e : t = s
    · rw [e, ub_s]; omega
    · rw [ub_n e]; exact Nat.le_refl _
  refine ⟨I1, I2, I3, I4, ?_, ?_, ?_, ?_, I9, I10⟩
  · intro t ht
    have S := I5 t ht
    refine ⟨S.1, ⟨S.2.1.1, S.2.1.2.1, S.2.1.2.2.1, S.2.1.2.2.2.1, Nat.le_trans (q' t) S.2.1.2.2.2.2.1, S.2.1.2.2.2.2.2.1, S.2.1.2.2.2.2.2.2⟩, S.2.2⟩
  · intro d hd
    have D := I6 d hd
    unfold dr at D ⊢
    obtain ⟨a1, a2, a3, a4, a5, a6, a7, a8, a9, a10, a11, a12, a13, a14⟩ := D
    exact ⟨a1, a2, a3, a4, a5, a6, a7, a8, a9, a10, a11, a12, fun c => a13 (q _ c), a14⟩
  · have all : ∀ d, tm_d tl N lv d → tm_d tl (sx_sak N s) lv d := by
      intro d T
      unfold tm_d at T ⊢
      obtain ⟨T1, T2, T3, T4, T5⟩ := T
      exact ⟨T1, T2, T3, fun c => T4 (q _ c), fun c => T5 (q _ c)⟩
    exact ⟨all 0 I7.1, all 1 I7.2.1, I7.2.2⟩
  · intro t ht
    have K := I8 t ht
    unfold kb kb_k at K ⊢
    have u : kb_u (sx_sak N s) t = kb_u N t := rfl
    have k := q' t
    rw [u]
    show _ + ub_un (N 16) s 0 t + _ ≤ 3 ∧ (N 12 t = 0 → _ + ub_un (N 16) s 0 t + _ ≤ 1)
    exact ⟨by omega, fun c => by have := K.2 c; omega⟩
/-- what an end sends comes together -/
theorem inA_new {lv : Lv} {d : Nat} {X : Pc} (Xp : pq_p X = 0) (Xn : pq_n X = 1) : inA X (lv (6 + d)) (lv (2 - d) ++ (lv (3 * d) ++ [X])) := by
  rw [← List.append_assoc]
  exact inA_r (Or.inl ⟨rfl, by omega, Or.inl Xp⟩)
theorem sam_push {lv : Lv} {e : Nat} (he : e < 2) (ps : List Pc) (d : Nat) (hd : d < 2) : sam lv (ul lv (3 * e) (lv (3 * e) ++ ps)) d := by
  intro y h
  rw [ul_n (by omega : 6 + d ≠ 3 * e), ul_n (by omega : 2 - d ≠ 3 * e)]
  by_cases c : d = e
  · subst c
    rw [ul_s, ← List.append_assoc]
    exact inA_app h
  · rw [ul_n (by omega : 3 * d ≠ 3 * e)]
    exact h
/-- pt grows when lists grow and the stream's fields stay -/
theorem pt_grow {N N' : Nat → Nat → Nat} {lv lv' : Lv} {t : Nat} (ht : t < 4) (s0 : sam lv lv' 0) (s1 : sam lv lv' 1) (h1 : N' 1 t = N 1 t) (h7 : N' 7 t = N 7 t) (h12 : N' 12 t = N 12 t) (h14 : N' 14 t = N 14 t) (h44 : N' 44 t = N 44 t) (h45 : N' 45 t = N 45 t) (h8 : N' 8 t = N 8 t)
    (h10 : 0 < N 12 t → 0 < N 1 t → N 10 t = 0 → pt N' lv' t) (h16 : pt_due N t → pt N' lv' t) (p : pt N lv t) : pt N' lv' t := by
  have ps := p
  unfold pt at ps
  rcases ps with q | q | q | ⟨y, q, r⟩ | ⟨y, q, r⟩
  · refine Or.inl ?_
    unfold sx_set at q ⊢
    rw [h1, h12, h7, h14]; exact q
  · exact h10 q.1 q.2.1 q.2.2
  · exact h16 q
  · refine Or.inr (Or.inr (Or.inr (Or.inl ⟨y, ?_, ?_⟩)))
    · rcases (by omega : t / 2 = 0 ∨ t / 2 = 1) with e | e
      · rw [e] at q ⊢; exact s0 y q
      · rw [e] at q ⊢; exact s1 y q
    · unfold pt_own at r ⊢
      rw [h12, h1, h44, h45]; exact r
  · refine Or.inr (Or.inr (Or.inr (Or.inr ⟨y, ?_, ?_⟩)))
    · rcases (by omega : t / 2 = 0 ∨ t / 2 = 1) with e | e
      · rw [e] at q ⊢; exact s1 y q
      · rw [e] at q ⊢; exact s0 y q
    · unfold pt_ack at r ⊢
      rw [h12, h1, h44]; exact r
theorem lsum {lv : Lv} {e : Nat} (he : e < 2) (ps : List Pc) (F : List Pc → Nat) (F2 : ∀ a b, F (a ++ b) = F a + F b) : F (ul lv (3 * e) (lv (3 * e) ++ ps) 0) + F (ul lv (3 * e) (lv (3 * e) ++ ps) 1) + F (ul lv (3 * e) (lv (3 * e) ++ ps) 2) + F (ul lv (3 * e) (lv (3 * e) ++ ps) 3) + F (ul lv (3 * e) (lv (3 * e) ++ ps) 4) + F (ul lv (3 * e) (lv (3 * e) ++ ps) 5) = F (lv 0) + F (lv 1) + F (lv 2) + F (lv 3) + F (lv 4) + F (lv 5) + F ps := by
  rcases (by omega : e = 0 ∨ e = 1) with r | r
  · subst r
    show F (lv 0 ++ ps) + F (lv 1) + F (lv 2) + F (lv 3) + F (lv 4) + F (lv 5) = _
    rw [F2]; omega
  · subst r
    show F (lv 0) + F (lv 1) + F (lv 2) + F (lv 3 ++ ps) + F (lv 4) + F (lv 5) = _
    rw [F2]; omega
theorem wsum {lv : Lv} {e : Nat} (he : e < 2) (ps : List Pc) : wg 3 9 (ul lv (3 * e) (lv (3 * e) ++ ps) 0) + wg 3 9 (ul lv (3 * e) (lv (3 * e) ++ ps) 3) + wg 1 7 (ul lv (3 * e) (lv (3 * e) ++ ps) 1) + wg 1 7 (ul lv (3 * e) (lv (3 * e) ++ ps) 2) = wg 3 9 (lv 0) + wg 3 9 (lv 3) + wg 1 7 (lv 1) + wg 1 7 (lv 2) + wg 3 9 ps := by
  rcases (by omega : e = 0 ∨ e = 1) with r | r
  · subst r
    show wg 3 9 (lv 0 ++ ps) + wg 3 9 (lv 3) + wg 1 7 (lv 1) + wg 1 7 (lv 2) = _
    rw [wg_app]; omega
  · subst r
    show wg 3 9 (lv 0) + wg 3 9 (lv 3 ++ ps) + wg 1 7 (lv 1) + wg 1 7 (lv 2) = _
    rw [wg_app]; omega
def sdX (N : Nat → Nat → Nat) (e s : Nat) : Pc := (N 43 e, 0, 1, s, N 45 s, N 8 s)
def sdO (N : Nat → Nat → Nat) (e s : Nat) : Nat := if s = 2 - 2 * e ∧ N 16 (3 - 2 * e) = 1 then N 46 e + 1 else N 46 e
theorem sd_ack {C N : Nat → Nat → Nat} {lv : Lv} {tl e s : Nat} (he : e < 2) (hs : s = 2 - 2 * e ∨ s = 3 - 2 * e) (hd : N 16 s = 1) (hf : s = 3 - 2 * e → N 16 (2 - 2 * e) ≠ 1) (hc : N 26 (3 * e) ≤ 4) (hb : bth N e)
    (I : Iv1 (fun _ => 0) (fun _ => 0) C tl N lv) : Iv1 (fun _ => 0) (fun _ => 0) C tl (pN1 (sx_sak N s) e 3 (sdO N e s)) (ul lv (3 * e) (lv (3 * e) ++ [sdX N e s])) ∧ e6 (me tl (pN1 (sx_sak N s) e 3 (sdO N e s)) (ul lv (3 * e) (lv (3 * e) ++ [sdX N e s]))) (me tl N lv) ∧ bnd (pN1 (sx_sak N s) e 3 (sdO N e s)) e := by
  obtain ⟨II, Ia⟩ := I
  have s4 : s < 4 := by omega
  have sd : s / 2 = 1 - e := by omega
  have SI := II.2.2.2.2.1 s s4
  have I6 := II.2.2.2.2.2.1
  have I7 := II.2.2.2.2.2.2.1
  have I8 := II.2.2.2.2.2.2.2.1
  obtain ⟨⟨s0, s3, s4', s6, s1, s9, s15, s49, t1, t2, t3, t4, t5, t6, t7, t8, t9⟩, ⟨u1, u2, u3, u4, u5, u6, u7, u8⟩, _, _⟩ := SI
  have M1 := Inv_16 (s := s) II
  have Xn : pq_n (sdX N e s) = 1 := by
    unfold pq_n
    rw [if_neg (fun h => by have h1 : (1 : Nat) = 0 := h.1; omega)]
  have Xl : pq_len (sdX N e s) = 3 := by
    rfl
  have wf : pq_wf e (sdX N e s) := by
    refine ⟨(by decide : (1 : Nat) < 4), s4, by rw [Xn]; exact (by decide : (0 : Nat) < 1), fun _ => ⟨sd, u3⟩, fun c => absurd rfl c, fun c => absurd (show (1 : Nat) = 0 from c) (by decide), fun c => absurd (show 2 ≤ (1 : Nat) from c) (by decide)⟩
  have kk : kb_k (sx_sak N s) lv s + 1 = kb_k N lv s := by
    unfold kb_k
    show _ + ub_un (N 16) s 0 s + 1 = _
    rw [ub_s]
    show _ = cn s (lv 0) + cn s (lv 1) + cn s (lv 2) + cn s (lv 3) + cn s (lv 4) + cn s (lv 5) + N 16 s
    rw [hd]
  have d0 : sx_sak N s 16 (2 - 2 * e) ≠ 1 := by
    show ub_un (N 16) s 0 (2 - 2 * e) ≠ 1
    rcases hs with c | c
    · rw [← c, ub_s]; decide
    · rw [ub_n (by omega)]; exact hf c
  have d1 : sx_sak N s 16 (3 - 2 * e) = 1 → s = 2 - 2 * e ∧ N 16 (3 - 2 * e) = 1 := by
    intro c
    have c' : ub_un (N 16) s 0 (3 - 2 * e) = 1 := c
    rcases hs with q | q
    · rw [ub_n (by omega)] at c'; exact ⟨q, c'⟩
    · rw [← q, ub_s] at c'; omega
  have P := push1 (X := sdX N e s) (s := s) (k := 1) (ov := sdO N e s) (M := sx_sak N s) he rfl rfl rfl Xn
    (by
      rw [Xl]
      intro j hj
      show ub_un (ub_un (ub_un (N 17) 0 (64 + 8 * N 8 s + s)) 1 (N 15 s)) 2 (12 - N 4 s) j = _
      rcases (by omega : j = 0 ∨ j = 1 ∨ j = 2) with c | c | c
      · subst c
        rw [ub_n (by decide), ub_n (by decide), ub_s]; rfl
      · subst c
        rw [ub_n (by decide), ub_s, s15]; rfl
      · subst c
        rw [ub_s]
        show 12 - N 4 s = N 49 s - N 45 s
        omega)
    (fun _ => by show N 49 s - N 45 s < 256; omega)
    ⟨wf, ⟨fun c => absurd (show (1 : Nat) = 0 from c) (by decide), fun c => absurd (show (1 : Nat) = 2 from c) (by decide), fun _ c => ⟨c, (u7 c).2⟩⟩, rfl, rfl, fun _ => rfl⟩
    (by
      have k := I8 s s4
      have eu : kb_u (sx_sak N s) s = kb_u N s := rfl
      have e12 : sx_sak N s 12 s = N 12 s := rfl
      rw [kk, eu, e12]
      exact k)
    (by
      have T : tm_d tl N lv e := by
        rcases (by omega : e = 0 ∨ e = 1) with r | r
        · rw [r]; exact I7.1
        · rw [r]; exact I7.2.1
      unfold tm_d at T
      show tm_ok tl N s (N 40 (3 * e) + 2 * N 26 (3 * e) + max (N 40 (2 - e)) 2 + 5 + 0)
      rcases hs with c | c
      · have := T.2.2.2.1 (by rw [← c]; exact hd)
        rw [c]
        exact this
      · have := T.2.2.2.2 (by rw [← c]; exact hd)
        rw [c]
        refine tm_anti ?_ this
        omega)
    d0
    (fun c => by
      obtain ⟨q1, q2⟩ := d1 c
      refine ⟨rfl, q1, ?_⟩
      unfold sdO
      rw [if_pos ⟨q1, q2⟩]; rfl)
    (fun c => by
      unfold sdO
      rw [if_neg]
      · rfl
      · rintro ⟨q1, q2⟩
        apply c
        show ub_un (N 16) s 0 (3 - 2 * e) = 1
        rw [ub_n (by omega)]; exact q2)
    hc M1
  rw [Xl] at P
  refine ⟨⟨P, Ia⟩, ?_, ?_⟩
  · have S0 := sam_push (lv := lv) he [sdX N e s] 0 (by omega)
    have S1 := sam_push (lv := lv) he [sdX N e s] 1 (by omega)
    have mono : ∀ t, t < 4 → pt N lv t → pt (pN1 (sx_sak N s) e 3 (sdO N e s)) (ul lv (3 * e) (lv (3 * e) ++ [sdX N e s])) t := by
      intro t ht p
      refine pt_grow (N := N) ht S0 S1 rfl rfl rfl rfl rfl rfl rfl (fun a b c => Or.inr (Or.inl ⟨a, b, c⟩)) (fun q => ?_) p
      by_cases c : t = s
      · subst c
        refine Or.inr (Or.inr (Or.inr (Or.inr ⟨sdX N e t, ?_, ?_⟩)))
        · rw [show 7 - t / 2 = 6 + e by omega, show 1 + t / 2 = 2 - e by omega, show 3 - 3 * (t / 2) = 3 * e by omega]
          rw [ul_n (by omega : 6 + e ≠ 3 * e), ul_n (by omega : 2 - e ≠ 3 * e), ul_s]
          exact inA_new rfl Xn
        · refine ⟨rfl, rfl, ?_⟩
          rcases q.2 with r | r | r
          · exact Or.inl r
          · exact Or.inr (Or.inl r)
          · exact Or.inr (Or.inr r)
      · refine Or.inr (Or.inr (Or.inl ⟨?_, q.2⟩))
        show ub_un (N 16) s 0 t = 1
        rw [ub_n c]; exact q.1
    have hmd : m_d (pN1 (sx_sak N s) e 3 (sdO N e s)) = m_d N := by
      unfold m_d
      show ((ub_un (N 26) (3 * e) (N 26 (3 * e) + 1) 2 + (N 40 2 + 3 - N 40 0 - 2 * N 41 0) / 2) - 4) + ((ub_un (N 26) (3 * e) (N 26 (3 * e) + 1) 1 + (N 40 1 + 3 - N 40 3 - 2 * N 41 3) / 2) - 4) = _
      rw [ub_n (by omega), ub_n (by omega)]
    have hml : m_l (pN1 (sx_sak N s) e 3 (sdO N e s)) = m_l N := rfl
    rcases mr_cmp mono with c | ⟨c, pe⟩
    · exact Or.inr ⟨rfl, Or.inr ⟨hmd, Or.inr ⟨hml, Or.inl c⟩⟩⟩
    · have hq : ∀ t, t < 4 → m_qs (pN1 (sx_sak N s) e 3 (sdO N e s)) (ul lv (3 * e) (lv (3 * e) ++ [sdX N e s])) t ≤ m_qs N lv t := by
        intro t ht
        have hpe := pe t ht
        have ee := lsum (lv := lv) he [sdX N e s] (e0 t) (e0_app t)
        have e1 : bq (pN1 (sx_sak N s) e 3 (sdO N e s) 1 t = 0 ∧ pN1 (sx_sak N s) e 3 (sdO N e s) 7 t = 1 ∧ pN1 (sx_sak N s) e 3 (sdO N e s) 14 t = 0 ∧ pN1 (sx_sak N s) e 3 (sdO N e s) 47 t = 0 ∧ pt (pN1 (sx_sak N s) e 3 (sdO N e s)) (ul lv (3 * e) (lv (3 * e) ++ [sdX N e s])) t) = bq (N 1 t = 0 ∧ N 7 t = 1 ∧ N 14 t = 0 ∧ N 47 t = 0 ∧ pt N lv t) := by
          rw [propext hpe]; rfl
        unfold m_qs m_e
        rw [e1, ee]
        have el : sx_lim (pN1 (sx_sak N s) e 3 (sdO N e s)) t = sx_lim N t := rfl
        have e10 : pN1 (sx_sak N s) e 3 (sdO N e s) 10 t = N 10 t := rfl
        have e8 : pN1 (sx_sak N s) e 3 (sdO N e s) 8 t = N 8 t := rfl
        have e16 : pN1 (sx_sak N s) e 3 (sdO N e s) 16 t = ub_un (N 16) s 0 t := rfl
        rw [el, e10, e8, e16]
        have dd : e0 t [sdX N e s] + (if ub_un (N 16) s 0 t = 1 ∧ N 8 t = 0 then 1 else 0) ≤ (if N 16 t = 1 ∧ N 8 t = 0 then 1 else 0) := by
          show (if pq_p (sdX N e s) + 1 = pq_n (sdX N e s) ∧ s = t ∧ (1 : Nat) ≠ 2 ∧ ((1 : Nat) = 1 → N 8 s = 0) then 1 else 0) + 0 + _ ≤ _
          by_cases c : t = s
          · subst c
            rw [ub_s, if_neg (fun h => absurd h.1 (by decide) : ¬ ((0 : Nat) = 1 ∧ N 8 t = 0))]
            by_cases z : N 8 t = 0
            · rw [if_pos (show N 16 t = 1 ∧ N 8 t = 0 from ⟨hd, z⟩)]
              split <;> decide
            · rw [if_neg (fun h => z (h.2.2.2 rfl))]; exact Nat.zero_le _
          · rw [ub_n c, if_neg (fun h => c h.2.1.symm)]; omega
        omega
      have q0 := hq 0 (by omega)
      have q1 := hq 1 (by omega)
      have q2 := hq 2 (by omega)
      have q3 := hq 3 (by omega)
      have hqq : m_q (pN1 (sx_sak N s) e 3 (sdO N e s)) (ul lv (3 * e) (lv (3 * e) ++ [sdX N e s])) ≤ m_q N lv := by unfold m_q; omega
      have hpp : m_p (pN1 (sx_sak N s) e 3 (sdO N e s)) (ul lv (3 * e) (lv (3 * e) ++ [sdX N e s])) ≤ m_p N lv := by
        have w1 := wsum (lv := lv) he [sdX N e s]
        have w2 : wg 3 9 [sdX N e s] = 3 := rfl
        rw [w2] at w1
        have c26 : ub_un (N 26) (3 * e) (N 26 (3 * e) + 1) 0 + ub_un (N 26) (3 * e) (N 26 (3 * e) + 1) 1 + ub_un (N 26) (3 * e) (N 26 (3 * e) + 1) 2 + ub_un (N 26) (3 * e) (N 26 (3 * e) + 1) 3 = N 26 0 + N 26 1 + N 26 2 + N 26 3 + 1 := by
          rcases (by omega : e = 0 ∨ e = 1) with r | r
          · subst r
            show N 26 0 + 1 + N 26 1 + N 26 2 + N 26 3 = _
            omega
          · subst r
            show N 26 0 + N 26 1 + N 26 2 + (N 26 3 + 1) = _
            omega
        have c16 : ub_un (N 16) s 0 0 + ub_un (N 16) s 0 1 + ub_un (N 16) s 0 2 + ub_un (N 16) s 0 3 + 1 = N 16 0 + N 16 1 + N 16 2 + N 16 3 := by
          rcases (by omega : s = 0 ∨ s = 1 ∨ s = 2 ∨ s = 3) with r | r | r | r
          · subst r
            show 0 + N 16 1 + N 16 2 + N 16 3 + 1 = _
            omega
          · subst r
            show N 16 0 + 0 + N 16 2 + N 16 3 + 1 = _
            omega
          · subst r
            show N 16 0 + N 16 1 + 0 + N 16 3 + 1 = _
            omega
          · subst r
            show N 16 0 + N 16 1 + N 16 2 + 0 + 1 = _
            omega
        unfold m_p
        show N 40 0 + 2 * ub_un (N 26) (3 * e) (N 26 (3 * e) + 1) 0 + (N 40 1 + 2 * ub_un (N 26) (3 * e) (N 26 (3 * e) + 1) 1) + (N 40 2 + 2 * ub_un (N 26) (3 * e) (N 26 (3 * e) + 1) 2) + (N 40 3 + 2 * ub_un (N 26) (3 * e) (N 26 (3 * e) + 1) 3) + (N 47 0 + N 47 1 + N 47 2 + N 47 3) + wg 3 9 (ul lv (3 * e) (lv (3 * e) ++ [sdX N e s]) 0) + wg 3 9 (ul lv (3 * e) (lv (3 * e) ++ [sdX N e s]) 3) + wg 1 7 (ul lv (3 * e) (lv (3 * e) ++ [sdX N e s]) 1) + wg 1 7 (ul lv (3 * e) (lv (3 * e) ++ [sdX N e s]) 2) + 5 * (ub_un (N 16) s 0 0 + ub_un (N 16) s 0 1 + ub_un (N 16) s 0 2 + ub_un (N 16) s 0 3) ≤ _
        omega
      refine Or.inr ⟨rfl, Or.inr ⟨hmd, Or.inr ⟨hml, Or.inr ⟨c, ?_⟩⟩⟩⟩
      show m_q _ _ < m_q N lv ∨ m_q _ _ = m_q N lv ∧ m_p _ _ ≤ m_p N lv
      omega
  · intro c
    show 5 ≤ ub_un (N 26) (3 * e) (N 26 (3 * e) + 1) (3 * e)
    rw [ub_s]
    rcases c with c | c
    · exact absurd c d0
    · obtain ⟨q1, q2⟩ := d1 c
      have := hb (by rw [← q1]; exact hd) q2
      omega
end
section
/-! an end sends something of a stream: first the stream's own fields -/
theorem ev_str {x y lo hi : Nat → Nat} {C N M : Nat → Nat → Nat} {lv : Lv} {tl s se ms : Nat} (s4 : s < 4) (hN : ∀ i, i ≠ 10 → i ≠ 11 → i ≠ 13 → i ≠ 17 → i ≠ 47 → M i = N i) (e10 : M 10 = ub_un (N 10) s se) (e11 : M 11 = ub_un (N 11) s ms) (e13 : M 13 = ub_un (N 13) s 150) (e47 : M 47 = ub_un (N 47) s 150)
    (m1 : N 11 s ≤ ms) (m2 : N 44 s + ms ≤ N 50 s) (m3 : N 44 s + ms ≤ N 49 s) (m4 : se ≤ ms) (m5 : N 12 s = 0 → ms = 0) (hk : kb_k N lv s + kb_u M s ≤ 3 ∧ (N 12 s = 0 → kb_k N lv s + kb_u M s ≤ 1))
    (I : Inv x y lo hi C tl N lv) : Inv x y lo hi C tl M lv := by
  obtain ⟨I1, I2, I3, I4, I5, I6, I7, I8, I9, I10⟩ := I
  have g0 := hN 0 (by decide) (by decide) (by decide) (by decide) (by decide)
  have g1 := hN 1 (by decide) (by decide) (by decide) (by decide) (by decide)
  have g2 := hN 2 (by decide) (by decide) (by decide) (by decide) (by decide)
  have g3 := hN 3 (by decide) (by decide) (by decide) (by decide) (by decide)
  have g4 := hN 4 (by decide) (by decide) (by decide) (by decide) (by decide)
  have g5 := hN 5 (by decide) (by decide) (by decide) (by decide) (by decide)
  have g6 := hN 6 (by decide) (by decide) (by decide) (by decide) (by decide)
  have g7 := hN 7 (by decide) (by decide) (by decide) (by decide) (by decide)
  have g8 := hN 8 (by decide) (by decide) (by decide) (by decide) (by decide)
  have g9 := hN 9 (by decide) (by decide) (by decide) (by decide) (by decide)
  have g12 := hN 12 (by decide) (by decide) (by decide) (by decide) (by decide)
  have g14 := hN 14 (by decide) (by decide) (by decide) (by decide) (by decide)
  have g15 := hN 15 (by decide) (by decide) (by decide) (by decide) (by decide)
  have g16 := hN 16 (by decide) (by decide) (by decide) (by decide) (by decide)
  have g18 := hN 18 (by decide) (by decide) (by decide) (by decide) (by decide)
  have g19 := hN 19 (by decide) (by decide) (by decide) (by decide) (by decide)
  have g20 := hN 20 (by decide) (by decide) (by decide) (by decide) (by decide)
  have g21 := hN 21 (by decide) (by decide) (by decide) (by decide) (by decide)
  have g22 := hN 22 (by decide) (by decide) (by decide) (by decide) (by decide)
  have g23 := hN 23 (by decide) (by decide) (by decide) (by decide) (by decide)
  have g25 := hN 25 (by decide) (by decide) (by decide) (by decide) (by decide)
  have g26 := hN 26 (by decide) (by decide) (by decide) (by decide) (by decide)
  have g27 := hN 27 (by decide) (by decide) (by decide) (by decide) (by decide)
  have g28 := hN 28 (by decide) (by decide) (by decide) (by decide) (by decide)
  have g29 := hN 29 (by decide) (by decide) (by decide) (by decide) (by decide)
  have g30 := hN 30 (by decide) (by decide) (by decide) (by decide) (by decide)
  have g31 := hN 31 (by decide) (by decide) (by decide) (by decide) (by decide)
  have g32 := hN 32 (by decide) (by decide) (by decide) (by decide) (by decide)
  have g33 := hN 33 (by decide) (by decide) (by decide) (by decide) (by decide)
  have g34 := hN 34 (by decide) (by decide) (by decide) (by decide) (by decide)
  have g35 := hN 35 (by decide) (by decide) (by decide) (by decide) (by decide)
  have g36 := hN 36 (by decide) (by decide) (by decide) (by decide) (by decide)
  have g40 := hN 40 (by decide) (by decide) (by decide) (by decide) (by decide)
  have g41 := hN 41 (by decide) (by decide) (by decide) (by decide) (by decide)
  have g42 := hN 42 (by decide) (by decide) (by decide) (by decide) (by decide)
  have g43 := hN 43 (by decide) (by decide) (by decide) (by decide) (by decide)
  have g44 := hN 44 (by decide) (by decide) (by decide) (by decide) (by decide)
  have g45 := hN 45 (by decide) (by decide) (by decide) (by decide) (by decide)
  have g46 := hN 46 (by decide) (by decide) (by decide) (by decide) (by decide)
  have g48 := hN 48 (by decide) (by decide) (by decide) (by decide) (by decide)
  have g49 := hN 49 (by decide) (by decide) (by decide) (by decide) (by decide)
  have g50 := hN 50 (by decide) (by decide) (by decide) (by decide) (by decide)
  have le11 : ∀ t, N 11 t ≤ M 11 t := by
    intro t
    rw [e11]
    by_cases e : t = s
    · rw [e, ub_s]; exact m1
    · rw [ub_n e]; exact Nat.le_refl _
  refine ⟨fun v hv => lk_cg (N := N) (by rw [g25]) (by rw [g26]) (by rw [g32]) (by rw [g33]) (by rw [g34]) (by rw [g35]) (by rw [g36]) (by rw [g40]) (by rw [g41]) (by rw [g42]) rfl rfl rfl (I1 v hv),
    fun v hv => fr_cg (N := N) g30 g31 g49 (by rw [g32]) (by rw [g41]) (by rw [g42]) (by rw [g32]) (by rw [g42]) [] (List.append_nil _).symm (I2 v hv),
    fun v hv => qo_cg (N := N) g27 g28 g49 (by rw [g25]) (by rw [g41]) rfl (I3 v hv), fun d hd => jo_cg (N := N) g18 g19 g20 g21 g49 rfl (I4 d hd), ?_, ?_, ?_, ?_, ?_, I10⟩
  · intro t ht
    have S := I5 t ht
    unfold si si_n si_f si_o si_i at S ⊢
    rw [g0, g1, g2, g3, g4, g5, g6, g7, g8, g9, g12, g14, g15, g16, g44, g45, g48, g49, g50]
    by_cases e : t = s
    · subst e
      rw [e10, e11, e13, ub_s, ub_s, ub_s]
      obtain ⟨⟨s0, s3, s4', s6, s1, s9, s15, s49, t1, t2, t3, t4, t5, t6, t7, t8, t9⟩, ⟨u1, u2, u3, u4, u5, u6, u7, u8⟩, o, i1, i2, i3⟩ := S
      refine ⟨⟨s0, s3, s4', s6, s1, s9, s15, s49, t1, t2, by omega, m2, m3, t6, t7, t8, m4⟩, ⟨?_, u2, u3, u4, u5, Nat.le_refl _, u7, u8⟩, o, i1, fun j hj => by have := i2 j hj; omega, i3⟩
      rcases u1 with c | c
      · exact Or.inl ⟨c.1, m5 c.1⟩
      · exact Or.inr c
    · rw [e10, e11, e13, ub_n e, ub_n e, ub_n e]
      exact S
  · intro d hd
    have D := I6 d hd
    unfold dr tk_ok at D ⊢
    rw [g48, g44, g45, g50, g7, g8, g16, g43, g22, g23, g46, g26]
    obtain ⟨a1, a2, a3, a4, a5, a6, a7, a8, a9, a10, a11, a12, a13, a14⟩ := D
    refine ⟨fun z hz => ?_, a2, a3, a4, a5, a6, a7, a8, a9, a10, a11, a12, a13, a14⟩
    obtain ⟨b1, b2, b3, b4⟩ := a1 z hz
    refine ⟨b1, fun c => ?_, b3, b4⟩
    have := b2 c
    have := le11 (pq_s z)
    omega
  · have cap : ∀ d', d' < 2 → N 26 (2 - d') ≤ 4 ∧ N 26 (3 * d') ≤ 6 := by
      intro d' hd'
      have D := I6 d' hd'
      unfold dr at D
      exact ⟨D.2.2.2.2.2.2.2.2.1, D.2.2.2.2.2.2.2.2.2.1⟩
    refine tm_s (s := s) g40 g41 g26 g16 g46 ?_ ?_ (fun w hw => (I1 w hw).1) ⟨(cap 1 (by omega)).1, (cap 0 (by omega)).1⟩ ⟨(cap 0 (by omega)).2, (cap 1 (by omega)).2⟩ I7
    · intro t h e k
      unfold tm_ok at k ⊢
      rw [e47, e11, g12, ub_n e, ub_n e]; exact k
    · refine Or.inr (fun h q => Or.inr ?_)
      rw [e47, ub_s]; omega
  · intro t ht
    have K := I8 t ht
    by_cases e : t = s
    · subst e
      unfold kb at K ⊢
      have kk : kb_k M lv t = kb_k N lv t := by unfold kb_k; rw [g16]
      rw [kk, g12]
      exact hk
    · unfold kb kb_k kb_u sx_lim at K ⊢
      rw [g1, g7, g12, g14, g16, e10, e47, ub_n e, ub_n e]
      exact K
  · obtain ⟨r1, r2, r3, r4⟩ := I9
    exact ⟨by rw [g28]; exact r1, by rw [g27]; exact r2, r3, by rw [g29]; exact r4⟩
theorem tm_n4 {tl a b c e q : Nat} (h : 5 * tl + (a - 2) + (b - 2) + (c - 2) + (e - 2) ≤ 100) (hq : q ≤ 4) : 5 * tl + (a + 2 * q + 2 + max b 2 + 5 + (max c 2 + max e 2 + 22)) ≤ 150 := by
  rw [tm_mx, tm_mx, tm_mx]
  omega
theorem tm_new {tl e : Nat} {N : Nat → Nat → Nat} {lv : Lv} (he : e < 2) (T : tm tl N lv) (hc : N 26 (3 * e) ≤ 4) : 5 * tl + (N 40 (3 * e) + 2 * N 26 (3 * e) + 2 + max (N 40 (2 - e)) 2 + 5 + tm_a N e) ≤ 150 := by
  have st := T.2.2
  unfold tm_a
  rcases (by omega : e = 0 ∨ e = 1) with r | r
  · subst r
    exact tm_n4 (a := N 40 0) (b := N 40 2) (c := N 40 3) (e := N 40 1) (by omega) hc
  · subst r
    exact tm_n4 (a := N 40 3) (b := N 40 1) (c := N 40 0) (e := N 40 2) (by omega) hc
/-- the measure at a send: e0 and lim tell -/
theorem me_send {tl e s : Nat} {N N' : Nat → Nat → Nat} {lv : Lv} {ps : List Pc} (he : e < 2) (s4 : s < 4)
    (hN : ∀ i, i ≠ 10 → i ≠ 11 → i ≠ 13 → i ≠ 17 → i ≠ 22 → i ≠ 26 → i ≠ 27 → i ≠ 28 → i ≠ 37 → i ≠ 43 → i ≠ 46 → i ≠ 47 → N' i = N i) (f10 : ∀ t, t ≠ s → N' 10 t = N 10 t) (f47 : ∀ t, t ≠ s → N' 47 t = N 47 t) (f26 : ∀ v, v ≠ 3 * e → N' 26 v = N 26 v) (hps : ∀ t, t ≠ s → e0 t ps = 0)
    (hs : pt N lv s → pt N' (ul lv (3 * e) (lv (3 * e) ++ ps)) s)
    (hq : (¬ pt N lv s ∧ pt N' (ul lv (3 * e) (lv (3 * e) ++ ps)) s) ∨ ((pt N' (ul lv (3 * e) (lv (3 * e) ++ ps)) s ↔ pt N lv s) → 3 * (sx_lim N' s - N' 10 s) + 2 * e0 s ps + bq (N' 1 s = 0 ∧ N' 7 s = 1 ∧ N' 14 s = 0 ∧ N' 47 s = 0 ∧ pt N' (ul lv (3 * e) (lv (3 * e) ++ ps)) s) < 3 * (sx_lim N s - N 10 s) + bq (N 1 s = 0 ∧ N 7 s = 1 ∧ N 14 s = 0 ∧ N 47 s = 0 ∧ pt N lv s))) :
    l6 (me tl N' (ul lv (3 * e) (lv (3 * e) ++ ps))) (me tl N lv) := by
  have g1 := hN 1 (by decide) (by decide) (by decide) (by decide) (by decide) (by decide) (by decide) (by decide) (by decide) (by decide) (by decide) (by decide)
  have g7 := hN 7 (by decide) (by decide) (by decide) (by decide) (by decide) (by decide) (by decide) (by decide) (by decide) (by decide) (by decide) (by decide)
  have g8 := hN 8 (by decide) (by decide) (by decide) (by decide) (by decide) (by decide) (by decide) (by decide) (by decide) (by decide) (by decide) (by decide)
  have g12 := hN 12 (by decide) (by decide) (by decide) (by decide) (by decide) (by decide) (by decide) (by decide) (by decide) (by decide) (by decide) (by decide)
  have g14 := hN 14 (by decide) (by decide) (by decide) (by decide) (by decide) (by decide) (by decide) (by decide) (by decide) (by decide) (by decide) (by decide)
  have g16 := hN 16 (by decide) (by decide) (by decide) (by decide) (by decide) (by decide) (by decide) (by decide) (by decide) (by decide) (by decide) (by decide)
  have g40 := hN 40 (by decide) (by decide) (by decide) (by decide) (by decide) (by decide) (by decide) (by decide) (by decide) (by decide) (by decide) (by decide)
  have g41 := hN 41 (by decide) (by decide) (by decide) (by decide) (by decide) (by decide) (by decide) (by decide) (by decide) (by decide) (by decide) (by decide)
  have g44 := hN 44 (by decide) (by decide) (by decide) (by decide) (by decide) (by decide) (by decide) (by decide) (by decide) (by decide) (by decide) (by decide)
  have g45 := hN 45 (by decide) (by decide) (by decide) (by decide) (by decide) (by decide) (by decide) (by decide) (by decide) (by decide) (by decide) (by decide)
  have g49 := hN 49 (by decide) (by decide) (by decide) (by decide) (by decide) (by decide) (by decide) (by decide) (by decide) (by decide) (by decide) (by decide)
  have g50 := hN 50 (by decide) (by decide) (by decide) (by decide) (by decide) (by decide) (by decide) (by decide) (by decide) (by decide) (by decide) (by decide)
  have S0 := sam_push (lv := lv) he ps 0 (by omega)
  have S1 := sam_push (lv := lv) he ps 1 (by omega)
  have mono : ∀ t, t < 4 → pt N lv t → pt N' (ul lv (3 * e) (lv (3 * e) ++ ps)) t := by
    intro t ht p
    by_cases c : t = s
    · subst c; exact hs p
    · refine pt_grow (N := N) ht S0 S1 (by rw [g1]) (by rw [g7]) (by rw [g12]) (by rw [g14]) (by rw [g44]) (by rw [g45]) (by rw [g8]) (fun a b q => Or.inr (Or.inl ⟨by rw [g12]; exact a, by rw [g1]; exact b, by rw [f10 t c]; exact q⟩)) (fun q => Or.inr (Or.inr (Or.inl ?_))) p
      unfold pt_due at q ⊢
      rw [g16, g12, g1, g8, g44, g45]; exact q
  have hmd : m_d N' = m_d N := by
    unfold m_d
    rw [g40, g41, f26 2 (by omega), f26 1 (by omega)]
  have hml : m_l N' = m_l N := by
    unfold m_l m_ls
    rw [g50, g49, g44, g12, g14]
  rcases mr_cmp mono with c | ⟨c, pe⟩
  · exact Or.inr ⟨rfl, Or.inr ⟨hmd, Or.inr ⟨hml, Or.inl c⟩⟩⟩
  · refine Or.inr ⟨rfl, Or.inr ⟨hmd, Or.inr ⟨hml, Or.inr ⟨c, Or.inl ?_⟩⟩⟩⟩
    rcases hq with ⟨q1, q2⟩ | hq
    · exact absurd ((pe s s4).mp q2) q1
    have hq := hq (pe s s4)
    have oth : ∀ t, t < 4 → t ≠ s → m_qs N' (ul lv (3 * e) (lv (3 * e) ++ ps)) t = m_qs N lv t := by
      intro t ht e'
      have hpe := pe t ht
      have ee := lsum (lv := lv) he ps (e0 t) (e0_app t)
      rw [hps t e'] at ee
      have el : sx_lim N' t = sx_lim N t := by unfold sx_lim; rw [g12, g1]
      unfold m_qs m_e
      rw [ee, el, f10 t e', g16, g8, g1, g7, g14, f47 t e', propext hpe, Nat.add_zero]
    have own : m_qs N' (ul lv (3 * e) (lv (3 * e) ++ ps)) s < m_qs N lv s := by
      have ee := lsum (lv := lv) he ps (e0 s) (e0_app s)
      unfold m_qs m_e
      rw [ee, g16, g8]
      generalize bq (N' 1 s = 0 ∧ N' 7 s = 1 ∧ N' 14 s = 0 ∧ N' 47 s = 0 ∧ pt N' (ul lv (3 * e) (lv (3 * e) ++ ps)) s) = b1 at *
      generalize bq (N 1 s = 0 ∧ N 7 s = 1 ∧ N 14 s = 0 ∧ N 47 s = 0 ∧ pt N lv s) = b2 at *
      generalize (if N 16 s = 1 ∧ N 8 s = 0 then 1 else 0) = k16
      clear hN ee pe hps oth
      omega
    show m_q N' _ < m_q N lv
    unfold m_q
    rcases (by omega : s = 0 ∨ s = 1 ∨ s = 2 ∨ s = 3) with r | r | r | r
    · rw [oth 1 (by omega) (by omega), oth 2 (by omega) (by omega), oth 3 (by omega) (by omega)]
      rw [r] at own; omega
    · rw [oth 0 (by omega) (by omega), oth 2 (by omega) (by omega), oth 3 (by omega) (by omega)]
      rw [r] at own; omega
    · rw [oth 0 (by omega) (by omega), oth 1 (by omega) (by omega), oth 3 (by omega) (by omega)]
      rw [r] at own; omega
    · rw [oth 0 (by omega) (by omega), oth 1 (by omega) (by omega), oth 2 (by omega) (by omega)]
      rw [r] at own; omega
end
section
/-! a question is sent -/
theorem e0_ne {t : Nat} {X : Pc} (h : pq_s X ≠ t) : e0 t [X] = 0 := by
  show (if pq_p X + 1 = pq_n X ∧ pq_s X = t ∧ pq_k X ≠ 2 ∧ (pq_k X = 1 → pq_z X = 0) then 1 else 0) + 0 = 0
  rw [if_neg (fun q => h q.2.1)]
theorem e0_k2 {t : Nat} {X : Pc} (h : pq_k X = 2) : e0 t [X] = 0 := by
  show (if pq_p X + 1 = pq_n X ∧ pq_s X = t ∧ pq_k X ≠ 2 ∧ (pq_k X = 1 → pq_z X = 0) then 1 else 0) + 0 = 0
  rw [if_neg (fun q => q.2.2.1 h)]
theorem e0_1 {t : Nat} {X : Pc} : e0 t [X] ≤ 1 := by
  show (if pq_p X + 1 = pq_n X ∧ pq_s X = t ∧ pq_k X ≠ 2 ∧ (pq_k X = 1 → pq_z X = 0) then 1 else 0) + 0 ≤ 1
  split <;> decide
theorem e0_nl {t : Nat} {X : Pc} (h : pq_p X + 1 ≠ pq_n X) : e0 t [X] = 0 := by
  show (if pq_p X + 1 = pq_n X ∧ pq_s X = t ∧ pq_k X ≠ 2 ∧ (pq_k X = 1 → pq_z X = 0) then 1 else 0) + 0 = 0
  rw [if_neg (fun q => h q.1)]
def sqK (N : Nat → Nat → Nat) (s : Nat) : Nat := if N 1 s = 0 then 2 else 3
def sqM (N : Nat → Nat → Nat) (s : Nat) : Nat → Nat → Nat := st_up (sx_sqn N s (sqK N s)) 47 s 150
def sqX (N : Nat → Nat → Nat) (e s : Nat) : Pc := (N 43 e, 0, sqK N s, s, N 44 s, 0)
theorem sqM_o {N : Nat → Nat → Nat} {s i : Nat} (h13 : i ≠ 13) (h17 : i ≠ 17) (h47 : i ≠ 47) : sqM N s i = N i := by
  unfold sqM sx_sqn
  rw [ss_up_n h47, ss_up_n h17, ss_up_n h17, ss_up_n h13]
theorem sd_q {C N : Nat → Nat → Nat} {lv : Lv} {tl e s : Nat} (he : e < 2) (s4 : s < 4) (hs : s / 2 = e) (hu : ¬ sx_set N s) (hc2 : N 12 s = 0 ∨ N 1 s = 0) (hw : N 13 s = 0) (hc : N 26 (3 * e) ≤ 4) (d0 : N 16 (2 - 2 * e) ≠ 1) (d1 : N 16 (3 - 2 * e) ≠ 1)
    (I : Iv1 (fun _ => 0) (fun _ => 0) C tl N lv) : Iv1 (fun _ => 0) (fun _ => 0) C tl (pN1 (sqM N s) e 2 (N 46 e)) (ul lv (3 * e) (lv (3 * e) ++ [sqX N e s])) ∧ l6 (me tl (pN1 (sqM N s) e 2 (N 46 e)) (ul lv (3 * e) (lv (3 * e) ++ [sqX N e s]))) (me tl N lv) := by
  obtain ⟨II, Ia⟩ := I
  have SI := II.2.2.2.2.1 s s4
  have I7 := II.2.2.2.2.2.2.1
  have K8 := II.2.2.2.2.2.2.2.1 s s4
  obtain ⟨⟨s0, s3, s4', s6, s1, s9, s15, s49, t1, t2, t3, t4, t5, t6, t7, t8, t9⟩, ⟨u1, u2, u3, u4, u5, u6, u7, u8⟩, _, _⟩ := SI
  have aw : N 47 s = 0 := by rw [Ia s s4]; exact hw
  have k23 : sqK N s = 2 ∨ sqK N s = 3 := by unfold sqK; split <;> omega
  have Xn : pq_n (sqX N e s) = 1 := by
    unfold pq_n
    rw [if_neg (fun h => by have h1 : sqK N s = 0 := h.1; omega)]
  have Xl : pq_len (sqX N e s) = 2 := by
    unfold pq_len
    rw [if_neg (fun h => by have h1 : sqK N s = 0 := h; omega), if_neg (fun h => by have h1 : sqK N s = 1 := h; omega)]
  have uN : kb_u N s = 1 := by
    unfold kb_u
    unfold sx_set at hu
    by_cases c : 0 < N 1 s
    · rw [if_pos c, if_pos (by omega), if_pos aw]
    · rw [if_neg c, if_neg (by omega), if_pos aw]
  have uM : kb_u (sqM N s) s = 0 := by
    unfold kb_u
    show (if 0 < N 1 s then (if N 12 s = 0 then (if ub_un (N 47) s 150 s = 0 then 1 else 0) else (sx_lim N s - N 10 s + 3) / 4) else (if N 7 s = 0 ∨ N 14 s ≠ 0 then 0 else if ub_un (N 47) s 150 s = 0 then 1 else 0)) = 0
    rw [ub_s]
    by_cases c : 0 < N 1 s
    · rw [if_pos c, if_pos (by omega)]; rfl
    · rw [if_neg c]
      split <;> rfl
  have M1 : Inv (fun _ => 0) (fun _ => 0) (fun _ => 0) (N 29) C tl (sqM N s) lv := by
    refine ev_str (N := N) (s := s) (se := N 10 s) (ms := N 11 s) s4 (fun i _ _ a3 a4 a5 => sqM_o a3 a4 a5) ?_ ?_ rfl rfl (Nat.le_refl _) t4 t5 t9 (fun c => by omega) ?_ II
    · rw [ub_id rfl]; rfl
    · rw [ub_id rfl]; rfl
    · rw [uM]
      unfold kb at K8
      rw [uN] at K8
      exact ⟨by omega, fun c => by have := K8.2 c; omega⟩
  have wf : pq_wf e (sqX N e s) := by
    refine ⟨?_, s4, by rw [Xn]; exact (by decide : (0 : Nat) < 1), fun c => ?_, fun _ => hs, fun c => ?_, fun _ => rfl⟩
    · show sqK N s < 4
      omega
    · have c' : sqK N s = 1 := c
      omega
    · have c' : sqK N s = 0 := c
      omega
  have P := push1 (X := sqX N e s) (s := s) (k := sqK N s) (ov := N 46 e) (M := sqM N s) he rfl rfl rfl Xn
    (by
      rw [Xl]
      intro j hj
      show ub_un (ub_un (N 17) 0 (64 * sqK N s + s)) 1 (N 9 s) j = _
      rcases (by omega : j = 0 ∨ j = 1) with c | c
      · subst c
        rw [ub_n (by decide), ub_s]; rfl
      · subst c
        rw [ub_s, s9]; rfl)
    (fun c => by omega)
    ⟨wf, ⟨fun c => by have c' : sqK N s = 0 := c; omega, fun c => by
        have c' : sqK N s = 2 := c
        have z : N 1 s = 0 := by
          unfold sqK at c'
          split at c'
          · next q => exact q
          · omega
        unfold sx_set at hu
        refine ⟨?_, ?_, ?_⟩
        · show N 44 s = N 50 s
          omega
        · show N 44 s = N 50 s
          omega
        · show N 7 s = 1
          omega, fun c => by have c' : sqK N s = 1 := c; omega⟩, rfl, rfl, fun c => by omega⟩
    (by
      rw [uM]
      have kk : kb_k (sqM N s) lv s = kb_k N lv s := rfl
      have e12 : sqM N s 12 s = N 12 s := rfl
      rw [kk, e12]
      unfold kb at K8
      rw [uN] at K8
      exact K8)
    (by
      refine Or.inr ?_
      show 5 * tl + (N 40 (3 * e) + 2 * N 26 (3 * e) + max (N 40 (2 - e)) 2 + 5 + (if sqK N s = 1 then 0 else tm_a N e)) ≤ ub_un (N 47) s 150 s
      rw [ub_s, if_neg (by omega)]
      have := tm_new he I7 hc
      omega)
    d0 (fun c => absurd c d1) (fun _ => rfl) hc M1
  rw [Xl] at P
  refine ⟨⟨P, fun t ht => ?_⟩, ?_⟩
  · show ub_un (N 47) s 150 t = ub_un (N 13) s 150 t
    by_cases c : t = s
    · rw [c, ub_s, ub_s]
    · rw [ub_n c, ub_n c]; exact Ia t ht
  · have ptN : pt (pN1 (sqM N s) e 2 (N 46 e)) (ul lv (3 * e) (lv (3 * e) ++ [sqX N e s])) s := by
      refine Or.inr (Or.inr (Or.inr (Or.inl ⟨sqX N e s, ?_, ?_⟩)))
      · rw [hs, ul_n (by omega : 6 + e ≠ 3 * e), ul_n (by omega : 2 - e ≠ 3 * e), ul_s]
        exact inA_new rfl Xn
      · refine ⟨?_, rfl, ?_⟩
        · show sqK N s ≠ 1
          omega
        · by_cases c : N 12 s = 0
          · exact Or.inl c
          · refine Or.inr (Or.inl ⟨by show N 1 s = 0; omega, ?_⟩)
            show sqK N s = 2
            unfold sqK
            rw [if_pos (by omega)]
    have ex : ∀ t, t ≠ s → e0 t [sqX N e s] = 0 := by
      intro t ht
      exact e0_ne (fun q => ht q.symm)
    refine me_send (N := N) he s4 (fun i a1 a2 a3 a4 a5 a6 a7 a8 a9 a10 a11 a12 => ?_) (fun t ht => rfl) (fun t ht => ?_) (fun v hv => ?_) ex (fun _ => ptN) ?_
    · rw [pN1_o a5 a6 a7 a8 a9 a10 a11, sqM_o a3 a4 a12]
    · show ub_un (N 47) s 150 t = _
      rw [ub_n ht]
    · show ub_un (N 26) (3 * e) (N 26 (3 * e) + 1) v = _
      rw [ub_n hv]
    · by_cases p : pt N lv s
      · refine Or.inr (fun _ => ?_)
        have n12 : N 12 s ≠ 0 := by
          intro c
          unfold kb at K8
          rw [uN] at K8
          have k0 : kb_k N lv s = 0 := by have := K8.2 c; omega
          unfold kb_k at k0
          have zz : ∀ d, d < 2 → ∀ y, inA y (lv (6 + d)) (lv (2 - d) ++ lv (3 * d)) → pq_s y = s → False := by
            intro d hd y hy hys
            obtain ⟨m1, m2⟩ := inA_mem hy
            have : 1 ≤ cn s (lv (2 - d)) ∨ 1 ≤ cn s (lv (3 * d)) := by
              rcases List.mem_append.mp m1 with q | q
              · exact Or.inl (cn_pos q m2 hys)
              · exact Or.inr (cn_pos q m2 hys)
            rcases (by omega : d = 0 ∨ d = 1) with r | r
            · subst r
              have this' : 1 ≤ cn s (lv 2) ∨ 1 ≤ cn s (lv 0) := this
              omega
            · subst r
              have this' : 1 ≤ cn s (lv 1) ∨ 1 ≤ cn s (lv 3) := this
              omega
          rcases p with q | q | q | ⟨y, q, r⟩ | ⟨y, q, r⟩
          · exact hu q
          · omega
          · have := q.1; omega
          · exact zz (s / 2) (by omega) y q r.2.1
          · refine zz (1 - s / 2) (by omega) y ?_ r.2.1
            rw [show 6 + (1 - s / 2) = 7 - s / 2 by omega, show 2 - (1 - s / 2) = 1 + s / 2 by omega, show 3 * (1 - s / 2) = 3 - 3 * (s / 2) by omega]
            exact q
        have n1 : N 1 s = 0 := by omega
        have k2 : sqK N s = 2 := by unfold sqK; rw [if_pos n1]
        unfold sx_set at hu
        have b1 : bq (N 1 s = 0 ∧ N 7 s = 1 ∧ N 14 s = 0 ∧ N 47 s = 0 ∧ pt N lv s) = 1 := bq_t ⟨n1, by omega, by omega, aw, p⟩
        have b2 : bq (pN1 (sqM N s) e 2 (N 46 e) 1 s = 0 ∧ pN1 (sqM N s) e 2 (N 46 e) 7 s = 1 ∧ pN1 (sqM N s) e 2 (N 46 e) 14 s = 0 ∧ pN1 (sqM N s) e 2 (N 46 e) 47 s = 0 ∧ pt (pN1 (sqM N s) e 2 (N 46 e)) (ul lv (3 * e) (lv (3 * e) ++ [sqX N e s])) s) = 0 := by
          refine bq_f (fun q => ?_)
          have q4 : ub_un (N 47) s 150 s = 0 := q.2.2.2.1
          rw [ub_s] at q4
          omega
        have e2 : e0 s [sqX N e s] = 0 := e0_k2 k2
        have el : sx_lim (pN1 (sqM N s) e 2 (N 46 e)) s - pN1 (sqM N s) e 2 (N 46 e) 10 s = sx_lim N s - N 10 s := rfl
        rw [b1, b2, e2, el]
        omega
      · exact Or.inl ⟨p, ptN⟩
end
section
/-! data is sent; a round begins again -/
def sdM (N : Nat → Nat → Nat) (s z : Nat) : Nat → Nat → Nat := st_up (sx_sdt N s z) 47 s 150
def sdA (N : Nat → Nat → Nat) (e s z p : Nat) : Pc := (N 43 e, p, 0, s, N 44 s + N 10 s, z)
theorem sd1_o {N : Nat → Nat → Nat} {s z i : Nat} (h10 : i ≠ 10) (h11 : i ≠ 11) (h17 : i ≠ 17) : sx_sd1 N s z i = N i := by
  unfold sx_sd1 sx_sd0
  split
  · rw [ss_up_n h10, bl_o h17, ss_up_n h17, ss_up_n h17]
  · rw [ss_up_n h11, ss_up_n h10, bl_o h17, ss_up_n h17, ss_up_n h17]
theorem sdM_o {N : Nat → Nat → Nat} {s z i : Nat} (h10 : i ≠ 10) (h11 : i ≠ 11) (h13 : i ≠ 13) (h17 : i ≠ 17) (h47 : i ≠ 47) : sdM N s z i = N i := by
  unfold sdM sx_sdt
  rw [ss_up_n h47, ss_up_n h13, sd1_o h10 h11 h17]
theorem sdM_10 {N : Nat → Nat → Nat} {s z : Nat} : sdM N s z 10 = ub_un (N 10) s (N 10 s + z) := by
  show sx_sd1 N s z 10 = _
  unfold sx_sd1
  split <;> rfl
theorem sdM_11 {N : Nat → Nat → Nat} {s z : Nat} : sdM N s z 11 = ub_un (N 11) s (if N 10 s + z ≤ N 11 s then N 11 s else N 10 s + z) := by
  show sx_sd1 N s z 11 = _
  unfold sx_sd1
  split
  · rw [ub_id rfl]; rfl
  · rfl
theorem sdM_13 {N : Nat → Nat → Nat} {s z : Nat} : sdM N s z 13 = ub_un (N 13) s 150 := by
  show ub_un (sx_sd1 N s z 13) s 150 = _
  rw [sd1_o (by decide) (by decide) (by decide)]
theorem sdM_47 {N : Nat → Nat → Nat} {s z : Nat} : sdM N s z 47 = ub_un (N 47) s 150 := by
  show ub_un (sx_sd1 N s z 47) s 150 = _
  rw [sd1_o (by decide) (by decide) (by decide)]
theorem sdM_17 {N : Nat → Nat → Nat} {s z : Nat} : sdM N s z 17 = ub_bl (ub_un (ub_un (N 17) 0 (8 * z + s)) 1 ((N 9 s + N 10 s) % 64)) 2 z (fun k => N 2 (24 * s + (N 0 s + N 10 s + k) % 24)) := by
  show sx_sd1 N s z 17 = _
  unfold sx_sd1
  split <;> rfl
def sdN (N : Nat → Nat → Nat) (e s z : Nat) : Nat → Nat → Nat := if z = 1 then pN1 (sdM N s z) e 3 (N 46 e) else pN2 (sdM N s z) e (2 + z) (N 46 e)
def sdP (N : Nat → Nat → Nat) (e s z : Nat) : List Pc := if z = 1 then [sdA N e s z 0] else [sdA N e s z 0, sdA N e s z 1]
theorem sd_d {C N : Nat → Nat → Nat} {lv : Lv} {tl e s z : Nat} (he : e < 2) (s4 : s < 4) (hs : s / 2 = e) (h12 : N 12 s ≠ 0) (h1 : N 1 s ≠ 0) (hlt : N 10 s < sx_lim N s) (hz : z = if 4 ≤ sx_lim N s - N 10 s then 4 else sx_lim N s - N 10 s) (hc : N 26 (3 * e) ≤ 4) (d0 : N 16 (2 - 2 * e) ≠ 1) (d1 : N 16 (3 - 2 * e) ≠ 1)
    (I : Iv1 (fun _ => 0) (fun _ => 0) C tl N lv) : Iv1 (fun _ => 0) (fun _ => 0) C tl (sdN N e s z) (ul lv (3 * e) (lv (3 * e) ++ sdP N e s z)) ∧ l6 (me tl (sdN N e s z) (ul lv (3 * e) (lv (3 * e) ++ sdP N e s z))) (me tl N lv) := by
  obtain ⟨II, Ia⟩ := I
  have SI := II.2.2.2.2.1 s s4
  have I7 := II.2.2.2.2.2.2.1
  have K8 := II.2.2.2.2.2.2.2.1 s s4
  obtain ⟨⟨s0, s3, s4', s6, s1, s9, s15, s49, t1, t2, t3, t4, t5, t6, t7, t8, t9⟩, ⟨u1, u2, u3, u4, u5, u6, u7, u8⟩, so, _⟩ := SI
  have l1 : sx_lim N s ≤ N 1 s ∧ sx_lim N s + N 44 s ≤ N 49 s := by
    unfold sx_lim
    split <;> omega
  have z1 : 1 ≤ z ∧ z ≤ 4 ∧ N 10 s + z ≤ sx_lim N s := by
    rw [hz]
    split <;> omega
  have zU : (sx_lim N s - (N 10 s + z) + 3) / 4 + 1 = (sx_lim N s - N 10 s + 3) / 4 := by
    rw [hz]
    split <;> omega
  have e1 : ∀ i, i ≠ 10 → i ≠ 11 → i ≠ 13 → i ≠ 17 → i ≠ 47 → sdM N s z i = N i := fun i a b c d f => sdM_o a b c d f
  have m1 := e1 1 (by decide) (by decide) (by decide) (by decide) (by decide)
  have m7 := e1 7 (by decide) (by decide) (by decide) (by decide) (by decide)
  have m8 := e1 8 (by decide) (by decide) (by decide) (by decide) (by decide)
  have m12 := e1 12 (by decide) (by decide) (by decide) (by decide) (by decide)
  have m14 := e1 14 (by decide) (by decide) (by decide) (by decide) (by decide)
  have m16 := e1 16 (by decide) (by decide) (by decide) (by decide) (by decide)
  have m26 := e1 26 (by decide) (by decide) (by decide) (by decide) (by decide)
  have m40 := e1 40 (by decide) (by decide) (by decide) (by decide) (by decide)
  have m43 := e1 43 (by decide) (by decide) (by decide) (by decide) (by decide)
  have m44 := e1 44 (by decide) (by decide) (by decide) (by decide) (by decide)
  have m45 := e1 45 (by decide) (by decide) (by decide) (by decide) (by decide)
  have m46 := e1 46 (by decide) (by decide) (by decide) (by decide) (by decide)
  have m48 := e1 48 (by decide) (by decide) (by decide) (by decide) (by decide)
  have m49 := e1 49 (by decide) (by decide) (by decide) (by decide) (by decide)
  have ml : sx_lim (sdM N s z) s = sx_lim N s := by unfold sx_lim; rw [m12, m1]
  have uN : kb_u N s = (sx_lim N s - N 10 s + 3) / 4 := by
    unfold kb_u
    rw [if_pos (by omega), if_neg h12]
  have uM : kb_u (sdM N s z) s + 1 = kb_u N s := by
    rw [uN]
    unfold kb_u
    rw [m1, m12, ml, if_pos (by omega), if_neg h12, sdM_10, ub_s]
    exact zU
  have M1 : Inv (fun _ => 0) (fun _ => 0) (fun _ => 0) (N 29) C tl (sdM N s z) lv := by
    refine ev_str (N := N) (s := s) (se := N 10 s + z) (ms := if N 10 s + z ≤ N 11 s then N 11 s else N 10 s + z) s4 e1 sdM_10 sdM_11 sdM_13 sdM_47 ?_ ?_ ?_ ?_ (fun c => absurd c h12) ?_ II
    · split <;> omega
    · split <;> omega
    · split <;> omega
    · split <;> omega
    · unfold kb at K8
      exact ⟨by omega, fun c => absurd c h12⟩
  have aw : sdM N s z 47 s = 150 := by rw [sdM_47, ub_s]
  have hk : kb_k (sdM N s z) lv s + 1 + kb_u (sdM N s z) s ≤ 3 ∧ (sdM N s z 12 s = 0 → kb_k (sdM N s z) lv s + 1 + kb_u (sdM N s z) s ≤ 1) := by
    have kk : kb_k (sdM N s z) lv s = kb_k N lv s := by unfold kb_k; rw [m16]
    rw [kk, m12]
    unfold kb at K8
    exact ⟨by omega, fun c => absurd c h12⟩
  have tmn := tm_new he I7 hc
  have wfp : ∀ p, p < pq_n (sdA N e s z 0) → pq_wf e (sdA N e s z p) := by
    intro p hp
    refine ⟨(by decide : (0 : Nat) < 4), s4, hp, fun c => absurd (show (0 : Nat) = 1 from c) (by decide), fun _ => hs, fun _ => ⟨z1.1, z1.2.1⟩, fun c => absurd (show 2 ≤ (0 : Nat) from c) (by decide)⟩
  have tkp : ∀ p, tk_ok (sdM N s z) (sdA N e s z p) := by
    intro p
    refine ⟨fun _ => ⟨?_, ?_⟩, fun c => absurd (show (0 : Nat) = 2 from c) (by decide), fun c => absurd (show (0 : Nat) = 1 from c) (by decide)⟩
    · show sdM N s z 48 s ≤ N 44 s + N 10 s
      rw [m48]; omega
    · show N 44 s + N 10 s + z ≤ sdM N s z 44 s + sdM N s z 11 s
      rw [m44, sdM_11, ub_s]
      split <;> omega
  have lenA : ∀ p, pq_len (sdA N e s z p) = 2 + z := fun p => rfl
  have PB : ∀ p j, j < 2 + z → sdM N s z 17 j = pq_b C (sdM N s z 49) (sdA N e s z p) j := by
    intro p j hj
    rw [sdM_17]
    rcases (by omega : j = 0 ∨ j = 1 ∨ 2 ≤ j) with c | c | c
    · subst c
      rw [ub_bl_out (by omega), ub_n (by decide), ub_s]
      show 8 * z + s = 64 * 0 + 8 * z + s
      omega
    · subst c
      rw [ub_bl_out (by omega), ub_s]
      show (N 9 s + N 10 s) % 64 = (N 44 s + N 10 s) % 64
      rw [s9]; omega
    · have ej : j = 2 + (j - 2) := by omega
      rw [ej, ub_bl_in (by omega)]
      have sc := so (N 10 s + (j - 2)) (by omega)
      show N 2 (24 * s + (N 0 s + N 10 s + (j - 2)) % 24) = (if 2 + (j - 2) = 0 then _ else if 2 + (j - 2) = 1 then _ else if (0 : Nat) = 1 then _ else C s (N 44 s + N 10 s + (2 + (j - 2) - 2)))
      rw [if_neg (by omega), if_neg (by omega), if_neg (by decide), show N 0 s + N 10 s + (j - 2) = N 0 s + (N 10 s + (j - 2)) by omega, sc]
      exact congrArg (C s) (by omega)
  have D0 : sdM N s z 16 (2 - 2 * e) ≠ 1 := by rw [m16]; exact d0
  have D1 : sdM N s z 16 (3 - 2 * e) ≠ 1 := by rw [m16]; exact d1
  have HC : sdM N s z 26 (3 * e) ≤ 4 := by rw [m26]; exact hc
  have Ia' : ∀ t, t < 4 → sdM N s z 47 t = sdM N s z 13 t := by
    intro t ht
    rw [sdM_47, sdM_13]
    by_cases c : t = s
    · rw [c, ub_s, ub_s]
    · rw [ub_n c, ub_n c]; exact Ia t ht
  have TA : tm_a (sdM N s z) e = tm_a N e := by unfold tm_a; rw [m40]
  -- the two kinds
  have main : Iv1 (fun _ => 0) (fun _ => 0) C tl (sdN N e s z) (ul lv (3 * e) (lv (3 * e) ++ sdP N e s z)) ∧ (∀ i, i ≠ 22 → i ≠ 26 → i ≠ 27 → i ≠ 28 → i ≠ 37 → i ≠ 43 → i ≠ 46 → sdN N e s z i = sdM N s z i) ∧ (∀ v, v ≠ 3 * e → sdN N e s z 26 v = N 26 v) ∧
      (∃ X, inA X (lv (6 + e)) (lv (2 - e) ++ (lv (3 * e) ++ sdP N e s z)) ∧ pq_k X = 0 ∧ pq_s X = s ∧ pq_a X = N 44 s + N 10 s ∧ pq_z X = z) ∧ (∀ t, t ≠ s → e0 t (sdP N e s z) = 0) ∧ e0 s (sdP N e s z) ≤ 1 := by
    by_cases c1 : z = 1
    · have Xn : pq_n (sdA N e s z 0) = 1 := by
        unfold pq_n
        rw [if_neg (fun h => by have h2 : 2 ≤ z := h.2; omega)]
      have eN : sdN N e s z = pN1 (sdM N s z) e 3 (N 46 e) := by unfold sdN; rw [if_pos c1]
      have eP : sdP N e s z = [sdA N e s z 0] := by unfold sdP; rw [if_pos c1]
      have P := push1 (X := sdA N e s z 0) (s := s) (k := 0) (ov := N 46 e) (M := sdM N s z) he rfl (by rw [m43]; rfl) rfl Xn (by rw [lenA]; exact PB 0) (fun c => by omega) ⟨wfp 0 (by rw [Xn]; decide), tkp 0, rfl, rfl, fun c => by omega⟩ hk
        (by
          refine Or.inr ?_
          rw [aw, TA, m40, m26, if_neg (by decide)]
          omega) D0 (fun c => absurd c D1) (fun _ => by rw [m46]) HC M1
      rw [lenA, show 2 + z = 3 by omega] at P
      rw [eN, eP]
      refine ⟨⟨?_, Ia'⟩, fun i a2 a3 a4 a5 a6 a7 a8 => pN1_o a2 a3 a4 a5 a6 a7 a8, fun v hv => ?_, ⟨sdA N e s z 0, inA_new rfl Xn, rfl, rfl, rfl, rfl⟩, fun t ht => e0_ne (fun q => ht q.symm), e0_1⟩
      · have e29 : pN1 (sdM N s z) e 3 (N 46 e) 29 = N 29 := by rw [pN1_o (by decide) (by decide) (by decide) (by decide) (by decide) (by decide) (by decide), e1 29 (by decide) (by decide) (by decide) (by decide) (by decide)]
        rw [e29]; exact P
      · show ub_un (sdM N s z 26) (3 * e) _ v = _
        rw [ub_n hv, m26]
    · have Xn : pq_n (sdA N e s z 0) = 2 := by
        unfold pq_n
        rw [if_pos ⟨rfl, by show 2 ≤ z; omega⟩]
      have Yn : pq_n (sdA N e s z 1) = 2 := by
        unfold pq_n
        rw [if_pos ⟨rfl, by show 2 ≤ z; omega⟩]
      have eN : sdN N e s z = pN2 (sdM N s z) e (2 + z) (N 46 e) := by unfold sdN; rw [if_neg c1]
      have eP : sdP N e s z = [sdA N e s z 0, sdA N e s z 1] := by unfold sdP; rw [if_neg c1]
      have P := push2 (ov := 0) (X := sdA N e s z 0) (Y := sdA N e s z 1) (s := s) (M := sdM N s z) he rfl (by rw [m43]; rfl) rfl Xn rfl rfl rfl (by rw [lenA]; exact PB 0) ⟨wfp 0 (by rw [Xn]; decide), tkp 0, rfl, rfl⟩ hk
        (by
          refine Or.inr ?_
          rw [aw, TA, m40, m26]
          omega) D0 D1 HC M1
      rw [lenA, m46] at P
      rw [eN, eP]
      refine ⟨⟨?_, Ia'⟩, fun i a2 a3 a4 a5 a6 a7 a8 => pN2_o a2 a3 a4 a5 a6 a7 a8, fun v hv => ?_, ⟨sdA N e s z 1, ?_, rfl, rfl, rfl, rfl⟩, fun t ht => ?_, ?_⟩
      · have e29 : pN2 (sdM N s z) e (2 + z) (N 46 e) 29 = N 29 := by rw [pN2_o (by decide) (by decide) (by decide) (by decide) (by decide) (by decide) (by decide), e1 29 (by decide) (by decide) (by decide) (by decide) (by decide)]
        rw [e29]; exact P
      · show ub_un (ub_un (sdM N s z 26) (3 * e) _) (3 * e) _ v = _
        rw [ub_n hv, ub_n hv, m26]
      · rw [← List.append_assoc]
        refine inA_r (Or.inr (Or.inl ⟨rfl, by rw [Yn]; rfl, Or.inr ⟨sdA N e s z 0, ?_, rfl⟩⟩))
        unfold op_n
        rw [if_pos ⟨rfl, Xn⟩]
      · rw [show [sdA N e s z 0, sdA N e s z 1] = [sdA N e s z 0] ++ [sdA N e s z 1] from rfl, e0_app, e0_ne (fun q => ht q.symm), e0_ne (fun q => ht q.symm)]
      · rw [show [sdA N e s z 0, sdA N e s z 1] = [sdA N e s z 0] ++ [sdA N e s z 1] from rfl, e0_app, e0_nl (by rw [Xn]; show (0 : Nat) + 1 ≠ 2; decide)]
        have := e0_1 (t := s) (X := sdA N e s z 1)
        omega
  obtain ⟨R1, R2, R3, ⟨X, X1, X2, X3, X4, X5⟩, R5, R6⟩ := main
  refine ⟨R1, ?_⟩
  have r : ∀ i, i ≠ 22 → i ≠ 26 → i ≠ 27 → i ≠ 28 → i ≠ 37 → i ≠ 43 → i ≠ 46 → i ≠ 10 → i ≠ 11 → i ≠ 13 → i ≠ 17 → i ≠ 47 → sdN N e s z i = N i := by
    intro i a1 a2 a3 a4 a5 a6 a7 a8 a9 a10 a11 a12
    rw [R2 i a1 a2 a3 a4 a5 a6 a7, e1 i a8 a9 a10 a11 a12]
  have r1 := r 1 (by decide) (by decide) (by decide) (by decide) (by decide) (by decide) (by decide) (by decide) (by decide) (by decide) (by decide) (by decide)
  have r12 := r 12 (by decide) (by decide) (by decide) (by decide) (by decide) (by decide) (by decide) (by decide) (by decide) (by decide) (by decide) (by decide)
  have r44 := r 44 (by decide) (by decide) (by decide) (by decide) (by decide) (by decide) (by decide) (by decide) (by decide) (by decide) (by decide) (by decide)
  have r45 := r 45 (by decide) (by decide) (by decide) (by decide) (by decide) (by decide) (by decide) (by decide) (by decide) (by decide) (by decide) (by decide)
  have r10 : sdN N e s z 10 = ub_un (N 10) s (N 10 s + z) := by rw [R2 10 (by decide) (by decide) (by decide) (by decide) (by decide) (by decide) (by decide), sdM_10]
  have r47 : sdN N e s z 47 = ub_un (N 47) s 150 := by rw [R2 47 (by decide) (by decide) (by decide) (by decide) (by decide) (by decide) (by decide), sdM_47]
  have rl : sx_lim (sdN N e s z) s = sx_lim N s := by unfold sx_lim; rw [r12, r1]
  refine me_send (N := N) he s4 (fun i a1 a2 a3 a4 a5 a6 a7 a8 a9 a10 a11 a12 => r i a5 a6 a7 a8 a9 a10 a11 a1 a2 a3 a4 a12) (fun t ht => by rw [r10, ub_n ht]) (fun t ht => by rw [r47, ub_n ht]) R3 R5 ?_ (Or.inr (fun _ => ?_))
  · intro p
    refine pt_grow (N := N) s4 (sam_push he _ 0 (by omega)) (sam_push he _ 1 (by omega)) (by rw [r1]) ?_ (by rw [r12]) ?_ (by rw [r44]) (by rw [r45]) ?_ (fun a b c => ?_) (fun q => ?_) p
    · rw [r 7 (by decide) (by decide) (by decide) (by decide) (by decide) (by decide) (by decide) (by decide) (by decide) (by decide) (by decide) (by decide)]
    · rw [r 14 (by decide) (by decide) (by decide) (by decide) (by decide) (by decide) (by decide) (by decide) (by decide) (by decide) (by decide) (by decide)]
    · rw [r 8 (by decide) (by decide) (by decide) (by decide) (by decide) (by decide) (by decide) (by decide) (by decide) (by decide) (by decide) (by decide)]
    · refine Or.inr (Or.inr (Or.inr (Or.inl ⟨X, ?_, ?_⟩)))
      · rw [hs, ul_n (by omega : 6 + e ≠ 3 * e), ul_n (by omega : 2 - e ≠ 3 * e), ul_s]
        exact X1
      · refine ⟨by omega, X3, Or.inr (Or.inr ⟨by rw [r1]; exact b, X2, ?_⟩)⟩
        rw [r44, r45, X4, X5, c]
        omega
    · refine Or.inr (Or.inr (Or.inl ?_))
      unfold pt_due at q ⊢
      rw [r12, r1, r44, r45, r 16 (by decide) (by decide) (by decide) (by decide) (by decide) (by decide) (by decide) (by decide) (by decide) (by decide) (by decide) (by decide), r 8 (by decide) (by decide) (by decide) (by decide) (by decide) (by decide) (by decide) (by decide) (by decide) (by decide) (by decide) (by decide)]
      exact q
  · have b2 : bq (sdN N e s z 1 s = 0 ∧ sdN N e s z 7 s = 1 ∧ sdN N e s z 14 s = 0 ∧ sdN N e s z 47 s = 0 ∧ pt (sdN N e s z) (ul lv (3 * e) (lv (3 * e) ++ sdP N e s z)) s) = 0 := bq_f (fun q => by have := q.1; rw [r1] at this; exact h1 this)
    rw [b2, rl, r10, ub_s]
    omega
end
section
/-! a round begins again: nothing of the stream is under way -/
theorem tm_l0 {P : Nat → Nat → Prop} {ap s : Nat} (h0 : ∀ h, 1 ≤ h → ¬ P s h) {l : List Pc} : ∀ {g : Nat}, 1 ≤ g → tm_l P ap g l → cn s l = 0 := by
  induction l with
  | nil => exact fun _ _ => rfl
  | cons x r ih =>
    intro g hg T
    have i := ih (by omega : 1 ≤ g + 2) T.2
    show (if pq_p x + 1 = pq_n x ∧ pq_s x = s then 1 else 0) + cn s r = 0
    rw [i, if_neg]
    rintro ⟨a, b⟩
    have z := T.1 a
    rw [b] at z
    split at z
    · exact h0 _ hg z
    · exact h0 _ (by omega) z
theorem kb_zero {x y lo hi : Nat → Nat} {C N : Nat → Nat → Nat} {lv : Lv} {tl s : Nat} (s4 : s < 4) (I : Inv x y lo hi C tl N lv) (h0 : ∀ h, 1 ≤ h → ¬ tm_ok tl N s h) (h1 : 1 ≤ N 40 1 + 2 * N 41 1) (h2 : 1 ≤ N 40 2 + 2 * N 41 2) : kb_k N lv s = 0 := by
  obtain ⟨I1, I2, I3, I4, I5, I6, I7, I8, I9, I10⟩ := I
  have a16 := (I5 s s4).2.1.2.2.2.2.1
  have D0 := I6 0 (by omega)
  have D1 := I6 1 (by omega)
  unfold dr at D0 D1
  have w4 := D0.2.2.2.2.2.2.1
  have w5 := D1.2.2.2.2.2.2.1
  unfold tm tm_d at I7
  obtain ⟨⟨a1, a2, a3, a4, a5⟩, ⟨b1, b2, b3, b4, b5⟩, _⟩ := I7
  have z2 : cn s (lv 2) = 0 := tm_l0 h0 h2 a1
  have z0 : cn s (lv 0) = 0 := tm_l0 h0 (by omega) a2
  have z1 : cn s (lv 1) = 0 := tm_l0 h0 h1 b1
  have z3 : cn s (lv 3) = 0 := tm_l0 h0 (by omega) b2
  have zz : ∀ (l : List Pc) (g : Nat), (∀ x, x ∈ l → tm_ok tl N (pq_s x) (g + 1)) → cn s l = 0 := by
    intro l g h
    induction l with
    | nil => rfl
    | cons u r ih =>
      have i := ih (fun z hz => h z (List.mem_cons_of_mem _ hz))
      show (if pq_p u + 1 = pq_n u ∧ pq_s u = s then 1 else 0) + cn s r = 0
      rw [i, if_neg]
      rintro ⟨_, b⟩
      have z := h u (List.mem_cons_self ..)
      rw [b] at z
      exact h0 _ (by omega) z
  have z4 : cn s (lv 4) = 0 := zz (lv 4) (N 40 2) a3
  have z5 : cn s (lv 5) = 0 := zz (lv 5) (N 40 1) b3
  have z16 : N 16 s = 0 := by
    rcases (by omega : N 16 s = 0 ∨ N 16 s = 1) with c | c
    · exact c
    · exfalso
      rcases (by omega : s = 0 ∨ s = 1 ∨ s = 2 ∨ s = 3) with r | r | r | r
      · subst r; exact h0 _ (by omega) (b4 c)
      · subst r; exact h0 _ (by omega) (b5 c)
      · subst r; exact h0 _ (by omega) (a4 c)
      · subst r; exact h0 _ (by omega) (a5 c)
  unfold kb_k
  omega
theorem sd_r {C N : Nat → Nat → Nat} {lv : Lv} {tl s : Nat} (s4 : s < 4) (hu : ¬ sx_set N s) (h12 : N 12 s ≠ 0) (h1 : N 1 s ≠ 0) (hge : sx_lim N s ≤ N 10 s) (hw : N 13 s = 0) (ph : ∀ w, w < 4 → N 42 w ≠ 1 ∧ N 42 w ≠ 3)
    (I : Iv1 (fun _ => 0) (fun _ => 0) C tl N lv) : Iv1 (fun _ => 0) (fun _ => 0) C tl (st_up N 10 s 0) lv ∧ l6 (me tl (st_up N 10 s 0) lv) (me tl N lv) := by
  obtain ⟨II, Ia⟩ := I
  have aw : N 47 s = 0 := by rw [Ia s s4]; exact hw
  have SI := II.2.2.2.2.1 s s4
  obtain ⟨⟨s0, s3, s4', s6, s1, s9, s15, s49, t1, t2, t3, t4, t5, t6, t7, t8, t9⟩, ⟨u1, u2, u3, u4, u5, u6, u7, u8⟩, _, _⟩ := SI
  have lim0 : 0 < sx_lim N s := by
    unfold sx_set at hu
    unfold sx_lim
    split <;> omega
  have lim12 : sx_lim N s ≤ 12 := by
    unfold sx_lim
    split <;> omega
  have lines : ∀ v, v < 4 → 1 ≤ N 40 v + 2 * N 41 v := by
    intro v hv
    have L := II.1 v hv
    have p := ph v hv
    unfold lk at L
    rcases L.2.2.2.2.2.2.2 with h | h | h | h | h
    · omega
    · exact absurd h.1 p.1
    · omega
    · exact absurd h.1 p.2
    · omega
  have K0 : kb_k N lv s = 0 := by
    refine kb_zero s4 II (fun h hh c => ?_) (lines 1 (by omega)) (lines 2 (by omega))
    unfold tm_ok at c
    omega
  have np : ¬ pt N lv s := by
    unfold kb_k at K0
    have zz : ∀ d, d < 2 → ∀ y, inA y (lv (6 + d)) (lv (2 - d) ++ lv (3 * d)) → pq_s y = s → False := by
      intro d hd y hy hys
      obtain ⟨m1, m2⟩ := inA_mem hy
      have : 1 ≤ cn s (lv (2 - d)) ∨ 1 ≤ cn s (lv (3 * d)) := by
        rcases List.mem_append.mp m1 with q | q
        · exact Or.inl (cn_pos q m2 hys)
        · exact Or.inr (cn_pos q m2 hys)
      rcases (by omega : d = 0 ∨ d = 1) with r | r
      · subst r
        have this' : 1 ≤ cn s (lv 2) ∨ 1 ≤ cn s (lv 0) := this
        omega
      · subst r
        have this' : 1 ≤ cn s (lv 1) ∨ 1 ≤ cn s (lv 3) := this
        omega
    intro p
    rcases p with q | q | q | ⟨y, q, r⟩ | ⟨y, q, r⟩
    · exact hu q
    · omega
    · have := q.1; omega
    · exact zz (s / 2) (by omega) y q r.2.1
    · refine zz (1 - s / 2) (by omega) y ?_ r.2.1
      rw [show 6 + (1 - s / 2) = 7 - s / 2 by omega, show 2 - (1 - s / 2) = 1 + s / 2 by omega, show 3 * (1 - s / 2) = 3 - 3 * (s / 2) by omega]
      exact q
  refine ⟨⟨?_, Ia⟩, ?_⟩
  · obtain ⟨I1, I2, I3, I4, I5, I6, I7, I8, I9, I10⟩ := II
    refine ⟨I1, I2, I3, I4, ?_, I6, I7, ?_, I9, I10⟩
    · intro t ht
      have S := I5 t ht
      refine ⟨?_, S.2⟩
      have S1 := S.1
      unfold si_n at S1 ⊢
      refine ⟨S1.1, S1.2.1, S1.2.2.1, S1.2.2.2.1, S1.2.2.2.2.1, S1.2.2.2.2.2.1, S1.2.2.2.2.2.2.1, S1.2.2.2.2.2.2.2.1, S1.2.2.2.2.2.2.2.2.1, S1.2.2.2.2.2.2.2.2.2.1, S1.2.2.2.2.2.2.2.2.2.2.1, S1.2.2.2.2.2.2.2.2.2.2.2.1, S1.2.2.2.2.2.2.2.2.2.2.2.2.1, S1.2.2.2.2.2.2.2.2.2.2.2.2.2.1, S1.2.2.2.2.2.2.2.2.2.2.2.2.2.2.1, S1.2.2.2.2.2.2.2.2.2.2.2.2.2.2.2.1, ?_⟩
      show ub_un (N 10) s 0 t ≤ N 11 t
      by_cases c : t = s
      · rw [c, ub_s]; omega
      · rw [ub_n c]; exact S1.2.2.2.2.2.2.2.2.2.2.2.2.2.2.2.2
    · intro t ht
      have K := I8 t ht
      unfold kb at K ⊢
      have kk : kb_k (st_up N 10 s 0) lv t = kb_k N lv t := rfl
      have e12 : st_up N 10 s 0 12 t = N 12 t := rfl
      rw [kk, e12]
      by_cases c : t = s
      · subst c
        rw [K0]
        have uu : kb_u (st_up N 10 t 0) t ≤ 3 := by
          unfold kb_u
          show (if 0 < N 1 t then (if N 12 t = 0 then (if N 47 t = 0 then 1 else 0) else (sx_lim N t - ub_un (N 10) t 0 t + 3) / 4) else (if N 7 t = 0 ∨ N 14 t ≠ 0 then 0 else if N 47 t = 0 then 1 else 0)) ≤ 3
          rw [if_pos (by omega), if_neg h12, ub_s]
          omega
        exact ⟨by omega, fun q => absurd q h12⟩
      · have uu : kb_u (st_up N 10 s 0) t = kb_u N t := by
          unfold kb_u
          show (if 0 < N 1 t then (if N 12 t = 0 then (if N 47 t = 0 then 1 else 0) else (sx_lim N t - ub_un (N 10) s 0 t + 3) / 4) else (if N 7 t = 0 ∨ N 14 t ≠ 0 then 0 else if N 47 t = 0 then 1 else 0)) = _
          rw [ub_n c]
        rw [uu]
        exact K
  · have pN : pt (st_up N 10 s 0) lv s := Or.inr (Or.inl ⟨by show 0 < N 12 s; omega, by show 0 < N 1 s; omega, ub_s⟩)
    have mono : ∀ t, t < 4 → pt N lv t → pt (st_up N 10 s 0) lv t := by
      intro t ht p
      by_cases c : t = s
      · subst c; exact pN
      · refine pt_grow (N := N) ht (sam_refl _ _) (sam_refl _ _) rfl rfl rfl rfl rfl rfl rfl (fun a b q => Or.inr (Or.inl ⟨a, b, ?_⟩)) (fun q => Or.inr (Or.inr (Or.inl q))) p
        show ub_un (N 10) s 0 t = 0
        rw [ub_n c]; exact q
    rcases mr_cmp mono with c | ⟨c, pe⟩
    · exact Or.inr ⟨rfl, Or.inr ⟨rfl, Or.inr ⟨rfl, Or.inl c⟩⟩⟩
    · exact absurd ((pe s s4).mp pN) np
end
section
/-! an end is served -/
theorem Iv1_23 {x y : Nat → Nat} {C N : Nat → Nat → Nat} {lv : Lv} {tl e v : Nat} (hv : v ≤ 1) (I : Iv1 x y C tl N lv) : Iv1 x y C tl (st_up N 23 e v) lv := by
  obtain ⟨⟨I1, I2, I3, I4, I5, I6, I7, I8, I9, I10⟩, Ia⟩ := I
  refine ⟨⟨I1, I2, I3, I4, I5, fun d hd => ?_, I7, I8, I9, I10⟩, Ia⟩
  have D := I6 d hd
  unfold dr at D ⊢
  refine ⟨D.1, D.2.1, D.2.2.1, D.2.2.2.1, ?_, D.2.2.2.2.2⟩
  show ub_un (N 23) e v d ≤ 1
  by_cases c : d = e
  · rw [c, ub_s]; exact hv
  · rw [ub_n c]; exact D.2.2.2.2.1
theorem sp_47 {M : Nat → Nat → Nat} {s v w nm p l q : Nat} : sx_sp (st_up M 47 s v) w nm p l q = st_up (sx_sp M w nm p l q) 47 s v := by
  funext i
  by_cases h26 : i = 26
  · subst h26; rfl
  by_cases h27 : i = 27
  · subst h27; rfl
  by_cases h28 : i = 28
  · subst h28; rfl
  by_cases h37 : i = 37
  · subst h37; rfl
  rw [sp_o h26 h27 h28 h37]
  by_cases h47 : i = 47
  · subst h47
    rw [ss_up_s, ss_up_s, sp_o (by decide) (by decide) (by decide) (by decide)]
  · rw [ss_up_n h47, ss_up_n h47, sp_o h26 h27 h28 h37]
theorem up_22 {M : Nat → Nat → Nat} {s v e n : Nat} : st_up (st_up M 47 s v) 22 e n = st_up (st_up M 22 e n) 47 s v := by
  funext i
  by_cases h22 : i = 22
  · subst h22; rfl
  rw [ss_up_n h22]
  by_cases h47 : i = 47
  · subst h47; rfl
  · rw [ss_up_n h47, ss_up_n h47, ss_up_n h22]
theorem pN1_47 {M : Nat → Nat → Nat} {tl : Nat} {ch : Int32} {s v e L ov : Nat} : ss_st tl ch (pN1 (st_up M 47 s v) e L ov) = ss_st tl ch (sx_snd1 M e L) := by
  have e1 : sx_snd1 (st_up M 47 s v) e L = st_up (sx_snd1 M e L) 47 s v := by
    unfold sx_snd1
    rw [show st_up M 47 s v 22 = M 22 from rfl, up_22, sp_47]
  unfold pN1
  rw [e1]
  generalize sx_snd1 M e L = A
  rfl
theorem pN2_47 {M : Nat → Nat → Nat} {tl : Nat} {ch : Int32} {s v e L ov : Nat} : ss_st tl ch (pN2 (st_up M 47 s v) e L ov) = ss_st tl ch (sx_snd2 M e L) := by
  have e1 : sx_snd2 (st_up M 47 s v) e L = st_up (sx_snd2 M e L) 47 s v := by
    unfold sx_snd2
    rw [show st_up M 47 s v 22 = M 22 from rfl, up_22, sp_47, sp_47]
  unfold pN2
  rw [e1]
  generalize sx_snd2 M e L = A
  rfl
/-- what a send of a stream leaves as it was -/
def kpN (N N' : Nat → Nat → Nat) (e s r : Nat) : Prop :=
  N' 1 = N 1 ∧ N' 7 = N 7 ∧ N' 12 = N 12 ∧ N' 14 = N 14 ∧ N' 16 = N 16 ∧ N' 29 = N 29 ∧ N' 42 = N 42 ∧ (∀ t, t ≠ s → N' 13 t = N 13 t) ∧ (∀ v, v ≠ 3 * e → N' 26 v = N 26 v) ∧ (r = 0 → N' 26 = N 26 ∧ N' 13 = N 13) ∧ N' 23 = N 23 ∧ kc N N'
theorem sv_some {C N : Nat → Nat → Nat} {lv : Lv} {tl e s : Nat} (he : e < 2) (s4 : s < 4) (hs : s / 2 = e) (hc : N 26 (3 * e) ≤ 4) (d0 : N 16 (2 - 2 * e) ≠ 1) (d1 : N 16 (3 - 2 * e) ≠ 1) (ph : ∀ w, w < 4 → N 42 w ≠ 1 ∧ N 42 w ≠ 3)
    (I : Iv1 (fun _ => 0) (fun _ => 0) C tl N lv) : ∃ r N' lv', Iv1 (fun _ => 0) (fun _ => 0) C tl N' lv' ∧ e6 (me tl N' lv') (me tl N lv) ∧ (r = 1 ∨ ¬ sx_set N s ∧ N 13 s = 0 → l6 (me tl N' lv') (me tl N lv)) ∧ r ≤ 1 ∧ kpN N N' e s r ∧
      ∀ (post : Int32 → SX → Prop) ch, post (nI r) (ss_st tl ch N') → wpX_sendSomething post (ss_st tl ch N) (nI e) (nI s) := by
  have SI := I.1.2.2.2.2.1 s s4
  obtain ⟨⟨s0, s3, s4', s6, s1, s9, s15, s49, t1, t2, t3, t4, t5, t6, t7, t8, t9⟩, ⟨u1, u2, u3, u4, u5, u6, u7, u8⟩, _, _⟩ := SI
  have b1 : N 1 s ≤ 24 := by omega
  have b12 : N 12 s ≤ 13 := by omega
  have hw := (wx e he).1
  have b25 : N 25 (3 * e) < 6 := (I.1.1 _ hw).2.2.2.2.2.2.1
  have b22 : N 22 e < 16 := by
    have D := I.1.2.2.2.2.2.1 e he
    unfold dr at D
    rw [D.2.2.2.1]
    exact Nat.mod_lt _ (by decide)
  by_cases st : sx_set N s
  · exact ⟨0, N, lv, I, e6_refl _, fun c => by rcases c with c | c; omega; exact absurd st c.1, by omega, ⟨rfl, rfl, rfl, rfl, rfl, rfl, rfl, fun _ _ => rfl, fun _ _ => rfl, fun _ => ⟨rfl, rfl⟩, rfl, kc_r N⟩, fun post ch h => sx_som_s s4 b1 u2 u4 b12 st h⟩
  · by_cases q : N 12 s = 0 ∨ N 1 s = 0
    · by_cases w0 : N 13 s = 0
      · obtain ⟨r1, r2⟩ := sd_q he s4 hs st q w0 hc d0 d1 I
        refine ⟨1, _, _, r1, l6_le r2, fun _ => r2, by omega, ⟨rfl, rfl, rfl, rfl, rfl, rfl, rfl, fun t ht => ?_, fun v hv => ?_, fun c => by omega, rfl, kc_r N⟩, fun post ch h => ?_⟩
        · show ub_un (N 13) s 150 t = _
          rw [ub_n ht]
        · show ub_un (N 26) (3 * e) _ v = _
          rw [ub_n hv]
        · exact sx_som_q1 he s4 b1 u2 u4 b12 st q w0 b25 (Nat.lt_of_le_of_lt hc (by decide)) b22 (by unfold sqM at h; rw [pN1_47] at h; exact h)
      · exact ⟨0, N, lv, I, e6_refl _, fun c => by rcases c with c | c; omega; exact absurd c.2 w0, by omega, ⟨rfl, rfl, rfl, rfl, rfl, rfl, rfl, fun _ _ => rfl, fun _ _ => rfl, fun _ => ⟨rfl, rfl⟩, rfl, kc_r N⟩, fun post ch h => sx_som_q0 s4 b1 u2 u4 b12 st q (by omega) (by omega) h⟩
    · have n12 : N 12 s ≠ 0 := fun c => q (Or.inl c)
      have n1 : N 1 s ≠ 0 := fun c => q (Or.inr c)
      by_cases lt : N 10 s < sx_lim N s
      · obtain ⟨z, hz⟩ : ∃ z, z = if 4 ≤ sx_lim N s - N 10 s then 4 else sx_lim N s - N 10 s := ⟨_, rfl⟩
        obtain ⟨r1, r2⟩ := sd_d he s4 hs n12 n1 lt hz hc d0 d1 I
        have z4 : 1 ≤ z ∧ z ≤ 4 := by rw [hz]; split <;> omega
        have m : ∀ i, i ≠ 10 → i ≠ 11 → i ≠ 13 → i ≠ 17 → i ≠ 47 → i ≠ 22 → i ≠ 26 → i ≠ 27 → i ≠ 28 → i ≠ 37 → i ≠ 43 → i ≠ 46 → sdN N e s z i = N i := by
          intro i a1 a2 a3 a4 a5 a6 a7 a8 a9 a10 a11 a12
          unfold sdN
          split
          · rw [pN1_o a6 a7 a8 a9 a10 a11 a12, sdM_o a1 a2 a3 a4 a5]
          · rw [pN2_o a6 a7 a8 a9 a10 a11 a12, sdM_o a1 a2 a3 a4 a5]
        refine ⟨1, _, _, r1, l6_le r2, fun _ => r2, by omega, ⟨m 1 (by decide) (by decide) (by decide) (by decide) (by decide) (by decide) (by decide) (by decide) (by decide) (by decide) (by decide) (by decide), m 7 (by decide) (by decide) (by decide) (by decide) (by decide) (by decide) (by decide) (by decide) (by decide) (by decide) (by decide) (by decide), m 12 (by decide) (by decide) (by decide) (by decide) (by decide) (by decide) (by decide) (by decide) (by decide) (by decide) (by decide) (by decide), m 14 (by decide) (by decide) (by decide) (by decide) (by decide) (by decide) (by decide) (by decide) (by decide) (by decide) (by decide) (by decide), m 16 (by decide) (by decide) (by decide) (by decide) (by decide) (by decide) (by decide) (by decide) (by decide) (by decide) (by decide) (by decide), m 29 (by decide) (by decide) (by decide) (by decide) (by decide) (by decide) (by decide) (by decide) (by decide) (by decide) (by decide) (by decide), m 42 (by decide) (by decide) (by decide) (by decide) (by decide) (by decide) (by decide) (by decide) (by decide) (by decide) (by decide) (by decide), fun t ht => ?_, fun v hv => ?_, fun c => by omega, m 23 (by decide) (by decide) (by decide) (by decide) (by decide) (by decide) (by decide) (by decide) (by decide) (by decide) (by decide) (by decide), ⟨m 7 (by decide) (by decide) (by decide) (by decide) (by decide) (by decide) (by decide) (by decide) (by decide) (by decide) (by decide) (by decide), m 24 (by decide) (by decide) (by decide) (by decide) (by decide) (by decide) (by decide) (by decide) (by decide) (by decide) (by decide) (by decide), m 49 (by decide) (by decide) (by decide) (by decide) (by decide) (by decide) (by decide) (by decide) (by decide) (by decide) (by decide) (by decide), m 50 (by decide) (by decide) (by decide) (by decide) (by decide) (by decide) (by decide) (by decide) (by decide) (by decide) (by decide) (by decide)⟩⟩, fun post ch h => ?_⟩
        · have e13 : sdN N e s z 13 = sdM N s z 13 := by
            unfold sdN
            split
            · exact pN1_o (by decide) (by decide) (by decide) (by decide) (by decide) (by decide) (by decide)
            · exact pN2_o (by decide) (by decide) (by decide) (by decide) (by decide) (by decide) (by decide)
          rw [e13, sdM_13, ub_n ht]
        · unfold sdN
          split
          · show ub_un (sdM N s z 26) (3 * e) _ v = _
            rw [ub_n hv, sdM_o (by decide) (by decide) (by decide) (by decide) (by decide)]
          · show ub_un (ub_un (sdM N s z 26) (3 * e) _) (3 * e) _ v = _
            rw [ub_n hv, ub_n hv, sdM_o (by decide) (by decide) (by decide) (by decide) (by decide)]
        · refine sx_som_d1 s4 b1 u2 u4 b12 st n12 n1 (by omega) lt hz s0 (by rw [s9]; exact Nat.mod_lt _ (by decide)) (by omega) ?_
          have o25 : sx_sdt N s z 25 = N 25 := by
            have := sdM_o (N := N) (s := s) (z := z) (i := 25) (by decide) (by decide) (by decide) (by decide) (by decide)
            exact this
          have o26 : sx_sdt N s z 26 = N 26 := sdM_o (N := N) (s := s) (z := z) (i := 26) (by decide) (by decide) (by decide) (by decide) (by decide)
          have o22 : sx_sdt N s z 22 = N 22 := sdM_o (N := N) (s := s) (z := z) (i := 22) (by decide) (by decide) (by decide) (by decide) (by decide)
          unfold sdN at h
          by_cases c1 : z = 1
          · rw [if_pos c1] at h
            have h' : post (nI 1) (ss_st tl ch (sx_snd1 (sx_sdt N s z) e 3)) := by
              unfold sdM at h
              rw [pN1_47] at h
              exact h
            rw [show 2 + z = 3 by omega]
            exact sx_send1 (N := sx_sdt N s z) (L := 3) he (by omega) (by omega) (by rw [o25]; exact b25) (by rw [o26]; exact Nat.lt_of_le_of_lt hc (by decide)) (by rw [o22]; exact b22) h'
          · rw [if_neg c1] at h
            have h' : post (nI 1) (ss_st tl ch (sx_snd2 (sx_sdt N s z) e (2 + z))) := by
              unfold sdM at h
              rw [pN2_47] at h
              exact h
            exact sx_send2 (N := sx_sdt N s z) (L := 2 + z) he (by omega) (by omega) (by rw [o25]; exact b25) (by rw [o26]; exact Nat.lt_of_le_of_lt hc (by decide)) (by rw [o22]; exact b22) h'
      · by_cases w0 : N 13 s = 0
        · obtain ⟨r1, r2⟩ := sd_r s4 st n12 n1 (by omega) w0 ph I
          exact ⟨0, _, lv, r1, l6_le r2, fun _ => r2, by omega, ⟨rfl, rfl, rfl, rfl, rfl, rfl, rfl, fun _ _ => rfl, fun _ _ => rfl, fun _ => ⟨rfl, rfl⟩, rfl, kc_r N⟩, fun post ch h => sx_som_d0 s4 b1 u2 u4 b12 st n12 n1 (by omega) (by omega) (by omega) (fun _ => h) (fun c => by omega)⟩
        · exact ⟨0, N, lv, I, e6_refl _, fun c => by rcases c with c | c; omega; exact absurd c.2 w0, by omega, ⟨rfl, rfl, rfl, rfl, rfl, rfl, rfl, fun _ _ => rfl, fun _ _ => rfl, fun _ => ⟨rfl, rfl⟩, rfl, kc_r N⟩, fun post ch h => sx_som_d0 s4 b1 u2 u4 b12 st n12 n1 (by omega) (by omega) (by omega) (fun c => absurd c w0) (fun _ => h)⟩
theorem me_23 {tl e v : Nat} {N : Nat → Nat → Nat} {lv : Lv} : me tl (st_up N 23 e v) lv = me tl N lv := rfl
/-- the other end's view -/
def kpE (N N' : Nat → Nat → Nat) (e : Nat) : Prop :=
  N' 29 = N 29 ∧ N' 42 = N 42 ∧ N' 26 (3 * (1 - e)) = N 26 (3 * (1 - e)) ∧ (∀ t, t / 2 = e → N' 16 t = N 16 t) ∧ (∀ t, t / 2 = 1 - e → N' 13 t = N 13 t ∧ (sx_set N' t ↔ sx_set N t)) ∧ kc N N'
theorem sv_to {post : Int32 → Prop} {e c tl : Nat} {ch : Int32} {N : Nat → Nat → Nat} (he : e < 2) (h : post (nI (2 * (1 - e) + c))) : wpX_streamTo post (ss_st tl ch N) (nI e) (nI c) := by
  show post ((2 * (1 - nI e)) + nI c)
  rw [show (1 : Int32) - nI e = nI (1 - e) from pk_sub (a := 1) (by omega), ss_mul2, nI_add]
  exact h
theorem sv_it {post : SX → Prop} {ch : Int32} {n k tl e v r : Nat} {N N1 : Nat → Nat → Nat} (he : e < 2) (hv : N 23 e = v) (v1 : v ≤ 1) (hk : k < 2) (hr : r ≤ 1) (p6 : ∀ (po : Int32 → SX → Prop) ch, po (nI r) (ss_st tl ch N1) → wpX_sendSomething po (ss_st tl ch (st_up N 23 e (1 - v))) (nI e) (nI (2 * e + v)))
    (h0 : r = 0 → ss_S (wX_serveEnd_65 post (nI e) n (nI (k + 1))) tl ch N1) (h1 : r = 1 → post (ss_st tl ch N1)) : ss_S (wX_serveEnd_65 post (nI e) (n + 1) (nI k)) tl ch N := by
  refine br_f (nI_ge (b := 2) hk (by omega)) ⟨ss_in he, ?_⟩
  show vp_in (nI e) 2 ∧ _
  rw [ss_rd (by omega), ss_mul2, nI_add, hv]
  refine ⟨ss_in he, ss_in he, nm_r (e' := ss_c (ub_un (N 23) e (1 - v))) (ss_stb (pk_sub (a := 1) v1) (by omega) (by omega)) ?_⟩
  refine p6 _ ch ?_
  refine ⟨fun c => nm_r (nI_1 k) (h0 ?_), fun c => h1 ?_⟩
  · exact (nI_eq (b := 0) (by omega) (by decide)).mp c
  · rcases (by omega : r = 1 ∨ r = 0) with q | q
    · exact q
    · rw [q] at c; exact absurd rfl c
theorem sv_end {C N : Nat → Nat → Nat} {lv : Lv} {tl e : Nat} (he : e < 2) (hb : bth N e) (ph : ∀ w, w < 4 → N 42 w ≠ 1 ∧ N 42 w ≠ 3) (I : Iv1 (fun _ => 0) (fun _ => 0) C tl N lv) :
    ∃ N' lv', Iv1 (fun _ => 0) (fun _ => 0) C tl N' lv' ∧ e6 (me tl N' lv') (me tl N lv) ∧ bnd N' e ∧ kpE N N' e ∧
      ((N 26 (3 * e) ≤ 4 ∧ N 16 (2 - 2 * e) ≠ 1 ∧ N 16 (3 - 2 * e) ≠ 1 ∧ ∃ s, s / 2 = e ∧ ¬ sx_set N s ∧ N 13 s = 0 ∧ ∀ t, t / 2 = e → ¬ sx_set N t → N 13 t = 0) → l6 (me tl N' lv') (me tl N lv)) ∧
      ∀ (post : SX → Prop) ch, post (ss_st tl ch N') → wpX_serveEnd post (ss_st tl ch N) (nI e) := by
  have hw := (wx e he).1
  have c6 : N 26 (3 * e) ≤ 6 := by
    have D := I.1.2.2.2.2.2.1 e he
    unfold dr at D
    exact D.2.2.2.2.2.2.2.2.2.1
  have a16 : ∀ s, s < 4 → N 16 s ≤ 1 := fun s hs => (I.1.2.2.2.2.1 s hs).2.1.2.2.2.2.1
  have b22 : N 22 e < 16 ∧ N 23 e ≤ 1 := by
    have D := I.1.2.2.2.2.2.1 e he
    unfold dr at D
    rw [D.2.2.2.1]
    exact ⟨Nat.mod_lt _ (by decide), D.2.2.2.2.1⟩
  have b25 : N 25 (3 * e) < 6 := (I.1.1 _ hw).2.2.2.2.2.2.1
  have open9 : ∀ (post : SX → Prop) ch, ss_S (wX_serveEnd_9 post (nI e) (nI (3 * e))) tl ch N → wpX_serveEnd post (ss_st tl ch N) (nI e) := by
    intro post ch h
    rcases (by omega : e = 0 ∨ e = 1) with r | r
    · subst r; exact br_t rfl h
    · subst r; exact br_f (by decide) h
  by_cases cc : N 26 (3 * e) ≤ 4
  · have open23 : ∀ (post : SX → Prop) ch, (∃ n23, ss_S (wX_serveEnd_23 post (nI e)) tl ch N n23 0) → wpX_serveEnd post (ss_st tl ch N) (nI e) := by
      intro post ch h
      refine open9 post ch ⟨ss_in hw, br_t ?_ h⟩
      rw [ss_rd (by omega)]
      exact nI_le (b := 4) cc (by omega)
    by_cases q0 : N 16 (2 - 2 * e) = 1
    · obtain ⟨r1, r2, r3⟩ := sd_ack (s := 2 - 2 * e) he (Or.inl rfl) q0 (fun c => by omega) cc hb I
      refine ⟨_, _, r1, r2, r3, ⟨rfl, rfl, ?_, fun t ht => ?_, fun t ht => ⟨rfl, Iff.rfl⟩, kc_r N⟩, fun c => absurd q0 c.2.1, fun post ch h => open23 post ch ⟨1, br_f (by decide) (sv_to (c := 0) he ⟨ss_in (by omega), br_f ?_ ?_⟩)⟩⟩
      · show ub_un (N 26) (3 * e) _ (3 * (1 - e)) = _
        rw [ub_n (by omega)]
      · show ub_un (N 16) (2 - 2 * e) 0 t = _
        rw [ub_n (by omega)]
      · rw [show 2 * (1 - e) + 0 = 2 - 2 * e by omega, ss_rd (by omega), q0]; decide
      · have s4 : 2 - 2 * e < 4 := by omega
        have SI := I.1.2.2.2.2.1 _ s4
        rw [show 2 * (1 - e) + 0 = 2 - 2 * e by omega]
        exact sx_sendAck he s4 SI.2.1.2.2.1 SI.1.2.2.1 b25 (Nat.lt_of_le_of_lt cc (by decide)) b22.1 h
    · by_cases q1 : N 16 (3 - 2 * e) = 1
      · obtain ⟨r1, r2, r3⟩ := sd_ack (s := 3 - 2 * e) he (Or.inr rfl) q1 (fun _ => q0) cc hb I
        refine ⟨_, _, r1, r2, r3, ⟨rfl, rfl, ?_, fun t ht => ?_, fun t ht => ⟨rfl, Iff.rfl⟩, kc_r N⟩, fun c => absurd q1 c.2.2.1, fun post ch h => open23 post ch ⟨2, br_f (by decide) (sv_to (c := 0) he ⟨ss_in (by omega), br_t ?_ (nm_r (e' := nI 1) rfl (br_f (by decide) (sv_to (c := 1) he ⟨ss_in (by omega), br_f ?_ ?_⟩)))⟩)⟩⟩
        · show ub_un (N 26) (3 * e) _ (3 * (1 - e)) = _
          rw [ub_n (by omega)]
        · show ub_un (N 16) (3 - 2 * e) 0 t = _
          rw [ub_n (by omega)]
        · have := a16 (2 - 2 * e) (by omega)
          rw [show 2 * (1 - e) + 0 = 2 - 2 * e by omega, ss_rd (by omega), show N 16 (2 - 2 * e) = 0 by omega]; rfl
        · rw [show 2 * (1 - e) + 1 = 3 - 2 * e by omega, ss_rd (by omega), q1]; decide
        · have s4 : 3 - 2 * e < 4 := by omega
          have SI := I.1.2.2.2.2.1 _ s4
          rw [show 2 * (1 - e) + 1 = 3 - 2 * e by omega]
          exact sx_sendAck he s4 SI.2.1.2.2.1 SI.1.2.2.1 b25 (Nat.lt_of_le_of_lt cc (by decide)) b22.1 h
      · -- no answer is due
        have open65 : ∀ (post : SX → Prop) ch, (∃ n65, ss_S (wX_serveEnd_65 post (nI e) n65 0) tl ch N) → wpX_serveEnd post (ss_st tl ch N) (nI e) := by
          intro post ch h
          refine open23 post ch ⟨3, br_f (by decide) (sv_to (c := 0) he ⟨ss_in (by omega), br_t ?_ (nm_r (e' := nI 1) rfl (br_f (by decide) (sv_to (c := 1) he ⟨ss_in (by omega), br_t ?_ (nm_r (e' := nI 2) rfl (br_t (by decide) h))⟩)))⟩)⟩
          · have := a16 (2 - 2 * e) (by omega)
            rw [show 2 * (1 - e) + 0 = 2 - 2 * e by omega, ss_rd (by omega), show N 16 (2 - 2 * e) = 0 by omega]; rfl
          · have := a16 (3 - 2 * e) (by omega)
            rw [show 2 * (1 - e) + 1 = 3 - 2 * e by omega, ss_rd (by omega), show N 16 (3 - 2 * e) = 0 by omega]; rfl
        have b23 := b22.2
        -- first stream
        have I0 : Iv1 (fun _ => 0) (fun _ => 0) C tl (st_up N 23 e (1 - N 23 e)) lv := Iv1_23 (by omega) I
        obtain ⟨r, N1, l1, p1, p2, p3, p4, p5, p6⟩ := sv_some (N := st_up N 23 e (1 - N 23 e)) (s := 2 * e + N 23 e) he (by omega) (by omega) cc q0 q1 ph I0
        obtain ⟨k1, k7, k12, k14, k16, k29, k42, k13, k26, kr, k23, kkc⟩ := p5
        rcases (by omega : r = 1 ∨ r = 0) with rr | rr
        · subst rr
          refine ⟨N1, l1, p1, p2, ?_, ⟨by rw [k29]; rfl, by rw [k42]; rfl, by rw [k26 _ (by omega)]; rfl, fun t _ => by rw [k16]; rfl, fun t ht => ⟨by rw [k13 t (by omega)]; rfl, ?_⟩, kkc⟩, fun _ => p3 (Or.inl rfl), fun post ch h => open65 post ch ⟨1, sv_it (k := 0) (n := 0) he rfl b23 (by omega) (by omega) p6 (fun c => by omega) (fun _ => h)⟩⟩
          · intro c
            rw [k16] at c
            rcases c with c | c
            · exact absurd c q0
            · exact absurd c q1
          · unfold sx_set; rw [k1, k12, k7, k14]; exact Iff.rfl
        · subst rr
          obtain ⟨kr26, kr13⟩ := kr rfl
          have I1' : Iv1 (fun _ => 0) (fun _ => 0) C tl (st_up N1 23 e (N 23 e)) l1 := Iv1_23 (by omega) p1
          obtain ⟨r', N2, l2, g1, g2, g3, g4, g5, g6⟩ := sv_some (N := st_up N1 23 e (N 23 e)) (s := 2 * e + (1 - N 23 e)) he (by omega) (by omega) (by show N1 26 (3 * e) ≤ 4; rw [kr26]; exact cc) (by show N1 16 _ ≠ 1; rw [k16]; exact q0) (by show N1 16 _ ≠ 1; rw [k16]; exact q1) (fun w hw' => by show N1 42 w ≠ 1 ∧ N1 42 w ≠ 3; rw [k42]; exact ph w hw') I1'
          obtain ⟨j1, j7, j12, j14, j16, j29, j42, j13, j26, jr, j23, jkc⟩ := g5
          refine ⟨N2, l2, g1, e6_trans g2 p2, ?_, ⟨by rw [j29]; show N1 29 = _; rw [k29]; rfl, by rw [j42]; show N1 42 = _; rw [k42]; rfl, by rw [j26 _ (by omega)]; show N1 26 _ = _; rw [kr26]; rfl, fun t _ => by rw [j16]; show N1 16 t = _; rw [k16]; rfl, fun t ht => ⟨?_, ?_⟩, kc_t (B := N1) kkc jkc⟩, fun c => ?_, fun post ch h => open65 post ch ⟨3, sv_it (k := 0) (n := 2) he rfl b23 (by omega) (by omega) p6 (fun _ => sv_it (k := 1) (n := 1) (v := 1 - N 23 e) he (by rw [k23]; exact ub_s) (by omega) (by omega) g4 (by rw [show 1 - (1 - N 23 e) = N 23 e by omega]; exact g6) (fun _ => br_t (by decide) h) (fun _ => h)) (fun c => by omega)⟩⟩
          · intro c
            rw [j16] at c
            have c' : N1 16 (2 - 2 * e) = 1 ∨ N1 16 (3 - 2 * e) = 1 := c
            rw [k16] at c'
            rcases c' with c | c
            · exact absurd c q0
            · exact absurd c q1
          · rw [j13 t (by omega)]
            show N1 13 t = _
            rw [kr13]; rfl
          · unfold sx_set
            rw [j1, j12, j7, j14]
            show (0 < N1 1 t ∧ N1 12 t = 1 ∨ N1 1 t = 0 ∧ (N1 7 t = 0 ∨ N1 14 t ≠ 0)) ↔ _
            rw [k1, k12, k7, k14]; exact Iff.rfl
          · obtain ⟨_, _, _, s, hs1, hs2, hs3, hs4⟩ := c
            by_cases u1 : sx_set N (2 * e + N 23 e)
            · have es : s = 2 * e + (1 - N 23 e) := by
                rcases (by omega : s = 2 * e + N 23 e ∨ s = 2 * e + (1 - N 23 e)) with q | q
                · rw [q] at hs2; exact absurd u1 hs2
                · exact q
              refine l6_e6 (g3 (Or.inr ⟨?_, ?_⟩)) p2
              · rw [← es]
                intro q
                apply hs2
                unfold sx_set at q ⊢
                have q' : 0 < N1 1 s ∧ N1 12 s = 1 ∨ N1 1 s = 0 ∧ (N1 7 s = 0 ∨ N1 14 s ≠ 0) := q
                rw [k1, k12, k7, k14] at q'
                exact q'
              · rw [← es]
                show N1 13 s = 0
                rw [kr13]; exact hs3
            · exact e6_l6 g2 (p3 (Or.inr ⟨u1, hs4 _ (by omega) u1⟩))
  · refine ⟨N, lv, I, e6_refl _, fun _ => by omega, ⟨rfl, rfl, rfl, fun _ _ => rfl, fun _ _ => ⟨rfl, Iff.rfl⟩, kc_r N⟩, fun c => absurd c.1 cc, fun post ch h => open9 post ch ⟨ss_in hw, br_f ?_ h⟩⟩
    rw [ss_rd (by omega)]
    exact fun c => cc ((nI_leI (b := 4) (by omega) (by decide)).mp c)
end
section
/-! departures -/
def dx (i : Nat) : Nat → Nat := fun v => if v < i then 1 else 0
def dy (i : Nat) : Nat → Nat := fun v => if v ^^^ 1 < i then 1 else 0
theorem dy_n : ∀ w, w < 4 → ∀ v, v < 4 → v ≠ w ^^^ 1 → dy (w + 1) v = dy w v := by decide
theorem dy_1 : ∀ w, w < 4 → dy (w + 1) (w ^^^ 1) = 1 ∧ dy w (w ^^^ 1) = 0 := by decide
theorem dx_n : ∀ w, w < 4 → ∀ v, v < 4 → v ≠ w → dx (w + 1) v = dx w v := by decide
theorem dx_1 : ∀ w, w < 4 → dx (w + 1) w = 1 ∧ dx w w = 0 := by decide
theorem dx_b (i v : Nat) : dx i v ≤ 1 := by unfold dx; split <;> omega
/-- what a good frame says of the phases -/
def q1 (N : Nat → Nat → Nat) : Prop := ∀ v, v < 4 → ∀ f, f < N 29 v → fr_g N v f → (N 30 (6 * (4 * v + f)) < 2 → N 42 v = 1) ∧ (2 ≤ N 30 (6 * (4 * v + f)) → N 42 (v ^^^ 1) = 3)
def q2 (N : Nat → Nat → Nat) : Prop := ∀ v, v < 4 → 0 < N 29 v → N 42 v ≠ 0 ∨ N 42 (v ^^^ 1) ≠ 0
def Dp (i : Nat) (C : Nat → Nat → Nat) (tl : Nat) (N : Nat → Nat → Nat) (lv : Lv) : Prop :=
  Iv1 (dx i) (dy i) C tl N lv ∧ (∀ v, v < 4 → (N 42 v = 1 → v < i) ∧ (N 42 v = 3 → v ^^^ 1 < i) ∧ (i ≤ v → N 29 v = 0)) ∧ q1 N ∧ q2 N
def Dh (w : Nat) (C : Nat → Nat → Nat) (tl : Nat) (N : Nat → Nat → Nat) (lv : Lv) : Prop :=
  Iv1 (dx w) (dy (w + 1)) C tl N lv ∧ (∀ v, v < 4 → (N 42 v = 1 → v < w) ∧ (N 42 v = 3 → v ^^^ 1 < w + 1) ∧ (w < v → N 29 v = 0)) ∧ N 29 w ≤ 2 ∧ q1 N ∧ q2 N
/-- the groups that a departure leaves alone -/
theorem dp_core {x y x' y' : Nat → Nat} {C N N' : Nat → Nat → Nat} {lv : Lv} {tl tl' : Nat} (hN : ∀ i, i ≠ 29 → i ≠ 30 → i ≠ 31 → i ≠ 33 → i ≠ 34 → i ≠ 36 → i ≠ 37 → i ≠ 40 → i ≠ 42 → N' i = N i) (hlk : ∀ v, v < 4 → lk x' y' N' lv v) (hfr : ∀ v, v < 4 → fr (fun _ => 0) (N' 29) C N' lv v) (htm : tm tl' N' lv) (h29 : ∀ v, v < 4 → N' 29 v ≤ 4) (htl : tl' ≤ 20)
    (I : Iv1 x y C tl N lv) : Iv1 x' y' C tl' N' lv := by
  obtain ⟨⟨I1, I2, I3, I4, I5, I6, I7, I8, I9, I10⟩, Ia⟩ := I
  have g : ∀ i, i ≠ 29 → i ≠ 30 → i ≠ 31 → i ≠ 33 → i ≠ 34 → i ≠ 36 → i ≠ 37 → i ≠ 40 → i ≠ 42 → N' i = N i := hN
  have e : ∀ i, (i < 29 ∨ i = 35 ∨ i = 41 ∨ 43 ≤ i) → N' i = N i := fun i h => g i (by omega) (by omega) (by omega) (by omega) (by omega) (by omega) (by omega) (by omega) (by omega)
  refine ⟨⟨hlk, hfr, fun v hv => qo_cg (N := N) (e 27 (by omega)) (e 28 (by omega)) (e 49 (by omega)) (by rw [e 25 (by omega)]) (by rw [e 41 (by omega)]) rfl (I3 v hv),
    fun d hd => jo_cg (N := N) (e 18 (by omega)) (e 19 (by omega)) (e 20 (by omega)) (e 21 (by omega)) (e 49 (by omega)) rfl (I4 d hd),
    fun s hs => si_cg (N := N) (e 0 (by omega)) (e 1 (by omega)) (e 2 (by omega)) (e 3 (by omega)) (e 4 (by omega)) (e 5 (by omega)) (e 6 (by omega)) (e 7 (by omega)) (e 8 (by omega)) (e 9 (by omega)) (e 10 (by omega)) (e 11 (by omega)) (e 12 (by omega)) (e 13 (by omega)) (e 14 (by omega)) (e 15 (by omega)) (e 16 (by omega)) (e 44 (by omega)) (e 45 (by omega)) (e 48 (by omega)) (e 49 (by omega)) (e 50 (by omega)) (I5 s hs), ?_, htm, ?_, ?_, htl⟩, ?_⟩
  · intro d hd
    have D := I6 d hd
    exact dr_cg (N := N) (e 48 (by omega)) (e 44 (by omega)) (e 45 (by omega)) (e 11 (by omega)) (e 50 (by omega)) (e 7 (by omega)) (e 8 (by omega)) (e 16 (by omega)) (e 43 (by omega)) (e 22 (by omega)) (e 23 (by omega)) (e 46 (by omega)) rfl rfl rfl (Or.inl ⟨by rw [e 26 (by omega)], rfl⟩) (by rw [e 26 (by omega)]; unfold dr at D; exact D.2.2.2.2.2.2.2.2.2.1) D
  · exact fun s hs => kb_cg (N := N) (e 1 (by omega)) (e 7 (by omega)) (e 10 (by omega)) (e 12 (by omega)) (e 14 (by omega)) (e 16 (by omega)) (e 47 (by omega)) (Nat.le_refl _) (I8 s hs)
  · obtain ⟨r1, r2, r3, r4⟩ := I9
    exact ⟨by rw [e 28 (by omega)]; exact r1, by rw [e 27 (by omega)]; exact r2, r3, h29⟩
  · rw [e 47 (by omega), e 13 (by omega)]; exact Ia
theorem sub_le2 (a d : Nat) : a + d - 2 ≤ (a - 2) + d := by omega
theorem st_tr {tl tl' a b c e d0 d1 d2 d3 : Nat} (h : 5 * tl + (a - 2) + (b - 2) + (c - 2) + (e - 2) ≤ 100) (hd : d0 + d1 + d2 + d3 = 5) (ht : tl' + 1 = tl) : 5 * tl' + (a + d0 - 2) + (b + d1 - 2) + (c + d2 - 2) + (e + d3 - 2) ≤ 100 := by
  have y0 := sub_le2 a d0
  have y1 := sub_le2 b d1
  have y2 := sub_le2 c d2
  have y3 := sub_le2 e d3
  generalize a + d0 - 2 = p0 at *
  generalize b + d1 - 2 = p1 at *
  generalize c + d2 - 2 = p2 at *
  generalize e + d3 - 2 = p3 at *
  generalize a - 2 = q0 at *
  generalize b - 2 = q1' at *
  generalize c - 2 = q2' at *
  generalize e - 2 = q3 at *
  omega
/-- trouble costs five ticks -/
theorem tm_tr {tl tl' v : Nat} {N N' : Nat → Nat → Nat} {lv : Lv} (hv : v < 4) (ht : tl' + 1 = tl) (h40 : N' 40 = ub_un (N 40) v (N 40 v + 5)) (h41 : N' 41 = N 41) (h26 : N' 26 = N 26) (h16 : N' 16 = N 16) (h46 : N' 46 = N 46) (h47 : N' 47 = N 47) (h11 : N' 11 = N 11) (h12 : N' 12 = N 12)
    (hs4 : ∀ j, j < 4 → ∀ x, x ∈ lv j → pq_s x < 4) (T : tm tl N lv) : tm tl' N' lv := by
  have ex : ∃ d0 d1 d2 d3 : Nat, d0 + d1 + d2 + d3 = 5 ∧ N' 40 0 = N 40 0 + d0 ∧ N' 40 1 = N 40 1 + d1 ∧ N' 40 2 = N 40 2 + d2 ∧ N' 40 3 = N 40 3 + d3 := by
    rw [h40]
    rcases (by omega : v = 0 ∨ v = 1 ∨ v = 2 ∨ v = 3) with r | r | r | r
    · subst r; exact ⟨5, 0, 0, 0, rfl, rfl, rfl, rfl, rfl⟩
    · subst r; exact ⟨0, 5, 0, 0, rfl, rfl, rfl, rfl, rfl⟩
    · subst r; exact ⟨0, 0, 5, 0, rfl, rfl, rfl, rfl, rfl⟩
    · subst r; exact ⟨0, 0, 0, 5, rfl, rfl, rfl, rfl, rfl⟩
  obtain ⟨d0, d1, d2, d3, hd, e0', e1', e2', e3'⟩ := ex
  have mx : ∀ a k : Nat, max (a + k) 2 ≤ max a 2 + k := by intro a k; omega
  have ok : ∀ s g g', g' ≤ g + 5 → tm_ok tl N s g → tm_ok tl' N' s g' := by
    intro s g g' h k
    unfold tm_ok at k ⊢
    rw [h47, h11, h12]
    omega
  obtain ⟨⟨a1, a2, a3, a4, a5⟩, ⟨b1, b2, b3, b4, b5⟩, st⟩ := T
  have x0 := mx (N 40 0) d0
  have x1 := mx (N 40 1) d1
  have x2 := mx (N 40 2) d2
  have x3 := mx (N 40 3) d3
  rw [← e0'] at x0
  rw [← e1'] at x1
  rw [← e2'] at x2
  rw [← e3'] at x3
  unfold tm_a at a1 a2 b1 b2
  have A1 : tm_l (tm_ok tl' N') (max (N' 40 3) 2 + max (N' 40 1) 2 + 22) (N' 40 2 + 2 * N' 41 2) (lv 2) := by
    refine tm_imp (P := tm_ok tl N) (ap := max (N 40 3) 2 + max (N 40 1) 2 + 22) (g := N 40 2 + 2 * N 41 2) (fun s j _ k => ok s _ _ ?_ k) (fun s j _ k => ok s _ _ ?_ k) (hs4 2 (by omega)) a1
    · rw [h41]; omega
    · rw [h41]
      generalize max (N 40 3) 2 = m3 at *
      generalize max (N 40 1) 2 = m1 at *
      generalize max (N' 40 3) 2 = n3 at *
      generalize max (N' 40 1) 2 = n1 at *
      omega
  have A2 : tm_l (tm_ok tl' N') (max (N' 40 3) 2 + max (N' 40 1) 2 + 22) (N' 40 0 + 2 * N' 41 0 + max (N' 40 2) 2 + 5) (lv 0) := by
    refine tm_imp (P := tm_ok tl N) (ap := max (N 40 3) 2 + max (N 40 1) 2 + 22) (g := N 40 0 + 2 * N 41 0 + max (N 40 2) 2 + 5) (fun s j _ k => ok s _ _ ?_ k) (fun s j _ k => ok s _ _ ?_ k) (hs4 0 (by omega)) a2
    · rw [h41]
      generalize max (N 40 2) 2 = m2 at *
      generalize max (N' 40 2) 2 = n2 at *
      omega
    · rw [h41]
      generalize max (N 40 3) 2 = m3 at *
      generalize max (N 40 1) 2 = m1 at *
      generalize max (N' 40 3) 2 = n3 at *
      generalize max (N' 40 1) 2 = n1 at *
      generalize max (N 40 2) 2 = m2 at *
      generalize max (N' 40 2) 2 = n2 at *
      omega
  have B1 : tm_l (tm_ok tl' N') (max (N' 40 0) 2 + max (N' 40 2) 2 + 22) (N' 40 1 + 2 * N' 41 1) (lv 1) := by
    refine tm_imp (P := tm_ok tl N) (ap := max (N 40 0) 2 + max (N 40 2) 2 + 22) (g := N 40 1 + 2 * N 41 1) (fun s j _ k => ok s _ _ ?_ k) (fun s j _ k => ok s _ _ ?_ k) (hs4 1 (by omega)) b1
    · rw [h41]; omega
    · rw [h41]
      generalize max (N 40 0) 2 = m3 at *
      generalize max (N 40 2) 2 = m1 at *
      generalize max (N' 40 0) 2 = n3 at *
      generalize max (N' 40 2) 2 = n1 at *
      omega
  have B2 : tm_l (tm_ok tl' N') (max (N' 40 0) 2 + max (N' 40 2) 2 + 22) (N' 40 3 + 2 * N' 41 3 + max (N' 40 1) 2 + 5) (lv 3) := by
    refine tm_imp (P := tm_ok tl N) (ap := max (N 40 0) 2 + max (N 40 2) 2 + 22) (g := N 40 3 + 2 * N 41 3 + max (N 40 1) 2 + 5) (fun s j _ k => ok s _ _ ?_ k) (fun s j _ k => ok s _ _ ?_ k) (hs4 3 (by omega)) b2
    · rw [h41]
      generalize max (N 40 1) 2 = m2 at *
      generalize max (N' 40 1) 2 = n2 at *
      omega
    · rw [h41]
      generalize max (N 40 0) 2 = m3 at *
      generalize max (N 40 2) 2 = m1 at *
      generalize max (N' 40 0) 2 = n3 at *
      generalize max (N' 40 2) 2 = n1 at *
      generalize max (N 40 1) 2 = m2 at *
      generalize max (N' 40 1) 2 = n2 at *
      omega
  refine ⟨⟨A1, A2, fun x hx => ok _ _ _ ?_ (a3 x hx), fun c => ok _ _ _ ?_ (a4 (by rw [← h16]; exact c)), fun c => ok _ _ _ ?_ (a5 (by rw [← h16]; exact c))⟩, ⟨B1, B2, fun x hx => ok _ _ _ ?_ (b3 x hx), fun c => ok _ _ _ ?_ (b4 (by rw [← h16]; exact c)), fun c => ok _ _ _ ?_ (b5 (by rw [← h16]; exact c))⟩, ?_⟩
  · show N' 40 2 + 1 ≤ N 40 2 + 1 + 5
    omega
  · rw [h26]
    show N' 40 0 + 2 * N 26 0 + max (N' 40 2) 2 + 5 ≤ N 40 0 + 2 * N 26 0 + max (N 40 2) 2 + 5 + 5
    generalize max (N 40 2) 2 = m2 at *
    generalize max (N' 40 2) 2 = n2 at *
    omega
  · rw [h26, h46]
    show N' 40 0 + 2 * N 26 0 + max (N' 40 2) 2 + 5 + 2 * (3 - N 46 0) ≤ N 40 0 + 2 * N 26 0 + max (N 40 2) 2 + 5 + 2 * (3 - N 46 0) + 5
    generalize max (N 40 2) 2 = m2 at *
    generalize max (N' 40 2) 2 = n2 at *
    omega
  · show N' 40 1 + 1 ≤ N 40 1 + 1 + 5
    omega
  · rw [h26]
    show N' 40 3 + 2 * N 26 3 + max (N' 40 1) 2 + 5 ≤ N 40 3 + 2 * N 26 3 + max (N 40 1) 2 + 5 + 5
    generalize max (N 40 1) 2 = m2 at *
    generalize max (N' 40 1) 2 = n2 at *
    omega
  · rw [h26, h46]
    show N' 40 3 + 2 * N 26 3 + max (N' 40 1) 2 + 5 + 2 * (3 - N 46 1) ≤ N 40 3 + 2 * N 26 3 + max (N 40 1) 2 + 5 + 2 * (3 - N 46 1) + 5
    generalize max (N 40 1) 2 = m2 at *
    generalize max (N' 40 1) 2 = n2 at *
    omega
  · rw [e0', e1', e2', e3']
    exact st_tr st hd ht
theorem tm_same {tl : Nat} {N N' : Nat → Nat → Nat} {lv : Lv} (h40 : N' 40 = N 40) (h41 : N' 41 = N 41) (h26 : N' 26 = N 26) (h16 : N' 16 = N 16) (h46 : N' 46 = N 46) (h47 : N' 47 = N 47) (h11 : N' 11 = N 11) (h12 : N' 12 = N 12) (T : tm tl N lv) : tm tl N' lv := by
  have all : ∀ d, tm_d tl N lv d → tm_d tl N' lv d := fun d h => tm_dcg (N := N) h47 h11 h12 h16 h46 (by unfold tm_a; rw [h40]) (by rw [h40, h41]) (by rw [h40, h41]) (by rw [h40]) (by rw [h40, h26]) rfl rfl (Or.inl ⟨by rw [h40], rfl⟩) h
  refine ⟨all 0 T.1, all 1 T.2.1, ?_⟩
  rw [h40]; exact T.2.2
theorem tm_less {tl tl' : Nat} {N : Nat → Nat → Nat} {lv : Lv} (h : tl' ≤ tl) (hs4 : ∀ j, j < 4 → ∀ x, x ∈ lv j → pq_s x < 4) (T : tm tl N lv) : tm tl' N lv := by
  have ok : ∀ s g, tm_ok tl N s g → tm_ok tl' N s g := by
    intro s g k
    unfold tm_ok at k ⊢
    omega
  have ll : ∀ (ap g : Nat) (l : List Pc), (∀ x, x ∈ l → pq_s x < 4) → tm_l (tm_ok tl N) ap g l → tm_l (tm_ok tl' N) ap g l := fun ap g l hs k => tm_imp (fun s j _ q => ok _ _ q) (fun s j _ q => ok _ _ q) hs k
  obtain ⟨⟨a1, a2, a3, a4, a5⟩, ⟨b1, b2, b3, b4, b5⟩, st⟩ := T
  have st' : 5 * tl' + (N 40 0 - 2) + (N 40 1 - 2) + (N 40 2 - 2) + (N 40 3 - 2) ≤ 100 := by
    have := Nat.mul_le_mul_left 5 h
    generalize N 40 0 - 2 = p0 at *
    generalize N 40 1 - 2 = p1 at *
    generalize N 40 2 - 2 = p2 at *
    generalize N 40 3 - 2 = p3 at *
    clear a1 a2 a3 a4 a5 b1 b2 b3 b4 b5 ll ok
    omega
  exact ⟨⟨ll _ _ _ (hs4 2 (by omega)) a1, ll _ _ _ (hs4 0 (by omega)) a2, fun x hx => ok _ _ (a3 x hx), fun c => ok _ _ (a4 c), fun c => ok _ _ (a5 c)⟩, ⟨ll _ _ _ (hs4 1 (by omega)) b1, ll _ _ _ (hs4 3 (by omega)) b2, fun x hx => ok _ _ (b3 x hx), fun c => ok _ _ (b4 c), fun c => ok _ _ (b5 c)⟩, st'⟩
/-- frames behind a launch -/
theorem put_29 {A : Nat → Nat → Nat} {w L : Nat} : sx_put A w L 29 = ub_un (A 29) w (A 29 w + 1) := rfl
theorem put_31n {A : Nat → Nat → Nat} {w L : Nat} : sx_put A w L 31 (4 * w + A 29 w) = L + 1 := ub_s
theorem put_31o {A : Nat → Nat → Nat} {w L q : Nat} (h : q ≠ 4 * w + A 29 w) : sx_put A w L 31 q = A 31 q := ub_n h
theorem put_30n {A : Nat → Nat → Nat} {w L j : Nat} (h : j < L + 1) : sx_put A w L 30 (6 * (4 * w + A 29 w) + j) = A 37 j := ub_bl_in h
theorem put_30o {A : Nat → Nat → Nat} {w L q j : Nat} (hL : L ≤ 5) (hj : j < 6) (h : q ≠ 4 * w + A 29 w) : sx_put A w L 30 (6 * q + j) = A 30 (6 * q + j) := ub_bl_out (by omega)
theorem put_o {A : Nat → Nat → Nat} {w L i : Nat} (h29 : i ≠ 29) (h30 : i ≠ 30) (h31 : i ≠ 31) : sx_put A w L i = A i := by
  unfold sx_put
  rw [ss_up_n h29, ss_up_n h31, bl_o h30]
/-- what a launch leaves on the way -/
def lfr (N : Nat → Nat → Nat) (w L : Nat) (N' : Nat → Nat → Nat) (c : Nat) (gd : Prop) : Prop :=
  (∀ i, i ≠ 29 → i ≠ 30 → i ≠ 31 → i ≠ 37 → N' i = N i) ∧ N' 29 = ub_un (N 29) w (N 29 w + c) ∧ c ≤ 2 ∧
  (∀ v f, v < 4 → f < 4 → (v ≠ w ∨ f < N 29 w) → N' 31 (4 * v + f) = N 31 (4 * v + f) ∧ ∀ j, j < 6 → N' 30 (6 * (4 * v + f) + j) = N 30 (6 * (4 * v + f) + j)) ∧
  (∀ f, N 29 w ≤ f → f < N 29 w + c → N' 31 (4 * w + f) = L + 1 ∧ (∀ j, j < L + 1 → N' 30 (6 * (4 * w + f) + j) < 256) ∧ (gd → fr_g N' w f ∧ ∀ j, j < L → N' 30 (6 * (4 * w + f) + j) = N 37 j) ∧ (¬ gd → ¬ fr_g N' w f)) ∧ (gd → 1 ≤ c)
theorem put_lfr {N A : Nat → Nat → Nat} {w L : Nat} (hw : w < 4) (hL : L ≤ 5) (h29 : N 29 w ≤ 3) (hA : ∀ i, i ≠ 37 → A i = N i) (hb : ∀ j, j < L + 1 → A 37 j < 256) (gd : Prop) (g1 : gd → cr_f (A 37) L = A 37 L ∧ ∀ j, j < L → A 37 j = N 37 j) (g2 : ¬ gd → cr_f (A 37) L ≠ A 37 L) : lfr N w L (sx_put A w L) 1 gd := by
  have a29 : A 29 = N 29 := hA 29 (by decide)
  have a30 : A 30 = N 30 := hA 30 (by decide)
  have a31 : A 31 = N 31 := hA 31 (by decide)
  refine ⟨fun i h1 h2 h3 h4 => by rw [put_o h1 h2 h3, hA i h4], by rw [put_29, a29], by omega, fun v f hv hf h => ⟨?_, fun j hj => ?_⟩, fun f h1 h2 => ?_, fun _ => Nat.le_refl 1⟩
  · rw [put_31o (by rw [a29]; omega), a31]
  · rw [put_30o hL hj (by rw [a29]; omega), a30]
  · have ef : f = N 29 w := by omega
    have n30 : ∀ j, j < L + 1 → sx_put A w L 30 (6 * (4 * w + f) + j) = A 37 j := by
      intro j hj
      rw [ef, ← a29]
      exact put_30n hj
    have n31 : sx_put A w L 31 (4 * w + f) = L + 1 := by
      rw [ef, ← a29]
      exact put_31n
    have eg : fr_g (sx_put A w L) w f ↔ cr_f (A 37) L = A 37 L := by
      unfold fr_g
      rw [n31, Nat.add_sub_cancel, n30 L (by omega), cr_f_eq (f := fun j => sx_put A w L 30 (6 * (4 * w + f) + j)) (g := A 37) L (fun k hk => n30 k (by omega))]
    refine ⟨n31, fun j hj => by rw [n30 j hj]; exact hb j hj, fun g => ⟨eg.mpr (g1 g).1, fun j hj => by rw [n30 j (by omega)]; exact (g1 g).2 j hj⟩, fun g c => g2 g (eg.mp c)⟩
theorem lau_lfr {tl tl' w L : Nat} {N N' : Nat → Nat → Nat} (hw : w < 4) (hL : L ≤ 5) (h29 : N 29 w ≤ 2) (hb : ∀ k, k < L → N 37 k < 256) (h : sx_lau tl N w L tl' N') : ∃ c gd, lfr N w L N' c gd ∧ (gd ∧ tl' ≤ tl ∨ ¬ gd ∧ tl' + 1 = tl) := by
  have lc : cr_f (N 37) L < 256 := cr_f_lt L hb
  have oth : ∀ i, i ≠ 37 → st_up N 37 L (cr_f (N 37) L) i = N i := fun i h => ss_up_n h
  have e37 : st_up N 37 L (cr_f (N 37) L) 37 = ub_un (N 37) L (cr_f (N 37) L) := rfl
  have b37 : ∀ j, j < L + 1 → ub_un (N 37) L (cr_f (N 37) L) j < 256 := by
    intro j hj
    by_cases e : j = L
    · rw [e, ub_s]; exact lc
    · rw [ub_n e]; exact hb j (by omega)
  have ec : cr_f (ub_un (N 37) L (cr_f (N 37) L)) L = cr_f (N 37) L := cr_f_eq L (fun k hk => ub_n (by omega))
  rcases h with ⟨ht, hN⟩ | ⟨ht, hN | hN | ⟨p, b, hp, hb8, hN⟩⟩
  · refine ⟨1, True, ?_, Or.inl ⟨trivial, by omega⟩⟩
    rw [hN]
    exact put_lfr hw hL (by omega) oth (by rw [e37]; exact b37) True (fun _ => ⟨by rw [e37, ec, ub_s], fun j hj => by rw [e37]; exact ub_n (by omega)⟩) (fun c => absurd trivial c)
  · refine ⟨0, False, ?_, Or.inr ⟨fun c => c, ht⟩⟩
    rw [hN]
    refine ⟨fun i _ _ _ h4 => oth i h4, ?_, by omega, fun v f _ _ _ => ⟨rfl, fun _ _ => rfl⟩, fun f h1 h2 => by omega, fun c => absurd c (fun q => q)⟩
    rw [Nat.add_zero, ub_id rfl]; rfl
  · refine ⟨2, True, ?_, Or.inl ⟨trivial, by omega⟩⟩
    rw [hN]
    generalize hA : st_up N 37 L (cr_f (N 37) L) = A at *
    have a37 : A 37 = ub_un (N 37) L (cr_f (N 37) L) := e37
    obtain ⟨p1, p2, p3, p4, p5, p6⟩ := put_lfr (N := N) (A := A) hw hL (by omega) oth (by rw [a37]; exact b37) True (fun _ => ⟨by rw [a37, ec, ub_s], fun j hj => by rw [a37]; exact ub_n (by omega)⟩) (fun c => absurd trivial c)
    have B37 : sx_put A w L 37 = A 37 := rfl
    have B29 : sx_put A w L 29 w = N 29 w + 1 := by rw [p2, ub_s]
    obtain ⟨r1, r2, r3, r4, r5, r6⟩ := put_lfr (N := sx_put A w L) (A := sx_put A w L) hw hL (by rw [B29]; omega) (fun _ _ => rfl) (by rw [B37, a37]; exact b37) True (fun _ => ⟨by rw [B37, a37, ec, ub_s], fun _ _ => rfl⟩) (fun c => absurd trivial c)
    refine ⟨fun i h1 h2 h3 h4 => by rw [r1 i h1 h2 h3 h4, p1 i h1 h2 h3 h4], by rw [r2, p2, ub_s, ub_uu], by omega, fun v f hv hf h => ?_, fun f h1 h2 => ?_, fun _ => by omega⟩
    · have q := r4 v f hv hf (by rw [B29]; omega)
      have q' := p4 v f hv hf h
      exact ⟨q.1.trans q'.1, fun j hj => (q.2 j hj).trans (q'.2 j hj)⟩
    · rcases (by omega : f = N 29 w ∨ f = N 29 w + 1) with e | e
      · have q := r4 w f hw (by omega) (Or.inr (by rw [B29]; omega))
        obtain ⟨s1, s2, s3, s4⟩ := p5 f h1 (by omega)
        refine ⟨q.1.trans s1, fun j hj => by rw [q.2 j (by omega)]; exact s2 j hj, fun _ => ⟨?_, fun j hj => by rw [q.2 j (by omega)]; exact (s3 trivial).2 j hj⟩, fun c => absurd trivial c⟩
        have g := (s3 trivial).1
        unfold fr_g at g ⊢
        rw [q.1, s1, Nat.add_sub_cancel]
        rw [s1, Nat.add_sub_cancel] at g
        rw [q.2 L (by omega), cr_f_eq L (fun k hk => q.2 k (by omega))]
        exact g
      · obtain ⟨s1, s2, s3, s4⟩ := r5 f (by rw [B29]; omega) (by rw [B29]; omega)
        refine ⟨s1, s2, fun _ => ⟨(s3 trivial).1, fun j hj => ?_⟩, fun c => absurd trivial c⟩
        rw [(s3 trivial).2 j hj, B37, a37, ub_n (by omega)]
  · refine ⟨1, False, ?_, Or.inr ⟨fun c => c, ht⟩⟩
    rw [hN]
    have x256 : st_up N 37 L (cr_f (N 37) L) 37 p ^^^ 2 ^ b < 256 := cr_xlt (by rw [e37]; exact b37 p (by omega)) (by
      have : 2 ^ b ≤ 2 ^ 7 := Nat.pow_le_pow_right (by decide) (by omega)
      omega)
    refine put_lfr hw hL (by omega) (fun i h => by rw [ss_up_n h]; exact oth i h) ?_ False (fun c => absurd c (fun q => q)) (fun _ => ?_)
    · intro j hj
      show ub_un (ub_un (N 37) L (cr_f (N 37) L)) p _ j < 256
      by_cases e : j = p
      · rw [e, ub_s]; exact x256
      · rw [ub_n e]; exact b37 j hj
    · show cr_f (ub_un (ub_un (N 37) L (cr_f (N 37) L)) p (ub_un (N 37) L (cr_f (N 37) L) p ^^^ 2 ^ b)) L ≠ ub_un (ub_un (N 37) L (cr_f (N 37) L)) p (ub_un (N 37) L (cr_f (N 37) L) p ^^^ 2 ^ b) L
      by_cases e : p = L
      · subst e
        rw [ub_s, ub_s, cr_f_eq (g := N 37) p (fun k hk => by rw [ub_n (by omega), ub_n (by omega)])]
        exact fun c => cr_flip b c.symm
      · rw [ub_n (fun c => e c.symm), ub_s]
        intro c
        refine cr_f_ne (f := ub_un (ub_un (N 37) L (cr_f (N 37) L)) p (ub_un (N 37) L (cr_f (N 37) L) p ^^^ 2 ^ b)) (g := N 37) (p := p) ?_ L (by omega) (fun k hk => ?_) hb (fun k hk hkp => ?_) c
        · rw [ub_s, ub_n e]; exact cr_flip b
        · by_cases ek : k = p
          · rw [ek, ub_s]; exact x256
          · rw [ub_n ek]; exact b37 k (by omega)
        · rw [ub_n hkp, ub_n (by omega)]
end
section
/-! a departure: the answer, then the first piece -/
theorem fg_cg {N N' : Nat → Nat → Nat} {v f : Nat} (h6 : N 31 (4 * v + f) ≤ 6) (h2 : 2 ≤ N 31 (4 * v + f)) (h31 : N' 31 (4 * v + f) = N 31 (4 * v + f)) (h30 : ∀ j, j < 6 → N' 30 (6 * (4 * v + f) + j) = N 30 (6 * (4 * v + f) + j)) : fr_g N' v f ↔ fr_g N v f := by
  unfold fr_g
  rw [h31, h30 _ (by omega), cr_f_eq (g := fun j => N 30 (6 * (4 * v + f) + j)) (N 31 (4 * v + f) - 1) (fun k hk => h30 k (by omega))]
theorem me_dp {tl tl' : Nat} {N N' : Nat → Nat → Nat} {lv : Lv} (hN : ∀ i, i ≠ 29 → i ≠ 30 → i ≠ 31 → i ≠ 33 → i ≠ 34 → i ≠ 36 → i ≠ 37 → i ≠ 40 → i ≠ 42 → N' i = N i) (h : N' 40 = N 40 ∧ tl' ≤ tl ∨ tl' < tl) : e6 (me tl' N' lv) (me tl N lv) := by
  rcases h with ⟨h40, ht⟩ | h
  · have e : ∀ i, (i < 29 ∨ i = 41 ∨ 43 ≤ i) → N' i = N i := fun i h => hN i (by omega) (by omega) (by omega) (by omega) (by omega) (by omega) (by omega) (by omega) (by omega)
    have em : me tl N' lv = me tl N lv := by
      unfold me m_d m_l m_ls m_r m_q m_qs m_e m_p pt pt_due pt_own pt_ack sx_set sx_lim
      rw [h40, e 1 (by omega), e 7 (by omega), e 8 (by omega), e 10 (by omega), e 12 (by omega), e 14 (by omega), e 16 (by omega), e 26 (by omega), e 41 (by omega), e 44 (by omega), e 45 (by omega), e 47 (by omega), e 49 (by omega), e 50 (by omega)]
    rcases (by omega : tl' = tl ∨ tl' < tl) with r | r
    · rw [r, em]; exact e6_refl _
    · exact Or.inl r
  · exact Or.inl h
theorem ss4 {x y lo hi : Nat → Nat} {C N : Nat → Nat → Nat} {lv : Lv} {tl : Nat} (I : Inv x y lo hi C tl N lv) : ∀ j, j < 4 → ∀ z, z ∈ lv j → pq_s z < 4 := by
  intro j hj z hz
  have D0 := I.2.2.2.2.2.1 0 (by omega)
  have D1 := I.2.2.2.2.2.1 1 (by omega)
  unfold dr at D0 D1
  rcases (by omega : j = 0 ∨ j = 1 ∨ j = 2 ∨ j = 3) with r | r | r | r
  · subst r; exact (D0.1 z (Or.inr hz)).1.2.1
  · subst r; exact (D1.1 z (Or.inl hz)).1.2.1
  · subst r; exact (D0.1 z (Or.inl hz)).1.2.1
  · subst r; exact (D1.1 z (Or.inr hz)).1.2.1
def kp3 (N N' : Nat → Nat → Nat) : Prop := N' 16 = N 16 ∧ N' 26 = N 26 ∧ kc N N'
theorem dp_ans {C N : Nat → Nat → Nat} {lv : Lv} {tl w : Nat} (ch : Int32) (hw : w < 4) (D : Dp w C tl N lv) : ∃ tl' ch' N', Dh w C tl' N' lv ∧ e6 (me tl' N' lv) (me tl N lv) ∧ kp3 N N' ∧ ∀ post : SX → Prop, ss_S (wX_depart_40 post (nI w)) tl' ch' N' → wpX_depart post (ss_st tl ch N) (nI w) := by
  obtain ⟨I, PH, Q, Q2⟩ := D
  obtain ⟨x1, x2, x3⟩ := xx1 w hw
  have yw := dy_1 w hw
  have Lo := I.1.1 (w ^^^ 1) x3
  have pho := PH (w ^^^ 1) x3
  have phw := PH w hw
  have n29 : N 29 w = 0 := phw.2.2 (Nat.le_refl w)
  by_cases c36 : N 36 (w ^^^ 1) = 0
  · refine ⟨tl, ch, N, ⟨?_, fun v hv => ⟨(PH v hv).1, fun c => by have := (PH v hv).2.1 c; omega, fun c => (PH v hv).2.2 (by omega)⟩, by omega, Q, Q2⟩, e6_refl _, ⟨rfl, rfl, kc_r N⟩, fun post h => sx_dep0 hw c36 h⟩
    refine dp_core (N := N) (fun _ _ _ _ _ _ _ _ _ _ => rfl) (fun v hv => ?_) I.1.2.1 I.1.2.2.2.2.2.2.1 I.1.2.2.2.2.2.2.2.2.1.2.2.2 I.1.2.2.2.2.2.2.2.2.2 I
    by_cases e : v = w ^^^ 1
    · subst e
      unfold lk at Lo ⊢
      refine ⟨Lo.1, Lo.2.1, Lo.2.2.1, Lo.2.2.2.1, Lo.2.2.2.2.1, Lo.2.2.2.2.2.1, Lo.2.2.2.2.2.2.1, ?_⟩
      rcases Lo.2.2.2.2.2.2.2 with h | h | h | h | h
      · exact Or.inl h
      · exact Or.inr (Or.inl h)
      · omega
      · have := pho.2.1 h.1
        rw [x1] at this
        omega
      · exact Or.inr (Or.inr (Or.inr (Or.inr h)))
    · exact lk_cg (N := N) rfl rfl rfl rfl rfl rfl rfl rfl rfl rfl rfl rfl (dy_n w hw v hv e) (I.1.1 v hv)
  · have po : N 42 (w ^^^ 1) = 2 ∧ N 33 (w ^^^ 1) = 1 ∧ N 34 (w ^^^ 1) + dx w (w ^^^ 1) = 4 ∧ N 40 (w ^^^ 1) = 1 ∧ N 41 (w ^^^ 1) = 1 ∧ N 36 (w ^^^ 1) = N 32 (w ^^^ 1) + 1 ∧ N 32 (w ^^^ 1) ≤ 1 := by
      unfold lk at Lo
      rcases Lo.2.2.2.2.2.2.2 with h | h | h | h | h
      · omega
      · omega
      · exact ⟨h.1, h.2.1, h.2.2.1, h.2.2.2.1, h.2.2.2.2.1, h.2.2.2.2.2.1, Lo.2.2.1⟩
      · omega
      · omega
    obtain ⟨o42, o33, o34, o40, o41, o36, o32⟩ := po
    have tl20 := I.1.2.2.2.2.2.2.2.2.2
    obtain ⟨tl', ch', N1, hl, hwp⟩ := sx_launch (N := sx_da N (w ^^^ 1) (N 32 (w ^^^ 1))) (L := 1) (tl := tl) ch hw (by omega) (by show N 29 w ≤ 2; omega) tl20 (fun k hk => by
      rw [show k = 0 by omega]
      show ub_un (N 37) 0 (2 + N 32 (w ^^^ 1)) 0 < 256
      rw [ub_s]; omega)
    obtain ⟨c, gd, ⟨f1, f2, f3, f4, f5, f6⟩, htl⟩ := lau_lfr hw (by omega) (by show N 29 w ≤ 2; omega) (fun k hk => by
      rw [show k = 0 by omega]
      show ub_un (N 37) 0 (2 + N 32 (w ^^^ 1)) 0 < 256
      rw [ub_s]; omega) hl
    have b0 : sx_da N (w ^^^ 1) (N 32 (w ^^^ 1)) 37 0 = 2 + N 32 (w ^^^ 1) := by
      show ub_un (N 37) 0 (2 + N 32 (w ^^^ 1)) 0 = _
      exact ub_s
    have m29 : sx_da N (w ^^^ 1) (N 32 (w ^^^ 1)) 29 w = 0 := n29
    rw [m29, Nat.zero_add] at f2
    -- the new table, with the phase of the other way
    have main : ∀ (ph4 l5 : Nat), (gd ∧ ph4 = 3 ∧ l5 = N 40 (w ^^^ 1) ∨ ¬ gd ∧ ph4 = 4 ∧ l5 = N 40 (w ^^^ 1) + 5) → Dh w C tl' (st_up (st_up N1 42 (w ^^^ 1) ph4) 40 (w ^^^ 1) l5) lv ∧ e6 (me tl' (st_up (st_up N1 42 (w ^^^ 1) ph4) 40 (w ^^^ 1) l5) lv) (me tl N lv) ∧ kp3 N (st_up (st_up N1 42 (w ^^^ 1) ph4) 40 (w ^^^ 1) l5) := by
      intro ph4 l5 cs
      generalize hN' : st_up (st_up N1 42 (w ^^^ 1) ph4) 40 (w ^^^ 1) l5 = N'
      have g42 : N' 42 = ub_un (N 42) (w ^^^ 1) ph4 := by
        rw [← hN']
        show ub_un (N1 42) _ _ = _
        rw [f1 42 (by decide) (by decide) (by decide) (by decide)]; rfl
      have g40 : N' 40 = ub_un (N 40) (w ^^^ 1) l5 := by
        rw [← hN']
        show ub_un (N1 40) _ _ = _
        rw [f1 40 (by decide) (by decide) (by decide) (by decide)]; rfl
      have g36 : N' 36 = ub_un (N 36) (w ^^^ 1) 0 := by
        rw [← hN']
        show N1 36 = _
        rw [f1 36 (by decide) (by decide) (by decide) (by decide)]; rfl
      have g29 : N' 29 = ub_un (N 29) w c := by
        rw [← hN']
        exact f2
      have g30 : N' 30 = N1 30 := by rw [← hN']; rfl
      have g31 : N' 31 = N1 31 := by rw [← hN']; rfl
      have go : ∀ i, i ≠ 29 → i ≠ 30 → i ≠ 31 → i ≠ 36 → i ≠ 37 → i ≠ 40 → i ≠ 42 → N' i = N i := by
        intro i a1 a2 a3 a4 a5 a6 a7
        rw [← hN', ss_up_n a6, ss_up_n a7, f1 i a1 a2 a3 a5]
        unfold sx_da
        rw [ss_up_n a4, ss_up_n a5]
      have gN : ∀ i, i ≠ 29 → i ≠ 30 → i ≠ 31 → i ≠ 33 → i ≠ 34 → i ≠ 36 → i ≠ 37 → i ≠ 40 → i ≠ 42 → N' i = N i := fun i a1 a2 a3 _ _ a6 a7 a8 a9 => go i a1 a2 a3 a6 a7 a8 a9
      have old : ∀ v f, v < 4 → f < N 29 v → v ≠ w → (fr_g N' v f ↔ fr_g N v f) ∧ N' 31 (4 * v + f) = N 31 (4 * v + f) ∧ (∀ j, j < 6 → N' 30 (6 * (4 * v + f) + j) = N 30 (6 * (4 * v + f) + j)) ∧ fr_1 C N lv v f := by
        intro v f hv hf ne
        have F := (I.1.2.1 v hv).1 f (Nat.zero_le _) hf
        have l4 := I.1.2.2.2.2.2.2.2.2.1.2.2.2 v hv
        have z := f4 v f hv (by omega) (Or.inl ne)
        have z1 : N' 31 (4 * v + f) = N 31 (4 * v + f) := by rw [g31]; exact z.1
        have z2 : ∀ j, j < 6 → N' 30 (6 * (4 * v + f) + j) = N 30 (6 * (4 * v + f) + j) := fun j hj => by rw [g30]; exact z.2 j hj
        exact ⟨fg_cg F.2.1 F.1 z1 z2, z1, z2, F⟩
      have new : ∀ f, f < c → N' 31 (4 * w + f) = 2 ∧ (∀ j, j < 2 → N' 30 (6 * (4 * w + f) + j) < 256) ∧ (gd → fr_g N' w f ∧ N' 30 (6 * (4 * w + f)) = 2 + N 32 (w ^^^ 1)) ∧ (¬ gd → ¬ fr_g N' w f) := by
        intro f hf
        obtain ⟨s1, s2, s3, s4⟩ := f5 f (by rw [m29]; omega) (by rw [m29]; omega)
        have eg : fr_g N' w f ↔ fr_g N1 w f := by unfold fr_g; rw [g30, g31]
        refine ⟨by rw [g31]; exact s1, by rw [g30]; exact s2, fun g => ⟨eg.mpr (s3 g).1, ?_⟩, fun g q => s4 g (eg.mp q)⟩
        have := (s3 g).2 0 (by omega)
        rw [g30]
        rw [b0] at this
        exact this
      have p3 : ph4 = 3 → gd := fun q => by rcases cs with h | h; exact h.1; omega
      have p4 : ph4 = 3 ∨ ph4 = 4 := by rcases cs with h | h; exact Or.inl h.2.1; exact Or.inr h.2.1
      refine ⟨⟨?_, ?_, ?_, ?_, ?_⟩, ?_, ?_⟩
      · refine dp_core (N := N) gN ?_ ?_ ?_ ?_ ?_ I
        · intro v hv
          by_cases e : v = w ^^^ 1
          · subst e
            unfold lk at Lo ⊢
            rw [g42, g40, g36, ub_s, ub_s, ub_s, go 25 (by decide) (by decide) (by decide) (by decide) (by decide) (by decide) (by decide), go 26 (by decide) (by decide) (by decide) (by decide) (by decide) (by decide) (by decide), go 32 (by decide) (by decide) (by decide) (by decide) (by decide) (by decide) (by decide), go 33 (by decide) (by decide) (by decide) (by decide) (by decide) (by decide) (by decide), go 34 (by decide) (by decide) (by decide) (by decide) (by decide) (by decide) (by decide), go 35 (by decide) (by decide) (by decide) (by decide) (by decide) (by decide) (by decide), go 41 (by decide) (by decide) (by decide) (by decide) (by decide) (by decide) (by decide), yw.1]
            refine ⟨Lo.1, Lo.2.1, Lo.2.2.1, Lo.2.2.2.1, Lo.2.2.2.2.1, Lo.2.2.2.2.2.1, Lo.2.2.2.2.2.2.1, ?_⟩
            have l1 := Lo.1
            have bx := dx_b w (w ^^^ 1)
            rcases cs with h | h
            · exact Or.inr (Or.inr (Or.inr (Or.inl ⟨h.2.1, o33, fun q => by omega, fun q => by omega, by omega, o41, rfl⟩)))
            · exact Or.inr (Or.inr (Or.inr (Or.inr ⟨h.2.1, o33, by omega, by omega, rfl, by omega⟩)))
          · exact lk_cg (N := N) (by rw [go 25 (by decide) (by decide) (by decide) (by decide) (by decide) (by decide) (by decide)]) (by rw [go 26 (by decide) (by decide) (by decide) (by decide) (by decide) (by decide) (by decide)]) (by rw [go 32 (by decide) (by decide) (by decide) (by decide) (by decide) (by decide) (by decide)]) (by rw [go 33 (by decide) (by decide) (by decide) (by decide) (by decide) (by decide) (by decide)]) (by rw [go 34 (by decide) (by decide) (by decide) (by decide) (by decide) (by decide) (by decide)]) (by rw [go 35 (by decide) (by decide) (by decide) (by decide) (by decide) (by decide) (by decide)]) (by rw [g36, ub_n e]) (by rw [g40, ub_n e]) (by rw [go 41 (by decide) (by decide) (by decide) (by decide) (by decide) (by decide) (by decide)]) (by rw [g42, ub_n e]) rfl rfl (dy_n w hw v hv e) (I.1.1 v hv)
        · intro v hv
          have Fv := I.1.2.1 v hv
          have h32 := go 32 (by decide) (by decide) (by decide) (by decide) (by decide) (by decide) (by decide)
          have h41 := go 41 (by decide) (by decide) (by decide) (by decide) (by decide) (by decide) (by decide)
          have h49 := go 49 (by decide) (by decide) (by decide) (by decide) (by decide) (by decide) (by decide)
          by_cases e : v = w
          · subst e
            refine ⟨fun f _ hf => ?_, fun q => ?_, fun q => ?_⟩
            · rw [g29, ub_s] at hf
              obtain ⟨s1, s2, s3, s4⟩ := new f hf
              refine ⟨by omega, by omega, by rw [s1]; exact s2, fun g => ?_⟩
              have hg : gd := Classical.byContradiction (fun q => s4 q g)
              refine Or.inr ⟨N 32 (v ^^^ 1), o32, (s3 hg).2, Or.inl ⟨?_, by rw [h32]⟩⟩
              rw [g42, ub_s]
              rcases cs with h | h
              · exact h.2.1
              · exact absurd hg h.1
            · rw [g42, ub_n (Ne.symm x2)] at q
              have := phw.1 q
              omega
            · rw [g42, ub_n (Ne.symm x2)] at q
              obtain ⟨f, a1, a2, a3, a4⟩ := Fv.2.2 q
              obtain ⟨z1, z2, z3, _⟩ := old (v ^^^ 1) f x3 a2 x2
              refine ⟨f, Nat.zero_le _, by rw [g29, ub_n x2]; exact a2, z1.mpr a3, ?_⟩
              have := z3 0 (by omega)
              rw [Nat.add_zero] at this
              rw [this]; exact a4
          · by_cases e2 : v = w ^^^ 1
            · subst e2
              refine ⟨fun f _ hf => ?_, fun q => ?_, fun q => ?_⟩
              · rw [g29, ub_n e] at hf
                obtain ⟨z1, z2, z3, F1, F2, F3, F4⟩ := old (w ^^^ 1) f hv hf e
                refine ⟨by rw [z2]; exact F1, by rw [z2]; exact F2, fun j hj => by rw [z2] at hj; rw [z3 j (by omega)]; exact F3 j hj, fun g => ?_⟩
                have gN' := z1.mp g
                have qq := Q (w ^^^ 1) hv f hf gN'
                have z30 := z3 0 (by omega)
                rw [Nat.add_zero] at z30
                rcases F4 gN' with A | ⟨u, A1, A2, A3⟩
                · have := A.1
                  have := qq.1 (by omega)
                  omega
                · refine Or.inr ⟨u, A1, by rw [z30]; exact A2, ?_⟩
                  rw [x1] at A3 ⊢
                  rw [g42, h32, ub_n (Ne.symm x2)]
                  exact A3
              · rw [g42, ub_s] at q; omega
              · rw [g42, ub_s] at q
                have hg := p3 q
                rw [x1]
                obtain ⟨s1, s2, s3, s4⟩ := new 0 (by have := f6 hg; omega)
                refine ⟨0, Nat.le_refl _, by rw [g29, ub_s]; have := f6 hg; omega, (s3 hg).1, ?_⟩
                rw [(s3 hg).2]; omega
            · have e3 : v ^^^ 1 ≠ w := fun q => e2 (by rw [← q]; exact (xx1 v hv).1.symm)
              have e4 : v ^^^ 1 ≠ w ^^^ 1 := fun q => e (by rw [← (xx1 v hv).1, q, x1])
              refine ⟨fun f _ hf => ?_, fun q => ?_, fun q => ?_⟩
              · rw [g29, ub_n e] at hf
                obtain ⟨z1, z2, z3, F1, F2, F3, F4⟩ := old v f hv hf e
                refine ⟨by rw [z2]; exact F1, by rw [z2]; exact F2, fun j hj => by rw [z2] at hj; rw [z3 j (by omega)]; exact F3 j hj, fun g => ?_⟩
                have z30 := z3 0 (by omega)
                rw [Nat.add_zero] at z30
                rcases F4 (z1.mp g) with A | ⟨u, A1, A2, A3⟩
                · refine Or.inl ⟨by rw [z30, h32]; exact A.1, by rw [g42, ub_n e2]; exact A.2.1, fun c1 c2 => ?_⟩
                  rw [g42, ub_n e2] at c1
                  rw [h41] at c2
                  obtain ⟨X, r, B1, B2, B3⟩ := A.2.2 c1 c2
                  refine ⟨X, r, B1, by rw [z2]; exact B2, fun j hj => ?_⟩
                  rw [z3 (1 + j) (by omega), h49]
                  exact B3 j hj
                · refine Or.inr ⟨u, A1, by rw [z30]; exact A2, ?_⟩
                  rw [g42, h32, ub_n e4]
                  exact A3
              · rw [g42, ub_n e2] at q
                obtain ⟨f, a1, a2, a3, a4⟩ := Fv.2.1 q
                obtain ⟨z1, z2, z3, _⟩ := old v f hv a2 e
                refine ⟨f, Nat.zero_le _, by rw [g29, ub_n e]; exact a2, z1.mpr a3, ?_⟩
                have := z3 0 (by omega)
                rw [Nat.add_zero] at this
                rw [this]; exact a4
              · rw [g42, ub_n e2] at q
                obtain ⟨f, a1, a2, a3, a4⟩ := Fv.2.2 q
                obtain ⟨z1, z2, z3, _⟩ := old (v ^^^ 1) f (xx1 v hv).2.2 a2 e3
                refine ⟨f, Nat.zero_le _, by rw [g29, ub_n e3]; exact a2, z1.mpr a3, ?_⟩
                have := z3 0 (by omega)
                rw [Nat.add_zero] at this
                rw [this]; exact a4
        · have T := I.1.2.2.2.2.2.2.1
          have k16 := go 16 (by decide) (by decide) (by decide) (by decide) (by decide) (by decide) (by decide)
          have k26 := go 26 (by decide) (by decide) (by decide) (by decide) (by decide) (by decide) (by decide)
          have k41 := go 41 (by decide) (by decide) (by decide) (by decide) (by decide) (by decide) (by decide)
          have k46 := go 46 (by decide) (by decide) (by decide) (by decide) (by decide) (by decide) (by decide)
          have k47 := go 47 (by decide) (by decide) (by decide) (by decide) (by decide) (by decide) (by decide)
          have k11 := go 11 (by decide) (by decide) (by decide) (by decide) (by decide) (by decide) (by decide)
          have k12 := go 12 (by decide) (by decide) (by decide) (by decide) (by decide) (by decide) (by decide)
          rcases cs with h | h
          · have h40 : N' 40 = N 40 := by rw [g40, h.2.2, ub_id rfl]
            exact tm_same h40 k41 k26 k16 k46 k47 k11 k12 (tm_less (by rcases htl with q | q; exact q.2; exact absurd h.1 q.1) (ss4 I.1) T)
          · exact tm_tr x3 (by rcases htl with q | q; exact absurd q.1 h.1; exact q.2) (by rw [g40, h.2.2]) k41 k26 k16 k46 k47 k11 k12 (ss4 I.1) T
        · intro v hv
          rw [g29]
          by_cases e : v = w
          · rw [e, ub_s]; omega
          · rw [ub_n e]; exact I.1.2.2.2.2.2.2.2.2.1.2.2.2 v hv
        · rcases htl with q | q <;> omega
      · intro v hv
        rw [g42, g29]
        refine ⟨fun q => ?_, fun q => ?_, fun q => ?_⟩
        · by_cases e : v = w ^^^ 1
          · rw [e, ub_s] at q; omega
          · rw [ub_n e] at q; exact (PH v hv).1 q
        · by_cases e : v = w ^^^ 1
          · rw [e, x1]; omega
          · rw [ub_n e] at q
            have := (PH v hv).2.1 q
            omega
        · rw [ub_n (by omega)]; exact (PH v hv).2.2 (by omega)
      · rw [g29, ub_s]; exact f3
      · intro v hv f hf g
        rw [g29] at hf
        by_cases e : v = w
        · subst e
          rw [ub_s] at hf
          obtain ⟨s1, s2, s3, s4⟩ := new f hf
          have hg : gd := Classical.byContradiction (fun q => s4 q g)
          have b := (s3 hg).2
          refine ⟨fun q => by omega, fun _ => ?_⟩
          rw [g42, ub_s]
          rcases cs with h | h
          · exact h.2.1
          · exact absurd hg h.1
        · rw [ub_n e] at hf
          obtain ⟨z1, z2, z3, _⟩ := old v f hv hf e
          have z30 := z3 0 (by omega)
          rw [Nat.add_zero] at z30
          have qq := Q v hv f hf (z1.mp g)
          rw [z30, g42]
          have e3 : v ^^^ 1 ≠ w ^^^ 1 := fun q => e (by rw [← (xx1 v hv).1, q, x1])
          refine ⟨fun q => ?_, fun q => by rw [ub_n e3]; exact qq.2 q⟩
          have := qq.1 q
          by_cases e2 : v = w ^^^ 1
          · rw [e2] at this; omega
          · rw [ub_n e2]; exact this
      · intro v hv h
        rw [g29] at h
        rw [g42]
        by_cases e : v = w
        · rw [e]
          exact Or.inr (by rw [ub_s]; omega)
        · rw [ub_n e] at h
          by_cases e2 : v = w ^^^ 1
          · rw [e2]
            exact Or.inl (by rw [ub_s]; omega)
          · have e3 : v ^^^ 1 ≠ w ^^^ 1 := fun q => e (by rw [← (xx1 v hv).1, q, x1])
            rw [ub_n e2, ub_n e3]
            exact Q2 v hv h
      · refine me_dp gN ?_
        rcases cs with h | h
        · exact Or.inl ⟨by rw [g40, h.2.2, ub_id rfl], by rcases htl with q | q; exact q.2; exact absurd h.1 q.1⟩
        · refine Or.inr ?_
          rcases htl with q | q
          · exact absurd q.1 h.1
          · omega
      · exact ⟨go 16 (by decide) (by decide) (by decide) (by decide) (by decide) (by decide) (by decide), go 26 (by decide) (by decide) (by decide) (by decide) (by decide) (by decide) (by decide), go 7 (by decide) (by decide) (by decide) (by decide) (by decide) (by decide) (by decide), go 24 (by decide) (by decide) (by decide) (by decide) (by decide) (by decide) (by decide), go 49 (by decide) (by decide) (by decide) (by decide) (by decide) (by decide) (by decide), go 50 (by decide) (by decide) (by decide) (by decide) (by decide) (by decide) (by decide)⟩
    by_cases g : gd
    · obtain ⟨m1, m2, m3⟩ := main 3 _ (Or.inl ⟨g, rfl, rfl⟩)
      exact ⟨tl', ch', _, m1, m2, m3, fun post h => sx_dep1 hw o36 o32 hwp h⟩
    · obtain ⟨m1, m2, m3⟩ := main 4 _ (Or.inr ⟨g, rfl, rfl⟩)
      exact ⟨tl', ch', _, m1, m2, m3, fun post h => sx_dep1 hw o36 o32 hwp h⟩
end
section
/-! a departure: the first piece -/
theorem dp_lk {C N : Nat → Nat → Nat} {lv : Lv} {tl w : Nat} (hw : w < 4) (D : Dh w C tl N lv) (hlk : lk (dx (w + 1)) (dy (w + 1)) N lv w) : Dp (w + 1) C tl N lv := by
  obtain ⟨I, PH, n2, Q, Q2⟩ := D
  refine ⟨?_, fun v hv => ⟨fun c => by have := (PH v hv).1 c; omega, (PH v hv).2.1, fun c => (PH v hv).2.2 (by omega)⟩, Q, Q2⟩
  refine dp_core (N := N) (fun _ _ _ _ _ _ _ _ _ _ => rfl) (fun v hv => ?_) I.1.2.1 I.1.2.2.2.2.2.2.1 I.1.2.2.2.2.2.2.2.2.1.2.2.2 I.1.2.2.2.2.2.2.2.2.2 I
  by_cases e : v = w
  · subst e; exact hlk
  · exact lk_cg (N := N) rfl rfl rfl rfl rfl rfl rfl rfl rfl rfl rfl (dx_n w hw v hv e) rfl (I.1.1 v hv)
theorem dp_dec {C N : Nat → Nat → Nat} {lv : Lv} {tl w b : Nat} (hw : w < 4) (D : Dh w C tl N lv) (hlk : lk (dx (w + 1)) (dy (w + 1)) (st_up N 34 w b) lv w) : Dp (w + 1) C tl (st_up N 34 w b) lv := by
  obtain ⟨I, PH, n2, Q, Q2⟩ := D
  refine ⟨?_, fun v hv => ⟨fun c => by have := (PH v hv).1 c; omega, (PH v hv).2.1, fun c => (PH v hv).2.2 (by omega)⟩, Q, Q2⟩
  refine dp_core (N := N) (fun i _ _ _ _ h34 _ _ _ _ => ss_up_n h34) (fun v hv => ?_) I.1.2.1 I.1.2.2.2.2.2.2.1 I.1.2.2.2.2.2.2.2.2.1.2.2.2 I.1.2.2.2.2.2.2.2.2.2 I
  by_cases e : v = w
  · subst e; exact hlk
  · exact lk_cg (N := N) rfl rfl rfl rfl (ub_n e) rfl rfl rfl rfl rfl rfl (dx_n w hw v hv e) rfl (I.1.1 v hv)
theorem dp_dat {C N : Nat → Nat → Nat} {lv : Lv} {tl w : Nat} (ch : Int32) (hw : w < 4) (D : Dh w C tl N lv) : ∃ tl' ch' N', Dp (w + 1) C tl' N' lv ∧ e6 (me tl' N' lv) (me tl N lv) ∧ kp3 N N' ∧ ∀ post : SX → Prop, post (ss_st tl' ch' N') → ss_S (wX_depart_40 post (nI w)) tl ch N := by
  have D' := D
  obtain ⟨I, PH, n2, Q, Q2⟩ := D
  obtain ⟨x1, x2, x3⟩ := xx1 w hw
  have xw := dx_1 w hw
  have L := I.1.1 w hw
  have phw := PH w hw
  have c6 : N 26 w ≤ 6 := by
    have D0 := I.1.2.2.2.2.2.1 0 (by omega)
    have D1 := I.1.2.2.2.2.2.1 1 (by omega)
    unfold dr at D0 D1
    have a0 := D0.2.2.2.2.2.2.2.2.1
    have a1 := D0.2.2.2.2.2.2.2.2.2.1
    have a2 := D1.2.2.2.2.2.2.2.2.1
    have a3 := D1.2.2.2.2.2.2.2.2.2.1
    clear D0 D1
    rcases (by omega : w = 0 ∨ w = 1 ∨ w = 2 ∨ w = 3) with e | e | e | e <;> rw [e]
    · exact a1
    · exact Nat.le_trans a2 (by decide)
    · exact Nat.le_trans a0 (by decide)
    · exact a3
  have dec : N 33 w = 1 → 0 < N 34 w → N 34 w ≤ 4 → lk (dx (w + 1)) (dy (w + 1)) (st_up N 34 w (N 34 w - 1)) lv w → ∃ tl' ch' N', Dp (w + 1) C tl' N' lv ∧ e6 (me tl' N' lv) (me tl N lv) ∧ kp3 N N' ∧ ∀ post : SX → Prop, post (ss_st tl' ch' N') → ss_S (wX_depart_40 post (nI w)) tl ch N := by
    intro h1 h2 h3 h4
    exact ⟨tl, ch, _, dp_dec hw D' h4, e6_refl _, ⟨rfl, rfl, kc_r N⟩, fun post h => sx_dep_b hw h1 h2 h3 h⟩
  have lau : (N 42 w = 0 ∨ N 42 w = 4) → (N 33 w = 0 ∨ N 33 w = 1 ∧ N 34 w = 0) → N 40 w = 2 → N 36 w = 0 → 0 < N 26 w → ∃ tl' ch' N', Dp (w + 1) C tl' N' lv ∧ e6 (me tl' N' lv) (me tl N lv) ∧ kp3 N N' ∧ ∀ post : SX → Prop, post (ss_st tl' ch' N') → ss_S (wX_depart_40 post (nI w)) tl ch N := by
    intro p04 hb l40 a36 q0
    have tl20 := I.1.2.2.2.2.2.2.2.2.2
    obtain ⟨r1, r2, r3, r4⟩ := I.1.2.2.2.2.2.2.2.2.1
    have s6 : N 25 w < 6 := L.2.2.2.2.2.2.1
    have ql4 := r1 (6 * w + N 25 w) (by omega)
    have sb1 := L.2.2.1
    have B : ∀ k, k < 1 + N 28 (6 * w + N 25 w) → sx_dd N w 37 k < 256 := by
      intro k hk
      show ub_bl (ub_un (N 37) 0 (N 32 w)) 1 (N 28 (6 * w + N 25 w)) (fun j => N 27 (4 * (6 * w + N 25 w) + j)) k < 256
      by_cases e : k = 0
      · rw [ub_bl_out (by omega), e, ub_s]; omega
      · rw [show k = 1 + (k - 1) by omega, ub_bl_in (by omega)]
        exact r2 _ (by omega)
    obtain ⟨tl', ch', N1, hl, hwp⟩ := sx_launch (N := sx_dd N w) (L := 1 + N 28 (6 * w + N 25 w)) (tl := tl) ch hw (by omega) n2 tl20 B
    obtain ⟨c, gd, ⟨f1, f2, f3, f4, f5, f6⟩, htl⟩ := lau_lfr (N := sx_dd N w) (L := 1 + N 28 (6 * w + N 25 w)) hw (by omega) n2 B hl
    have b0 : sx_dd N w 37 0 = N 32 w := by
      show ub_bl (ub_un (N 37) 0 (N 32 w)) 1 (N 28 (6 * w + N 25 w)) (fun j => N 27 (4 * (6 * w + N 25 w) + j)) 0 = _
      rw [ub_bl_out (by omega), ub_s]
    have bk : ∀ j, j < N 28 (6 * w + N 25 w) → sx_dd N w 37 (1 + j) = N 27 (4 * (6 * w + N 25 w) + j) := by
      intro j hj
      show ub_bl (ub_un (N 37) 0 (N 32 w)) 1 (N 28 (6 * w + N 25 w)) (fun j => N 27 (4 * (6 * w + N 25 w) + j)) (1 + j) = _
      exact ub_bl_in hj
    have f2' : N1 29 = ub_un (N 29) w (N 29 w + c) := f2
    have main : ∀ (ph4 l5 : Nat), (gd ∧ ph4 = 1 ∧ l5 = N 40 w ∨ ¬ gd ∧ ph4 = 4 ∧ l5 = N 40 w + 5) → Dp (w + 1) C tl' (st_up (st_up N1 42 w ph4) 40 w l5) lv ∧ e6 (me tl' (st_up (st_up N1 42 w ph4) 40 w l5) lv) (me tl N lv) ∧ kp3 N (st_up (st_up N1 42 w ph4) 40 w l5) := by
      intro ph4 l5 cs
      generalize hN' : st_up (st_up N1 42 w ph4) 40 w l5 = N'
      have g42 : N' 42 = ub_un (N 42) w ph4 := by
        rw [← hN']
        show ub_un (N1 42) _ _ = _
        rw [f1 42 (by decide) (by decide) (by decide) (by decide)]; rfl
      have g40 : N' 40 = ub_un (N 40) w l5 := by
        rw [← hN']
        show ub_un (N1 40) _ _ = _
        rw [f1 40 (by decide) (by decide) (by decide) (by decide)]; rfl
      have g33 : N' 33 = ub_un (N 33) w 1 := by
        rw [← hN']
        show N1 33 = _
        rw [f1 33 (by decide) (by decide) (by decide) (by decide)]; rfl
      have g34 : N' 34 = ub_un (N 34) w 4 := by
        rw [← hN']
        show N1 34 = _
        rw [f1 34 (by decide) (by decide) (by decide) (by decide)]; rfl
      have g29 : N' 29 = ub_un (N 29) w (N 29 w + c) := by
        rw [← hN']
        exact f2'
      have g30 : N' 30 = N1 30 := by rw [← hN']; rfl
      have g31 : N' 31 = N1 31 := by rw [← hN']; rfl
      have go : ∀ i, i ≠ 29 → i ≠ 30 → i ≠ 31 → i ≠ 33 → i ≠ 34 → i ≠ 37 → i ≠ 40 → i ≠ 42 → N' i = N i := by
        intro i a1 a2 a3 a4 a5 a6 a7 a8
        rw [← hN', ss_up_n a7, ss_up_n a8, f1 i a1 a2 a3 a6]
        unfold sx_dd sx_dd0
        rw [ss_up_n a5, ss_up_n a4, bl_o a6, ss_up_n a6]
      have gN : ∀ i, i ≠ 29 → i ≠ 30 → i ≠ 31 → i ≠ 33 → i ≠ 34 → i ≠ 36 → i ≠ 37 → i ≠ 40 → i ≠ 42 → N' i = N i := fun i a1 a2 a3 a4 a5 _ a7 a8 a9 => go i a1 a2 a3 a4 a5 a7 a8 a9
      have eg : ∀ v f, fr_g N' v f ↔ fr_g N1 v f := fun v f => by unfold fr_g; rw [g30, g31]
      have old : ∀ v f, v < 4 → f < N 29 v → (fr_g N' v f ↔ fr_g N v f) ∧ N' 31 (4 * v + f) = N 31 (4 * v + f) ∧ (∀ j, j < 6 → N' 30 (6 * (4 * v + f) + j) = N 30 (6 * (4 * v + f) + j)) ∧ fr_1 C N lv v f := by
        intro v f hv hf
        have F := (I.1.2.1 v hv).1 f (Nat.zero_le _) hf
        have l4 := r4 v hv
        have z := f4 v f hv (by omega) (by
          by_cases e : v = w
          · subst e; exact Or.inr hf
          · exact Or.inl e)
        have z1 : N' 31 (4 * v + f) = N 31 (4 * v + f) := by rw [g31]; exact z.1
        have z2 : ∀ j, j < 6 → N' 30 (6 * (4 * v + f) + j) = N 30 (6 * (4 * v + f) + j) := fun j hj => by rw [g30]; exact z.2 j hj
        exact ⟨fg_cg F.2.1 F.1 z1 z2, z1, z2, F⟩
      have new : ∀ f, N 29 w ≤ f → f < N 29 w + c → N' 31 (4 * w + f) = 1 + N 28 (6 * w + N 25 w) + 1 ∧ (∀ j, j < 1 + N 28 (6 * w + N 25 w) + 1 → N' 30 (6 * (4 * w + f) + j) < 256) ∧ (gd → fr_g N' w f ∧ ∀ j, j < 1 + N 28 (6 * w + N 25 w) → N' 30 (6 * (4 * w + f) + j) = sx_dd N w 37 j) ∧ (¬ gd → ¬ fr_g N' w f) := by
        intro f h1 h2
        obtain ⟨s1, s2, s3, s4⟩ := f5 f h1 h2
        exact ⟨by rw [g31]; exact s1, by rw [g30]; exact s2, fun g => ⟨(eg w f).mpr (s3 g).1, by rw [g30]; exact (s3 g).2⟩, fun g q => s4 g ((eg w f).mp q)⟩
      have h32 := go 32 (by decide) (by decide) (by decide) (by decide) (by decide) (by decide) (by decide) (by decide)
      have h41 := go 41 (by decide) (by decide) (by decide) (by decide) (by decide) (by decide) (by decide) (by decide)
      have h49 := go 49 (by decide) (by decide) (by decide) (by decide) (by decide) (by decide) (by decide) (by decide)
      have h25 := go 25 (by decide) (by decide) (by decide) (by decide) (by decide) (by decide) (by decide) (by decide)
      have h26 := go 26 (by decide) (by decide) (by decide) (by decide) (by decide) (by decide) (by decide) (by decide)
      have h35 := go 35 (by decide) (by decide) (by decide) (by decide) (by decide) (by decide) (by decide) (by decide)
      have h36 := go 36 (by decide) (by decide) (by decide) (by decide) (by decide) (by decide) (by decide) (by decide)
      have p1 : ph4 = 1 → gd := fun q => by rcases cs with h | h; exact h.1; omega
      have pp : ph4 = 1 ∨ ph4 = 4 := by rcases cs with h | h; exact Or.inl h.2.1; exact Or.inr h.2.1
      have gp : gd → ph4 = 1 := fun q => by rcases cs with h | h; exact h.2.1; exact absurd q h.1
      have fd : ∀ f, N 29 w ≤ f → f < N 29 w + c → gd → fr_d C N' lv w f ∧ fr_g N' w f ∧ N' 30 (6 * (4 * w + f)) = N 32 w := by
        intro f q1 q2 hg
        obtain ⟨s1, s2, s3, s4⟩ := new f q1 q2
        have e0 := (s3 hg).2 0 (by omega)
        rw [Nat.add_zero, b0] at e0
        refine ⟨⟨by rw [h32]; exact e0, Or.inl (by rw [g42, ub_s]; exact gp hg), fun _ hdel => ?_⟩, (s3 hg).1, e0⟩
        rw [h41] at hdel
        have l1 := L.1
        cases hlv : lv w with
        | nil =>
          rw [hlv, List.length_nil] at l1
          omega
        | cons X r =>
          have Qo := I.1.2.2.1 w hw 0 X (by rw [hlv]; rfl)
          rw [hdel, Nat.add_zero, Nat.add_zero, Nat.mod_eq_of_lt s6] at Qo
          refine ⟨X, r, rfl, by rw [s1, Qo.1]; omega, fun j hj => ?_⟩
          rw [(s3 hg).2 (1 + j) (by rw [Qo.1]; omega), bk j (by rw [Qo.1]; omega), h49]
          exact Qo.2 j hj
      refine ⟨⟨?_, ?_, ?_, ?_⟩, ?_, ?_⟩
      · refine dp_core (N := N) gN ?_ ?_ ?_ ?_ ?_ I
        · intro v hv
          by_cases e : v = w
          · subst e
            unfold lk at L ⊢
            rw [g42, g40, g33, g34, ub_s, ub_s, ub_s, ub_s, h25, h26, h32, h35, h36, h41, xw.1]
            refine ⟨L.1, L.2.1, L.2.2.1, L.2.2.2.1, L.2.2.2.2.1, L.2.2.2.2.2.1, L.2.2.2.2.2.2.1, ?_⟩
            rcases cs with h | h
            · exact Or.inr (Or.inl ⟨h.2.1, rfl, rfl, by omega, a36, q0⟩)
            · exact Or.inr (Or.inr (Or.inr (Or.inr ⟨h.2.1, rfl, by omega, Nat.le_refl _, a36, q0⟩)))
          · exact lk_cg (N := N) (by rw [h25]) (by rw [h26]) (by rw [h32]) (by rw [g33, ub_n e]) (by rw [g34, ub_n e]) (by rw [h35]) (by rw [h36]) (by rw [g40, ub_n e]) (by rw [h41]) (by rw [g42, ub_n e]) rfl (dx_n w hw v hv e) rfl (I.1.1 v hv)
        · intro v hv
          have Fv := I.1.2.1 v hv
          by_cases e : v = w
          · subst e
            refine ⟨fun f _ hf => ?_, fun q => ?_, fun q => ?_⟩
            · rw [g29, ub_s] at hf
              rcases (by omega : f < N 29 v ∨ N 29 v ≤ f) with o | o
              · obtain ⟨z1, z2, z3, F1, F2, F3, F4⟩ := old v f hv o
                refine ⟨by rw [z2]; exact F1, by rw [z2]; exact F2, fun j hj => by rw [z2] at hj; rw [z3 j (by omega)]; exact F3 j hj, fun g => ?_⟩
                have z30 := z3 0 (by omega)
                rw [Nat.add_zero] at z30
                rcases F4 (z1.mp g) with A | ⟨u, A1, A2, A3⟩
                · have := A.2.1; omega
                · refine Or.inr ⟨u, A1, by rw [z30]; exact A2, ?_⟩
                  rw [g42, h32, ub_n x2]
                  exact A3
              · obtain ⟨s1, s2, s3, s4⟩ := new f o hf
                refine ⟨by omega, by omega, by rw [s1]; exact s2, fun g => ?_⟩
                have hg : gd := Classical.byContradiction (fun q => s4 q g)
                exact Or.inl (fd f o hf hg).1
            · rw [g42, ub_s] at q
              have hg := p1 q
              have c1 := f6 hg
              obtain ⟨_, d2, d3⟩ := fd (N 29 v) (Nat.le_refl _) (by omega) hg
              refine ⟨N 29 v, Nat.zero_le _, by rw [g29, ub_s]; omega, d2, ?_⟩
              rw [d3]; omega
            · rw [g42, ub_s] at q; omega
          · by_cases e2 : v = w ^^^ 1
            · subst e2
              refine ⟨fun f _ hf => ?_, fun q => ?_, fun q => ?_⟩
              · rw [g29, ub_n e] at hf
                obtain ⟨z1, z2, z3, F1, F2, F3, F4⟩ := old (w ^^^ 1) f hv hf
                refine ⟨by rw [z2]; exact F1, by rw [z2]; exact F2, fun j hj => by rw [z2] at hj; rw [z3 j (by omega)]; exact F3 j hj, fun g => ?_⟩
                have gN' := z1.mp g
                have qq := Q (w ^^^ 1) hv f hf gN'
                have z30 := z3 0 (by omega)
                rw [Nat.add_zero] at z30
                rcases F4 gN' with A | ⟨u, A1, A2, A3⟩
                · refine Or.inl ⟨by rw [z30, h32]; exact A.1, by rw [g42, ub_n e]; exact A.2.1, fun c1 c2 => ?_⟩
                  rw [g42, ub_n e] at c1
                  rw [h41] at c2
                  obtain ⟨X, r, B1, B2, B3⟩ := A.2.2 c1 c2
                  refine ⟨X, r, B1, by rw [z2]; exact B2, fun j hj => ?_⟩
                  rw [z3 (1 + j) (by omega), h49]
                  exact B3 j hj
                · have := qq.2 (by omega)
                  rw [x1] at this
                  omega
              · rw [g42, ub_n e] at q
                obtain ⟨f, a1, a2, a3, a4⟩ := Fv.2.1 q
                obtain ⟨z1, z2, z3, _⟩ := old _ f hv a2
                refine ⟨f, Nat.zero_le _, by rw [g29, ub_n e]; exact a2, z1.mpr a3, ?_⟩
                have := z3 0 (by omega)
                rw [Nat.add_zero] at this
                rw [this]; exact a4
              · rw [g42, ub_n e] at q
                obtain ⟨f, a1, a2, a3, a4⟩ := Fv.2.2 q
                rw [x1] at a2 a3 a4 ⊢
                obtain ⟨z1, z2, z3, _⟩ := old _ f hw a2
                refine ⟨f, Nat.zero_le _, by rw [g29, ub_s]; omega, z1.mpr a3, ?_⟩
                have := z3 0 (by omega)
                rw [Nat.add_zero] at this
                rw [this]; exact a4
            · have e3 : v ^^^ 1 ≠ w := fun q => e2 (by rw [← q]; exact (xx1 v hv).1.symm)
              refine ⟨fun f _ hf => ?_, fun q => ?_, fun q => ?_⟩
              · rw [g29, ub_n e] at hf
                obtain ⟨z1, z2, z3, F1, F2, F3, F4⟩ := old v f hv hf
                refine ⟨by rw [z2]; exact F1, by rw [z2]; exact F2, fun j hj => by rw [z2] at hj; rw [z3 j (by omega)]; exact F3 j hj, fun g => ?_⟩
                have z30 := z3 0 (by omega)
                rw [Nat.add_zero] at z30
                rcases F4 (z1.mp g) with A | ⟨u, A1, A2, A3⟩
                · refine Or.inl ⟨by rw [z30, h32]; exact A.1, by rw [g42, ub_n e]; exact A.2.1, fun c1 c2 => ?_⟩
                  rw [g42, ub_n e] at c1
                  rw [h41] at c2
                  obtain ⟨X, r, B1, B2, B3⟩ := A.2.2 c1 c2
                  refine ⟨X, r, B1, by rw [z2]; exact B2, fun j hj => ?_⟩
                  rw [z3 (1 + j) (by omega), h49]
                  exact B3 j hj
                · refine Or.inr ⟨u, A1, by rw [z30]; exact A2, ?_⟩
                  rw [g42, h32, ub_n e3]
                  exact A3
              · rw [g42, ub_n e] at q
                obtain ⟨f, a1, a2, a3, a4⟩ := Fv.2.1 q
                obtain ⟨z1, z2, z3, _⟩ := old v f hv a2
                refine ⟨f, Nat.zero_le _, by rw [g29, ub_n e]; exact a2, z1.mpr a3, ?_⟩
                have := z3 0 (by omega)
                rw [Nat.add_zero] at this
                rw [this]; exact a4
              · rw [g42, ub_n e] at q
                obtain ⟨f, a1, a2, a3, a4⟩ := Fv.2.2 q
                obtain ⟨z1, z2, z3, _⟩ := old (v ^^^ 1) f (xx1 v hv).2.2 a2
                refine ⟨f, Nat.zero_le _, by rw [g29, ub_n e3]; exact a2, z1.mpr a3, ?_⟩
                have := z3 0 (by omega)
                rw [Nat.add_zero] at this
                rw [this]; exact a4
        · have T := I.1.2.2.2.2.2.2.1
          have k16 := go 16 (by decide) (by decide) (by decide) (by decide) (by decide) (by decide) (by decide) (by decide)
          have k46 := go 46 (by decide) (by decide) (by decide) (by decide) (by decide) (by decide) (by decide) (by decide)
          have k47 := go 47 (by decide) (by decide) (by decide) (by decide) (by decide) (by decide) (by decide) (by decide)
          have k11 := go 11 (by decide) (by decide) (by decide) (by decide) (by decide) (by decide) (by decide) (by decide)
          have k12 := go 12 (by decide) (by decide) (by decide) (by decide) (by decide) (by decide) (by decide) (by decide)
          rcases cs with h | h
          · have h40 : N' 40 = N 40 := by rw [g40, h.2.2, ub_id rfl]
            exact tm_same h40 h41 h26 k16 k46 k47 k11 k12 (tm_less (by rcases htl with q | q; exact q.2; exact absurd h.1 q.1) (ss4 I.1) T)
          · exact tm_tr hw (by rcases htl with q | q; exact absurd q.1 h.1; exact q.2) (by rw [g40, h.2.2]) h41 h26 k16 k46 k47 k11 k12 (ss4 I.1) T
        · intro v hv
          rw [g29]
          by_cases e : v = w
          · rw [e, ub_s]; omega
          · rw [ub_n e]; exact r4 v hv
        · rcases htl with q | q <;> omega
      · intro v hv
        rw [g42, g29]
        refine ⟨fun q => ?_, fun q => ?_, fun q => ?_⟩
        · by_cases e : v = w
          · omega
          · rw [ub_n e] at q
            have := (PH v hv).1 q
            omega
        · by_cases e : v = w
          · rw [e, ub_s] at q; omega
          · rw [ub_n e] at q; exact (PH v hv).2.1 q
        · rw [ub_n (by omega)]; exact (PH v hv).2.2 (by omega)
      · intro v hv f hf g
        rw [g29] at hf
        by_cases e : v = w
        · subst e
          rw [ub_s] at hf
          rcases (by omega : f < N 29 v ∨ N 29 v ≤ f) with o | o
          · obtain ⟨z1, z2, z3, _⟩ := old v f hv o
            have z30 := z3 0 (by omega)
            rw [Nat.add_zero] at z30
            have qq := Q v hv f o (z1.mp g)
            rw [z30, g42, ub_n x2]
            exact ⟨fun q => by have := qq.1 q; omega, qq.2⟩
          · obtain ⟨s1, s2, s3, s4⟩ := new f o hf
            have hg : gd := Classical.byContradiction (fun q => s4 q g)
            have b := (fd f o hf hg).2.2
            refine ⟨fun _ => by rw [g42, ub_s]; exact gp hg, fun q => by omega⟩
        · rw [ub_n e] at hf
          obtain ⟨z1, z2, z3, _⟩ := old v f hv hf
          have z30 := z3 0 (by omega)
          rw [Nat.add_zero] at z30
          have qq := Q v hv f hf (z1.mp g)
          rw [z30, g42, ub_n e]
          refine ⟨qq.1, fun q => ?_⟩
          have := qq.2 q
          by_cases e3 : v ^^^ 1 = w
          · rw [e3] at this; omega
          · rw [ub_n e3]; exact this
      · intro v hv h
        rw [g29] at h
        rw [g42]
        by_cases e : v = w
        · rw [e]
          exact Or.inl (by rw [ub_s]; omega)
        · rw [ub_n e] at h
          by_cases e3 : v ^^^ 1 = w
          · rw [e3]
            exact Or.inr (by rw [ub_s]; omega)
          · rw [ub_n e, ub_n e3]
            exact Q2 v hv h
      · refine me_dp gN ?_
        rcases cs with h | h
        · exact Or.inl ⟨by rw [g40, h.2.2, ub_id rfl], by rcases htl with q | q; exact q.2; exact absurd h.1 q.1⟩
        · refine Or.inr ?_
          rcases htl with q | q
          · exact absurd q.1 h.1
          · omega
      · exact ⟨go 16 (by decide) (by decide) (by decide) (by decide) (by decide) (by decide) (by decide) (by decide), h26, go 7 (by decide) (by decide) (by decide) (by decide) (by decide) (by decide) (by decide) (by decide), go 24 (by decide) (by decide) (by decide) (by decide) (by decide) (by decide) (by decide) (by decide), h49, go 50 (by decide) (by decide) (by decide) (by decide) (by decide) (by decide) (by decide) (by decide)⟩
    have wp : ∀ post : SX → Prop, post (ss_st tl' ch' N1) → ss_S (wX_depart_40 post (nI w)) tl ch N := fun post h => sx_dep_70 hw hb (sx_dep_d hw q0 c6 s6 ql4 (hwp post h))
    by_cases g : gd
    · obtain ⟨m1, m2, m3⟩ := main 1 _ (Or.inl ⟨g, rfl, rfl⟩)
      exact ⟨tl', ch', _, m1, m2, m3, fun post h => wp post h⟩
    · obtain ⟨m1, m2, m3⟩ := main 4 _ (Or.inr ⟨g, rfl, rfl⟩)
      exact ⟨tl', ch', _, m1, m2, m3, fun post h => wp post h⟩
  have L' := L
  unfold lk at L'
  rw [xw.2] at L'
  rcases L'.2.2.2.2.2.2.2 with h | h | h | h | h
  · by_cases z : N 26 w = 0
    · refine ⟨tl, ch, N, dp_lk hw D' ?_, e6_refl _, ⟨rfl, rfl, kc_r N⟩, fun post q => sx_dep_70 hw (Or.inl h.2.1) (sx_dep_e hw z q)⟩
      unfold lk
      exact ⟨L.1, L.2.1, L.2.2.1, L.2.2.2.1, L.2.2.2.2.1, L.2.2.2.2.2.1, L.2.2.2.2.2.2.1, Or.inl ⟨h.1, h.2.1, h.2.2.1, h.2.2.2.1, h.2.2.2.2.1, h.2.2.2.2.2.1, fun _ => z⟩⟩
    · exact lau (Or.inl h.1) (Or.inl h.2.1) h.2.2.2.1 h.2.2.2.2.2.1 (by omega)
  · have := phw.1 h.1
    omega
  · refine dec h.2.1 (by omega) (by omega) ?_
    unfold lk
    refine ⟨L.1, L.2.1, L.2.2.1, L.2.2.2.1, L.2.2.2.2.1, L.2.2.2.2.2.1, L.2.2.2.2.2.2.1, Or.inr (Or.inr (Or.inl ⟨h.1, h.2.1, ?_, h.2.2.2.1, h.2.2.2.2.1, h.2.2.2.2.2.1, h.2.2.2.2.2.2⟩))⟩
    show ub_un (N 34) w (N 34 w - 1) w + _ = 4
    rw [ub_s, xw.1]; omega
  · have yw : dy (w + 1) w = 1 := by
      have := phw.2.1 h.1
      unfold dy
      rw [if_pos this]
    have b4 := h.2.2.2.1 rfl
    rw [yw] at b4
    refine dec h.2.1 (by omega) (by omega) ?_
    unfold lk
    refine ⟨L.1, L.2.1, L.2.2.1, L.2.2.2.1, L.2.2.2.2.1, L.2.2.2.2.2.1, L.2.2.2.2.2.2.1, Or.inr (Or.inr (Or.inr (Or.inl ⟨h.1, h.2.1, fun _ => ?_, fun q => ?_, h.2.2.2.2.1, h.2.2.2.2.2.1, h.2.2.2.2.2.2⟩)))⟩
    · show ub_un (N 34) w (N 34 w - 1) w = 3
      rw [ub_s]; omega
    · rw [xw.1] at q; omega
  · by_cases z : N 34 w = 0
    · exact lau (Or.inr h.1) (Or.inr ⟨h.2.1, z⟩) (by omega) h.2.2.2.2.1 h.2.2.2.2.2
    · refine dec h.2.1 (by omega) h.2.2.2.1 ?_
      unfold lk
      refine ⟨L.1, L.2.1, L.2.2.1, L.2.2.2.1, L.2.2.2.2.1, L.2.2.2.2.2.1, L.2.2.2.2.2.2.1, Or.inr (Or.inr (Or.inr (Or.inr ⟨h.1, h.2.1, ?_, ?_, h.2.2.2.2.1, h.2.2.2.2.2⟩)))⟩
      · show N 40 w = ub_un (N 34) w (N 34 w - 1) w + 2 + _
        rw [ub_s, xw.1]; omega
      · show ub_un (N 34) w (N 34 w - 1) w ≤ 4
        rw [ub_s]; omega
end
section
/-! a tick begins: time passes -/
def Bd (C : Nat → Nat → Nat) (tl : Nat) (N : Nat → Nat → Nat) (lv : Lv) : Prop := Dp 4 C tl N lv ∧ ∀ d, d < 2 → bnd N d
def tN (N : Nat → Nat → Nat) : Nat → Nat → Nat := fun i => cond (Nat.beq i 40) (fun v => if N 42 v = 0 then N 40 v else N 40 v - 1) (cond (Nat.beq i 47) (fun s => N 13 s - 1) (N i))
theorem tN_40 {N : Nat → Nat → Nat} {v : Nat} : tN N 40 v = if N 42 v = 0 then N 40 v else N 40 v - 1 := rfl
theorem tN_47 {N : Nat → Nat → Nat} {s : Nat} : tN N 47 s = N 13 s - 1 := rfl
theorem d4 : ∀ v, v < 4 → dx 4 v = 1 ∧ dy 4 v = 1 := by decide
theorem tl_dec {P P' : Nat → Nat → Prop} {ap ap' g g' : Nat} {l : List Pc} (h : l ≠ [] → g' + 1 ≤ g) (ha : ap' ≤ ap) (ok : ∀ s h h', h' + 1 ≤ h → P s h → P' s h') (hs : ∀ x, x ∈ l → pq_s x < 4) (T : tm_l P ap g l) : tm_l P' ap' g' l := by
  cases l with
  | nil => trivial
  | cons x r =>
    have h' := h (fun c => by cases c)
    exact tm_imp (fun s j _ k => ok s _ _ (by omega) k) (fun s j _ k => ok s _ _ (by omega) k) hs T
theorem kb_zero2 {x y lo hi : Nat → Nat} {C N : Nat → Nat → Nat} {lv : Lv} {tl s : Nat} (s4 : s < 4) (I : Inv x y lo hi C tl N lv) (h0 : ∀ h, 2 ≤ h → ¬ tm_ok tl N s h) (hl : ∀ v, v < 4 → 1 ≤ N 40 v ∧ 2 ≤ N 40 v + 2 * N 41 v) : kb_k N lv s = 0 := by
  obtain ⟨I1, I2, I3, I4, I5, I6, I7, I8, I9, I10⟩ := I
  have a16 := (I5 s s4).2.1.2.2.2.2.1
  unfold tm tm_d at I7
  obtain ⟨⟨a1, a2, a3, a4, a5⟩, ⟨b1, b2, b3, b4, b5⟩, _⟩ := I7
  have ll : ∀ (l : List Pc) (ap g : Nat), 2 ≤ g → tm_l (tm_ok tl N) ap g l → cn s l = 0 := by
    intro l
    induction l with
    | nil => exact fun _ _ _ _ => rfl
    | cons x r ih =>
      intro ap g hg T
      have i := ih ap (g + 2) (by omega) T.2
      show (if pq_p x + 1 = pq_n x ∧ pq_s x = s then 1 else 0) + cn s r = 0
      rw [i, if_neg]
      rintro ⟨a, b⟩
      have z := T.1 a
      rw [b] at z
      split at z
      · exact h0 _ hg z
      · exact h0 _ (by omega) z
  have z2 : cn s (lv 2) = 0 := ll _ _ _ (hl 2 (by omega)).2 a1
  have z0 : cn s (lv 0) = 0 := ll _ _ _ (by omega) a2
  have z1 : cn s (lv 1) = 0 := ll _ _ _ (hl 1 (by omega)).2 b1
  have z3 : cn s (lv 3) = 0 := ll _ _ _ (by omega) b2
  have zz : ∀ (l : List Pc) (g : Nat), 1 ≤ g → (∀ x, x ∈ l → tm_ok tl N (pq_s x) (g + 1)) → cn s l = 0 := by
    intro l g hg h
    induction l with
    | nil => rfl
    | cons u r ih =>
      have i := ih (fun z hz => h z (List.mem_cons_of_mem _ hz))
      show (if pq_p u + 1 = pq_n u ∧ pq_s u = s then 1 else 0) + cn s r = 0
      rw [i, if_neg]
      rintro ⟨_, b⟩
      have z := h u (List.mem_cons_self ..)
      rw [b] at z
      exact h0 _ (by omega) z
  have z4 : cn s (lv 4) = 0 := zz (lv 4) (N 40 2) (hl 2 (by omega)).1 a3
  have z5 : cn s (lv 5) = 0 := zz (lv 5) (N 40 1) (hl 1 (by omega)).1 b3
  have z16 : N 16 s = 0 := by
    rcases (by omega : N 16 s = 0 ∨ N 16 s = 1) with c | c
    · exact c
    · exfalso
      rcases (by omega : s = 0 ∨ s = 1 ∨ s = 2 ∨ s = 3) with r | r | r | r
      · subst r; exact h0 _ (by omega) (b4 c)
      · subst r; exact h0 _ (by omega) (b5 c)
      · subst r; exact h0 _ (by omega) (a4 c)
      · subst r; exact h0 _ (by omega) (a5 c)
  unfold kb_k
  omega
/-- drops to come don't grow with time -/
theorem md_dec {c lr le de lr' le' : Nat} (hr : lr' = lr ∧ c = 0 ∧ lr = 2 ∨ lr' + 1 = lr) (he : le' = le ∨ le' + 1 = le) : (c + (lr' + 3 - le' - 2 * de) / 2) - 4 ≤ (c + (lr + 3 - le - 2 * de) / 2) - 4 := by
  rcases hr with ⟨h1, h2, h3⟩ | h1
  · subst h1 h2 h3
    omega
  · rcases he with h2 | h2 <;> omega
theorem time_ev {C N : Nat → Nat → Nat} {lv : Lv} {tl : Nat} (B : Bd C tl N lv) : Iv0 (fun _ => 0) (N 29) C tl (tN N) lv ∧ e6 (me tl (tN N) lv) (me tl N lv) ∧ ((∃ v, v < 4 ∧ N 42 v ≠ 0) ∨ (∃ s, s < 4 ∧ 0 < N 13 s) → l6 (me tl (tN N) lv) (me tl N lv)) := by
  obtain ⟨⟨⟨I, Ia⟩, PH, Q, Q2⟩, BN⟩ := B
  have I0 := I
  obtain ⟨I1, I2, I3, I4, I5, I6, I7, I8, I9, I10⟩ := I
  -- the lines at a tick's end
  have LN : ∀ v, v < 4 → (N 42 v = 0 ∧ N 26 v = 0 ∧ N 40 v = 2 ∧ N 41 v = 0 ∧ lv v = [] ∨ N 42 v ≠ 0 ∧ 1 ≤ N 40 v) ∧ 2 ≤ N 40 v + 2 * N 41 v ∧ N 26 v = N 41 v + (lv v).length := by
    intro v hv
    have L := I1 v hv
    unfold lk at L
    rw [(d4 v hv).1, (d4 v hv).2] at L
    have l1 := L.1
    refine ⟨?_, ?_, l1⟩
    · rcases L.2.2.2.2.2.2.2 with h | h | h | h | h
      · have z := h.2.2.2.2.2.2 rfl
        refine Or.inl ⟨h.1, z, h.2.2.2.1, h.2.2.2.2.1, ?_⟩
        exact List.length_eq_zero_iff.mp (by omega)
      · exact Or.inr ⟨by omega, by omega⟩
      · omega
      · exact Or.inr ⟨by omega, by omega⟩
      · exact Or.inr ⟨by omega, by omega⟩
    · rcases L.2.2.2.2.2.2.2 with h | h | h | h | h <;> omega
  have le40 : ∀ v, tN N 40 v ≤ N 40 v := by
    intro v
    rw [tN_40]
    split <;> omega
  have ni : ∀ v, v < 4 → 0 < N 26 v → tN N 40 v + 1 = N 40 v := by
    intro v hv h
    rcases (LN v hv).1 with c | c
    · omega
    · rw [tN_40, if_neg c.1]; omega
  have nl : ∀ v, v < 4 → lv v ≠ [] → tN N 40 v + 1 = N 40 v := by
    intro v hv h
    refine ni v hv ?_
    have := (LN v hv).2.2
    have : (lv v).length ≠ 0 := fun c => h (List.length_eq_zero_iff.mp c)
    omega
  have mxl : ∀ a b : Nat, a ≤ b → max a 2 ≤ max b 2 := by intro a b h; omega
  have aw : ∀ s, s < 4 → N 47 s = N 13 s := Ia
  have ok : ∀ s, s < 4 → ∀ h h', h' + 1 ≤ h → tm_ok tl N s h → tm_ok tl (tN N) s h' := by
    intro s hs h h' hh k
    unfold tm_ok at k ⊢
    show (N 13 s - 1 = 0 ∧ N 11 s = 0 ∧ 1 ≤ N 12 s) ∨ 5 * tl + h' ≤ N 13 s - 1
    rw [aw s hs] at k
    omega
  have K1 : ∀ s, s < 4 → N 13 s = 1 → kb_k N lv s = 0 := by
    intro s hs h1
    refine kb_zero2 hs I0 (fun h hh c => ?_) (fun v hv => ⟨?_, (LN v hv).2.1⟩)
    · unfold tm_ok at c
      rw [aw s hs] at c
      omega
    · rcases (LN v hv).1 with c | c <;> omega
  have s4l := ss4 I0
  have cap : ∀ d, d < 2 → N 26 (3 * d) ≤ 6 ∧ (lv (4 + d) ≠ [] → N 26 (2 - d) = 4) ∧ ∀ x, x ∈ lv (4 + d) → pq_s x < 4 := by
    intro d hd
    have D := I6 d hd
    unfold dr at D
    exact ⟨D.2.2.2.2.2.2.2.2.2.1, D.2.2.2.2.2.2.2.1, fun x hx => (D.2.2.2.2.2.2.1 x hx).1.2.1⟩
  have okl : ∀ (ap ap' g g' : Nat) (l : List Pc), (l ≠ [] → g' + 1 ≤ g) → ap' ≤ ap → (∀ x, x ∈ l → pq_s x < 4) → tm_l (tm_ok tl N) ap g l → tm_l (tm_ok tl (tN N)) ap' g' l := by
    intro ap ap' g g' l h ha hs T
    cases l with
    | nil => trivial
    | cons x r =>
      have h' := h (fun c => by cases c)
      exact tm_imp (fun s j hs4 k => ok s hs4 _ _ (by omega) k) (fun s j hs4 k => ok s hs4 _ _ (by omega) k) hs T
  have am : ∀ d, d < 2 → tm_a (tN N) d ≤ tm_a N d := by
    intro d hd
    unfold tm_a
    have m1 := mxl _ _ (le40 (3 - 3 * d))
    have m2 := mxl _ _ (le40 (1 + d))
    omega
  have tmd : ∀ d, d < 2 → tm_d tl N lv d → tm_d tl (tN N) lv d := by
    intro d hd T
    obtain ⟨T1, T2, T3, T4, T5⟩ := T
    have m1 := mxl _ _ (le40 (2 - d))
    have b5 := BN d hd
    refine ⟨okl _ _ _ _ _ (fun h => ?_) (am d hd) (s4l _ (by omega)) T1, okl _ _ _ _ _ (fun h => ?_) (am d hd) (s4l _ (by omega)) T2, fun x hx => ?_, fun c => ?_, fun c => ?_⟩
    · have := nl (2 - d) (by omega) h
      show tN N 40 (2 - d) + 2 * N 41 (2 - d) + 1 ≤ _
      omega
    · have := nl (3 * d) (by omega) h
      show tN N 40 (3 * d) + 2 * N 41 (3 * d) + max (tN N 40 (2 - d)) 2 + 5 + 1 ≤ _
      omega
    · have c4 := (cap d hd).2.1 (fun c => by rw [c] at hx; cases hx)
      have := ni (2 - d) (by omega) (by omega)
      refine ok _ ((cap d hd).2.2 x hx) _ _ ?_ (T3 x hx)
      omega
    · have := ni (3 * d) (by omega) (by have := b5 (Or.inl c); omega)
      refine ok _ (by omega) _ _ ?_ (T4 c)
      show tN N 40 (3 * d) + 2 * N 26 (3 * d) + max (tN N 40 (2 - d)) 2 + 5 + 1 ≤ _
      omega
    · have := ni (3 * d) (by omega) (by have := b5 (Or.inr c); omega)
      refine ok _ (by omega) _ _ ?_ (T5 c)
      show tN N 40 (3 * d) + 2 * N 26 (3 * d) + max (tN N 40 (2 - d)) 2 + 5 + 2 * (3 - N 46 d) + 1 ≤ _
      omega
  have z0 := le40 0
  have z1 := le40 1
  have z2 := le40 2
  have z3 := le40 3
  refine ⟨⟨⟨?_, I2, I3, I4, I5, I6, ⟨tmd 0 (by omega) I7.1, tmd 1 (by omega) I7.2.1, ?_⟩, ?_, I9, I10⟩, fun s _ => rfl, ?_⟩, ?_⟩
  · intro v hv
    have L := I1 v hv
    unfold lk at L ⊢
    rw [(d4 v hv).1, (d4 v hv).2] at L
    refine ⟨L.1, L.2.1, L.2.2.1, L.2.2.2.1, L.2.2.2.2.1, L.2.2.2.2.2.1, L.2.2.2.2.2.2.1, ?_⟩
    rw [tN_40]
    rcases L.2.2.2.2.2.2.2 with h | h | h | h | h
    · rw [if_pos h.1]
      exact Or.inl ⟨h.1, h.2.1, h.2.2.1, h.2.2.2.1, h.2.2.2.2.1, h.2.2.2.2.2.1, fun c => absurd c Nat.zero_ne_one⟩
    · rw [if_neg (by omega)]
      exact Or.inr (Or.inl ⟨h.1, h.2.1, h.2.2.1, by show N 40 v - 1 = 1 + 0; have := h.2.2.2.1; omega, h.2.2.2.2.1, h.2.2.2.2.2⟩)
    · omega
    · rw [if_neg (by omega)]
      exact Or.inr (Or.inr (Or.inr (Or.inl ⟨h.1, h.2.1, fun c => absurd c Nat.zero_ne_one, fun _ => h.2.2.1 rfl, by show N 40 v - 1 = 0; have := h.2.2.2.2.1; omega, h.2.2.2.2.2.1, h.2.2.2.2.2.2⟩)))
    · rw [if_neg (by omega)]
      exact Or.inr (Or.inr (Or.inr (Or.inr ⟨h.1, h.2.1, by show N 40 v - 1 = N 34 v + 2 + 0; have := h.2.2.1; omega, h.2.2.2.1, h.2.2.2.2.1, h.2.2.2.2.2⟩)))
  · have st := I7.2.2
    generalize tN N 40 0 = t0 at *
    generalize tN N 40 1 = t1 at *
    generalize tN N 40 2 = t2 at *
    generalize tN N 40 3 = t3 at *
    have y0 : t0 - 2 ≤ N 40 0 - 2 := by omega
    have y1 : t1 - 2 ≤ N 40 1 - 2 := by omega
    have y2 : t2 - 2 ≤ N 40 2 - 2 := by omega
    have y3 : t3 - 2 ≤ N 40 3 - 2 := by omega
    exact Nat.le_trans (Nat.add_le_add (Nat.add_le_add (Nat.add_le_add (Nat.add_le_add (Nat.le_refl _) y0) y1) y2) y3) st
  · intro s hs
    have K := I8 s hs
    have kk : kb_k (tN N) lv s = kb_k N lv s := rfl
    unfold kb at K ⊢
    rw [kk]
    show kb_k N lv s + kb_u (tN N) s ≤ 3 ∧ (N 12 s = 0 → kb_k N lv s + kb_u (tN N) s ≤ 1)
    by_cases w1 : N 13 s = 1
    · rw [K1 s hs w1]
      have uu : kb_u (tN N) s ≤ 3 ∧ (N 12 s = 0 → kb_u (tN N) s ≤ 1) := by
        unfold kb_u
        show (if 0 < N 1 s then (if N 12 s = 0 then (if N 13 s - 1 = 0 then 1 else 0) else (sx_lim N s - N 10 s + 3) / 4) else (if N 7 s = 0 ∨ N 14 s ≠ 0 then 0 else if N 13 s - 1 = 0 then 1 else 0)) ≤ 3 ∧ (N 12 s = 0 → (if 0 < N 1 s then (if N 12 s = 0 then (if N 13 s - 1 = 0 then 1 else 0) else (sx_lim N s - N 10 s + 3) / 4) else (if N 7 s = 0 ∨ N 14 s ≠ 0 then 0 else if N 13 s - 1 = 0 then 1 else 0)) ≤ 1)
        have l12 : sx_lim N s ≤ 12 := by
          have S := I5 s hs
          have u1 := S.2.1.1
          obtain ⟨s0, s3, s4', s6, s1, s9, s15, s49, t1, t2, t3, t4, t5, t6, t7, t8, t9⟩ := S.1
          unfold sx_lim
          split <;> omega
        constructor
        · split
          · split
            · split <;> omega
            · omega
          · split
            · omega
            · split <;> omega
        · intro c
          split
          · split <;> omega
          · split
            · omega
            · split <;> omega
      exact ⟨by omega, fun c => by have := uu.2 c; omega⟩
    · have uu : kb_u (tN N) s = kb_u N s := by
        have ez : (N 13 s - 1 = 0) = (N 47 s = 0) := by
          rw [aw s hs]
          exact propext ⟨fun c => by omega, fun c => by omega⟩
        unfold kb_u
        show (if 0 < N 1 s then (if N 12 s = 0 then (if N 13 s - 1 = 0 then 1 else 0) else (sx_lim N s - N 10 s + 3) / 4) else (if N 7 s = 0 ∨ N 14 s ≠ 0 then 0 else if N 13 s - 1 = 0 then 1 else 0)) = _
        by_cases z : N 47 s = 0
        · rw [if_pos (ez.mpr z), if_pos z]
        · rw [if_neg (fun c => z (ez.mp c)), if_neg z]
      rw [uu]; exact K
  · intro d hd
    unfold du
    intro c
    have := BN d hd (by
      rcases c with c | c | c
      · exact c.2
      · exact Or.inl c.1
      · exact Or.inr c.1)
    exact ⟨by show 4 ≤ N 26 (3 * d); omega, fun _ => this⟩
  · have hml : m_l (tN N) = m_l N := rfl
    have hmr : m_r (tN N) lv = m_r N lv := rfl
    have st : ∀ v, v < 4 → tN N 40 v = N 40 v ∧ N 26 v = 0 ∧ N 40 v = 2 ∨ tN N 40 v + 1 = N 40 v := by
      intro v hv
      rcases (LN v hv).1 with c | c
      · exact Or.inl ⟨by rw [tN_40, if_pos c.1], c.2.1, c.2.2.1⟩
      · exact Or.inr (by rw [tN_40, if_neg c.1]; omega)
    have st' : ∀ v, v < 4 → tN N 40 v = N 40 v ∨ tN N 40 v + 1 = N 40 v := by
      intro v hv
      rcases st v hv with c | c
      · exact Or.inl c.1
      · exact Or.inr c
    have hmd : m_d (tN N) ≤ m_d N := by
      unfold m_d
      have a := md_dec (c := N 26 2) (de := N 41 0) (st 2 (by omega)) (st' 0 (by omega))
      have b := md_dec (c := N 26 1) (de := N 41 3) (st 1 (by omega)) (st' 3 (by omega))
      exact Nat.add_le_add a b
    have hq : ∀ s, s < 4 → m_qs (tN N) lv s = m_qs N lv s := by
      intro s hs
      have e1 : bq (N 1 s = 0 ∧ N 7 s = 1 ∧ N 14 s = 0 ∧ N 13 s - 1 = 0 ∧ pt N lv s) = bq (N 1 s = 0 ∧ N 7 s = 1 ∧ N 14 s = 0 ∧ N 47 s = 0 ∧ pt N lv s) := by
        refine bq_congr ⟨fun q => ?_, fun q => ⟨q.1, q.2.1, q.2.2.1, by have := q.2.2.2.1; rw [aw s hs] at this; omega, q.2.2.2.2⟩⟩
        refine ⟨q.1, q.2.1, q.2.2.1, ?_, q.2.2.2.2⟩
        rw [aw s hs]
        rcases (by have := q.2.2.2.1; omega : N 13 s = 0 ∨ N 13 s = 1) with c | c
        · exact c
        · exfalso
          have k0 := K1 s hs c
          unfold kb_k at k0
          have zz : ∀ d, d < 2 → ∀ y, inA y (lv (6 + d)) (lv (2 - d) ++ lv (3 * d)) → pq_s y = s → False := by
            intro d hd y hy hys
            obtain ⟨m1, m2⟩ := inA_mem hy
            have : 1 ≤ cn s (lv (2 - d)) ∨ 1 ≤ cn s (lv (3 * d)) := by
              rcases List.mem_append.mp m1 with q | q
              · exact Or.inl (cn_pos q m2 hys)
              · exact Or.inr (cn_pos q m2 hys)
            rcases (by omega : d = 0 ∨ d = 1) with r | r
            · subst r
              have this' : 1 ≤ cn s (lv 2) ∨ 1 ≤ cn s (lv 0) := this
              omega
            · subst r
              have this' : 1 ≤ cn s (lv 1) ∨ 1 ≤ cn s (lv 3) := this
              omega
          rcases q.2.2.2.2 with p | p | p | ⟨y, p, r⟩ | ⟨y, p, r⟩
          · unfold sx_set at p
            omega
          · omega
          · have := p.1; omega
          · exact zz (s / 2) (by omega) y p r.2.1
          · refine zz (1 - s / 2) (by omega) y ?_ r.2.1
            rw [show 6 + (1 - s / 2) = 7 - s / 2 by omega, show 2 - (1 - s / 2) = 1 + s / 2 by omega, show 3 * (1 - s / 2) = 3 - 3 * (s / 2) by omega]
            exact p
      show 3 * (sx_lim N s - N 10 s) + 2 * m_e N lv s + bq (N 1 s = 0 ∧ N 7 s = 1 ∧ N 14 s = 0 ∧ N 13 s - 1 = 0 ∧ pt N lv s) = 3 * (sx_lim N s - N 10 s) + 2 * m_e N lv s + bq (N 1 s = 0 ∧ N 7 s = 1 ∧ N 14 s = 0 ∧ N 47 s = 0 ∧ pt N lv s)
      rw [e1]
    have hqq : m_q (tN N) lv = m_q N lv := by
      unfold m_q
      rw [hq 0 (by omega), hq 1 (by omega), hq 2 (by omega), hq 3 (by omega)]
    have w0 := aw 0 (by omega)
    have w1 := aw 1 (by omega)
    have w2 := aw 2 (by omega)
    have w3 := aw 3 (by omega)
    have hp : m_p (tN N) lv ≤ m_p N lv ∧ ((∃ v, v < 4 ∧ N 42 v ≠ 0) ∨ (∃ s, s < 4 ∧ 0 < N 13 s) → m_p (tN N) lv < m_p N lv) := by
      have e : m_p (tN N) lv + (N 40 0 + N 40 1 + N 40 2 + N 40 3 + (N 13 0 + N 13 1 + N 13 2 + N 13 3)) = m_p N lv + (tN N 40 0 + tN N 40 1 + tN N 40 2 + tN N 40 3 + ((N 13 0 - 1) + (N 13 1 - 1) + (N 13 2 - 1) + (N 13 3 - 1))) := by
        unfold m_p
        rw [w0, w1, w2, w3]
        show tN N 40 0 + 2 * N 26 0 + (tN N 40 1 + 2 * N 26 1) + (tN N 40 2 + 2 * N 26 2) + (tN N 40 3 + 2 * N 26 3) + ((N 13 0 - 1) + (N 13 1 - 1) + (N 13 2 - 1) + (N 13 3 - 1)) + wg 3 9 (lv 0) + wg 3 9 (lv 3) + wg 1 7 (lv 1) + wg 1 7 (lv 2) + 5 * (N 16 0 + N 16 1 + N 16 2 + N 16 3) + _ = _
        generalize tN N 40 0 = t0
        generalize tN N 40 1 = t1
        generalize tN N 40 2 = t2
        generalize tN N 40 3 = t3
        generalize N 13 0 - 1 = u0
        generalize N 13 1 - 1 = u1
        generalize N 13 2 - 1 = u2
        generalize N 13 3 - 1 = u3
        clear ok okl am tmd nl ni K1 st st' LN
        omega
      have v0 : N 13 0 - 1 ≤ N 13 0 := by omega
      have v1 : N 13 1 - 1 ≤ N 13 1 := by omega
      have v2 : N 13 2 - 1 ≤ N 13 2 := by omega
      have v3 : N 13 3 - 1 ≤ N 13 3 := by omega
      have strict : (∃ v, v < 4 ∧ N 42 v ≠ 0) ∨ (∃ s, s < 4 ∧ 0 < N 13 s) → tN N 40 0 + tN N 40 1 + tN N 40 2 + tN N 40 3 + ((N 13 0 - 1) + (N 13 1 - 1) + (N 13 2 - 1) + (N 13 3 - 1)) < N 40 0 + N 40 1 + N 40 2 + N 40 3 + (N 13 0 + N 13 1 + N 13 2 + N 13 3) := by
        intro c
        rcases c with ⟨v, hv, c⟩ | ⟨s, hs, c⟩
        · have d : tN N 40 v + 1 = N 40 v := by
            rcases (LN v hv).1 with q | q
            · exact absurd q.1 c
            · rw [tN_40, if_neg c]; omega
          generalize N 13 0 - 1 = u0 at *
          generalize N 13 1 - 1 = u1 at *
          generalize N 13 2 - 1 = u2 at *
          generalize N 13 3 - 1 = u3 at *
          rcases (by omega : v = 0 ∨ v = 1 ∨ v = 2 ∨ v = 3) with r | r | r | r <;> subst r <;> omega
        · rcases (by omega : s = 0 ∨ s = 1 ∨ s = 2 ∨ s = 3) with r | r | r | r <;> subst r <;> omega
      exact ⟨by omega, fun c => by have := strict c; omega⟩
    constructor
    · show tl < tl ∨ tl = tl ∧ (m_d (tN N) < m_d N ∨ m_d (tN N) = m_d N ∧ (m_l (tN N) < m_l N ∨ m_l (tN N) = m_l N ∧ (m_r (tN N) lv < m_r N lv ∨ m_r (tN N) lv = m_r N lv ∧ (m_q (tN N) lv < m_q N lv ∨ m_q (tN N) lv = m_q N lv ∧ m_p (tN N) lv ≤ m_p N lv))))
      rw [hml, hmr, hqq]
      have := hp.1
      omega
    · intro c
      show tl < tl ∨ tl = tl ∧ (m_d (tN N) < m_d N ∨ m_d (tN N) = m_d N ∧ (m_l (tN N) < m_l N ∨ m_l (tN N) = m_l N ∧ (m_r (tN N) lv < m_r N lv ∨ m_r (tN N) lv = m_r N lv ∧ (m_q (tN N) lv < m_q N lv ∨ m_q (tN N) lv = m_q N lv ∧ m_p (tN N) lv < m_p N lv))))
      rw [hml, hmr, hqq]
      have := hp.2 c
      omega
end
section
/-! one tick -/
theorem ar_idle {tl : Nat} {N : Nat → Nat → Nat} (h29 : ∀ w, w < 4 → N 29 w = 0) (post : SX → Prop) (ch : Int32) (h : ∃ n20, ss_A (wX_tick_20 post (nI tl) ch n20 0) N) : wpX_tick post (ss_st tl ch N) := by
  have one : ∀ (w : Nat) (po : SX → Prop), w < 4 → po (ss_st tl ch N) → wpX_arrive po (ss_st tl ch N) (nI w) := by
    intro w po hw hp
    have z := h29 w hw
    have e : ub_un (N 29) w 0 = N 29 := ub_id z.symm
    refine ⟨ss_in hw, nm_r (e' := nI 0) (by rw [ss_rd (by omega), z]) ⟨ss_in hw, nm_r (e' := ss_c (N 29)) ?_ ⟨1, br_t (by decide) hp⟩⟩⟩
    rw [ss_nb0, ss_stv w 0 rfl rfl (by omega), e]
  refine ⟨5, br_f (by decide) (one 0 _ (by omega) ?_)⟩
  refine nm_r (e' := nI 1) rfl (br_f (by decide) (one 1 _ (by omega) ?_))
  refine nm_r (e' := nI 2) rfl (br_f (by decide) (one 2 _ (by omega) ?_))
  refine nm_r (e' := nI 3) rfl (br_f (by decide) (one 3 _ (by omega) ?_))
  exact nm_r (e' := nI 4) rfl (br_t (by decide) h)
theorem x0 : dx 0 = (fun _ => 0) ∧ dy 0 = (fun _ => 0) := ⟨by funext v; exact if_neg (by omega), by funext v; exact if_neg (by omega)⟩
theorem bnd_cg {N N' : Nat → Nat → Nat} {d : Nat} (h : kp3 N N') (b : bnd N d) : bnd N' d := by
  unfold bnd at b ⊢
  rw [h.1, h.2.1]; exact b
/-- all departures -/
theorem dp_all {C N : Nat → Nat → Nat} {lv : Lv} {tl : Nat} (ch : Int32) (D : Dp 0 C tl N lv) (bn : ∀ d, d < 2 → bnd N d) : ∃ tl' ch' N', Bd C tl' N' lv ∧ e6 (me tl' N' lv) (me tl N lv) ∧ kc N N' ∧ ∀ post : SX → Prop, post (ss_st tl' ch' N') → ∃ n63, ss_S (wX_tick_63 post n63 0) tl ch N := by
  have one : ∀ (w tl : Nat) (ch : Int32) (N : Nat → Nat → Nat), w < 4 → Dp w C tl N lv → ∃ tl' ch' N', Dp (w + 1) C tl' N' lv ∧ e6 (me tl' N' lv) (me tl N lv) ∧ kp3 N N' ∧ ∀ post : SX → Prop, post (ss_st tl' ch' N') → wpX_depart post (ss_st tl ch N) (nI w) := by
    intro w tl ch N hw D
    obtain ⟨t1, c1, N1, a1, a2, a3, a4⟩ := dp_ans ch hw D
    obtain ⟨t2, c2, N2, b1, b2, b3, b4⟩ := dp_dat c1 hw a1
    exact ⟨t2, c2, N2, b1, e6_trans b2 a2, ⟨b3.1.trans a3.1, b3.2.1.trans a3.2.1, kc_t a3.2.2 b3.2.2⟩, fun post h => a4 post (b4 post h)⟩
  obtain ⟨t0, c0, A0, a1, a2, a3, a4⟩ := one 0 tl ch N (by omega) D
  obtain ⟨t1, c1, A1, b1, b2, b3, b4⟩ := one 1 t0 c0 A0 (by omega) a1
  obtain ⟨t2, c2, A2, d1, d2, d3, d4'⟩ := one 2 t1 c1 A1 (by omega) b1
  obtain ⟨t3, c3, A3, e1, e2, e3, e4⟩ := one 3 t2 c2 A2 (by omega) d1
  refine ⟨t3, c3, A3, ⟨e1, fun d hd => bnd_cg e3 (bnd_cg d3 (bnd_cg b3 (bnd_cg a3 (bn d hd))))⟩, e6_trans e2 (e6_trans d2 (e6_trans b2 a2)), kc_t a3.2.2 (kc_t b3.2.2 (kc_t d3.2.2 e3.2.2)), fun post h => ⟨5, ?_⟩⟩
  refine br_f (by decide) (a4 _ ?_)
  refine nm_r (e' := nI 1) rfl (br_f (by decide) (b4 _ ?_))
  refine nm_r (e' := nI 2) rfl (br_f (by decide) (d4' _ ?_))
  refine nm_r (e' := nI 3) rfl (br_f (by decide) (e4 _ ?_))
  exact nm_r (e' := nI 4) rfl (br_t (by decide) h)
theorem tick_ev {C N : Nat → Nat → Nat} {lv : Lv} {tl : Nat} (ch : Int32) (B : Bd C tl N lv) (nq : ¬ sx_quiet N) : ∃ tl' ch' N' lv', Bd C tl' N' lv' ∧ l6 (me tl' N' lv') (me tl N lv) ∧ kc N N' ∧ ∀ post : SX → Prop, post (ss_st tl' ch' N') → wpX_tick post (ss_st tl ch N) := by
  obtain ⟨T1, T2, T3⟩ := time_ev B
  -- the second half, from the middle on
  have half : ∀ (M : Nat → Nat → Nat) (lw : Lv), Iv1 (fun _ => 0) (fun _ => 0) C tl M lw → (∀ w, w < 4 → M 29 w = 0 ∧ M 42 w ≠ 1 ∧ M 42 w ≠ 3) → (∀ d, d < 2 → bth M d) →
      ∃ tl' ch' N' lv', Bd C tl' N' lv' ∧ e6 (me tl' N' lv') (me tl M lw) ∧ kc M N' ∧ ((∀ w, w < 4 → M 26 w = 0) → (∀ s, s < 4 → M 16 s = 0) → (∀ s, s < 4 → M 13 s = 0) → (∃ s, s < 4 ∧ ¬ sx_set M s) → l6 (me tl' N' lv') (me tl M lw)) ∧
        ∀ post : SX → Prop, post (ss_st tl' ch' N') → wpX_serveEnd (fun u => wpX_serveEnd (fun u => match u with | (a0, a1, a2, a3, a4, a5, a6, a7, a8, a9, a10, a11, a12, a13, a14, a15, a16, a17, a18, a19, a20, a21, a22, a23, a24, a25, a26, a27, a28, a29, a30, a31, a32, a33, a34, a35, a36, a37, a38, a39) => ∃ n63, wX_tick_63 post n63 0 a0 a1 a2 a3 a4 a5 a6 a7 a8 a9 a10 a11 a12 a13 a14 a15 a16 a17 a18 a19 a20 a21 a22 a23 a24 a25 a26 a27 a28 a29 a30 a31 a32 a33 a34 a35 a36 a37 a38 a39) u 1) (ss_st tl ch M) 0 := by
    intro M lw I hM hb
    obtain ⟨N1, l1, a1, a2, a3, ⟨a29, a42, a26, a16, a13, akc⟩, a5, a6⟩ := sv_end (e := 0) (by omega) (hb 0 (by omega)) (fun w hw => (hM w hw).2) I
    have hb1 : bth N1 1 := by
      unfold bth
      intro c1 c2
      rw [a16 (2 - 2 * 1) (by decide)] at c1
      rw [a16 (3 - 2 * 1) (by decide)] at c2
      have := hb 1 (by omega) c1 c2
      have e := a26
      rw [show 3 * (1 - 0) = 3 * 1 from rfl] at e
      rw [e]; exact this
    obtain ⟨N2, l2, b1, b2, b3, ⟨b29, b42, b26, b16, b13, bkc⟩, b5, b6⟩ := sv_end (e := 1) (by omega) hb1 (fun w hw => by rw [a42]; exact (hM w hw).2) a1
    have bn0 : bnd N2 0 := by
      unfold bnd at a3 ⊢
      intro c
      rw [b16 (2 - 2 * 0) (by decide), b16 (3 - 2 * 0) (by decide)] at c
      have := a3 c
      have e := b26
      rw [show 3 * (1 - 1) = 3 * 0 from rfl] at e
      rw [e]; exact this
    have D0 : Dp 0 C tl N2 l2 := by
      refine ⟨?_, fun v hv => ⟨fun c => ?_, fun c => ?_, fun _ => ?_⟩, fun v hv f hf => ?_, fun v hv hf => ?_⟩
      · rw [x0.1, x0.2]; exact b1
      · rw [b42, a42] at c; exact absurd c (hM v hv).2.1
      · rw [b42, a42] at c; exact absurd c (hM v hv).2.2
      · rw [b29, a29]; exact (hM v hv).1
      · rw [b29, a29, (hM v hv).1] at hf; omega
      · rw [b29, a29, (hM v hv).1] at hf; omega
    obtain ⟨tl', ch', N3, c1, c2, c3, c4⟩ := dp_all ch D0 (fun d hd => by
      rcases (by omega : d = 0 ∨ d = 1) with r | r
      · rw [r]; exact bn0
      · rw [r]; exact b3)
    refine ⟨tl', ch', N3, l2, c1, e6_trans c2 (e6_trans b2 a2), kc_t akc (kc_t bkc c3), fun h26 h16 h13 hs => ?_, fun post h => ?_⟩
    · obtain ⟨s, s4, su⟩ := hs
      by_cases e0 : ∃ t, t < 4 ∧ t / 2 = 0 ∧ ¬ sx_set M t
      · obtain ⟨t, t4, t2, tu⟩ := e0
        refine e6_l6 (e6_trans c2 b2) (a5 ⟨?_, ?_, ?_, t, t2, tu, h13 t t4, fun r hr _ => h13 r (by omega)⟩)
        · show M 26 0 ≤ 4
          rw [h26 0 (by omega)]; omega
        · show M 16 2 ≠ 1
          rw [h16 2 (by omega)]; decide
        · show M 16 3 ≠ 1
          rw [h16 3 (by omega)]; decide
      · have s1 : s / 2 = 1 := by
          rcases (by omega : s / 2 = 0 ∨ s / 2 = 1) with q | q
          · exact absurd ⟨s, s4, q, su⟩ e0
          · exact q
        refine e6_l6 c2 (l6_e6 (b5 ⟨?_, ?_, ?_, s, s1, ?_, ?_, fun r hr _ => ?_⟩) a2)
        · have e := a26
          rw [show 3 * (1 - 0) = 3 * 1 from rfl] at e
          rw [e]
          show M 26 3 ≤ 4
          rw [h26 3 (by omega)]; omega
        · rw [a16 (2 - 2 * 1) (by decide)]
          show M 16 0 ≠ 1
          rw [h16 0 (by omega)]; decide
        · rw [a16 (3 - 2 * 1) (by decide)]
          show M 16 1 ≠ 1
          rw [h16 1 (by omega)]; decide
        · exact fun q => su ((a13 s s1).2.mp q)
        · rw [(a13 s s1).1]; exact h13 s s4
        · rw [(a13 r hr).1]; exact h13 r (by omega)
    · refine a6 _ ch ?_
      refine b6 _ ch ?_
      exact c4 post h
  by_cases idle : (∃ v, v < 4 ∧ N 42 v ≠ 0) ∨ (∃ s, s < 4 ∧ 0 < N 13 s)
  · obtain ⟨N1, l1, a1, a2, a3, akc, a4⟩ := ar_all (N := tN N) rfl T1
    obtain ⟨m1, m2, m3, m4⟩ := ar_mid a3 a1
    obtain ⟨tl', ch', N', lv', h1, h2, h3, h4, h5⟩ := half (tmr N1 4) l1 m1 m3 m4
    rw [m2] at h2
    have kt : kc N1 (tmr N1 4) := ⟨tmr_o 4 7 (by decide), tmr_o 4 24 (by decide), tmr_o 4 49 (by decide), tmr_o 4 50 (by decide)⟩
    refine ⟨tl', ch', N', lv', h1, e6_l6 h2 (e6_l6 a2 (T3 idle)), kc_t (B := N1) akc (kc_t kt h3), fun post h => a4 post ch ⟨5, ?_⟩⟩
    exact tmr_w (N := N1) (fun s hs => (a1.1.2.2.2.2.1 s hs).2.1.2.2.2.2.2.1) (h5 post h) 4 5 0 (by omega) (by omega)
  · -- nothing moves: an end must act
    have i42 : ∀ v, v < 4 → N 42 v = 0 := fun v hv => Classical.byContradiction (fun c => idle (Or.inl ⟨v, hv, c⟩))
    have i13 : ∀ s, s < 4 → N 13 s = 0 := fun s hs => Classical.byContradiction (fun c => idle (Or.inr ⟨s, hs, by omega⟩))
    obtain ⟨⟨⟨I, Ia⟩, PH, Q, Q2⟩, BN⟩ := B
    have LN : ∀ v, v < 4 → N 26 v = 0 ∧ N 33 v = 0 ∧ N 36 v = 0 := by
      intro v hv
      have L := I.1 v hv
      unfold lk at L
      rw [(d4 v hv).1] at L
      have z := i42 v hv
      rcases L.2.2.2.2.2.2.2 with h | h | h | h | h
      · exact ⟨h.2.2.2.2.2.2 rfl, h.2.1, h.2.2.2.2.2.1⟩
      · omega
      · omega
      · omega
      · omega
    have i29 : ∀ v, v < 4 → N 29 v = 0 := by
      intro v hv
      rcases Nat.eq_zero_or_pos (N 29 v) with c | c
      · exact c
      · rcases Q2 v hv c with q | q
        · exact absurd (i42 v hv) q
        · exact absurd (i42 _ (xx1 v hv).2.2) q
    have i16 : ∀ s, s < 4 → N 16 s = 0 := by
      intro s hs
      have a16 := (I.2.2.2.2.1 s hs).2.1.2.2.2.2.1
      rcases (by omega : N 16 s = 0 ∨ N 16 s = 1) with c | c
      · exact c
      · exfalso
        have b0 := BN 0 (by omega)
        have b1 := BN 1 (by omega)
        have z0 := (LN 0 (by omega)).1
        have z3 := (LN 3 (by omega)).1
        unfold bnd at b0 b1
        have b0' : N 16 2 = 1 ∨ N 16 3 = 1 → 5 ≤ N 26 0 := b0
        have b1' : N 16 0 = 1 ∨ N 16 1 = 1 → 5 ≤ N 26 3 := b1
        rcases (by omega : s = 0 ∨ s = 1 ∨ s = 2 ∨ s = 3) with r | r | r | r
        · subst r; have := b1' (Or.inl c); omega
        · subst r; have := b1' (Or.inr c); omega
        · subst r; have := b0' (Or.inl c); omega
        · subst r; have := b0' (Or.inr c); omega
    have un : ∃ s, s < 4 ∧ ¬ sx_set N s := by
      refine Classical.byContradiction (fun c => nq ⟨fun w hw => ⟨(LN w hw).1, i29 w hw, (LN w hw).2.1, (LN w hw).2.2⟩, fun s hs => ⟨i16 s hs, ?_⟩⟩)
      exact Classical.byContradiction (fun q => c ⟨s, hs, q⟩)
    have T1' : Iv0 (N 29) (N 29) C tl (tN N) lv := by
      obtain ⟨⟨J1, J2, J3, J4, J5, J6, J7, J8, J9, J10⟩, Ja, Jd⟩ := T1
      refine ⟨⟨J1, fun w hw => ?_, J3, J4, J5, J6, J7, J8, J9, J10⟩, Ja, Jd⟩
      refine ⟨fun f a b => by omega, fun c => ?_, fun c => ?_⟩
      · have c' : N 42 w = 1 := c
        rw [i42 w hw] at c'; omega
      · have c' : N 42 w = 3 := c
        rw [i42 w hw] at c'; omega
    obtain ⟨m1, m2, m3, m4⟩ := ar_mid (N := tN N) i29 T1'
    have o : ∀ i, i ≠ 13 → tmr (tN N) 4 i = tN N i := fun i h => tmr_o 4 i h
    obtain ⟨tl', ch', N', lv', h1, h2, h3, h4, h5⟩ := half (tmr (tN N) 4) lv m1 m3 m4
    have str := h4 (fun w hw => by rw [o 26 (by decide)]; exact (LN w hw).1) (fun s hs => by rw [o 16 (by decide)]; exact i16 s hs) (fun s hs => by
        rw [tmr_13, if_pos hs]
        show N 13 s - 1 = 0
        rw [i13 s hs]) (by
        obtain ⟨s, hs, su⟩ := un
        refine ⟨s, hs, fun q => su ?_⟩
        unfold sx_set at q ⊢
        rw [o 1 (by decide), o 12 (by decide), o 7 (by decide), o 14 (by decide)] at q
        exact q)
    rw [m2] at str
    have kt : kc N (tmr (tN N) 4) := ⟨tmr_o 4 7 (by decide), tmr_o 4 24 (by decide), tmr_o 4 49 (by decide), tmr_o 4 50 (by decide)⟩
    refine ⟨tl', ch', N', lv', h1, l6_e6 str T2, kc_t kt h3, fun post h => ar_idle i29 post ch ⟨5, ?_⟩⟩
    exact tmr_w (N := tN N) (fun s hs => (I.2.2.2.2.1 s hs).2.1.2.2.2.2.2.1) (h5 post h) 4 5 0 (by omega) (by omega)
/-- ticks until all is quiet -/
theorem pump_loop {C : Nat → Nat → Nat} : ∀ (m : M6) (tl : Nat) (ch : Int32) (N : Nat → Nat → Nat) (lv : Lv), me tl N lv = m → Bd C tl N lv → ∃ tl' ch' N' lv', Bd C tl' N' lv' ∧ sx_quiet N' ∧ kc N N' ∧ ∀ (post : Int32 → SX → Prop) (x3 : Int32), wpX_allReady (fun r => post (r - x3) (ss_st tl' ch' N')) (ss_st tl' ch' N') → ∃ n85, ss_S (wX_pump_85 post x3 n85) tl ch N := by
  intro m
  induction m using l6_wf.induction with
  | _ m ih =>
    intro tl ch N lv hm B
    have R : (∀ w, w < 4 → N 26 w ≤ 6 ∧ N 29 w ≤ 4 ∧ N 33 w ≤ 1 ∧ N 36 w ≤ 2) ∧ (∀ s, s < 4 → N 1 s ≤ 24 ∧ N 7 s ≤ 1 ∧ N 14 s ≤ 1 ∧ N 12 s ≤ 13 ∧ N 16 s ≤ 1) := by
      obtain ⟨⟨⟨I, Ia⟩, _⟩, _⟩ := B
      constructor
      · intro w hw
        have L := I.1 w hw
        unfold lk at L
        have c6 : N 26 w ≤ 6 := by
          have D0 := I.2.2.2.2.2.1 0 (by omega)
          have D1 := I.2.2.2.2.2.1 1 (by omega)
          unfold dr at D0 D1
          have a0 := D0.2.2.2.2.2.2.2.2.1
          have a1 := D0.2.2.2.2.2.2.2.2.2.1
          have a2 := D1.2.2.2.2.2.2.2.2.1
          have a3 := D1.2.2.2.2.2.2.2.2.2.1
          clear D0 D1
          rcases (by omega : w = 0 ∨ w = 1 ∨ w = 2 ∨ w = 3) with e | e | e | e <;> rw [e]
          · exact a1
          · exact Nat.le_trans a2 (by decide)
          · exact Nat.le_trans a0 (by decide)
          · exact a3
        refine ⟨c6, I.2.2.2.2.2.2.2.2.1.2.2.2 w hw, ?_, ?_⟩
        · rcases L.2.2.2.2.2.2.2 with h | h | h | h | h <;> omega
        · rcases L.2.2.2.2.2.2.2 with h | h | h | h | h <;> omega
      · intro s hs
        obtain ⟨⟨s0, s3, s4', s6, s1, s9, s15, s49, t1, t2, t3, t4, t5, t6, t7, t8, t9⟩, ⟨u1, u2, u3, u4, u5, u6, u7, u8⟩, _, _⟩ := I.2.2.2.2.1 s hs
        exact ⟨by omega, u2, u4, by omega, u5⟩
    by_cases q : sx_quiet N
    · refine ⟨tl, ch, N, lv, B, q, kc_r N, fun post x3 h => ⟨1, ?_⟩⟩
      refine sx_isQuiet (N := N) R.1 R.2 (fun _ => ?_) (fun c => absurd q c)
      exact br_f (by decide) h
    · obtain ⟨t1, c1, N1, l1, a1, a2, a3, a4⟩ := tick_ev ch B q
      obtain ⟨t2, c2, N2, l2, b1, b2, b3, b4⟩ := ih (me t1 N1 l1) (by rw [← hm]; exact a2) t1 c1 N1 l1 rfl a1
      refine ⟨t2, c2, N2, l2, b1, b2, kc_t a3 b3, fun post x3 h => ?_⟩
      obtain ⟨n, hn⟩ := b4 post x3 h
      refine ⟨n + 1, ?_⟩
      refine sx_isQuiet (N := N) R.1 R.2 (fun c => absurd c q) (fun _ => ?_)
      refine br_t rfl (a4 _ ?_)
      exact hn
end
section
/-! at rest; a pump begins -/
def rs_s (N : Nat → Nat → Nat) (s : Nat) : Prop :=
  N 0 s < 24 ∧ N 1 s ≤ 24 ∧ N 3 s < 12 ∧ N 4 s ≤ 12 ∧ N 6 s = 0 ∧ N 7 s ≤ 1 ∧ N 8 s ≤ 1 ∧ N 9 s < 64 ∧ N 10 s = 0 ∧ N 11 s = 0 ∧ N 14 s ≤ 1 ∧ N 15 s = N 9 s ∧ N 16 s = 0 ∧ (N 8 s = 1 → N 7 s = 1 ∧ N 1 s = 0) ∧ (N 14 s = 1 → N 8 s = 1) ∧
  (∀ i, i < N 1 s → N 2 (24 * s + (N 0 s + i) % 24) < 256) ∧ (∀ i, i < N 4 s → N 5 (12 * s + (N 3 s + i) % 12) < 256)
def rs_w (N : Nat → Nat → Nat) (w : Nat) : Prop := N 25 w < 6 ∧ N 26 w = 0 ∧ N 29 w = 0 ∧ N 32 w ≤ 1 ∧ N 35 w = N 32 w ∧ N 33 w = 0 ∧ N 34 w = 0 ∧ N 36 w = 0
def rs_e (N : Nat → Nat → Nat) (e : Nat) : Prop := N 20 e ≤ 16 ∧ (N 20 e ≠ 0 → N 21 e = 1) ∧ N 22 e < 16 ∧ N 23 e ≤ 1 ∧ N 24 e ≤ 1
def Rs (N : Nat → Nat → Nat) : Prop := (∀ s, s < 4 → rs_s N s) ∧ (∀ w, w < 4 → rs_w N w) ∧ (∀ q, q < 24 → N 28 q ≤ 4) ∧ (∀ q, q < 96 → N 27 q < 256) ∧ (∀ e, e < 2 → rs_e N e)
/-- the bytes of a stream by their numbers: those that are ready, then those that wait -/
def pC (N : Nat → Nat → Nat) (s q : Nat) : Nat :=
  if s < 4 ∧ q < N 9 s + 64 ∧ N 9 s + 64 ≤ q + N 4 s then N 5 (12 * s + (N 3 s + (q + N 4 s - (N 9 s + 64))) % 12) else if s < 4 ∧ N 9 s + 64 ≤ q ∧ q < N 9 s + 64 + N 1 s then N 2 (24 * s + (N 0 s + (q - (N 9 s + 64))) % 24) else 0
theorem pC_lt {N : Nat → Nat → Nat} (R : Rs N) (s q : Nat) : pC N s q < 256 := by
  unfold pC
  split
  · next h =>
    exact (R.1 s h.1).2.2.2.2.2.2.2.2.2.2.2.2.2.2.2.2 _ (by omega)
  · split
    · next h => exact (R.1 s h.1).2.2.2.2.2.2.2.2.2.2.2.2.2.2.2.1 _ (by omega)
    · decide
theorem pC_in {N : Nat → Nat → Nat} {s i : Nat} (hs : s < 4) (hi : i < N 4 s) (h12 : N 4 s ≤ 12) : pC N s (N 9 s + 64 - N 4 s + i) = N 5 (12 * s + (N 3 s + i) % 12) := by
  unfold pC
  rw [if_pos ⟨hs, by omega, by omega⟩, show N 9 s + 64 - N 4 s + i + N 4 s - (N 9 s + 64) = i by omega]
theorem pC_out {N : Nat → Nat → Nat} {s i : Nat} (hs : s < 4) (hi : i < N 1 s) : pC N s (N 9 s + 64 + i) = N 2 (24 * s + (N 0 s + i) % 24) := by
  unfold pC
  rw [if_neg (by omega), if_pos ⟨hs, by omega, by omega⟩, show N 9 s + 64 + i - (N 9 s + 64) = i by omega]
def pI (N : Nat → Nat → Nat) : Nat → Nat → Nat := st_up (st_up (st_up (st_up (st_up (st_up (st_up (st_up N 12 0 0) 13 0 0) 12 1 0) 13 1 0) 12 2 0) 13 2 0) 12 3 0) 13 3 0
def pG (N : Nat → Nat → Nat) : Nat → Nat → Nat := fun i => cond (Nat.beq i 40) (fun _ => 2) (cond (Nat.beq i 41) (fun _ => 0) (cond (Nat.beq i 42) (fun _ => 0) (cond (Nat.beq i 43) (fun e => N 22 e + 16) (cond (Nat.beq i 44) (fun s => N 9 s + 64) (cond (Nat.beq i 45) (fun s => N 9 s + 64) (cond (Nat.beq i 46) (fun _ => 0) (cond (Nat.beq i 47) (fun _ => 0) (cond (Nat.beq i 48) (fun s => N 9 s + 64) (cond (Nat.beq i 49) (fun s => N 9 s + 64 + 12 - N 4 s) (cond (Nat.beq i 50) (fun s => N 9 s + 64 + N 1 s) (pI N i)))))))))))
def pL (N : Nat → Nat → Nat) : Lv := fun j => if j = 6 then (if N 20 1 = 0 then [] else [(N 20 1 - 1, 0, 9, 0, 0, 0)]) else if j = 7 then (if N 20 0 = 0 then [] else [(N 20 0 - 1, 0, 9, 0, 0, 0)]) else []
theorem pI_12 {N : Nat → Nat → Nat} {s : Nat} (hs : s < 4) : pG N 12 s = 0 ∧ pG N 13 s = 0 := by
  rcases (by omega : s = 0 ∨ s = 1 ∨ s = 2 ∨ s = 3) with r | r | r | r <;> subst r <;> exact ⟨rfl, rfl⟩
theorem pu_start {N : Nat → Nat → Nat} {tl : Nat} (ht : tl ≤ 20) (R : Rs N) : Bd (pC N) tl (pG N) (pL N) := by
  have hC := pC_lt R
  obtain ⟨R1, R2, R3, R4, R5⟩ := R
  have nl : ∀ j, j < 6 → pL N j = [] := by
    intro j hj
    unfold pL
    rw [if_neg (by omega), if_neg (by omega)]
  have l2 : ∀ d, d < 2 → pL N (2 - d) = [] ∧ pL N (3 * d) = [] ∧ pL N (4 + d) = [] := fun d hd => ⟨nl _ (by omega), nl _ (by omega), nl _ (by omega)⟩
  refine ⟨⟨⟨⟨?_, ?_, ?_, ?_, ?_, ?_, ?_, ?_, ⟨R3, R4, hC, ?_⟩, ht⟩, ?_⟩, ?_, ?_, ?_⟩, ?_⟩
  · intro w hw
    obtain ⟨a1, a2, a3, a4, a5, a6, a7, a8⟩ := R2 w hw
    unfold lk
    refine ⟨?_, (Nat.zero_le 1), a4, ?_, fun _ => a5, fun c => absurd (show (0 : Nat) = 1 from c) (by decide), a1, Or.inl ⟨rfl, a6, a7, rfl, rfl, a8, fun _ => a2⟩⟩
    · show N 26 w = 0 + (pL N w).length
      rw [nl w (by omega), a2]; rfl
    · show N 35 w ≤ 1
      omega
  · intro w hw
    refine ⟨fun f _ hf => ?_, fun c => absurd (show (0 : Nat) = 1 from c) (by decide), fun c => absurd (show (0 : Nat) = 3 from c) (by decide)⟩
    have hf' : f < N 29 w := hf
    rw [(R2 w hw).2.2.1] at hf'
    omega
  · intro w hw j x hx
    rw [nl w (by omega)] at hx
    cases hx
  · intro d hd
    rcases (by omega : d = 0 ∨ d = 1) with r | r
    · subst r
      obtain ⟨b1, b2, b3, b4, b5⟩ := R5 1 (by omega)
      unfold jo
      by_cases c : N 20 1 = 0
      · refine Or.inl ⟨?_, c⟩
        show (if N 20 1 = 0 then [] else _) = _
        rw [if_pos c]
      · refine Or.inr ⟨(N 20 1 - 1, 0, 9, 0, 0, 0), ?_, ?_, b2 c, fun q => absurd (show (9 : Nat) < 4 from q) (by decide)⟩
        · show (if N 20 1 = 0 then [] else _) = _
          rw [if_neg c]
        · show N 20 1 = (N 20 1 - 1) % 16 + 1
          omega
    · subst r
      obtain ⟨b1, b2, b3, b4, b5⟩ := R5 0 (by omega)
      unfold jo
      by_cases c : N 20 0 = 0
      · refine Or.inl ⟨?_, c⟩
        show (if N 20 0 = 0 then [] else _) = _
        rw [if_pos c]
      · refine Or.inr ⟨(N 20 0 - 1, 0, 9, 0, 0, 0), ?_, ?_, b2 c, fun q => absurd (show (9 : Nat) < 4 from q) (by decide)⟩
        · show (if N 20 0 = 0 then [] else _) = _
          rw [if_neg c]
        · show N 20 0 = (N 20 0 - 1) % 16 + 1
          omega
  · intro s hs
    obtain ⟨a0, a1, a3, a4, a6, a7, a8, a9, a10, a11, a14, a15, a16, b1, b2, b3, b4⟩ := R1 s hs
    obtain ⟨c12, c13⟩ := pI_12 (N := N) hs
    refine ⟨?_, ?_, ?_, ?_⟩
    · unfold si_n
      show N 0 s < 24 ∧ N 3 s < 12 ∧ N 4 s ≤ 12 ∧ N 6 s < 4096 ∧ N 1 s + (N 9 s + 64) = N 9 s + 64 + N 1 s ∧ N 9 s = (N 9 s + 64) % 64 ∧ N 15 s = (N 9 s + 64) % 64 ∧ N 9 s + 64 + 12 - N 4 s + N 4 s = N 9 s + 64 + 12 ∧ N 9 s + 64 ≤ N 9 s + 64 ∧ N 9 s + 64 ≤ N 9 s + 64 ∧ N 9 s + 64 ≤ N 9 s + 64 + N 11 s ∧ N 9 s + 64 + N 11 s ≤ N 9 s + 64 + N 1 s ∧ N 9 s + 64 + N 11 s ≤ N 9 s + 64 + 12 - N 4 s ∧ N 9 s + 64 + 12 - N 4 s ≤ N 9 s + 64 + 12 ∧ N 9 s + 64 + N 1 s ≤ N 9 s + 64 + 24 ∧ 64 ≤ N 9 s + 64 ∧ N 10 s ≤ N 11 s
      omega
    · unfold si_f
      rw [c12, c13]
      show (0 = 0 ∧ N 11 s = 0 ∨ _) ∧ N 7 s ≤ 1 ∧ N 8 s ≤ 1 ∧ N 14 s ≤ 1 ∧ N 16 s ≤ 1 ∧ 0 ≤ 150 ∧ (N 8 s = 1 → N 7 s = 1 ∧ N 9 s + 64 = N 9 s + 64 + N 1 s) ∧ (N 14 s = 1 → N 8 s = 1 ∧ N 9 s + 64 = N 9 s + 64 + N 1 s)
      refine ⟨Or.inl ⟨rfl, a11⟩, a7, a8, a14, by omega, by omega, fun c => ⟨(b1 c).1, by have := (b1 c).2; omega⟩, fun c => ⟨b2 c, by have := (b1 (b2 c)).2; omega⟩⟩
    · intro i hi
      show N 2 (24 * s + (N 0 s + i) % 24) = pC N s (N 9 s + 64 + i)
      exact (pC_out hs hi).symm
    · refine ⟨by show N 6 s % 2 = 0; rw [a6], fun j hj => ?_, fun i hi h => ?_⟩
      · have hj' : (N 6 s).testBit j = true := hj
        rw [a6, Nat.zero_testBit] at hj'
        cases hj'
      · show N 5 (12 * s + (N 3 s + i) % 12) = pC N s (N 9 s + 64 + 12 - N 4 s - 12 + i)
        rcases h with h | ⟨_, h⟩
        · have h' : i < N 4 s := h
          rw [show N 9 s + 64 + 12 - N 4 s - 12 + i = N 9 s + 64 - N 4 s + i by omega]
          exact (pC_in hs h' a4).symm
        · have h' : (N 6 s).testBit (i - N 4 s) = true := h
          rw [a6, Nat.zero_testBit] at h'
          cases h'
  · intro d hd
    obtain ⟨e2, e3, e4⟩ := l2 d hd
    obtain ⟨b1, b2, b3, b4, b5⟩ := R5 d hd
    have w2 := (R2 (2 - d) (by omega)).2.1
    have w3 := (R2 (3 * d) (by omega)).2.1
    unfold dr
    rw [e2, e3, e4]
    refine ⟨fun x hx => ?_, trivial, trivial, ?_, b4, fun c => ?_, fun x hx => absurd hx (List.not_mem_nil), fun c => absurd rfl c, ?_, ?_, Nat.le_refl _, Nat.le_refl _, fun c => ?_, fun z hz => Or.inl ?_⟩
    · rcases hx with hx | hx <;> exact absurd hx (List.not_mem_nil)
    · show N 22 d = (N 22 d + 16) % 16
      omega
    · have c' : N 26 (2 - d) = 4 := c
      omega
    · show N 26 (2 - d) ≤ 4
      omega
    · show N 26 (3 * d) ≤ 6
      omega
    · have c' : N 16 (3 - 2 * d) = 1 := c
      rw [(R1 (3 - 2 * d) (by omega)).2.2.2.2.2.2.2.2.2.2.2.2.1] at c'
      omega
    · have hz' : pL N (6 + d) = [z] := hz
      show pq_i z + 0 < N 22 d + 16
      rcases (by omega : d = 0 ∨ d = 1) with r | r
      · subst r
        have hz2 : (if N 20 1 = 0 then [] else [(N 20 1 - 1, 0, 9, 0, 0, 0)]) = [z] := hz'
        have := (R5 1 (by omega)).1
        split at hz2
        · cases hz2
        · have e : (N 20 1 - 1, 0, 9, 0, 0, 0) = z := by injection hz2
          rw [← e]
          show N 20 1 - 1 + 0 < _
          omega
      · subst r
        have hz2 : (if N 20 0 = 0 then [] else [(N 20 0 - 1, 0, 9, 0, 0, 0)]) = [z] := hz'
        have := (R5 0 (by omega)).1
        split at hz2
        · cases hz2
        · have e : (N 20 0 - 1, 0, 9, 0, 0, 0) = z := by injection hz2
          rw [← e]
          show N 20 0 - 1 + 0 < _
          omega
  · have td : ∀ d, d < 2 → tm_d tl (pG N) (pL N) d := by
      intro d hd
      obtain ⟨e2, e3, e4⟩ := l2 d hd
      unfold tm_d
      rw [e2, e3, e4]
      refine ⟨trivial, trivial, fun x hx => absurd hx (List.not_mem_nil), fun c => ?_, fun c => ?_⟩
      · have c' : N 16 (2 - 2 * d) = 1 := c
        rw [(R1 (2 - 2 * d) (by omega)).2.2.2.2.2.2.2.2.2.2.2.2.1] at c'
        omega
      · have c' : N 16 (3 - 2 * d) = 1 := c
        rw [(R1 (3 - 2 * d) (by omega)).2.2.2.2.2.2.2.2.2.2.2.2.1] at c'
        omega
    refine ⟨td 0 (by omega), td 1 (by omega), ?_⟩
    show 5 * tl + (2 - 2) + (2 - 2) + (2 - 2) + (2 - 2) ≤ 100
    omega
  · intro s hs
    obtain ⟨c12, c13⟩ := pI_12 (N := N) hs
    have k0 : kb_k (pG N) (pL N) s = 0 := by
      unfold kb_k
      rw [nl 0 (by omega), nl 1 (by omega), nl 2 (by omega), nl 3 (by omega), nl 4 (by omega), nl 5 (by omega)]
      show 0 + 0 + 0 + 0 + 0 + 0 + N 16 s = 0
      rw [(R1 s hs).2.2.2.2.2.2.2.2.2.2.2.2.1]
    have u1 : kb_u (pG N) s ≤ 1 := by
      unfold kb_u
      rw [c12]
      split
      · rw [if_pos rfl]
        split <;> omega
      · split
        · omega
        · split <;> omega
    unfold kb
    exact ⟨by omega, fun _ => by omega⟩
  · intro w hw
    show N 29 w ≤ 4
    rw [(R2 w hw).2.2.1]; omega
  · intro s hs
    rw [(pI_12 (N := N) hs).2]; rfl
  · intro v hv
    refine ⟨fun c => absurd (show (0 : Nat) = 1 from c) (by decide), fun c => absurd (show (0 : Nat) = 3 from c) (by decide), fun _ => (R2 v hv).2.2.1⟩
  · intro v hv f hf
    have hf' : f < N 29 v := hf
    rw [(R2 v hv).2.2.1] at hf'
    omega
  · intro v hv hf
    have hf' : 0 < N 29 v := hf
    rw [(R2 v hv).2.2.1] at hf'
    omega
  · intro d hd c
    exfalso
    have c' : N 16 (2 - 2 * d) = 1 ∨ N 16 (3 - 2 * d) = 1 := c
    rw [(R1 (2 - 2 * d) (by omega)).2.2.2.2.2.2.2.2.2.2.2.2.1, (R1 (3 - 2 * d) (by omega)).2.2.2.2.2.2.2.2.2.2.2.2.1] at c'
    omega
end
section
/-! a pump of the component: what it leaves -/
def pm (N : Nat → Nat → Nat) (s : Nat) : Nat := if N 1 s ≤ 12 - N 4 s then N 1 s else 12 - N 4 s
theorem pu_57 {post : Int32 → SX → Prop} {x3 : Int32} {tl : Nat} {ch : Int32} {N : Nat → Nat → Nat} (h : ∃ n85, ss_S (wX_pump_85 post x3 n85) tl ch (pI N)) : ∃ n57, ss_A (wX_pump_57 post x3 (nI tl) ch n57 0) N := by
  have a : ∀ (f : Nat → Nat) (s : Nat), s < 4 → upd (ss_m f) (nI s).toNatClampNeg (vp_nar .byte (-1)) = ss_m (ub_un f s 0) := by
    intro f s hs
    rw [ss_nbm, nI_clamp (by omega)]; exact ss_mu0 _ _
  have b : ∀ (f : Nat → Nat) (s : Nat), s < 4 → upd (ss_c f) (nI s).toNatClampNeg (vp_nar .short 0) = ss_c (ub_un f s 0) := by
    intro f s hs
    rw [ss_ns0]; exact ss_stv s 0 rfl rfl (by omega)
  refine ⟨5, br_f (by decide) ⟨ss_in (n := 0) (by omega), nm_r (a _ 0 (by omega)) ⟨ss_in (n := 0) (by omega), nm_r (b _ 0 (by omega)) (nm_r (e' := nI 1) rfl ?_)⟩⟩⟩
  refine br_f (by decide) ⟨ss_in (n := 1) (by omega), nm_r (a _ 1 (by omega)) ⟨ss_in (n := 1) (by omega), nm_r (b _ 1 (by omega)) (nm_r (e' := nI 2) rfl ?_)⟩⟩
  refine br_f (by decide) ⟨ss_in (n := 2) (by omega), nm_r (a _ 2 (by omega)) ⟨ss_in (n := 2) (by omega), nm_r (b _ 2 (by omega)) (nm_r (e' := nI 3) rfl ?_)⟩⟩
  refine br_f (by decide) ⟨ss_in (n := 3) (by omega), nm_r (a _ 3 (by omega)) ⟨ss_in (n := 3) (by omega), nm_r (b _ 3 (by omega)) (nm_r (e' := nI 4) rfl ?_)⟩⟩
  exact br_t (by decide) h
/-- a stream after a pump -/
def pE (N N' : Nat → Nat → Nat) (s : Nat) : Prop :=
  N' 1 s + pm N s = N 1 s ∧ N' 4 s = N 4 s + pm N s ∧ N' 7 s = N 7 s ∧ (N' 8 s = 1 ↔ N 7 s = 1 ∧ N' 1 s = 0) ∧
  (∀ i, i < N' 1 s → N' 2 (24 * s + (N' 0 s + i) % 24) = N 2 (24 * s + (N 0 s + (pm N s + i)) % 24)) ∧
  (∀ i, i < N 4 s → N' 5 (12 * s + (N' 3 s + i) % 12) = N 5 (12 * s + (N 3 s + i) % 12)) ∧
  (∀ i, i < pm N s → N' 5 (12 * s + (N' 3 s + (N 4 s + i)) % 12) = N 2 (24 * s + (N 0 s + i) % 24))
theorem pu_end {N N' : Nat → Nat → Nat} {lv : Lv} {tl : Nat} (R : Rs N) (B : Bd (pC N) tl N' lv) (q : sx_quiet N') (k : kc (pG N) N') : Rs N' ∧ (∀ s, s < 4 → pE N N' s) ∧ N' 24 = N 24 := by
  obtain ⟨⟨⟨I, Ia⟩, PH, Q, Q2⟩, BN⟩ := B
  obtain ⟨k7, k24, k49, k50⟩ := k
  have hC := pC_lt R
  have S : ∀ s, s < 4 → rs_s N' s ∧ pE N N' s := by
    intro s hs
    obtain ⟨a0, a1, a3, a4, a6, a7, a8, a9, a10, a11, a14, a15, a16, c1, c2, c3, c4⟩ := R.1 s hs
    obtain ⟨⟨s0, s3, s4', s6, s1, s9, s15, s49, t1, t2, t3, t4, t5, t6, t7, t8, t9⟩, ⟨u1, u2, u3, u4, u5, u6, u7, u8⟩, so, i1, i2, i3⟩ := I.2.2.2.2.1 s hs
    obtain ⟨q16, qs⟩ := q.2 s hs
    have w49 : N' 49 s = N 9 s + 64 + 12 - N 4 s := by rw [k49]; rfl
    have w50 : N' 50 s = N 9 s + 64 + N 1 s := by rw [k50]; rfl
    have w7 : N' 7 s = N 7 s := by rw [k7]; rfl
    have fe : N' 44 s = N' 45 s ∧ N' 11 s = 0 ∧ N' 10 s = 0 ∧ N' 45 s = N 9 s + 64 + pm N s := by
      unfold pm
      unfold sx_set at qs
      split <;> omega
    obtain ⟨f1, f2, f3, f4⟩ := fe
    have pmb : pm N s ≤ N 1 s ∧ N 4 s + pm N s ≤ 12 := by unfold pm; split <;> omega
    have z6 : N' 6 s = 0 := by
      apply Nat.eq_of_testBit_eq
      intro j
      rw [Nat.zero_testBit]
      cases hb : (N' 6 s).testBit j with
      | false => rfl
      | true =>
        have := i2 j hb
        omega
    have n1 : N' 1 s + pm N s = N 1 s := by omega
    have n4 : N' 4 s = N 4 s + pm N s := by omega
    have he : N' 8 s = 1 ↔ N 7 s = 1 ∧ N' 1 s = 0 := by
      constructor
      · intro c
        have := u7 c
        exact ⟨by omega, by omega⟩
      · intro c
        unfold sx_set at qs
        exact (u8 (by omega)).1
    have o1 : ∀ i, i < N' 1 s → N' 2 (24 * s + (N' 0 s + i) % 24) = N 2 (24 * s + (N 0 s + (pm N s + i)) % 24) := by
      intro i hi
      rw [so i hi, f1, f4, show N 9 s + 64 + pm N s + i = N 9 s + 64 + (pm N s + i) by omega]
      exact pC_out hs (by omega)
    have o2 : ∀ i, i < N 4 s → N' 5 (12 * s + (N' 3 s + i) % 12) = N 5 (12 * s + (N 3 s + i) % 12) := by
      intro i hi
      rw [i3 i (by omega) (Or.inl (by omega)), w49, show N 9 s + 64 + 12 - N 4 s - 12 + i = N 9 s + 64 - N 4 s + i by omega]
      exact pC_in hs hi a4
    have o3 : ∀ i, i < pm N s → N' 5 (12 * s + (N' 3 s + (N 4 s + i)) % 12) = N 2 (24 * s + (N 0 s + i) % 24) := by
      intro i hi
      rw [i3 (N 4 s + i) (by omega) (Or.inl (by omega)), w49, show N 9 s + 64 + 12 - N 4 s - 12 + (N 4 s + i) = N 9 s + 64 + i by omega]
      exact pC_out hs (by omega)
    refine ⟨⟨s0, by omega, s3, s4', z6, u2, u3, ?_, f3, f2, u4, ?_, q16, fun c => ⟨by have := (he.mp c).1; omega, (he.mp c).2⟩, fun c => (u8 c).1, fun i hi => ?_, fun i hi => ?_⟩, n1, n4, w7, he, o1, o2, o3⟩
    · rw [s9]; exact Nat.mod_lt _ (by decide)
    · rw [s15, s9, f1]
    · rw [so i hi]; exact hC _ _
    · rw [i3 i (by omega) (Or.inl hi)]; exact hC _ _
  refine ⟨⟨fun s hs => (S s hs).1, fun w hw => ?_, I.2.2.2.2.2.2.2.2.1.1, I.2.2.2.2.2.2.2.2.1.2.1, fun e he => ?_⟩, fun s hs => (S s hs).2, ?_⟩
  · have L := I.1 w hw
    obtain ⟨q26, q29, q33, q36⟩ := q.1 w hw
    unfold lk at L
    have p0 : N' 41 w = 0 ∧ N' 34 w = 0 := by
      rcases L.2.2.2.2.2.2.2 with h | h | h | h | h
      · exact ⟨h.2.2.2.2.1, h.2.2.1⟩
      · omega
      · omega
      · omega
      · omega
    exact ⟨L.2.2.2.2.2.2.1, q26, q29, L.2.2.1, L.2.2.2.2.1 p0.1, q33, p0.2, q36⟩
  · have D := I.2.2.2.2.2.1 e he
    have J := I.2.2.2.1 (1 - e) (by omega)
    unfold jo at J
    rw [show 1 - (1 - e) = e by omega] at J
    unfold dr at D
    have b24 : N' 24 e = N 24 e := by rw [k24]; rfl
    have r24 := (R.2.2.2.2 e he).2.2.2.2
    refine ⟨?_, ?_, by rw [D.2.2.2.1]; exact Nat.mod_lt _ (by decide), D.2.2.2.2.1, by omega⟩
    · rcases J with J | ⟨x, _, J, _⟩
      · rw [J.2]; omega
      · rw [J]
        have : pq_i x % 16 < 16 := Nat.mod_lt _ (by decide)
        omega
    · intro c
      rcases J with J | ⟨x, _, _, J, _⟩
      · exact absurd J.2 c
      · exact J
  · rw [k24]; rfl
theorem pumpX {N : Nat → Nat → Nat} (tl0 : Nat) (ch0 p0 p1 : Int32) (R : Rs N) (l0 : N 24 0 = 1) (l1 : N 24 1 = 1) : ∃ tl' ch' N', Rs N' ∧ (∀ s, s < 4 → pE N N' s) ∧ N' 24 = N 24 ∧ ∀ post : Int32 → SX → Prop, post (nI (pm N 0 + pm N 1 + pm N 2 + pm N 3)) (ss_st tl' ch' N') → wpX_pump post (ss_st tl0 ch0 N) p0 p1 := by
  obtain ⟨tl, ht, hsel⟩ : ∃ tl, tl ≤ 20 ∧ ∀ (post : Int32 → SX → Prop) (x3 : Int32), (∃ n57, ss_A (wX_pump_57 post x3 (nI tl) p0 n57 0) N) → ((0 ≤ p1 → ((p1 ≤ 20 → ∃ n57, ss_A (wX_pump_57 post x3 p1 p0 n57 0) N) ∧ (¬ p1 ≤ 20 → ∃ n57, ss_A (wX_pump_57 post x3 20 p0 n57 0) N))) ∧ (¬ 0 ≤ p1 → ∃ n57, ss_A (wX_pump_57 post x3 0 p0 n57 0) N)) := by
    by_cases c : 0 ≤ p1
    · by_cases c2 : p1 ≤ 20
      · obtain ⟨j, hj, e⟩ := nI_of2 (x := p1) (M := 20) (n := 20) (by decide) (Int32.not_lt.mpr c) c2
        exact ⟨j, hj, fun post x3 h => br_t c (br_t c2 (by rw [e]; exact h))⟩
      · exact ⟨20, by omega, fun post x3 h => br_t c (br_f c2 h)⟩
    · exact ⟨0, by omega, fun post x3 h => br_f c h⟩
  obtain ⟨tl', ch', N', lv', b1, b2, b3, b4⟩ := pump_loop (C := pC N) (me tl (pG N) (pL N)) tl p0 (pG N) (pL N) rfl (pu_start ht R)
  obtain ⟨r1, r2, r3⟩ := pu_end R b1 b2 b3
  refine ⟨tl', ch', N', r1, r2, r3, fun post h => ?_⟩
  have e0 : ss_c (N 24) 0 = nI 1 := by rw [ss_cr, l0]
  have e1 : ss_c (N 24) 1 = nI 1 := by rw [ss_cr, l1]
  refine br_f (by rw [e0]; decide) (br_f (by rw [e1]; decide) ?_)
  refine hsel post _ (pu_57 ?_)
  have z := b4 post (ss_c (N 4) 0 + ss_c (N 4) 1 + ss_c (N 4) 2 + ss_c (N 4) 3) ?_
  · exact z
  · show post (ss_c (N' 4) 0 + ss_c (N' 4) 1 + ss_c (N' 4) 2 + ss_c (N' 4) 3 - (ss_c (N 4) 0 + ss_c (N 4) 1 + ss_c (N 4) 2 + ss_c (N 4) 3)) _
    rw [ss_cr, ss_cr, ss_cr, ss_cr, ss_cr, ss_cr, ss_cr, ss_cr, nI_add, nI_add, nI_add, nI_add, nI_add, nI_add]
    have q0 := (r2 0 (by omega)).2.1
    have q1 := (r2 1 (by omega)).2.1
    have q2 := (r2 2 (by omega)).2.1
    have q3 := (r2 3 (by omega)).2.1
    rw [pk_sub (by omega), show N' 4 0 + N' 4 1 + N' 4 2 + N' 4 3 - (N 4 0 + N 4 1 + N 4 2 + N 4 3) = pm N 0 + pm N 1 + pm N 2 + pm N 3 by omega]
    exact h
end
section
/-! the relation; places; the methods that only look -/
abbrev sy (R : Nat → Nat → Nat) : SY := (ss_c (R 0), ss_c (R 1), ss_c (R 2), ss_c (R 3), ss_c (R 4), ss_c (R 5), ss_c (R 6))
def ry (N R : Nat → Nat → Nat) (s : Nat) : Prop :=
  R 2 s = N 1 s ∧ R 3 s = N 4 s ∧ R 4 s = N 7 s ∧ R 5 s = N 8 s ∧ (∀ i, i < N 1 s → R 0 (24 * s + i) = N 2 (24 * s + (N 0 s + i) % 24)) ∧ (∀ i, i < N 4 s → R 1 (12 * s + i) = N 5 (12 * s + (N 3 s + i) % 12))
def RY (N R : Nat → Nat → Nat) : Prop := (∀ s, s < 4 → ry N R s) ∧ (∀ l, l < 2 → R 6 l + N 24 l = 1)
def i_Rel (_k : Nat) (u : SX) (v : SY) : Prop := ∃ tl ch N R, u = ss_st tl ch N ∧ v = sy R ∧ Rs N ∧ RY N R
theorem i_up {k : Nat} {u : SX} {v : SY} (h : i_Rel k u v) : i_Rel (k + 5) u v := h
theorem rel_mk {k tl : Nat} {ch : Int32} {N R : Nat → Nat → Nat} (a : Rs N) (b : RY N R) : i_Rel k (ss_st tl ch N) (sy R) := ⟨tl, ch, N, R, rfl, rfl, a, b⟩
theorem pl_1 (x : Int32) : (∃ e : Nat, e < 2 ∧ x = nI e) ∨ x < 0 ∨ (¬ x < 0 ∧ 1 < x) := by
  by_cases h : x < 0
  · exact Or.inr (Or.inl h)
  · by_cases h1 : 1 < x
    · exact Or.inr (Or.inr ⟨h, h1⟩)
    · obtain ⟨j, hj, e⟩ := nI_of2 (x := x) (M := 1) (n := 1) (by decide) h (Int32.not_lt.mp h1)
      exact Or.inl ⟨j, by omega, e⟩
theorem pl_g (e : Nat) (h : e < 2) : ¬ nI e < 0 ∧ ¬ 1 < nI e := ⟨nI_pos (by omega), nI_nlt (a := 1) (by omega) (by omega)⟩
/-- a place, or none: alike on both sides -/
theorem pl (p0 p1 : Int32) : (∃ e c, e < 2 ∧ c < 2 ∧ p0 = nI e ∧ p1 = nI c) ∨ ((∀ (post : Int32 → Prop) tl ch N, post 0 → wpX_isPlace post (ss_st tl ch N) p0 p1) ∧ (∀ (post : Int32 → Prop) R, post 0 → wpY_isCouple post (sy R) p0 p1)) := by
  rcases pl_1 p0 with ⟨e, he, e0⟩ | h | ⟨h, h1⟩
  · obtain ⟨g1, g2⟩ := pl_g e he
    rcases pl_1 p1 with ⟨c, hc, e1⟩ | k | ⟨k, k1⟩
    · exact Or.inl ⟨e, c, he, hc, e0, e1⟩
    · subst e0
      exact Or.inr ⟨fun post _ _ _ hp => br_f g1 (br_f g2 (br_t k hp)), fun post _ hp => br_f g1 (br_f g2 (br_t k hp))⟩
    · subst e0
      exact Or.inr ⟨fun post _ _ _ hp => br_f g1 (br_f g2 (br_f k (br_t k1 hp))), fun post _ hp => br_f g1 (br_f g2 (br_f k (br_t k1 hp)))⟩
  · exact Or.inr ⟨fun post _ _ _ hp => br_t h hp, fun post _ hp => br_t h hp⟩
  · exact Or.inr ⟨fun post _ _ _ hp => br_f h (br_t h1 hp), fun post _ hp => br_f h (br_t h1 hp)⟩
theorem plX {post : Int32 → Prop} {tl : Nat} {ch : Int32} {N : Nat → Nat → Nat} {e c : Nat} (he : e < 2) (hc : c < 2) (h : post 1) : wpX_isPlace post (ss_st tl ch N) (nI e) (nI c) := by
  obtain ⟨g1, g2⟩ := pl_g e he
  obtain ⟨k1, k2⟩ := pl_g c hc
  exact br_f g1 (br_f g2 (br_f k1 (br_f k2 h)))
theorem plY {post : Int32 → Prop} {R : Nat → Nat → Nat} {e c : Nat} (he : e < 2) (hc : c < 2) (h : post 1) : wpY_isCouple post (sy R) (nI e) (nI c) := by
  obtain ⟨g1, g2⟩ := pl_g e he
  obtain ⟨k1, k2⟩ := pl_g c hc
  exact br_f g1 (br_f g2 (br_f k1 (br_f k2 h)))
theorem frX {post : Int32 → Prop} {tl : Nat} {ch : Int32} {N : Nat → Nat → Nat} {e c : Nat} (h : post (nI (2 * e + c))) : wpX_streamFrom post (ss_st tl ch N) (nI e) (nI c) := by
  show post (2 * nI e + nI c)
  rw [ss_mul2, nI_add]; exact h
theorem goY {post : Int32 → Prop} {R : Nat → Nat → Nat} {e c : Nat} (h : post (nI (2 * e + c))) : wpY_going post (sy R) (nI e) (nI c) := by
  show post (2 * nI e + nI c)
  rw [ss_mul2, nI_add]; exact h
theorem coY {post : Int32 → Prop} {R : Nat → Nat → Nat} {e c : Nat} (he : e < 2) (h : post (nI (2 * (1 - e) + c))) : wpY_coming post (sy R) (nI e) (nI c) := by
  show post ((2 * (1 - nI e)) + nI c)
  rw [show (1 : Int32) - nI e = nI (1 - e) from pk_sub (a := 1) (by omega), ss_mul2, nI_add]
  exact h
theorem i_vc_waiting {k : Nat} {u : SX} {v : SY} (I : i_Rel k u v) (hk : k + 5 ≤ 2560) (v1 : Int32) (v2 : Int32) : wpX_waiting (fun r => wpY_waiting (fun r' => r' = r ∧ i_Rel (k + 5) u v) v v1 v2) u v1 v2 := by
  have II := I
  obtain ⟨tl, ch, N, R, eu, ev, a, b⟩ := I
  subst eu ev
  unfold wpX_waiting
  rcases pl v1 v2 with ⟨e, c, he, hc, e1, e2⟩ | ⟨hX, hY⟩
  · subst e1 e2
    refine plX he hc ?_
    refine br_f (by decide) ?_
    refine frX ?_
    refine ⟨ss_in (by omega), ?_⟩
    unfold wpY_waiting
    refine plY he hc ?_
    refine br_f (by decide) ?_
    refine goY ?_
    refine ⟨ss_in (by omega), ?_, II⟩
    rw [ss_rd (by omega), ss_rd (by omega), (b.1 _ (by omega)).1]
  · refine hX _ _ _ _ ?_
    refine br_t rfl ?_
    unfold wpY_waiting
    refine hY _ _ ?_
    exact br_t rfl ⟨rfl, II⟩
theorem i_vc_ready {k : Nat} {u : SX} {v : SY} (I : i_Rel k u v) (hk : k + 5 ≤ 2560) (v1 : Int32) (v2 : Int32) : wpX_ready (fun r => wpY_ready (fun r' => r' = r ∧ i_Rel (k + 5) u v) v v1 v2) u v1 v2 := by
  have II := I
  obtain ⟨tl, ch, N, R, eu, ev, a, b⟩ := I
  subst eu ev
  unfold wpX_ready
  rcases pl v1 v2 with ⟨e, c, he, hc, e1, e2⟩ | ⟨hX, hY⟩
  · subst e1 e2
    refine plX he hc ?_
    refine br_f (by decide) ?_
    refine sv_to he ?_
    refine ⟨ss_in (by omega), ?_⟩
    unfold wpY_ready
    refine plY he hc ?_
    refine br_f (by decide) ?_
    refine coY he ?_
    refine ⟨ss_in (by omega), ?_, II⟩
    rw [ss_rd (by omega), ss_rd (by omega), (b.1 _ (by omega)).2.1]
  · refine hX _ _ _ _ ?_
    refine br_t rfl ?_
    unfold wpY_ready
    refine hY _ _ ?_
    exact br_t rfl ⟨rfl, II⟩
theorem i_vc_ended {k : Nat} {u : SX} {v : SY} (I : i_Rel k u v) (hk : k + 5 ≤ 2560) (v1 : Int32) (v2 : Int32) : wpX_ended (fun r => wpY_ended (fun r' => r' = r ∧ i_Rel (k + 5) u v) v v1 v2) u v1 v2 := by
  have II := I
  obtain ⟨tl, ch, N, R, eu, ev, a, b⟩ := I
  subst eu ev
  unfold wpX_ended
  rcases pl v1 v2 with ⟨e, c, he, hc, e1, e2⟩ | ⟨hX, hY⟩
  · subst e1 e2
    have h8 := (a.1 (2 * (1 - e) + c) (by omega)).2.2.2.2.2.2.1
    have h5 := (b.1 (2 * (1 - e) + c) (by omega)).2.2.2.1
    refine plX he hc ?_
    refine br_f (by decide) ?_
    refine sv_to he ?_
    refine ⟨ss_in (by omega), ?_⟩
    rw [ss_rd (by omega)]
    rcases (by omega : N 8 (2 * (1 - e) + c) = 0 ∨ N 8 (2 * (1 - e) + c) = 1) with z | z
    · rw [z]
      refine ⟨rfl, ?_⟩
      unfold wpY_ended
      refine plY he hc ?_
      refine br_f (by decide) ?_
      refine coY he ?_
      refine ⟨ss_in (by omega), br_t ?_ ⟨rfl, II⟩⟩
      rw [ss_rd (by omega), h5, z]; rfl
    · rw [z]
      refine ⟨rfl, ?_⟩
      unfold wpY_ended
      refine plY he hc ?_
      refine br_f (by decide) ?_
      refine coY he ?_
      refine ⟨ss_in (by omega), br_f ?_ ⟨rfl, II⟩⟩
      rw [ss_rd (by omega), h5, z]; decide
  · refine hX _ _ _ _ ?_
    refine br_t rfl ?_
    unfold wpY_ended
    refine hY _ _ ?_
    exact br_t rfl ⟨rfl, II⟩
theorem i_vc_peek {k : Nat} {u : SX} {v : SY} (I : i_Rel k u v) (hk : k + 5 ≤ 2560) (v1 : Int32) (v2 : Int32) (v3 : Int32) : wpX_peek (fun r => wpY_peek (fun r' => r' = r ∧ i_Rel (k + 5) u v) v v1 v2 v3) u v1 v2 v3 := by
  have II := I
  obtain ⟨tl, ch, N, R, eu, ev, a, b⟩ := I
  subst eu ev
  unfold wpX_peek
  rcases pl v1 v2 with ⟨e, c, he, hc, e1, e2⟩ | ⟨hX, hY⟩
  · subst e1 e2
    have s4 : 2 * (1 - e) + c < 4 := by omega
    obtain ⟨a0, a1, a3, a4, _⟩ := a.1 (2 * (1 - e) + c) s4
    obtain ⟨b2, b3, _, _, _, b6⟩ := b.1 (2 * (1 - e) + c) s4
    generalize hs : 2 * (1 - e) + c = s at *
    refine plX he hc ?_
    refine br_f (by decide) ?_
    refine sv_to he ?_
    rw [hs]
    by_cases neg : v3 < 0
    · refine br_t neg ?_
      unfold wpY_peek
      refine plY he hc ?_
      refine br_f (by decide) ?_
      refine coY he ?_
      exact br_t neg ⟨rfl, II⟩
    · obtain ⟨i, hi, e3⟩ := nI_of neg
      subst e3
      refine br_f neg ⟨ss_in s4, ?_⟩
      rw [ss_rd (by omega)]
      by_cases lt : i < N 4 s
      · have m12 : (N 3 s + i) % 12 < 12 := Nat.mod_lt _ (by decide)
        have ei : (12 * nI s) + ((ss_c (N 3) (nI s).toNatClampNeg + nI i) - (ss_c (N 3) (nI s).toNatClampNeg + nI i) / 12 * 12) = nI (12 * s + (N 3 s + i) % 12) := by
          rw [ss_rd (by omega), nI_add, ss_rem12 (by omega), ss_mul12, nI_add]
        refine br_t (nI_lt lt (by omega)) ⟨ss_in s4, ss_nz12d, ?_⟩
        rw [ei]
        refine ⟨ss_in (by omega), ?_⟩
        unfold wpY_peek
        refine plY he hc ?_
        refine br_f (by decide) ?_
        refine coY he ?_
        rw [hs]
        refine br_f neg ⟨ss_in s4, br_f ?_ ?_⟩
        · rw [ss_rd (by omega), b3]; exact nI_ge lt (by omega)
        · have ej : 12 * nI s + nI i = nI (12 * s + i) := by rw [ss_mul12, nI_add]
          rw [ej]
          refine ⟨ss_in (by omega), ?_, II⟩
          rw [ss_rd (by omega), ss_rd (by omega), b6 i lt]
      · refine br_f (nI_nlt (by omega) (by omega)) ?_
        unfold wpY_peek
        refine plY he hc ?_
        refine br_f (by decide) ?_
        refine coY he ?_
        rw [hs]
        refine br_f neg ⟨ss_in s4, br_t ?_ ⟨rfl, II⟩⟩
        rw [ss_rd (by omega), b3]; exact nI_le (by omega) (by omega)
  · refine hX _ _ _ _ ?_
    refine br_t rfl ?_
    unfold wpY_peek
    refine hY _ _ ?_
    exact br_t rfl ⟨rfl, II⟩
end
section
/-! frames of the relation; close; line -/
theorem rs_keep {N N' : Nat → Nat → Nat} (h : ∀ i, 17 ≤ i → i ≠ 24 → N' i = N i) (h24 : ∀ e, e < 2 → N' 24 e ≤ 1) (hs : ∀ s, s < 4 → rs_s N' s) (R : Rs N) : Rs N' := by
  refine ⟨hs, ?_, ?_, ?_, ?_⟩
  · intro w hw
    have := R.2.1 w hw
    unfold rs_w at this ⊢
    rw [h 25 (by omega) (by omega), h 26 (by omega) (by omega), h 29 (by omega) (by omega), h 32 (by omega) (by omega), h 35 (by omega) (by omega), h 33 (by omega) (by omega), h 34 (by omega) (by omega), h 36 (by omega) (by omega)]
    exact this
  · rw [h 28 (by omega) (by omega)]; exact R.2.2.1
  · rw [h 27 (by omega) (by omega)]; exact R.2.2.2.1
  · intro e he
    obtain ⟨a, b, c, d, _⟩ := R.2.2.2.2 e he
    unfold rs_e
    rw [h 20 (by omega) (by omega), h 21 (by omega) (by omega), h 22 (by omega) (by omega), h 23 (by omega) (by omega)]
    exact ⟨a, b, c, d, h24 e he⟩
theorem rs_eq {N N' : Nat → Nat → Nat} {s : Nat} (h : ∀ i, i < 17 → i ≠ 2 → i ≠ 5 → N' i s = N i s) (h2 : ∀ q, q < 24 → N' 2 (24 * s + q) = N 2 (24 * s + q)) (h5 : ∀ q, q < 12 → N' 5 (12 * s + q) = N 5 (12 * s + q)) (r : rs_s N s) : rs_s N' s := by
  unfold rs_s at r ⊢
  rw [h 0 (by omega) (by omega) (by omega), h 1 (by omega) (by omega) (by omega), h 3 (by omega) (by omega) (by omega), h 4 (by omega) (by omega) (by omega), h 6 (by omega) (by omega) (by omega), h 7 (by omega) (by omega) (by omega), h 8 (by omega) (by omega) (by omega), h 9 (by omega) (by omega) (by omega), h 10 (by omega) (by omega) (by omega), h 11 (by omega) (by omega) (by omega), h 14 (by omega) (by omega) (by omega), h 15 (by omega) (by omega) (by omega), h 16 (by omega) (by omega) (by omega)]
  obtain ⟨a0, a1, a3, a4, a6, a7, a8, a9, a10, a11, a14, a15, a16, c1, c2, c3, c4⟩ := r
  refine ⟨a0, a1, a3, a4, a6, a7, a8, a9, a10, a11, a14, a15, a16, c1, c2, fun i hi => ?_, fun i hi => ?_⟩
  · rw [h2 _ (Nat.mod_lt _ (by decide))]; exact c3 i hi
  · rw [h5 _ (Nat.mod_lt _ (by decide))]; exact c4 i hi
theorem ry_eq {N N' R R' : Nat → Nat → Nat} {s : Nat} (h : ∀ i, i < 17 → i ≠ 2 → i ≠ 5 → N' i s = N i s) (h2 : ∀ q, q < 24 → N' 2 (24 * s + q) = N 2 (24 * s + q)) (h5 : ∀ q, q < 12 → N' 5 (12 * s + q) = N 5 (12 * s + q))
    (g : ∀ i, 2 ≤ i → i < 6 → R' i s = R i s) (g0 : ∀ q, q < 24 → R' 0 (24 * s + q) = R 0 (24 * s + q)) (g1 : ∀ q, q < 12 → R' 1 (12 * s + q) = R 1 (12 * s + q)) (k1 : N 1 s ≤ 24) (k4 : N 4 s ≤ 12) (r : ry N R s) : ry N' R' s := by
  unfold ry at r ⊢
  rw [h 0 (by omega) (by omega) (by omega), h 1 (by omega) (by omega) (by omega), h 3 (by omega) (by omega) (by omega), h 4 (by omega) (by omega) (by omega), h 7 (by omega) (by omega) (by omega), h 8 (by omega) (by omega) (by omega), g 2 (by omega) (by omega), g 3 (by omega) (by omega), g 4 (by omega) (by omega), g 5 (by omega) (by omega)]
  obtain ⟨a, b, c, d, e, f⟩ := r
  refine ⟨a, b, c, d, fun i hi => ?_, fun i hi => ?_⟩
  · rw [g0 _ (by omega), h2 _ (Nat.mod_lt _ (by decide))]; exact e i hi
  · rw [g1 _ (by omega), h5 _ (Nat.mod_lt _ (by decide))]; exact f i hi
theorem i_vc_close {k : Nat} {u : SX} {v : SY} (I : i_Rel k u v) (hk : k + 5 ≤ 2560) (v1 : Int32) (v2 : Int32) : wpX_close (fun r u' => wpY_close (fun r' v' => r' = r ∧ i_Rel (k + 5) u' v') v v1 v2) u v1 v2 := by
  have II := I
  obtain ⟨tl, ch, N, R, eu, ev, a, b⟩ := I
  subst eu ev
  unfold wpX_close
  rcases pl v1 v2 with ⟨e, c, he, hc, e1, e2⟩ | ⟨hX, hY⟩
  · subst e1 e2
    have s4 : 2 * e + c < 4 := by omega
    refine plX he hc ?_
    refine br_f (by decide) ?_
    refine frX ?_
    generalize hs : 2 * e + c = s at *
    have rs := a.1 s s4
    have rb := b.1 s s4
    have h7 := rs.2.2.2.2.2.1
    have h4 := rb.2.2.1
    refine ⟨ss_in s4, ?_⟩
    rw [ss_rd (by omega)]
    rcases (by omega : N 7 s = 0 ∨ N 7 s = 1) with z | z
    · refine br_t (by rw [z]; rfl) ⟨ss_in s4, nm_r (e' := ss_c (ub_un (N 7) s 1)) (ss_stv s 1 rfl rfl (by omega)) ?_⟩
      unfold wpY_close
      refine plY he hc ?_
      refine br_f (by decide) ?_
      refine goY ?_
      rw [hs]
      refine ⟨ss_in s4, br_t (by rw [ss_rd (by omega), h4, z]; rfl) ⟨ss_in s4, nm_r (e' := ss_c (ub_un (R 4) s 1)) (ss_stv s 1 rfl rfl (by omega)) ⟨rfl, rfl, ?_⟩⟩⟩
      refine rel_mk (N := st_up N 7 s 1) (R := st_up R 4 s 1) ?_ ?_
      · refine rs_keep (N := N) (fun i hi _ => ss_up_n (by omega)) (fun e he => (a.2.2.2.2 e he).2.2.2.2) (fun s' hs' => ?_) a
        by_cases q : s' = s
        · subst q
          obtain ⟨a0, a1, a3, a4, a6, a7, a8, a9, a10, a11, a14, a15, a16, c1, c2, c3, c4⟩ := rs
          exact ⟨a0, a1, a3, a4, a6, by show ub_un (N 7) s' 1 s' ≤ 1; rw [ub_s]; exact Nat.le_refl 1, a8, a9, a10, a11, a14, a15, a16, fun w => by have := c1 w; omega, c2, c3, c4⟩
        · refine rs_eq (N := N) (fun i _ _ _ => ?_) (fun _ _ => rfl) (fun _ _ => rfl) (a.1 s' hs')
          by_cases qi : i = 7
          · subst qi; exact ub_n q
          · rw [ss_up_n qi]
      · refine ⟨fun s' hs' => ?_, b.2⟩
        by_cases q : s' = s
        · subst q
          obtain ⟨r1, r2, r3, r4, r5, r6⟩ := rb
          refine ⟨r1, r2, ?_, r4, r5, r6⟩
          show ub_un (R 4) s' 1 s' = ub_un (N 7) s' 1 s'
          rw [ub_s, ub_s]
        · refine ry_eq (N := N) (R := R) (fun i _ _ _ => ?_) (fun _ _ => rfl) (fun _ _ => rfl) (fun i _ _ => ?_) (fun _ _ => rfl) (fun _ _ => rfl) (a.1 s' hs').2.1 (a.1 s' hs').2.2.2.1 (b.1 s' hs')
          · by_cases qi : i = 7
            · subst qi; exact ub_n q
            · rw [ss_up_n qi]
          · by_cases qi : i = 4
            · subst qi; exact ub_n q
            · rw [ss_up_n qi]
    · refine br_f (by rw [z]; decide) ?_
      unfold wpY_close
      refine plY he hc ?_
      refine br_f (by decide) ?_
      refine goY ?_
      rw [hs]
      refine ⟨ss_in s4, br_f (by rw [ss_rd (by omega), h4, z]; decide) ⟨ss_in s4, nm_r (e' := ss_c (ub_un (R 4) s 1)) (ss_stv s 1 rfl rfl (by omega)) ⟨rfl, rfl, ?_⟩⟩⟩
      have e4 : ub_un (R 4) s 1 = R 4 := by
        funext j
        unfold ub_un
        by_cases q : j = s
        · rw [if_pos q, q, h4, z]
        · rw [if_neg q]
      rw [e4]
      exact II
  · refine hX _ _ _ _ ?_
    refine br_t rfl ?_
    unfold wpY_close
    refine hY _ _ ?_
    exact br_t rfl ⟨rfl, II⟩
theorem ln_rel {k tl : Nat} {ch : Int32} {N R : Nat → Nat → Nat} {l t : Nat} (ht : t ≤ 1) (a : Rs N) (b : RY N R) : i_Rel (k + 5) (ss_st tl ch (st_up N 24 l t)) (sy (st_up R 6 l (1 - t))) := by
  refine rel_mk ?_ ?_
  · refine rs_keep (N := N) (fun i _ h => ss_up_n h) (fun e he => ?_) (fun s hs => ?_) a
    · show ub_un (N 24) l t e ≤ 1
      by_cases q : e = l
      · rw [q, ub_s]; exact ht
      · rw [ub_n q]; exact (a.2.2.2.2 e he).2.2.2.2
    · exact a.1 s hs
  · refine ⟨b.1, fun e he => ?_⟩
    show ub_un (R 6) l (1 - t) e + ub_un (N 24) l t e = 1
    by_cases q : e = l
    · rw [q, ub_s, ub_s]; omega
    · rw [ub_n q, ub_n q]; exact b.2 e he
theorem i_vc_line {k : Nat} {u : SX} {v : SY} (I : i_Rel k u v) (hk : k + 5 ≤ 2560) (v1 : Int32) (v2 : Int32) : wpX_line (fun r u' => wpY_line (fun r' v' => r' = r ∧ i_Rel (k + 5) u' v') v v1 (lw_bz v2)) u v1 (lw_bz v2) := by
  have II := I
  obtain ⟨tl, ch, N, R, eu, ev, a, b⟩ := I
  subst eu ev
  rcases pl_1 v1 with ⟨e, he, e0⟩ | h | ⟨h, h1⟩
  · subst e0
    obtain ⟨g1, g2⟩ := pl_g e he
    have g3 : nI e ≤ 1 := Int32.not_lt.mp g2
    rcases lw_bz_01 v2 with z | z
    · rw [z]
      exact br_f g1 (br_t g3 ⟨ss_in he, nm_r (e' := ss_c (ub_un (N 24) e 0)) (ss_stv e 0 rfl rfl (by omega)) (br_f g1 (br_t g3 (br_t rfl ⟨ss_in he, nm_r (e' := ss_c (ub_un (R 6) e 1)) (ss_stv e 1 rfl rfl (by omega)) ⟨rfl, ln_rel (l := e) (t := 0) (by omega) a b⟩⟩)))⟩)
    · rw [z]
      exact br_f g1 (br_t g3 ⟨ss_in he, nm_r (e' := ss_c (ub_un (N 24) e 1)) (ss_stv e 1 rfl rfl (by omega)) (br_f g1 (br_t g3 (br_f (by decide) ⟨ss_in he, nm_r (e' := ss_c (ub_un (R 6) e 0)) (ss_stv e 0 rfl rfl (by omega)) ⟨rfl, ln_rel (l := e) (t := 1) (by omega) a b⟩⟩)))⟩)
  · exact br_t h (br_t h ⟨rfl, II⟩)
  · have h2 : ¬ v1 ≤ 1 := Int32.not_le.mpr h1
    exact br_f h (br_f h2 (br_f h (br_f h2 ⟨rfl, II⟩)))
end
section
/-! renew; the start -/
def rnN (N : Nat → Nat → Nat) (s : Nat) : Nat → Nat → Nat :=
  st_up (st_up (st_up (st_up (st_up (st_up (st_up (st_up (st_up (st_up N 1 s 0) 4 s 0) 6 s 0) 7 s 0) 8 s 0) 9 s 0) 15 s 0) 10 s 0) 11 s 0) 14 s 0
def rnR (R : Nat → Nat → Nat) (s : Nat) : Nat → Nat → Nat := st_up (st_up (st_up (st_up R 2 s 0) 3 s 0) 4 s 0) 5 s 0
theorem rn_rel {N R : Nat → Nat → Nat} {s : Nat} (hs : s < 4) (a : Rs N) (b : RY N R) : Rs (rnN N s) ∧ RY (rnN N s) (rnR R s) := by
  obtain ⟨a0, a1, a3, a4, a6, a7, a8, a9, a10, a11, a14, a15, a16, c1, c2, c3, c4⟩ := a.1 s hs
  have e1 : ub_un (N 1) s 0 s = 0 := ub_s
  have e4 : ub_un (N 4) s 0 s = 0 := ub_s
  have e6 : ub_un (N 6) s 0 s = 0 := ub_s
  have e7 : ub_un (N 7) s 0 s = 0 := ub_s
  have e8 : ub_un (N 8) s 0 s = 0 := ub_s
  have e9 : ub_un (N 9) s 0 s = 0 := ub_s
  have e10 : ub_un (N 10) s 0 s = 0 := ub_s
  have e11 : ub_un (N 11) s 0 s = 0 := ub_s
  have e14 : ub_un (N 14) s 0 s = 0 := ub_s
  have e15 : ub_un (N 15) s 0 s = 0 := ub_s
  have nn : ∀ s', s' ≠ s → ∀ i, i < 17 → rnN N s i s' = N i s' := by
    intro s' q i hi
    have : i = 0 ∨ i = 1 ∨ i = 2 ∨ i = 3 ∨ i = 4 ∨ i = 5 ∨ i = 6 ∨ i = 7 ∨ i = 8 ∨ i = 9 ∨ i = 10 ∨ i = 11 ∨ i = 12 ∨ i = 13 ∨ i = 14 ∨ i = 15 ∨ i = 16 := by omega
    rcases this with r | r | r | r | r | r | r | r | r | r | r | r | r | r | r | r | r <;> subst r <;> first | rfl | exact ub_n q
  have nr : ∀ s', s' ≠ s → ∀ i, 2 ≤ i → i < 6 → rnR R s i s' = R i s' := by
    intro s' q i h2 hi
    have : i = 2 ∨ i = 3 ∨ i = 4 ∨ i = 5 := by omega
    rcases this with r | r | r | r <;> subst r <;> exact ub_n q
  refine ⟨?_, ?_, b.2⟩
  · refine rs_keep (N := N) (fun i hi _ => ?_) (fun e he => (a.2.2.2.2 e he).2.2.2.2) (fun s' hs' => ?_) a
    · unfold rnN
      rw [ss_up_n (by omega), ss_up_n (by omega), ss_up_n (by omega), ss_up_n (by omega), ss_up_n (by omega), ss_up_n (by omega), ss_up_n (by omega), ss_up_n (by omega), ss_up_n (by omega), ss_up_n (by omega)]
    · by_cases q : s' = s
      · subst q
        refine ⟨a0, Nat.le_trans (Nat.le_of_eq e1) (by omega), a3, Nat.le_trans (Nat.le_of_eq e4) (by omega), e6, Nat.le_trans (Nat.le_of_eq e7) (by omega), Nat.le_trans (Nat.le_of_eq e8) (by omega), Nat.lt_of_le_of_lt (Nat.le_of_eq e9) (by omega), e10, e11, Nat.le_trans (Nat.le_of_eq e14) (by omega), e15.trans e9.symm, a16, fun w => absurd (e8.symm.trans w) (by decide), fun w => absurd (e14.symm.trans w) (by decide), fun i hi => absurd (Nat.lt_of_lt_of_le hi (Nat.le_of_eq e1)) (by omega), fun i hi => absurd (Nat.lt_of_lt_of_le hi (Nat.le_of_eq e4)) (by omega)⟩
      · exact rs_eq (N := N) (fun i hi _ _ => nn s' q i hi) (fun _ _ => rfl) (fun _ _ => rfl) (a.1 s' hs')
  · intro s' hs'
    by_cases q : s' = s
    · subst q
      exact ⟨(ub_s (f := R 2)).trans e1.symm, (ub_s (f := R 3)).trans e4.symm, (ub_s (f := R 4)).trans e7.symm, (ub_s (f := R 5)).trans e8.symm, fun i hi => absurd (Nat.lt_of_lt_of_le hi (Nat.le_of_eq e1)) (by omega), fun i hi => absurd (Nat.lt_of_lt_of_le hi (Nat.le_of_eq e4)) (by omega)⟩
    · exact ry_eq (N := N) (R := R) (fun i hi _ _ => nn s' q i hi) (fun _ _ => rfl) (fun _ _ => rfl) (fun i h2 h6 => nr s' q i h2 h6) (fun _ _ => rfl) (fun _ _ => rfl) (a.1 s' hs').2.1 (a.1 s' hs').2.2.2.1 (b.1 s' hs')
theorem rnX {post : Int32 → SX → Prop} {tl s n : Nat} {ch : Int32} {N : Nat → Nat → Nat} (hs : s < 4) (h : ss_A (wX_renew_13 post (nI tl) ch n (nI (s + 2))) (rnN N s)) : ss_A (wX_renew_13 post (nI tl) ch (n + 1) (nI s)) N := by
  have i4 := ss_in hs (by decide)
  have z : ∀ f : Nat → Nat, upd (ss_c f) (nI s).toNatClampNeg (vp_nar .byte 0) = ss_c (ub_un f s 0) := fun f => by rw [ss_nb0]; exact ss_stv s 0 rfl rfl (by omega)
  have y : ∀ f : Nat → Nat, upd (ss_c f) (nI s).toNatClampNeg (vp_nar .boolean 0) = ss_c (ub_un f s 0) := fun f => ss_stv s 0 rfl rfl (by omega)
  have x : ∀ f : Nat → Nat, upd (ss_c f) (nI s).toNatClampNeg 0 = ss_c (ub_un f s 0) := fun f => ss_stv s 0 rfl rfl (by omega)
  exact br_f (by rw [ss_le4a (by omega)]; omega) ⟨i4, nm_r (z _) ⟨i4, nm_r (z _) ⟨i4, nm_r (x _) ⟨i4, nm_r (y _) ⟨i4, nm_r (y _) ⟨i4, nm_r (z _) ⟨i4, nm_r (z _) ⟨i4, nm_r (z _) ⟨i4, nm_r (z _) ⟨i4, nm_r (y _) (nm_r (ss_add2 s) h)⟩⟩⟩⟩⟩⟩⟩⟩⟩⟩
theorem rnY {post : Int32 → SY → Prop} {s n : Nat} {R : Nat → Nat → Nat} (hs : s < 4) (h : wY_renew_13 post n (nI (s + 2)) (ss_c (rnR R s 0)) (ss_c (rnR R s 1)) (ss_c (rnR R s 2)) (ss_c (rnR R s 3)) (ss_c (rnR R s 4)) (ss_c (rnR R s 5)) (ss_c (rnR R s 6))) : wY_renew_13 post (n + 1) (nI s) (ss_c (R 0)) (ss_c (R 1)) (ss_c (R 2)) (ss_c (R 3)) (ss_c (R 4)) (ss_c (R 5)) (ss_c (R 6)) := by
  have i4 := ss_in hs (by decide)
  have y : ∀ f : Nat → Nat, upd (ss_c f) (nI s).toNatClampNeg (vp_nar .boolean 0) = ss_c (ub_un f s 0) := fun f => ss_stv s 0 rfl rfl (by omega)
  have x : ∀ f : Nat → Nat, upd (ss_c f) (nI s).toNatClampNeg 0 = ss_c (ub_un f s 0) := fun f => ss_stv s 0 rfl rfl (by omega)
  exact br_f (by rw [ss_le4a (by omega)]; omega) ⟨i4, nm_r (x _) ⟨i4, nm_r (x _) ⟨i4, nm_r (y _) ⟨i4, nm_r (y _) (nm_r (ss_add2 s) h)⟩⟩⟩⟩
theorem i_vc_renew {k : Nat} {u : SX} {v : SY} (I : i_Rel k u v) (hk : k + 5 ≤ 2560) (v1 : Int32) : wpX_renew (fun r u' => wpY_renew (fun r' v' => r' = r ∧ i_Rel (k + 5) u' v') v v1) u v1 := by
  have II := I
  obtain ⟨tl, ch, N, R, eu, ev, a, b⟩ := I
  subst eu ev
  rcases pl_1 v1 with ⟨e, he, e0⟩ | h | ⟨h, h1⟩
  · subst e0
    obtain ⟨g1, g2⟩ := pl_g e he
    have g3 : nI e ≤ 1 := Int32.not_lt.mp g2
    obtain ⟨a1, b1⟩ := rn_rel (s := e) (by omega) a b
    obtain ⟨a2, b2⟩ := rn_rel (s := e + 2) (by omega) a1 b1
    have g4 : (4 : Int32) ≤ nI (e + 2 + 2) := nI_le (a := 4) (by omega) (by omega)
    refine br_f g1 (br_t g3 ⟨3, rnX (by omega) (rnX (by omega) (br_t g4 ?_))⟩)
    refine br_f g1 (br_t g3 ⟨3, rnY (by omega) (rnY (by omega) (br_t g4 ⟨rfl, ?_⟩))⟩)
    exact rel_mk a2 b2
  · exact br_t h (br_t h ⟨rfl, II⟩)
  · have h2 : ¬ v1 ≤ 1 := Int32.not_le.mpr h1
    exact br_f h (br_f h2 (br_f h (br_f h2 ⟨rfl, II⟩)))
def inN : Nat → Nat → Nat := fun i => cond (Nat.beq i 12) (fun _ => 1) (cond (Nat.beq i 20) (fun _ => 1) (cond (Nat.beq i 36) (fun _ => 1) (fun _ => 0)))
def inM : Nat → Nat → Nat := st_up (st_up (st_up (st_up (st_up (st_up (st_up (st_up inN 24 0 1) 24 1 1) 36 0 0) 36 1 0) 36 2 0) 36 3 0) 20 0 0) 20 1 0
theorem in_rs : Rs inM := by
  refine ⟨fun s _ => ?_, fun w hw => ?_, fun q _ => Nat.zero_le 4, fun q _ => (by decide : 0 < 256), fun e he => ?_⟩
  · exact ⟨(by decide : 0 < 24), (by decide : 0 ≤ 24), (by decide : 0 < 12), (by decide : 0 ≤ 12), rfl, (by decide : 0 ≤ 1), (by decide : 0 ≤ 1), (by decide : 0 < 64), rfl, rfl, (by decide : 0 ≤ 1), rfl, rfl, fun w => absurd (show (0 : Nat) = 1 from w) (by decide), fun w => absurd (show (0 : Nat) = 1 from w) (by decide), fun i hi => (by decide : 0 < 256), fun i hi => (by decide : 0 < 256)⟩
  · rcases (by omega : w = 0 ∨ w = 1 ∨ w = 2 ∨ w = 3) with r | r | r | r <;> subst r <;> unfold rs_w <;> decide
  · rcases (by omega : e = 0 ∨ e = 1) with r | r <;> subst r <;> unfold rs_e <;> decide
theorem in_ry : RY inM (fun _ _ => 0) := by
  refine ⟨fun s _ => ⟨rfl, rfl, rfl, rfl, fun i hi => rfl, fun i hi => rfl⟩, fun l hl => ?_⟩
  rcases (by omega : l = 0 ∨ l = 1) with r | r <;> subst r <;> decide
theorem i_vc0 : wpX_init (fun u => wpY_init (fun v => i_Rel 0 u v)) := by
  have m0 : (fun _ => 0 : Nat → Int32) = ss_m (fun _ => 1) := funext fun _ => (by decide +kernel : (0 : Int32) = nI 1 - 1)
  have a : ∀ (f : Nat → Nat) (s : Nat), s < 4 → upd (ss_m f) (nI s).toNatClampNeg (vp_nar .byte (-1)) = ss_m (ub_un f s 0) := by
    intro f s hs
    rw [ss_nbm, nI_clamp (by omega)]; exact ss_mu0 _ _
  refine nm_r (e' := ss_c (ub_un (fun _ => 0) 0 1)) (ss_cu (fun _ => 0) 0 1) (nm_r (e' := ss_c (ub_un (ub_un (fun _ => 0) 0 1) 1 1)) (ss_cu _ 1 1) ⟨5, ?_⟩)
  have key : ss_A (wX_init_295 (fun u => wpY_init (fun v => i_Rel 0 u v)) 0 0 5 0) (st_up (st_up inN 24 0 1) 24 1 1) := by
    refine br_f (by decide) ⟨ss_in (n := 0) (by omega), nm_r (a _ 0 (by omega)) (nm_r (e' := nI 1) rfl ?_)⟩
    refine br_f (by decide) ⟨ss_in (n := 1) (by omega), nm_r (a _ 1 (by omega)) (nm_r (e' := nI 2) rfl ?_)⟩
    refine br_f (by decide) ⟨ss_in (n := 2) (by omega), nm_r (a _ 2 (by omega)) (nm_r (e' := nI 3) rfl ?_)⟩
    refine br_f (by decide) ⟨ss_in (n := 3) (by omega), nm_r (a _ 3 (by omega)) (nm_r (e' := nI 4) rfl ?_)⟩
    refine br_t (by decide) ⟨3, ?_⟩
    refine br_f (by decide) ⟨ss_in (n := 0) (by omega), nm_r (a _ 0 (by omega)) (nm_r (e' := nI 1) rfl ?_)⟩
    refine br_f (by decide) ⟨ss_in (n := 1) (by omega), nm_r (a _ 1 (by omega)) (nm_r (e' := nI 2) rfl ?_)⟩
    refine br_t (by decide) ?_
    exact rel_mk (k := 0) (tl := 0) (ch := 0) (N := inM) (R := fun _ _ => 0) in_rs in_ry
  have z0 : (fun _ => 0 : Nat → Int32) = ss_c (fun _ => 0) := rfl
  unfold ss_A at key
  have e12 : ss_m (inN 12) = fun _ => 0 := m0.symm
  have e20 : ss_m (inN 20) = fun _ => 0 := m0.symm
  have e36 : ss_m (inN 36) = fun _ => 0 := m0.symm
  have k2 := key
  rw [show ss_m (st_up (st_up inN 24 0 1) 24 1 1 12) = fun _ => 0 from e12, show ss_m (st_up (st_up inN 24 0 1) 24 1 1 20) = fun _ => 0 from e20, show ss_m (st_up (st_up inN 24 0 1) 24 1 1 36) = fun _ => 0 from e36] at k2
  exact k2
end
section
/-! write, fill -/
def apN (N : Nat → Nat → Nat) (s v : Nat) : Nat → Nat → Nat := st_up (st_up N 2 (24 * s + (N 0 s + N 1 s) % 24) v) 1 s (N 1 s + 1)
def apR (R : Nat → Nat → Nat) (s v : Nat) : Nat → Nat → Nat := st_up (st_up R 0 (24 * s + R 2 s) v) 2 s (R 2 s + 1)
theorem apX {post : SX → Prop} {tl s v : Nat} {ch : Int32} {N : Nat → Nat → Nat} (hs : s < 4) (h0 : N 0 s < 24) (h1 : N 1 s < 24) (h : post (ss_st tl ch (apN N s v))) : wpX_append post (ss_st tl ch N) (nI s) (nI v) := by
  have i4 := ss_in hs (by decide)
  have m24 : (N 0 s + N 1 s) % 24 < 24 := Nat.mod_lt _ (by decide)
  have ei : (24 * nI s) + ((ss_c (N 0) (nI s).toNatClampNeg + ss_c (N 1) (nI s).toNatClampNeg) - (ss_c (N 0) (nI s).toNatClampNeg + ss_c (N 1) (nI s).toNatClampNeg) / 24 * 24) = nI (24 * s + (N 0 s + N 1 s) % 24) := by
    rw [ss_rd (by omega), ss_rd (by omega), nI_add, ss_rem24 (by omega), ss_mul24, nI_add]
  refine ⟨i4, i4, ss_nz24d, ?_⟩
  rw [ei]
  refine ⟨ss_in (by omega), nm_r (e' := ss_c (ub_un (N 2) (24 * s + (N 0 s + N 1 s) % 24) v)) (ss_stv _ v rfl rfl (by omega)) ⟨i4, i4, nm_r (e' := ss_c (ub_un (N 1) s (N 1 s + 1))) (ss_stb ?_ (by omega) (by omega)) h⟩⟩
  rw [ss_rd (by omega), ss_add1]
theorem ap_mod {a i j : Nat} (ha : a < 24) (hi : i < 24) (hj : j < 24) (h : i ≠ j) : (a + i) % 24 ≠ (a + j) % 24 := by omega
theorem ap_rel {N R : Nat → Nat → Nat} {s v : Nat} (hs : s < 4) (hv : v < 256) (h1 : N 1 s < 24) (h7 : N 7 s = 0) (a : Rs N) (b : RY N R) : Rs (apN N s v) ∧ RY (apN N s v) (apR R s v) := by
  obtain ⟨a0, a1, a3, a4, a6, a7, a8, a9, a10, a11, a14, a15, a16, c1, c2, c3, c4⟩ := a.1 s hs
  obtain ⟨r1, r2, r3, r4, r5, r6⟩ := b.1 s hs
  have m24 : (N 0 s + N 1 s) % 24 < 24 := Nat.mod_lt _ (by decide)
  have e1 : ub_un (N 1) s (N 1 s + 1) s = N 1 s + 1 := ub_s
  have nn : ∀ s', s' ≠ s → ∀ i, i < 17 → i ≠ 2 → i ≠ 5 → apN N s v i s' = N i s' := by
    intro s' q i hi h2 h5
    by_cases qi : i = 1
    · subst qi; exact ub_n q
    · unfold apN
      rw [ss_up_n qi, ss_up_n h2]
  have nr : ∀ s', s' ≠ s → ∀ i, 2 ≤ i → i < 6 → apR R s v i s' = R i s' := by
    intro s' q i h2 hi
    by_cases qi : i = 2
    · subst qi; exact ub_n q
    · unfold apR
      rw [ss_up_n qi, ss_up_n (by omega)]
  have n2 : ∀ s', s' ≠ s → ∀ q, q < 24 → apN N s v 2 (24 * s' + q) = N 2 (24 * s' + q) := fun s' n q hq => ub_n (by omega)
  have n0 : ∀ s', s' ≠ s → ∀ q, q < 24 → apR R s v 0 (24 * s' + q) = R 0 (24 * s' + q) := fun s' n q hq => ub_n (by omega)
  refine ⟨?_, fun s' hs' => ?_, b.2⟩
  · refine rs_keep (N := N) (fun i hi _ => ?_) (fun e he => (a.2.2.2.2 e he).2.2.2.2) (fun s' hs' => ?_) a
    · unfold apN
      rw [ss_up_n (by omega), ss_up_n (by omega)]
    · by_cases q : s' = s
      · subst q
        refine ⟨a0, Nat.le_trans (Nat.le_of_eq e1) (by omega), a3, a4, a6, a7, a8, a9, a10, a11, a14, a15, a16, fun w => ?_, c2, fun i hi => ?_, c4⟩
        · have := c1 w; omega
        · have hi' : i < N 1 s' + 1 := Nat.lt_of_lt_of_le hi (Nat.le_of_eq e1)
          show ub_un (N 2) (24 * s' + (N 0 s' + N 1 s') % 24) v (24 * s' + (N 0 s' + i) % 24) < 256
          by_cases qi : i = N 1 s'
          · rw [qi, ub_s]; exact hv
          · have := ap_mod a0 h1 (show i < 24 by omega) (Ne.symm qi)
            rw [ub_n (by omega)]
            exact c3 i (by omega)
      · exact rs_eq (N := N) (nn s' q) (n2 s' q) (fun _ _ => rfl) (a.1 s' hs')
  · by_cases q : s' = s
    · subst q
      refine ⟨?_, r2, r3, r4, fun i hi => ?_, r6⟩
      · show ub_un (R 2) s' (R 2 s' + 1) s' = ub_un (N 1) s' (N 1 s' + 1) s'
        rw [ub_s, ub_s, r1]
      · have hi' : i < N 1 s' + 1 := Nat.lt_of_lt_of_le hi (Nat.le_of_eq e1)
        show ub_un (R 0) (24 * s' + R 2 s') v (24 * s' + i) = ub_un (N 2) (24 * s' + (N 0 s' + N 1 s') % 24) v (24 * s' + (N 0 s' + i) % 24)
        by_cases qi : i = N 1 s'
        · rw [qi, r1, ub_s, ub_s]
        · have := ap_mod a0 h1 (show i < 24 by omega) (Ne.symm qi)
          rw [r1, ub_n (by omega), ub_n (by omega)]
          exact r5 i (by omega)
    · exact ry_eq (N := N) (R := R) (nn s' q) (n2 s' q) (fun _ _ => rfl) (nr s' q) (n0 s' q) (fun _ _ => rfl) (a.1 s' hs').2.1 (a.1 s' hs').2.2.2.1 (b.1 s' hs')
theorem by1 {post : Int32 → Prop} {R : Nat → Nat → Nat} {v : Nat} (hv : v < 256) (h : post 1) : wpY_isByte post (sy R) (nI v) :=
  br_f (nI_pos (by omega)) (br_f (by rw [ss_lt255a (by omega)]; omega) h)
theorem wrY {post : Int32 → SY → Prop} {R : Nat → Nat → Nat} {e c v s : Nat} (he : e < 2) (hc : c < 2) (hs : 2 * e + c = s) (hv : v < 256) (h4 : R 4 s = 0) (h2 : R 2 s < 24) (h : post (nI (R 2 s + 1)) (sy (apR R s v))) : wpY_write post (sy R) (nI e) (nI c) (nI v) := by
  have s4 : s < 4 := by omega
  unfold wpY_write
  refine plY he hc ?_
  refine br_f (by decide) ?_
  refine by1 hv ?_
  refine br_f (by decide) ?_
  refine goY ?_
  rw [hs]
  have ei : 24 * nI s + ss_c (R 2) (nI s).toNatClampNeg = nI (24 * s + R 2 s) := by rw [ss_rd (by omega), ss_mul24, nI_add]
  refine ⟨ss_in s4, br_t (by rw [ss_rd (by omega), h4]; rfl) ⟨ss_in s4, br_f (by rw [ss_rd (by omega), ss_eqa24 (by omega)]; omega) ⟨ss_in s4, ?_⟩⟩⟩
  rw [ei]
  refine ⟨ss_in (by omega), nm_r (e' := ss_c (ub_un (R 0) (24 * s + R 2 s) v)) (ss_stv _ v rfl rfl (by omega)) ⟨ss_in s4, ss_in s4, nm_r (e' := ss_c (ub_un (R 2) s (R 2 s + 1))) (ss_stv _ _ rfl ?_ (by omega)) ⟨ss_in s4, ?_⟩⟩⟩
  · rw [ss_rd (by omega), ss_add1]
  · rw [ss_rd (by omega), ub_s]; exact h
theorem wrY3 {post : Int32 → SY → Prop} {R : Nat → Nat → Nat} {e c v s : Nat} (he : e < 2) (hc : c < 2) (hs : 2 * e + c = s) (hv : v < 256) (h4 : R 4 s = 1) (h : post (-3) (sy R)) : wpY_write post (sy R) (nI e) (nI c) (nI v) := by
  have s4 : s < 4 := by omega
  unfold wpY_write
  refine plY he hc ?_
  refine br_f (by decide) ?_
  refine by1 hv ?_
  refine br_f (by decide) ?_
  refine goY ?_
  rw [hs]
  exact ⟨ss_in s4, br_f (by rw [ss_rd (by omega), h4]; decide) h⟩
theorem wrY2 {post : Int32 → SY → Prop} {R : Nat → Nat → Nat} {e c v s : Nat} (he : e < 2) (hc : c < 2) (hs : 2 * e + c = s) (hv : v < 256) (h4 : R 4 s = 0) (h2 : R 2 s = 24) (h : post (-2) (sy R)) : wpY_write post (sy R) (nI e) (nI c) (nI v) := by
  have s4 : s < 4 := by omega
  unfold wpY_write
  refine plY he hc ?_
  refine br_f (by decide) ?_
  refine by1 hv ?_
  refine br_f (by decide) ?_
  refine goY ?_
  rw [hs]
  exact ⟨ss_in s4, br_t (by rw [ss_rd (by omega), h4]; rfl) ⟨ss_in s4, br_t (by rw [ss_rd (by omega), h2]; rfl) h⟩⟩
theorem byt (x : Int32) : (∃ v : Nat, v < 256 ∧ x = nI v) ∨ x < 0 ∨ (¬ x < 0 ∧ 255 < x) := by
  by_cases h : x < 0
  · exact Or.inr (Or.inl h)
  · by_cases h1 : 255 < x
    · exact Or.inr (Or.inr ⟨h, h1⟩)
    · obtain ⟨j, hj, e⟩ := nI_of2 (x := x) (M := 255) (n := 255) (by decide) h (Int32.not_lt.mp h1)
      exact Or.inl ⟨j, by omega, e⟩
theorem i_vc_write {k : Nat} {u : SX} {v : SY} (I : i_Rel k u v) (hk : k + 5 ≤ 2560) (v1 : Int32) (v2 : Int32) (v3 : Int32) : wpX_write (fun r u' => wpY_write (fun r' v' => r' = r ∧ i_Rel (k + 5) u' v') v v1 v2 v3) u v1 v2 v3 := by
  have II := I
  obtain ⟨tl, ch, N, R, eu, ev, a, b⟩ := I
  subst eu ev
  unfold wpX_write
  rcases pl v1 v2 with ⟨e, c, he, hc, e1, e2⟩ | ⟨hX, hY⟩
  · subst e1 e2
    have s4 : 2 * e + c < 4 := by omega
    refine plX he hc ?_
    refine br_f (by decide) ?_
    rcases byt v3 with ⟨w, hw, ew⟩ | neg | ⟨neg, big⟩
    · subst ew
      refine br_f (nI_pos (by omega)) ?_
      refine br_t (by rw [ss_lea255 (by omega)]; omega) ?_
      refine frX ?_
      generalize hs : 2 * e + c = s at *
      have rs := a.1 s s4
      have rb := b.1 s s4
      have h7 := rs.2.2.2.2.2.1
      refine ⟨ss_in s4, ?_⟩
      rcases (by omega : N 7 s = 0 ∨ N 7 s = 1) with z | z
      · refine br_t (by rw [ss_rd (by omega), z]; rfl) ⟨ss_in s4, ?_⟩
        by_cases fu : N 1 s < 24
        · refine br_t (by rw [ss_rd (by omega), ss_lta24 (by omega)]; exact fu) ?_
          obtain ⟨a', b'⟩ := ap_rel s4 hw fu z a b
          refine apX s4 rs.1 fu ?_
          refine ⟨ss_in s4, ?_⟩
          rw [ss_rd (by omega)]
          refine wrY he hc hs hw (by rw [rb.2.2.1, z]) (by rw [rb.1]; exact fu) ⟨?_, rel_mk a' b'⟩
          show _ = nI (ub_un (N 1) s (N 1 s + 1) s)
          rw [ub_s, rb.1]
        · have := rs.2.1
          refine br_f (by rw [ss_rd (by omega), ss_lta24 (by omega)]; exact fu) ?_
          exact wrY2 he hc hs hw (by rw [rb.2.2.1, z]) (by rw [rb.1]; omega) ⟨rfl, II⟩
      · refine br_f (by rw [ss_rd (by omega), z]; decide) ?_
        exact wrY3 he hc hs hw (by rw [rb.2.2.1, z]) ⟨rfl, II⟩
    · refine br_t neg ?_
      unfold wpY_write
      refine plY he hc ?_
      refine br_f (by decide) ?_
      exact br_t neg (br_t rfl ⟨rfl, II⟩)
    · refine br_f neg (br_f (Int32.not_le.mpr big) ?_)
      unfold wpY_write
      refine plY he hc ?_
      refine br_f (by decide) ?_
      exact br_f neg (br_t big (br_t rfl ⟨rfl, II⟩))
  · refine hX _ _ _ _ ?_
    refine br_t rfl ?_
    unfold wpY_write
    refine hY _ _ ?_
    exact br_t rfl ⟨rfl, II⟩
end
section
/-! fill -/
abbrev sA {β : Sort _} (W : (Nat → Int32) → (Nat → Int32) → (Nat → Int32) → (Nat → Int32) → (Nat → Int32) → (Nat → Int32) → (Nat → Int32) → β) (R : Nat → Nat → Nat) : β := W (ss_c (R 0)) (ss_c (R 1)) (ss_c (R 2)) (ss_c (R 3)) (ss_c (R 4)) (ss_c (R 5)) (ss_c (R 6))
theorem flI {post : Int32 → SY → Prop} {R : Nat → Nat → Nat} {e c s p : Nat} {x3 x5 : Int32} (he : e < 2) (hc : c < 2) (hs : 2 * e + c = s) (hp : p ≤ 24) (no : R 4 s = 1 ∨ (R 4 s = 0 ∧ R 2 s = 24)) (h : post x5 (sy R)) : ∀ m j, j + m = p → sA (wY_fill_37 post (nI e) (nI c) x3 (nI p) (m + 1) x5 (nI j)) R := by
  intro m
  induction m with
  | zero =>
    intro j hj
    exact br_t (nI_le (by omega) (by omega)) h
  | succ m ih =>
    intro j hj
    refine br_f (nI_ge (by omega) (by omega)) ?_
    obtain ⟨w, hw, ew⟩ := pk_andE (x3 + nI j) (m := 255) 8 (by decide)
    rw [ew]
    rcases no with n | ⟨n, n'⟩
    · refine wrY3 he hc hs hw n ?_
      exact br_t (by decide) (nm_r (ss_add1 j) (ih (j + 1) (by omega)))
    · refine wrY2 he hc hs hw n n' ?_
      exact br_t (by decide) (nm_r (ss_add1 j) (ih (j + 1) (by omega)))
theorem flB {e c s p tl : Nat} {ch x3 : Int32} (he : e < 2) (hc : c < 2) (hs : 2 * e + c = s) (hp : p ≤ 24) : ∀ m i N R, i + m = p → Rs N → RY N R → ∃ r N' R', Rs N' ∧ RY N' R' ∧
    (∀ post : Int32 → SX → Prop, post (nI r) (ss_st tl ch N') → ∃ n, ss_S (wX_fill_45 post x3 (nI p) (nI s) n (nI i)) tl ch N) ∧
    (∀ post : Int32 → SY → Prop, post (nI r) (sy R') → ∃ n, sA (wY_fill_37 post (nI e) (nI c) x3 (nI p) n (nI i) (nI i)) R) := by
  have s4 : s < 4 := by omega
  intro m
  induction m with
  | zero =>
    intro i N R hi a b
    have g : nI p ≤ nI i := nI_le (by omega) (by omega)
    exact ⟨i, N, R, a, b, fun post h => ⟨1, br_t g h⟩, fun post h => ⟨1, br_t g h⟩⟩
  | succ m ih =>
    intro i N R hi a b
    have g : ¬ nI p ≤ nI i := nI_ge (by omega) (by omega)
    have rs := a.1 s s4
    have rb := b.1 s s4
    have h7 := rs.2.2.2.2.2.1
    have h1 := rs.2.1
    rcases (by omega : N 7 s = 0 ∨ N 7 s = 1) with z | z
    · by_cases fu : N 1 s < 24
      · obtain ⟨w, hw, ew⟩ := pk_andE (x3 + nI i) (m := 255) 8 (by decide)
        obtain ⟨a', b'⟩ := ap_rel s4 hw fu z a b
        obtain ⟨r, N', R', a2, b2, k1, k2⟩ := ih (i + 1) (apN N s w) (apR R s w) (by omega) a' b'
        refine ⟨r, N', R', a2, b2, fun post h => ?_, fun post h => ?_⟩
        · obtain ⟨n, hn⟩ := k1 post h
          refine ⟨n + 1, br_f g ⟨ss_in s4, br_t (by rw [ss_rd (by omega), z]; rfl) ⟨ss_in s4, br_f (by rw [ss_rd (by omega), ss_le24a (by omega)]; omega) ?_⟩⟩⟩
          rw [ew]
          refine apX s4 rs.1 fu ?_
          exact nm_r (ss_add1 i) hn
        · obtain ⟨n, hn⟩ := k2 post h
          refine ⟨n + 1, br_f g ?_⟩
          rw [ew]
          refine wrY he hc hs hw (by rw [rb.2.2.1, z]) (by rw [rb.1]; exact fu) ?_
          have r1 := rb.1
          refine br_f (by rw [ss_lea0 (by omega)]; omega) ?_
          exact nm_r (ss_add1 i) (nm_r (ss_add1 i) hn)
      · refine ⟨i, N, R, a, b, fun post h => ⟨1, ?_⟩, fun post h => ⟨m + 1 + 1, ?_⟩⟩
        · exact br_f g ⟨ss_in s4, br_t (by rw [ss_rd (by omega), z]; rfl) ⟨ss_in s4, br_t (by rw [ss_rd (by omega), ss_le24a (by omega)]; omega) h⟩⟩
        · exact flI he hc hs hp (Or.inr ⟨by rw [rb.2.2.1, z], by rw [rb.1]; omega⟩) h (m + 1) i (by omega)
    · refine ⟨i, N, R, a, b, fun post h => ⟨1, ?_⟩, fun post h => ⟨m + 1 + 1, ?_⟩⟩
      · exact br_f g ⟨ss_in s4, br_f (by rw [ss_rd (by omega), z]; decide) h⟩
      · exact flI he hc hs hp (Or.inl (by rw [rb.2.2.1, z])) h (m + 1) i (by omega)
theorem i_vc_fill {k : Nat} {u : SX} {v : SY} (I : i_Rel k u v) (hk : k + 5 ≤ 2560) (v1 : Int32) (v2 : Int32) (v3 : Int32) (v4 : Int32) : wpX_fill (fun r u' => wpY_fill (fun r' v' => r' = r ∧ i_Rel (k + 5) u' v') v v1 v2 v3 v4) u v1 v2 v3 v4 := by
  have II := I
  obtain ⟨tl, ch, N, R, eu, ev, a, b⟩ := I
  subst eu ev
  unfold wpX_fill
  rcases pl v1 v2 with ⟨e, c, he, hc, e1, e2⟩ | ⟨hX, hY⟩
  · subst e1 e2
    refine plX he hc ?_
    refine br_f (by decide) ?_
    rcases byt v3 with ⟨w, hw, ew⟩ | neg | ⟨neg, big⟩
    · subst ew
      refine br_f (nI_pos (by omega)) ?_
      refine br_f (by rw [ss_lt255a (by omega)]; omega) ?_
      by_cases n4 : v4 < 0
      · refine br_t n4 ?_
        unfold wpY_fill
        refine plY he hc ?_
        refine br_f (by decide) ?_
        refine by1 hw ?_
        exact br_f (by decide) (br_t n4 ⟨rfl, II⟩)
      · by_cases b4 : v4 ≤ 24
        · obtain ⟨p, hp, ep⟩ := nI_of2 (x := v4) (M := 24) (n := 24) (by decide) n4 b4
          subst ep
          refine br_f n4 (br_t b4 ?_)
          refine frX ?_
          obtain ⟨r, N', R', a2, b2, k1, k2⟩ := flB (e := e) (c := c) (s := 2 * e + c) (p := p) (tl := tl) (ch := ch) (x3 := nI w) he hc rfl (by omega) p 0 N R (by omega) a b
          refine k1 _ ?_
          unfold wpY_fill
          refine plY he hc ?_
          refine br_f (by decide) ?_
          refine by1 hw ?_
          refine br_f (by decide) (br_f n4 (br_t b4 ?_))
          exact k2 _ ⟨rfl, rel_mk a2 b2⟩
        · refine br_f n4 (br_f b4 ?_)
          unfold wpY_fill
          refine plY he hc ?_
          refine br_f (by decide) ?_
          refine by1 hw ?_
          exact br_f (by decide) (br_f n4 (br_f b4 ⟨rfl, II⟩))
    · refine br_t neg ?_
      unfold wpY_fill
      refine plY he hc ?_
      refine br_f (by decide) ?_
      exact br_t neg (br_t rfl ⟨rfl, II⟩)
    · refine br_f neg (br_t big ?_)
      unfold wpY_fill
      refine plY he hc ?_
      refine br_f (by decide) ?_
      exact br_f neg (br_t big (br_t rfl ⟨rfl, II⟩))
  · refine hX _ _ _ _ ?_
    refine br_t rfl ?_
    unfold wpY_fill
    refine hY _ _ ?_
    exact br_t rfl ⟨rfl, II⟩
end
section
/-! read, skip -/
def shf (f : Nat → Nat) (a n : Nat) : Nat → Nat := fun q => if a ≤ q ∧ q < a + n then f (q + 1) else f q
theorem shf_0 (f : Nat → Nat) (a : Nat) : shf f a 0 = f := funext fun q => if_neg (by omega)
theorem shf_in {f : Nat → Nat} {a n i : Nat} (h : i < n) : shf f a n (a + i) = f (a + i + 1) := if_pos (by omega)
theorem shf_out {f : Nat → Nat} {a n q : Nat} (h : q < a ∨ a + n ≤ q) : shf f a n q = f q := if_neg (by omega)
theorem shf_s (f : Nat → Nat) (a n : Nat) : ub_un (shf f a n) (a + n) (shf f a n (a + n + 1)) = shf f a (n + 1) := by
  funext q
  by_cases h : q = a + n
  · rw [h, ub_s, shf_out (by omega), shf_in (by omega)]
  · rw [ub_n h]
    unfold shf
    by_cases k : a ≤ q ∧ q < a + n
    · rw [if_pos k, if_pos (by omega)]
    · rw [if_neg k, if_neg (by omega)]
def drN (N : Nat → Nat → Nat) (s : Nat) : Nat → Nat → Nat := st_up (st_up N 3 s ((N 3 s + 1) % 12)) 4 s (N 4 s - 1)
def shR (R : Nat → Nat → Nat) (k a n : Nat) : Nat → Nat → Nat := fun i => cond (Nat.beq i k) (shf (R i) a n) (R i)
def tkR (R : Nat → Nat → Nat) (s : Nat) : Nat → Nat → Nat := st_up (shR R 1 (12 * s) (R 3 s - 1)) 3 s (R 3 s - 1)
theorem shR_n {R : Nat → Nat → Nat} {k a n i : Nat} (h : i ≠ k) : shR R k a n i = R i := by
  unfold shR
  rw [show Nat.beq i k = false from Bool.eq_false_iff.mpr fun c => h (Nat.eq_of_beq_eq_true c)]
  rfl
theorem dfX {post : SX → Prop} {tl s : Nat} {ch : Int32} {N : Nat → Nat → Nat} (hs : s < 4) (h3 : N 3 s < 12) (h4 : 0 < N 4 s) (h12 : N 4 s ≤ 12) (h : post (ss_st tl ch (drN N s))) : wpX_dropFirst post (ss_st tl ch N) (nI s) := by
  have i4 := ss_in hs (by decide)
  have m12 : (N 3 s + 1) % 12 < 12 := Nat.mod_lt _ (by decide)
  refine ⟨i4, ss_nz12d, i4, nm_r (e' := ss_c (ub_un (N 3) s ((N 3 s + 1) % 12))) (ss_stb ?_ (by omega) (by omega)) ⟨i4, i4, nm_r (e' := ss_c (ub_un (N 4) s (N 4 s - 1))) (ss_stb ?_ (by omega) (by omega)) h⟩⟩
  · rw [ss_rd (by omega), ss_add1, ss_rem12 (by omega)]
  · rw [ss_rd (by omega)]; exact pk_sub (b := 1) (by omega)
theorem tkL {post : Int32 → SY → Prop} {R : Nat → Nat → Nat} {s : Nat} {x2 : Int32} (hs : s < 4) (h3 : 0 < R 3 s) (h12 : R 3 s ≤ 12) (h : post x2 (sy (tkR R s))) : ∀ m j, j + m = R 3 s - 1 → sA (wY_take_15 post (nI s) x2 (m + 1) (nI (12 * s + j))) (shR R 1 (12 * s) j) := by
  have ee : 12 * nI s + ss_c (R 3) (nI s).toNatClampNeg - 1 = nI (12 * s + R 3 s - 1) := by
    rw [ss_rd (by omega), ss_mul12, nI_add]; exact pk_sub (b := 1) (by omega)
  intro m
  induction m with
  | zero =>
    intro j hj
    refine ⟨ss_in hs, br_t ?_ ⟨ss_in hs, ss_in hs, nm_r (e' := ss_c (ub_un (R 3) s (R 3 s - 1))) (ss_stv _ _ rfl ?_ (by omega)) ?_⟩⟩
    · show 12 * nI s + ss_c (R 3) (nI s).toNatClampNeg - 1 ≤ _
      rw [ee]; exact nI_le (by omega) (by omega)
    · show ss_c (R 3) (nI s).toNatClampNeg - 1 = _
      rw [ss_rd (by omega)]; exact pk_sub (b := 1) (by omega)
    · obtain rfl : j = R 3 s - 1 := by omega
      exact h
  | succ m ih =>
    intro j hj
    refine ⟨ss_in hs, br_f ?_ ?_⟩
    · show ¬ (12 * nI s + ss_c (R 3) (nI s).toNatClampNeg - 1 ≤ _)
      rw [ee]; exact nI_ge (by omega) (by omega)
    · rw [ss_add1]
      refine ⟨ss_in (by omega), ss_in (by omega), nm_r (e' := ss_c (shf (R 1) (12 * s) (j + 1))) ?_ (nm_r (e' := nI (12 * s + (j + 1))) rfl (ih (j + 1) (by omega)))⟩
      rw [ss_rd (by omega), ← shf_s]
      exact ss_stv _ _ rfl rfl (by omega)
theorem tkY {post : Int32 → SY → Prop} {R : Nat → Nat → Nat} {s : Nat} (hs : s < 4) (h3 : 0 < R 3 s) (h12 : R 3 s ≤ 12) (h : post (nI (R 1 (12 * s))) (sy (tkR R s))) : wpY_take post (sy R) (nI s) := by
  have L := tkL hs h3 h12 h (R 3 s - 1) 0 (by omega)
  have e0 : ss_c (shR R 1 (12 * s) 0 1) = ss_c (R 1) := congrArg ss_c (shf_0 (R 1) (12 * s))
  refine ⟨?_, nm_r (e' := nI (R 1 (12 * s))) ?_ (nm_r (e' := nI (12 * s)) (ss_mul12 s) ⟨R 3 s - 1 + 1, ?_⟩)⟩
  · rw [ss_mul12]; exact ss_in (by omega)
  · rw [ss_mul12, ss_rd (by omega)]
  · unfold sA at L
    rw [e0] at L
    exact L
theorem dr_rel {N R : Nat → Nat → Nat} {s : Nat} (hs : s < 4) (h4 : 0 < N 4 s) (a : Rs N) (b : RY N R) : Rs (drN N s) ∧ RY (drN N s) (tkR R s) := by
  obtain ⟨a0, a1, a3, a4, a6, a7, a8, a9, a10, a11, a14, a15, a16, c1, c2, c3, c4⟩ := a.1 s hs
  obtain ⟨r1, r2, r3, r4, r5, r6⟩ := b.1 s hs
  have m12 : (N 3 s + 1) % 12 < 12 := Nat.mod_lt _ (by decide)
  have e3 : drN N s 3 s = (N 3 s + 1) % 12 := ub_s
  have e4 : drN N s 4 s = N 4 s - 1 := ub_s
  have nn : ∀ s', s' ≠ s → ∀ i, i < 17 → i ≠ 2 → i ≠ 5 → drN N s i s' = N i s' := by
    intro s' q i hi h2 h5
    by_cases qi : i = 4
    · subst qi; exact ub_n q
    · by_cases qj : i = 3
      · subst qj; exact ub_n q
      · unfold drN
        rw [ss_up_n qi, ss_up_n qj]
  have nr : ∀ s', s' ≠ s → ∀ i, 2 ≤ i → i < 6 → tkR R s i s' = R i s' := by
    intro s' q i h2 hi
    by_cases qi : i = 3
    · subst qi; exact ub_n q
    · unfold tkR
      rw [ss_up_n qi, shR_n (by omega)]
  have n1 : ∀ s', s' ≠ s → ∀ q, q < 12 → tkR R s 1 (12 * s' + q) = R 1 (12 * s' + q) := fun s' n q hq => shf_out (by omega)
  have mm : ∀ i, ((N 3 s + 1) % 12 + i) % 12 = (N 3 s + (i + 1)) % 12 := by omega
  refine ⟨?_, fun s' hs' => ?_, b.2⟩
  · refine rs_keep (N := N) (fun i hi _ => ?_) (fun e he => (a.2.2.2.2 e he).2.2.2.2) (fun s' hs' => ?_) a
    · unfold drN
      rw [ss_up_n (by omega), ss_up_n (by omega)]
    · by_cases q : s' = s
      · subst q
        refine ⟨a0, a1, Nat.lt_of_le_of_lt (Nat.le_of_eq e3) m12, Nat.le_trans (Nat.le_of_eq e4) (by omega), a6, a7, a8, a9, a10, a11, a14, a15, a16, c1, c2, c3, fun i hi => ?_⟩
        rw [e4] at hi
        rw [e3, mm]
        exact c4 (i + 1) (by omega)
      · exact rs_eq (N := N) (nn s' q) (fun _ _ => rfl) (fun _ _ => rfl) (a.1 s' hs')
  · by_cases q : s' = s
    · subst q
      refine ⟨r1, ?_, r3, r4, r5, fun i hi => ?_⟩
      · rw [e4, ← r2]; exact ub_s
      · rw [e4] at hi
        rw [e3, mm]
        show shf (R 1) (12 * s') (R 3 s' - 1) (12 * s' + i) = N 5 _
        rw [shf_in (by omega)]
        exact r6 (i + 1) (by omega)
    · exact ry_eq (N := N) (R := R) (nn s' q) (fun _ _ => rfl) (fun _ _ => rfl) (nr s' q) (fun _ _ => rfl) (n1 s' q) (a.1 s' hs').2.1 (a.1 s' hs').2.2.2.1 (b.1 s' hs')
theorem reY {post : Int32 → SY → Prop} {R : Nat → Nat → Nat} {e c s : Nat} (he : e < 2) (hc : c < 2) (hs : 2 * (1 - e) + c = s) (h3 : 0 < R 3 s) (h12 : R 3 s ≤ 12) (h : post (nI (R 1 (12 * s))) (sy (tkR R s))) : wpY_read post (sy R) (nI e) (nI c) := by
  have s4 : s < 4 := by omega
  unfold wpY_read
  refine plY he hc ?_
  refine br_f (by decide) ?_
  refine coY he ?_
  rw [hs]
  refine ⟨ss_in s4, br_f (by rw [ss_rd (by omega), ss_eqa0 (by omega)]; omega) ?_⟩
  exact tkY s4 h3 h12 h
theorem reY0 {post : Int32 → SY → Prop} {R : Nat → Nat → Nat} {e c s : Nat} (he : e < 2) (hc : c < 2) (hs : 2 * (1 - e) + c = s) (h3 : R 3 s = 0) (h5 : R 5 s ≤ 1) (h : post (if R 5 s = 0 then -4 else -5) (sy R)) : wpY_read post (sy R) (nI e) (nI c) := by
  have s4 : s < 4 := by omega
  unfold wpY_read
  refine plY he hc ?_
  refine br_f (by decide) ?_
  refine coY he ?_
  rw [hs]
  refine ⟨ss_in s4, br_t (by rw [ss_rd (by omega), h3]; rfl) ⟨ss_in s4, ?_⟩⟩
  rcases (by omega : R 5 s = 0 ∨ R 5 s = 1) with z | z
  · rw [if_pos z] at h
    exact br_t (by rw [ss_rd (by omega), z]; rfl) h
  · rw [if_neg (by omega)] at h
    exact br_f (by rw [ss_rd (by omega), z]; decide) h
theorem i_vc_read {k : Nat} {u : SX} {v : SY} (I : i_Rel k u v) (hk : k + 5 ≤ 2560) (v1 : Int32) (v2 : Int32) : wpX_read (fun r u' => wpY_read (fun r' v' => r' = r ∧ i_Rel (k + 5) u' v') v v1 v2) u v1 v2 := by
  have II := I
  obtain ⟨tl, ch, N, R, eu, ev, a, b⟩ := I
  subst eu ev
  unfold wpX_read
  rcases pl v1 v2 with ⟨e, c, he, hc, e1, e2⟩ | ⟨hX, hY⟩
  · subst e1 e2
    have s4 : 2 * (1 - e) + c < 4 := by omega
    refine plX he hc ?_
    refine br_f (by decide) ?_
    refine sv_to he ?_
    generalize hs : 2 * (1 - e) + c = s at *
    have rs := a.1 s s4
    have rb := b.1 s s4
    have h8 := rs.2.2.2.2.2.2.1
    have h3 := rs.2.2.1
    have h4 := rs.2.2.2.1
    refine ⟨ss_in s4, ?_⟩
    by_cases z : N 4 s = 0
    · refine br_t (by rw [ss_rd (by omega), z]; rfl) ⟨ss_in s4, ?_⟩
      rcases (by omega : N 8 s = 0 ∨ N 8 s = 1) with y | y
      · refine br_t (by rw [ss_rd (by omega), y]; rfl) ?_
        refine reY0 he hc hs (rb.2.1.trans z) (by rw [rb.2.2.2.1]; exact h8) ?_
        rw [if_pos (rb.2.2.2.1.trans y)]
        exact ⟨rfl, II⟩
      · refine br_f (by rw [ss_rd (by omega), y]; decide) ?_
        refine reY0 he hc hs (rb.2.1.trans z) (by rw [rb.2.2.2.1]; exact h8) ?_
        rw [if_neg (by rw [rb.2.2.2.1]; omega)]
        exact ⟨rfl, II⟩
    · refine br_f (by rw [ss_rd (by omega), ss_eqa0 (by omega)]; exact z) ⟨ss_in s4, ?_⟩
      have ei : 12 * nI s + ss_c (N 3) (nI s).toNatClampNeg = nI (12 * s + N 3 s) := by rw [ss_rd (by omega), ss_mul12, nI_add]
      rw [ei]
      refine ⟨ss_in (by omega), nm_r (e' := nI (N 5 (12 * s + N 3 s))) (ss_rd (by omega)) ?_⟩
      refine dfX s4 h3 (by omega) h4 ?_
      obtain ⟨a', b'⟩ := dr_rel s4 (by omega) a b
      refine reY he hc hs (by rw [rb.2.1]; omega) (by rw [rb.2.1]; exact h4) ⟨?_, rel_mk a' b'⟩
      have := rb.2.2.2.2.2 0 (by omega)
      rw [show 12 * s + 0 = 12 * s from rfl, show (N 3 s + 0) % 12 = N 3 s by omega] at this
      rw [this]
  · refine hX _ _ _ _ ?_
    refine br_t rfl ?_
    unfold wpY_read
    refine hY _ _ ?_
    exact br_t rfl ⟨rfl, II⟩
theorem skI {post : Int32 → SY → Prop} {R : Nat → Nat → Nat} {e c s p : Nat} {x4 : Int32} (he : e < 2) (hc : c < 2) (hs : 2 * (1 - e) + c = s) (hp : p ≤ 12) (h3 : R 3 s = 0) (h5 : R 5 s ≤ 1) (h : post x4 (sy R)) : ∀ m j, j + m = p → sA (wY_skip_27 post (nI e) (nI c) (nI p) (m + 1) x4 (nI j)) R := by
  intro m
  induction m with
  | zero =>
    intro j hj
    exact br_t (nI_le (by omega) (by omega)) h
  | succ m ih =>
    intro j hj
    refine br_f (nI_ge (by omega) (by omega)) ?_
    refine reY0 he hc hs h3 h5 ?_
    refine br_t ?_ (nm_r (ss_add1 j) (ih (j + 1) (by omega)))
    split <;> decide
theorem skB {e c s p tl : Nat} {ch : Int32} (he : e < 2) (hc : c < 2) (hs : 2 * (1 - e) + c = s) (hp : p ≤ 12) : ∀ m i N R, i + m = p → Rs N → RY N R → ∃ r N' R', Rs N' ∧ RY N' R' ∧
    (∀ post : Int32 → SX → Prop, post (nI r) (ss_st tl ch N') → ∃ n, ss_S (wX_skip_32 post (nI p) (nI s) n (nI i)) tl ch N) ∧
    (∀ post : Int32 → SY → Prop, post (nI r) (sy R') → ∃ n, sA (wY_skip_27 post (nI e) (nI c) (nI p) n (nI i) (nI i)) R) := by
  have s4 : s < 4 := by omega
  intro m
  induction m with
  | zero =>
    intro i N R hi a b
    have g : nI p ≤ nI i := nI_le (by omega) (by omega)
    exact ⟨i, N, R, a, b, fun post h => ⟨1, br_t g h⟩, fun post h => ⟨1, br_t g h⟩⟩
  | succ m ih =>
    intro i N R hi a b
    have g : ¬ nI p ≤ nI i := nI_ge (by omega) (by omega)
    have rs := a.1 s s4
    have rb := b.1 s s4
    have h8 := rs.2.2.2.2.2.2.1
    have h3 := rs.2.2.1
    have h4 := rs.2.2.2.1
    by_cases z : N 4 s = 0
    · refine ⟨i, N, R, a, b, fun post h => ⟨1, ?_⟩, fun post h => ⟨m + 1 + 1, ?_⟩⟩
      · exact br_f g ⟨ss_in s4, br_t (by rw [ss_rd (by omega), ss_lea0 (by omega)]; omega) h⟩
      · exact skI he hc hs hp (rb.2.1.trans z) (by rw [rb.2.2.2.1]; exact h8) h (m + 1) i (by omega)
    · obtain ⟨a', b'⟩ := dr_rel s4 (by omega) a b
      obtain ⟨r, N', R', a2, b2, k1, k2⟩ := ih (i + 1) (drN N s) (tkR R s) (by omega) a' b'
      refine ⟨r, N', R', a2, b2, fun post h => ?_, fun post h => ?_⟩
      · obtain ⟨n, hn⟩ := k1 post h
        refine ⟨n + 1, br_f g ⟨ss_in s4, br_f (by rw [ss_rd (by omega), ss_lea0 (by omega)]; omega) ?_⟩⟩
        refine dfX s4 h3 (by omega) h4 ?_
        exact nm_r (ss_add1 i) hn
      · obtain ⟨n, hn⟩ := k2 post h
        refine ⟨n + 1, br_f g ?_⟩
        refine reY he hc hs (by rw [rb.2.1]; omega) (by rw [rb.2.1]; exact h4) ?_
        have t := rb.2.2.2.2.2 0 (by omega)
        have t2 := rs.2.2.2.2.2.2.2.2.2.2.2.2.2.2.2.2 0 (by omega)
        rw [show 12 * s + 0 = 12 * s from rfl] at t
        refine br_f (nI_pos (by omega)) ?_
        exact nm_r (ss_add1 i) (nm_r (ss_add1 i) hn)
theorem i_vc_skip {k : Nat} {u : SX} {v : SY} (I : i_Rel k u v) (hk : k + 5 ≤ 2560) (v1 : Int32) (v2 : Int32) (v3 : Int32) : wpX_skip (fun r u' => wpY_skip (fun r' v' => r' = r ∧ i_Rel (k + 5) u' v') v v1 v2 v3) u v1 v2 v3 := by
  have II := I
  obtain ⟨tl, ch, N, R, eu, ev, a, b⟩ := I
  subst eu ev
  unfold wpX_skip
  rcases pl v1 v2 with ⟨e, c, he, hc, e1, e2⟩ | ⟨hX, hY⟩
  · subst e1 e2
    refine plX he hc ?_
    refine br_f (by decide) ?_
    by_cases n4 : v3 < 0
    · refine br_t n4 ?_
      unfold wpY_skip
      refine plY he hc ?_
      exact br_f (by decide) (br_t n4 ⟨rfl, II⟩)
    · by_cases b4 : v3 ≤ 12
      · obtain ⟨p, hp, ep⟩ := nI_of2 (x := v3) (M := 12) (n := 12) (by decide) n4 b4
        subst ep
        refine br_f n4 (br_t b4 ?_)
        refine sv_to he ?_
        obtain ⟨r, N', R', a2, b2, k1, k2⟩ := skB (e := e) (c := c) (s := 2 * (1 - e) + c) (p := p) (tl := tl) (ch := ch) he hc rfl (by omega) p 0 N R (by omega) a b
        refine k1 _ ?_
        unfold wpY_skip
        refine plY he hc ?_
        refine br_f (by decide) (br_f n4 (br_t b4 ?_))
        exact k2 _ ⟨rfl, rel_mk a2 b2⟩
      · refine br_f n4 (br_f b4 ?_)
        unfold wpY_skip
        refine plY he hc ?_
        exact br_f (by decide) (br_f n4 (br_f b4 ⟨rfl, II⟩))
  · refine hX _ _ _ _ ?_
    refine br_t rfl ?_
    unfold wpY_skip
    refine hY _ _ ?_
    exact br_t rfl ⟨rfl, II⟩
end
section
/-! pump, both sides -/
def bsR (R : Nat → Nat → Nat) (s : Nat) : Nat → Nat → Nat := st_up (st_up R 1 (12 * s + R 3 s) (R 0 (24 * s))) 3 s (R 3 s + 1)
def dcR (B : Nat → Nat → Nat) (s : Nat) : Nat → Nat → Nat := st_up (shR B 0 (24 * s) (B 2 s - 1)) 2 s (B 2 s - 1)
def pq (R : Nat → Nat → Nat) (s : Nat) : Nat := if R 2 s ≤ 12 - R 3 s then R 2 s else 12 - R 3 s
def mv (R R' : Nat → Nat → Nat) (s j : Nat) : Prop :=
  R' 2 s + j = R 2 s ∧ R' 3 s = R 3 s + j ∧ (∀ i, i < R' 2 s → R' 0 (24 * s + i) = R 0 (24 * s + (j + i))) ∧ (∀ i, i < R 3 s → R' 1 (12 * s + i) = R 1 (12 * s + i)) ∧ (∀ i, i < j → R' 1 (12 * s + (R 3 s + i)) = R 0 (24 * s + i)) ∧ R' 4 = R 4 ∧ R' 5 = R 5 ∧ R' 6 = R 6 ∧
  (∀ s', s' ≠ s → R' 2 s' = R 2 s' ∧ R' 3 s' = R 3 s' ∧ (∀ i, i < 24 → R' 0 (24 * s' + i) = R 0 (24 * s' + i)) ∧ (∀ i, i < 12 → R' 1 (12 * s' + i) = R 1 (12 * s' + i)))
theorem mv_refl (R : Nat → Nat → Nat) (s : Nat) : mv R R s 0 :=
  ⟨rfl, rfl, fun i _ => by rw [Nat.zero_add], fun _ _ => rfl, fun i h => absurd h (by omega), rfl, rfl, rfl, fun _ _ => ⟨rfl, rfl, fun _ _ => rfl, fun _ _ => rfl⟩⟩
theorem mv_step {R : Nat → Nat → Nat} {s : Nat} (h2 : 0 < R 2 s) (h24 : R 2 s ≤ 24) (h3 : R 3 s < 12) : mv R (dcR (bsR R s) s) s 1 := by
  have e2 : dcR (bsR R s) s 2 s = R 2 s - 1 := ub_s
  have e3 : dcR (bsR R s) s 3 s = R 3 s + 1 := ub_s
  refine ⟨by omega, e3, fun i hi => ?_, fun i hi => ?_, fun i hi => ?_, rfl, rfl, rfl, fun s' q => ⟨ub_n q, ub_n q, fun i hi => ?_, fun i hi => ?_⟩⟩
  · show shf (R 0) (24 * s) (R 2 s - 1) (24 * s + i) = _
    rw [shf_in (by omega), show 24 * s + i + 1 = 24 * s + (1 + i) by omega]
  · show ub_un (R 1) (12 * s + R 3 s) (R 0 (24 * s)) (12 * s + i) = _
    exact ub_n (by omega)
  · obtain rfl : i = 0 := by omega
    show ub_un (R 1) (12 * s + R 3 s) (R 0 (24 * s)) (12 * s + R 3 s) = _
    exact ub_s
  · show shf (R 0) (24 * s) (R 2 s - 1) (24 * s' + i) = _
    exact shf_out (by omega)
  · show ub_un (R 1) (12 * s + R 3 s) (R 0 (24 * s)) (12 * s' + i) = _
    exact ub_n (by omega)
theorem mv_tr {R R1 R2 : Nat → Nat → Nat} {s j : Nat} (a : mv R R1 s 1) (b : mv R1 R2 s j) : mv R R2 s (j + 1) := by
  obtain ⟨a1, a2, a3, a4, a5, a6, a7, a8, a9⟩ := a
  obtain ⟨b1, b2, b3, b4, b5, b6, b7, b8, b9⟩ := b
  refine ⟨by omega, by omega, fun i hi => ?_, fun i hi => ?_, fun i hi => ?_, b6.trans a6, b7.trans a7, b8.trans a8, fun s' q => ?_⟩
  · rw [b3 i hi, a3 (j + i) (by omega), show 1 + (j + i) = j + 1 + i by omega]
  · rw [b4 i (by omega), a4 i hi]
  · by_cases z : i = 0
    · rw [z, b4 (R 3 s + 0) (by omega)]
      exact a5 0 (by omega)
    · have t := b5 (i - 1) (by omega)
      rw [show R1 3 s + (i - 1) = R 3 s + i by omega] at t
      rw [t, a3 (i - 1) (by omega), show 1 + (i - 1) = i by omega]
  · obtain ⟨x1, x2, x3, x4⟩ := a9 s' q
    obtain ⟨y1, y2, y3, y4⟩ := b9 s' q
    exact ⟨y1.trans x1, y2.trans x2, fun i hi => (y3 i hi).trans (x3 i hi), fun i hi => (y4 i hi).trans (x4 i hi)⟩
theorem mvI {post : Int32 → SY → Prop} {J : Int32 → Int32 → (Nat → Int32) → (Nat → Int32) → (Nat → Int32) → (Nat → Int32) → (Nat → Int32) → (Nat → Int32) → (Nat → Int32) → Prop} {B : Nat → Nat → Nat} {s x2 x3 : Nat} (hs : s < 4) (h2 : 0 < B 2 s) (h24 : B 2 s ≤ 24) (h : sA (J (nI (x2 + 1)) (nI (x3 + 1))) (dcR B s)) :
    ∀ m j, j + m = B 2 s - 1 → sA (wY_move_71 post J (nI s) (nI x2) (nI x3) (m + 1) (nI (24 * s + j))) (shR B 0 (24 * s) j) := by
  have ee : 24 * nI s + ss_c (B 2) (nI s).toNatClampNeg - 1 = nI (24 * s + B 2 s - 1) := by
    rw [ss_rd (by omega), ss_mul24, nI_add]; exact pk_sub (b := 1) (by omega)
  intro m
  induction m with
  | zero =>
    intro j hj
    refine ⟨ss_in hs, br_t ?_ ⟨ss_in hs, ss_in hs, nm_r (e' := ss_c (ub_un (B 2) s (B 2 s - 1))) (ss_stv _ _ rfl ?_ (by omega)) (nm_r (ss_add1 x2) (nm_r (ss_add1 x3) ?_))⟩⟩
    · show 24 * nI s + ss_c (B 2) (nI s).toNatClampNeg - 1 ≤ _
      rw [ee]; exact nI_le (by omega) (by omega)
    · show ss_c (B 2) (nI s).toNatClampNeg - 1 = _
      rw [ss_rd (by omega)]; exact pk_sub (b := 1) (by omega)
    · obtain rfl : j = B 2 s - 1 := by omega
      exact h
  | succ m ih =>
    intro j hj
    refine ⟨ss_in hs, br_f ?_ ?_⟩
    · show ¬ (24 * nI s + ss_c (B 2) (nI s).toNatClampNeg - 1 ≤ _)
      rw [ee]; exact nI_ge (by omega) (by omega)
    · rw [ss_add1]
      refine ⟨ss_in (by omega), ss_in (by omega), nm_r (e' := ss_c (shf (B 0) (24 * s) (j + 1))) ?_ (nm_r (e' := nI (24 * s + (j + 1))) rfl (ih (j + 1) (by omega)))⟩
      rw [ss_rd (by omega), ← shf_s]
      exact ss_stv _ _ rfl rfl (by omega)
theorem mvL {s : Nat} (hs : s < 4) : ∀ m j R, j + m = 12 → R 2 s ≤ 24 → R 3 s ≤ 12 → pq R s ≤ m → ∃ R', mv R R' s (pq R s) ∧ ∀ (post : Int32 → SY → Prop) (x2 : Nat), sA (wY_move_4 post (nI s) 1 (nI (x2 + pq R s)) (nI 12)) R' → sA (wY_move_4 post (nI s) (m + 1) (nI x2) (nI j)) R := by
  intro m
  induction m with
  | zero =>
    intro j R hj h2 h3 hq
    obtain rfl : j = 12 := by omega
    have z : pq R s = 0 := by omega
    rw [z]
    exact ⟨R, mv_refl R s, fun post x2 h => h⟩
  | succ m ih =>
    intro j R hj h2 h3 hq
    have g : ¬ (12 : Int32) ≤ nI j := by rw [ss_le12a (by omega)]; omega
    by_cases z2 : R 2 s = 0
    · have z : pq R s = 0 := by unfold pq; split <;> omega
      obtain ⟨R', k1, k2⟩ := ih (j + 1) R (by omega) h2 h3 (by omega)
      refine ⟨R', k1, fun post x2 h => ?_⟩
      exact br_f g ⟨ss_in hs, br_t (by rw [ss_rd (by omega), ss_lea0 (by omega)]; omega) (nm_r (ss_add1 j) (k2 post x2 h))⟩
    · have f2 : ¬ ss_c (R 2) (nI s).toNatClampNeg ≤ 0 := by rw [ss_rd (by omega), ss_lea0 (by omega)]; omega
      by_cases z3 : R 3 s = 12
      · have z : pq R s = 0 := by unfold pq; split <;> omega
        obtain ⟨R', k1, k2⟩ := ih (j + 1) R (by omega) h2 h3 (by omega)
        refine ⟨R', k1, fun post x2 h => ?_⟩
        exact br_f g ⟨ss_in hs, br_f f2 ⟨ss_in hs, br_t (by rw [ss_rd (by omega), ss_le12a (by omega)]; omega) (nm_r (ss_add1 j) (k2 post x2 h))⟩⟩
      · have e2 : dcR (bsR R s) s 2 s = R 2 s - 1 := ub_s
        have e3 : dcR (bsR R s) s 3 s = R 3 s + 1 := ub_s
        have pe : pq R s = pq (dcR (bsR R s) s) s + 1 := by
          unfold pq
          rw [e2, e3]
          split <;> split <;> omega
        obtain ⟨R', k1, k2⟩ := ih (j + 1) (dcR (bsR R s) s) (by omega) (by omega) (by omega) (by omega)
        refine ⟨R', ?_, fun post x2 h => ?_⟩
        · rw [pe]
          exact mv_tr (mv_step (by omega) h2 (by omega)) k1
        · have ei : 12 * nI s + ss_c (R 3) (nI s).toNatClampNeg = nI (12 * s + R 3 s) := by rw [ss_rd (by omega), ss_mul12, nI_add]
          refine br_f g ⟨ss_in hs, br_f f2 ⟨ss_in hs, br_f (by rw [ss_rd (by omega), ss_le12a (by omega)]; omega) ⟨ss_in hs, ?_⟩⟩⟩
          rw [ei, ss_mul24]
          refine ⟨ss_in (by omega), ss_in (by omega), nm_r (e' := ss_c (ub_un (R 1) (12 * s + R 3 s) (R 0 (24 * s)))) (ss_stv _ _ rfl (ss_rd (by omega)) (by omega)) ⟨ss_in hs, ss_in hs, nm_r (e' := ss_c (ub_un (R 3) s (R 3 s + 1))) (ss_stv _ _ rfl ?_ (by omega)) (nm_r (e' := nI (24 * s)) rfl ⟨R 2 s - 1 + 1, ?_⟩)⟩⟩
          · rw [ss_rd (by omega), ss_add1]
          · have hh := k2 post (x2 + 1) (by rw [show x2 + 1 + pq (dcR (bsR R s) s) s = x2 + pq R s by omega]; exact h)
            have L := mvI (post := post) (J := wY_move_4 post (nI s) (m + 1)) (B := bsR R s) (s := s) (x2 := x2) (x3 := j) hs (show 0 < R 2 s by omega) h2 hh (R 2 s - 1) 0 (Nat.zero_add _)
            have e0 : ss_c (shR (bsR R s) 0 (24 * s) 0 0) = ss_c (R 0) := congrArg ss_c (shf_0 (R 0) (24 * s))
            unfold sA at L
            rw [e0] at L
            exact L
def enR (R : Nat → Nat → Nat) (s : Nat) : Nat → Nat → Nat := if R 4 s = 1 ∧ R 2 s = 0 then st_up R 5 s 1 else R
theorem enR_n {R : Nat → Nat → Nat} {s i : Nat} (h : i ≠ 5) : enR R s i = R i := by
  unfold enR
  split
  · exact ss_up_n h
  · rfl
theorem enR_m {R : Nat → Nat → Nat} {s s' : Nat} (h : s' ≠ s) : enR R s 5 s' = R 5 s' := by
  unfold enR
  split
  · exact ub_n h
  · rfl
theorem moY {R : Nat → Nat → Nat} {s : Nat} (hs : s < 4) (h2 : R 2 s ≤ 24) (h3 : R 3 s ≤ 12) (h4 : R 4 s ≤ 1) : ∃ R', mv R R' s (pq R s) ∧ ∀ post : Int32 → SY → Prop, post (nI (pq R s)) (sy (enR R' s)) → wpY_move post (sy R) (nI s) := by
  obtain ⟨R', k1, k2⟩ := mvL hs 12 0 R (by omega) h2 h3 (by unfold pq; split <;> omega)
  refine ⟨R', k1, fun post h => ⟨13, k2 post 0 ?_⟩⟩
  have q4 : R' 4 s = R 4 s := by rw [k1.2.2.2.2.2.1]
  have q2 : R' 2 s ≤ 24 := by have := k1.1; omega
  rw [Nat.zero_add]
  unfold enR at h
  refine br_t (by decide) ⟨ss_in hs, ?_⟩
  rcases (by omega : R' 4 s = 0 ∨ R' 4 s = 1) with z | z
  · rw [if_neg (by omega)] at h
    exact br_t (by rw [ss_rd (by omega), z]; rfl) h
  · refine br_f (by rw [ss_rd (by omega), z]; decide) ⟨ss_in hs, ?_⟩
    by_cases y : R' 2 s = 0
    · rw [if_pos ⟨z, y⟩] at h
      exact br_t (by rw [ss_rd (by omega), y]; rfl) ⟨ss_in hs, nm_r (e' := ss_c (ub_un (R' 5) s 1)) (ss_stv s 1 rfl rfl (by omega)) h⟩
    · rw [if_neg (by omega)] at h
      exact br_f (by rw [ss_rd (by omega), ss_eqa0 (by omega)]; exact y) h
theorem mv_ry {N N' R R' : Nat → Nat → Nat} {s : Nat} (a : rs_s N s) (a' : rs_s N' s) (r : ry N R s) (p : pE N N' s) (m : mv R R' s (pm N s)) : ry N' (enR R' s) s := by
  obtain ⟨r1, r2, r3, r4, r5, r6⟩ := r
  obtain ⟨p1, p2, p3, p4, p5, p6, p7⟩ := p
  obtain ⟨m1, m2, m3, m4, m5, m6, m7, m8, m9⟩ := m
  have c1 := a.2.2.2.2.2.2.2.2.2.2.2.2.2.1
  have a8 := a.2.2.2.2.2.2.1
  have a8' := a'.2.2.2.2.2.2.1
  have q4 : R' 4 s = R 4 s := by rw [m6]
  refine ⟨?_, ?_, ?_, ?_, fun i hi => ?_, fun i hi => ?_⟩
  · rw [enR_n (by decide)]; omega
  · rw [enR_n (by decide)]; omega
  · rw [enR_n (by decide)]; omega
  · unfold enR
    by_cases z : R' 4 s = 1 ∧ R' 2 s = 0
    · rw [if_pos z]
      have : N' 8 s = 1 := p4.mpr ⟨by omega, by omega⟩
      rw [this]; exact ub_s
    · rw [if_neg z, m7, r4]
      have n1 : N' 8 s ≠ 1 := fun w => by have := p4.mp w; omega
      have n2 : N 8 s ≠ 1 := fun w => by
        have := c1 w
        exact n1 (p4.mpr ⟨this.1, by omega⟩)
      omega
  · rw [enR_n (by decide), m3 i (by omega), r5 _ (by omega), p5 i hi]
  · rw [enR_n (by decide)]
    by_cases z : i < N 4 s
    · rw [m4 i (by omega), r6 i z, p6 i z]
    · have t := m5 (i - N 4 s) (by omega)
      have t2 := p7 (i - N 4 s) (by omega)
      rw [show R 3 s + (i - N 4 s) = i by omega] at t
      rw [show N 4 s + (i - N 4 s) = i by omega] at t2
      rw [t, t2, r5 _ (by omega)]
theorem mv_sm {N R R' : Nat → Nat → Nat} {s s' j : Nat} (q : s' ≠ s) (k1 : N 1 s' ≤ 24) (k4 : N 4 s' ≤ 12) (m : mv R R' s j) (r : ry N R s') : ry N (enR R' s) s' := by
  obtain ⟨m1, m2, m3, m4, m5, m6, m7, m8, m9⟩ := m
  obtain ⟨x1, x2, x3, x4⟩ := m9 s' q
  refine ry_eq (N := N) (R := R) (fun _ _ _ _ => rfl) (fun _ _ => rfl) (fun _ _ => rfl) (fun i h2 h6 => ?_) (fun i hi => ?_) (fun i hi => ?_) k1 k4 r
  · rcases (by omega : i = 2 ∨ i = 3 ∨ i = 4 ∨ i = 5) with y | y | y | y <;> subst y
    · rw [enR_n (by decide), x1]
    · rw [enR_n (by decide), x2]
    · rw [enR_n (by decide), m6]
    · rw [enR_m q, m7]
  · rw [enR_n (by decide), x3 i hi]
  · rw [enR_n (by decide), x4 i hi]
theorem puY {N N' R : Nat → Nat → Nat} {j : Nat} (hj : j < 4) (a : Rs N) (a' : Rs N') (p : ∀ s, s < 4 → pE N N' s) (b : ∀ s, s < 4 → (s < j → ry N' R s) ∧ (¬ s < j → ry N R s)) : ∃ R', (∀ s, s < 4 → (s < j + 1 → ry N' R' s) ∧ (¬ s < j + 1 → ry N R' s)) ∧ R' 6 = R 6 ∧
    ∀ (post : Int32 → SY → Prop) (n x3 : Nat), sA (wY_pump_25 post n (nI (x3 + pm N j)) (nI (j + 1))) R' → sA (wY_pump_25 post (n + 1) (nI x3) (nI j)) R := by
  have rj := (b j hj).2 (by omega)
  have aj := a.1 j hj
  have r1 := rj.1
  have r2 := rj.2.1
  have r3 := rj.2.2.1
  have a1 := aj.2.1
  have a4 := aj.2.2.2.1
  have a7 := aj.2.2.2.2.2.1
  obtain ⟨R', k1, k2⟩ := moY (R := R) hj (by omega) (by omega) (by omega)
  have pe : pq R j = pm N j := by unfold pq pm; rw [r1, r2]
  rw [pe] at k1 k2
  refine ⟨enR R' j, fun s hs => ⟨fun h => ?_, fun h => ?_⟩, ?_, fun post n x3 h => ?_⟩
  · by_cases q : s = j
    · subst q
      exact mv_ry aj (a'.1 s hs) rj (p s hs) k1
    · exact mv_sm q (a'.1 s hs).2.1 (a'.1 s hs).2.2.2.1 k1 ((b s hs).1 (by omega))
  · exact mv_sm (by omega) (a.1 s hs).2.1 (a.1 s hs).2.2.2.1 k1 ((b s hs).2 (by omega))
  · rw [enR_n (by decide), k1.2.2.2.2.2.2.2.1]
  · refine br_f (by rw [ss_le4a (by omega)]; omega) ?_
    refine k2 _ ?_
    exact nm_r (nI_add x3 (pm N j)) (nm_r (ss_add1 j) h)
theorem i_vc_pump {k : Nat} {u : SX} {v : SY} (I : i_Rel k u v) (hk : k + 5 ≤ 2560) (v1 : Int32) (v2 : Int32) : wpX_pump (fun r u' => wpY_pump (fun r' v' => r' = r ∧ i_Rel (k + 5) u' v') v v1 v2) u v1 v2 := by
  have II := I
  obtain ⟨tl, ch, N, R, eu, ev, a, b⟩ := I
  subst eu ev
  have b0 := b.2 0 (by omega)
  have b1 := b.2 1 (by omega)
  by_cases l0 : N 24 0 = 0
  · have y0 : R 6 0 = 1 := by omega
    refine br_t (by rw [ss_cr, l0]; rfl) ?_
    exact br_f (by rw [ss_cr, y0]; decide) ⟨rfl, II⟩
  · have l0' : N 24 0 = 1 := by omega
    have y0 : R 6 0 = 0 := by omega
    by_cases l1 : N 24 1 = 0
    · have y1 : R 6 1 = 1 := by omega
      refine br_f (by rw [ss_cr, l0']; decide) (br_t (by rw [ss_cr, l1]; rfl) ?_)
      exact br_t (by rw [ss_cr, y0]; rfl) (br_f (by rw [ss_cr, y1]; decide) ⟨rfl, II⟩)
    · have l1' : N 24 1 = 1 := by omega
      have y1 : R 6 1 = 0 := by omega
      obtain ⟨tl', ch', N', a', p, e24, w⟩ := pumpX tl ch v1 v2 a l0' l1'
      obtain ⟨R1, c1, d1, w1⟩ := puY (j := 0) (by omega) a a' p (R := R) (fun s hs => ⟨fun h => absurd h (by omega), fun _ => b.1 s hs⟩)
      obtain ⟨R2, c2, d2, w2⟩ := puY (j := 1) (by omega) a a' p c1
      obtain ⟨R3, c3, d3, w3⟩ := puY (j := 2) (by omega) a a' p c2
      obtain ⟨R4, c4, d4, w4⟩ := puY (j := 3) (by omega) a a' p c3
      refine w _ ?_
      refine br_t (by rw [ss_cr, y0]; rfl) (br_t (by rw [ss_cr, y1]; rfl) ⟨5, ?_⟩)
      refine w1 _ 4 0 (w2 _ 3 _ (w3 _ 2 _ (w4 _ 1 _ ?_)))
      refine br_t (by decide) ⟨?_, ?_⟩
      · rw [Nat.zero_add]
      · refine rel_mk a' ⟨fun s hs => (c4 s hs).1 hs, fun l hl => ?_⟩
        rw [d4, d3, d2, d1, e24]
        exact b.2 l hl
end
