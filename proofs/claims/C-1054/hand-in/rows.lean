section
/-! A: rows to paste (kit/rows), then numbers, stores -/
theorem pk_us {f : Nat → Int32} {k : Nat} {x : Int32} : upd f k x k = x := if_pos rfl
theorem pk_un {f : Nat → Int32} {k j : Nat} {x : Int32} (h : j ≠ k) : upd f k x j = f j := if_neg h
theorem pk_sub {a b : Nat} (h : b ≤ a) : nI a - nI b = nI (a - b) := by
  obtain ⟨c, rfl⟩ : ∃ c, a = c + b := ⟨a - b, by omega⟩
  rw [← nI_add, Int32.add_sub_cancel, Nat.add_sub_cancel]
theorem pk_mul (a b : Nat) : nI a * nI b = nI (a * b) := (Int32.ofNat_mul a b).symm
theorem pk_div {a d : Nat} (ha : a < 2 ^ 31) (h0 : 0 < d) (hd : d < 2 ^ 31) : nI a / nI d = nI (a / d) := by
  apply Int32.toInt_inj.mp
  rw [lg_idiv_nonneg (by rw [nI_toInt ha]; omega) (by rw [nI_toInt hd]; omega), nI_toInt ha, nI_toInt hd, nI_toInt (Nat.lt_of_le_of_lt (Nat.div_le_self a d) ha)]
  first | rfl | exact (Int.natCast_ediv _ _).symm
theorem pk_ix (x : Int32) {n : Nat} (hn : n < 2 ^ 31) : x < 0 ∨ nI n ≤ x ∨ ∃ j : Nat, j < n ∧ x = nI j := by
  by_cases h : x < 0
  · exact Or.inl h
  · obtain ⟨j, hj, rfl⟩ := nI_of h
    by_cases h2 : j < n
    · exact Or.inr (Or.inr ⟨j, h2, rfl⟩)
    · exact Or.inr (Or.inl (nI_le (by omega) hj))
theorem pk_in {x : Int32} (n N : Nat) (h : n < N) (hx : x = nI n := by rfl) (hN : N < 2 ^ 31 := by omega) : vp_in x N := by
  subst hx
  exact vp_in_nI h hN
theorem pk_cl {x : Int32} (n : Nat) (hx : x = nI n := by rfl) (h : n < 2 ^ 31 := by omega) : x.toNatClampNeg = n := by
  subst hx
  exact nI_clamp h
theorem pk_tn {n : Nat} (h : n < 2 ^ 32) : (nI n).toBitVec.toNat = n := Nat.mod_eq_of_lt h
theorem pk_and (x : Int32) {m : Int32} (k : Nat) (hm : m.toBitVec.toNat = 2 ^ k - 1) : x &&& m = nI (x.toBitVec.toNat % 2 ^ k) := by
  apply Int32.toBitVec_inj.mp
  apply BitVec.eq_of_toNat_eq
  rw [Int32.toBitVec_and, BitVec.toNat_and, hm, Nat.and_two_pow_sub_one_eq_mod]
  show _ = (BitVec.ofNat 32 _).toNat
  rw [BitVec.toNat_ofNat]
  exact (Nat.mod_eq_of_lt (Nat.lt_of_le_of_lt (Nat.mod_le _ _) x.toBitVec.isLt)).symm
theorem pk_andN {n : Nat} (h : n < 2 ^ 32) {m : Int32} (k : Nat) (hm : m.toBitVec.toNat = 2 ^ k - 1) : nI n &&& m = nI (n % 2 ^ k) := by
  rw [pk_and _ k hm, pk_tn h]
theorem pk_shl (a s : Int32) (k : Nat) (hs : (s.toBitVec.smod 32).toNat = k) : (a <<< s).toBitVec.toNat = a.toBitVec.toNat * 2 ^ k % 2 ^ 32 := by
  show (a.toBitVec <<< (s.toBitVec.smod 32).toNat).toNat = _
  rw [hs, BitVec.toNat_shiftLeft, Nat.shiftLeft_eq]
theorem pk_shlN {n : Nat} (s : Int32) (k : Nat) (hs : (s.toBitVec.smod 32).toNat = k) (h : n * 2 ^ k < 2 ^ 32) : nI n <<< s = nI (n * 2 ^ k) := by
  apply Int32.toBitVec_inj.mp
  apply BitVec.eq_of_toNat_eq
  have hn : n < 2 ^ 32 := Nat.lt_of_le_of_lt (Nat.le_mul_of_pos_right n (Nat.two_pow_pos k)) h
  rw [pk_shl _ _ k hs, pk_tn hn, pk_tn h, Nat.mod_eq_of_lt h]
theorem pk_shr (a s : Int32) (k : Nat) (hs : (s.toBitVec.smod 32).toNat = k) : (a >>> s).toInt = a.toInt >>> k := by
  show (a.toBitVec.sshiftRight (s.toBitVec.smod 32).toNat).toInt = _
  rw [hs, BitVec.toInt_sshiftRight]
  rfl
theorem pk_shrN {n : Nat} (h : n < 2 ^ 31) (s : Int32) (k : Nat) (hs : (s.toBitVec.smod 32).toNat = k) : nI n >>> s = nI (n / 2 ^ k) := by
  apply Int32.toInt_inj.mp
  have h2 : n / 2 ^ k ≤ n := Nat.div_le_self _ _
  rw [pk_shr _ _ k hs, nI_toInt h, nI_toInt (by omega), Int.shiftRight_eq_div_pow]
  rfl
theorem s_l : ∀ n, n < 32 → ((nI n &&& 31).toBitVec.smod 32).toNat = n := by decide +kernel
theorem nx_and (a b : Nat) : nI a &&& nI b = nI (a &&& b) := by
  apply Int32.toBitVec_inj.1
  show BitVec.ofNat 32 a &&& BitVec.ofNat 32 b = BitVec.ofNat 32 (a &&& b)
  apply BitVec.eq_of_getLsbD_eq
  intro i hi
  simp [hi]
theorem ha_m4 (a : Nat) : (4 : Int32) * nI a = nI (4 * a) := pk_mul 4 a
theorem ha_m8 (a : Nat) : (8 : Int32) * nI a = nI (8 * a) := pk_mul 8 a
theorem ha_m5 (a : Nat) : (5 : Int32) * nI a = nI (5 * a) := pk_mul 5 a
theorem ha_m32 (a : Nat) : (32 : Int32) * nI a = nI (32 * a) := pk_mul 32 a
theorem ha_m64 (a : Nat) : (64 : Int32) * nI a = nI (64 * a) := pk_mul 64 a
theorem ha_m300 (a : Nat) : (300 : Int32) * nI a = nI (300 * a) := pk_mul 300 a
theorem ha_a4 (a : Nat) : (4 : Int32) + nI a = nI (4 + a) := nI_add 4 a
theorem ha_a16 (a : Nat) : (16 : Int32) + nI a = nI (16 + a) := nI_add 16 a
theorem ha_a300 (a : Nat) : (300 : Int32) + nI a = nI (300 + a) := nI_add 300 a
theorem ha_a600 (a : Nat) : (600 : Int32) + nI a = nI (600 + a) := nI_add 600 a
theorem ha_a900 (a : Nat) : (900 : Int32) + nI a = nI (900 + a) := nI_add 900 a
theorem ha_p8 (a : Nat) : nI a + (8 : Int32) = nI (a + 8) := nI_add a 8
theorem ha_l4 {a : Nat} (h : a < 2 ^ 31) : (4 : Int32) ≤ nI a ↔ 4 ≤ a := nI_leI (a := 4) (by decide) h
theorem ha_l5 {a : Nat} (h : a < 2 ^ 31) : (5 : Int32) ≤ nI a ↔ 5 ≤ a := nI_leI (a := 5) (by decide) h
theorem ha_l8 {a : Nat} (h : a < 2 ^ 31) : (8 : Int32) ≤ nI a ↔ 8 ≤ a := nI_leI (a := 8) (by decide) h
theorem ha_l32 {a : Nat} (h : a < 2 ^ 31) : (32 : Int32) ≤ nI a ↔ 32 ≤ a := nI_leI (a := 32) (by decide) h
theorem ha_l36 {a : Nat} (h : a < 2 ^ 31) : (36 : Int32) ≤ nI a ↔ 36 ≤ a := nI_leI (a := 36) (by decide) h
theorem ha_l64 {a : Nat} (h : a < 2 ^ 31) : (64 : Int32) ≤ nI a ↔ 64 ≤ a := nI_leI (a := 64) (by decide) h
theorem ha_l128 {a : Nat} (h : a < 2 ^ 31) : (128 : Int32) ≤ nI a ↔ 128 ≤ a := nI_leI (a := 128) (by decide) h
theorem ha_l256 {a : Nat} (h : a < 2 ^ 31) : (256 : Int32) ≤ nI a ↔ 256 ≤ a := nI_leI (a := 256) (by decide) h
theorem ha_le7 {a : Nat} (h : a < 2 ^ 31) : nI a ≤ (7 : Int32) ↔ a ≤ 7 := nI_leI (b := 7) h (by decide)
theorem ha_7lt {a : Nat} (h : a < 2 ^ 31) : (7 : Int32) < nI a ↔ 7 < a := nI_ltI (a := 7) (by decide) h
theorem ha_e0 {a : Nat} (h : a < 2 ^ 31) : nI a = (0 : Int32) ↔ a = 0 := nI_eq (b := 0) h (by decide)
theorem ha_e1 {a : Nat} (h : a < 2 ^ 31) : nI a = (1 : Int32) ↔ a = 1 := nI_eq (b := 1) h (by decide)
theorem ha_e2 {a : Nat} (h : a < 2 ^ 31) : nI a = (2 : Int32) ↔ a = 2 := nI_eq (b := 2) h (by decide)
theorem ha_e300 {a : Nat} (h : a < 2 ^ 31) : nI a = (300 : Int32) ↔ a = 300 := nI_eq (b := 300) h (by decide)
theorem ha_le0 {a : Nat} (h : a < 2 ^ 31) : nI a ≤ (0 : Int32) ↔ a = 0 := (nI_leI (b := 0) h (by decide)).trans (by omega)
theorem ha_lt0 {a : Nat} (h : a < 2 ^ 31) : nI a < (0 : Int32) ↔ False := iff_false_intro (nI_pos h)
theorem ha_0le {a : Nat} (h : a < 2 ^ 31) : (0 : Int32) ≤ nI a ↔ True := iff_true_intro (nI_pos' h)
theorem ha_d8 {a : Nat} (h : a < 2 ^ 31) : nI a / (8 : Int32) = nI (a / 8) := pk_div (d := 8) h (by decide) (by decide)
theorem ha_s1 {a : Nat} (h : 0 < a) : nI a - (1 : Int32) = nI (a - 1) := pk_sub (b := 1) h
theorem ha_80 : (8 : Int32) = 0 ↔ False := iff_false_intro (by decide)
theorem ha_10 : (1 : Int32) = 0 ↔ False := iff_false_intro (by decide)
theorem ha_ns {n : Nat} (h : n < 32768) : (nI n).toInt16.toInt32 = nI n := lg_i2s_small (by rw [nI_toInt (by omega)]; omega) (by rw [nI_toInt (by omega)]; omega)
theorem ha_nb {n : Nat} (h : n < 128) : (nI n).toInt8.toInt32 = nI n := lg_i2b_small (by rw [nI_toInt (by omega)]; omega) (by rw [nI_toInt (by omega)]; omega)
theorem ha_vs {n : Nat} (h : n < 32768) : vp_nar .short (nI n) = nI n := by rw [vp_nar_short]; exact ha_ns h
theorem ha_vb {n : Nat} (h : n < 128) : vp_nar .byte (nI n) = nI n := by rw [vp_nar_byte]; exact ha_nb h
theorem ha_vz0 : vp_nar .boolean 0 = 0 := rfl
theorem ha_vz1 : vp_nar .boolean 1 = 1 := rfl
theorem ha_vb0 : vp_nar .byte 0 = 0 := rfl
theorem ha_vb1 : vp_nar .byte 1 = 1 := rfl
theorem ha_vb2 : vp_nar .byte 2 = 2 := rfl
theorem ha_vb3 : vp_nar .byte 3 = 3 := rfl
theorem ha_vbm : vp_nar .byte (-1) = -1 := rfl
theorem ha_vs0 : vp_nar .short 0 = 0 := rfl
theorem ha_m10 : ¬ (0 : Int32) ≤ -1 := by decide
theorem ha_m1l : (-1 : Int32) < 0 := by decide
theorem ha_nm1 {a : Nat} (h : a < 2 ^ 31) : ¬ nI a = -1 := by
  intro e
  have := nI_pos (n := a) h
  rw [e] at this
  exact this ha_m1l
theorem ha_or (a b : Nat) : nI a ||| nI b = nI (a ||| b) := by
  apply Int32.toBitVec_inj.1
  show BitVec.ofNat 32 a ||| BitVec.ofNat 32 b = BitVec.ofNat 32 (a ||| b)
  apply BitVec.eq_of_getLsbD_eq
  intro i hi
  simp [hi]
theorem ha_sh1 {k : Nat} (h : k < 31) : (1 : Int32) <<< (nI k &&& 31) = nI (2 ^ k) := by
  have e := pk_shlN (n := 1) (nI k &&& 31) k (s_l k (by omega)) (by
    have : 2 ^ k ≤ 2 ^ 30 := Nat.pow_le_pow_right (by omega) (by omega)
    omega)
  rw [Nat.one_mul] at e
  exact e
theorem ha_sr {n k : Nat} (hn : n < 2 ^ 31) (h : k < 32) : nI n >>> (nI k &&& 31) = nI (n / 2 ^ k) := pk_shrN hn (nI k &&& 31) k (s_l k h)
theorem ha_and1 {n : Nat} (h : n < 2 ^ 31) : nI n &&& 1 = nI (n % 2) := pk_andN (m := 1) (by omega) 1 (by decide)
theorem ha_and7 {n : Nat} (h : n < 2 ^ 31) : nI n &&& 7 = nI (n % 8) := pk_andN (m := 7) (by omega) 3 (by decide)
theorem ha_bit {n k : Nat} (hn : n < 2 ^ 31) (h : k < 32) : (nI n >>> (nI k &&& 31)) &&& 1 = nI (n / 2 ^ k % 2) := by
  rw [ha_sr hn h, ha_and1 (Nat.lt_of_le_of_lt (Nat.div_le_self _ _) hn)]
theorem ha_tb (n k : Nat) : n / 2 ^ k % 2 = 0 ↔ n.testBit k = false := by
  rw [Nat.testBit_eq_decide_div_mod_eq, decide_eq_false_iff_not]
  generalize n / 2 ^ k = z
  omega
theorem ha_tb1 (n k : Nat) : n / 2 ^ k % 2 = (if n.testBit k = true then 1 else 0) := by
  rw [Nat.testBit_eq_decide_div_mod_eq]
  generalize n / 2 ^ k = z
  by_cases h : z % 2 = 1
  · simp [h]
  · simp [h]; omega
/-- an array of naturals, as ints -/
def hz_n (f : Nat → Nat) : Nat → Int32 := fun j => nI (f j)
def hz_u (f : Nat → Nat) (k v : Nat) : Nat → Nat := fun j => if j = k then v else f j
theorem hz_na (f : Nat → Nat) (j : Nat) : hz_n f j = nI (f j) := rfl
theorem hz_us {f : Nat → Nat} {k v : Nat} : hz_u f k v k = v := if_pos rfl
theorem hz_un {f : Nat → Nat} {k v j : Nat} (h : j ≠ k) : hz_u f k v j = f j := if_neg h
theorem hz_nup (f : Nat → Nat) (k v : Nat) : upd (hz_n f) k (nI v) = hz_n (hz_u f k v) := by
  funext j
  unfold upd hz_n hz_u
  by_cases h : j = k
  · simp only [if_pos h]
  · simp only [if_neg h]
theorem hz_n0 : hz_n (fun _ => 0) = fun _ => 0 := rfl
theorem ha_cl0 : (0 : Int32).toNatClampNeg = 0 := rfl
theorem ha_uc {f : Nat → Int32} {i j : Nat} {x y : Int32} (h : i ≠ j) : upd (upd f i x) j y = upd (upd f j y) i x := by
  funext k
  unfold upd
  by_cases h1 : k = j
  · rw [if_pos h1, if_neg (by omega), if_pos h1]
  · rw [if_neg h1, if_neg h1]
theorem ha_uid {f : Nat → Int32} {i : Nat} {x : Int32} (h : f i = x) : upd f i x = f := by
  funext k
  unfold upd
  by_cases h1 : k = i
  · rw [if_pos h1, h1, h]
  · rw [if_neg h1]
theorem ha_lo (c : Nat) {P : Nat → Prop} (h0 : ∀ k, c ≤ k → P k) (hs : ∀ k, k < c → P (k + 1) → P k) : ∀ k, P k := by
  intro k
  rcases Nat.lt_or_ge k c with h | h
  · have : ∀ d k, k + d = c → P k := by
      intro d
      induction d with
      | zero => intro k hk; exact h0 k (by omega)
      | succ d ih => intro k hk; exact hs k (by omega) (ih (k + 1) (by omega))
    exact this (c - k) k (by omega)
  · exact h0 k h
end
section
/-! B: pure functions: choice by a proposition, truth as an int, counts, the latest, the next -/
noncomputable def hz_if (P : Prop) (a b : Nat) : Nat := @ite Nat P (Classical.propDecidable P) a b
theorem hz_ift {P : Prop} {a b : Nat} (h : P) : hz_if P a b = a := by unfold hz_if; rw [if_pos h]
theorem hz_iff {P : Prop} {a b : Nat} (h : ¬ P) : hz_if P a b = b := by unfold hz_if; rw [if_neg h]
def hz_B (P : Prop) (x : Int32) : Prop := (P ∧ x = 1) ∨ (¬ P ∧ x = 0)
theorem hz_Bt {P : Prop} (h : P) : hz_B P 1 := Or.inl ⟨h, rfl⟩
theorem hz_Bf {P : Prop} (h : ¬ P) : hz_B P 0 := Or.inr ⟨h, rfl⟩
theorem hz_B01 {P : Prop} {x : Int32} (h : hz_B P x) : x = 0 ∨ x = 1 := h.elim (fun z => Or.inr z.2) (fun z => Or.inl z.2)
theorem hz_B0 {P : Prop} {x : Int32} (h : hz_B P x) : x = 0 ↔ ¬ P := by
  rcases h with ⟨a, b⟩ | ⟨a, b⟩
  · exact ⟨fun z => absurd (b.symm.trans z) (by decide), fun z => absurd a z⟩
  · exact ⟨fun _ => a, fun _ => b⟩
theorem hz_B1 {P : Prop} {x : Int32} (h : hz_B P x) : ¬ x = 0 ↔ P := by
  rw [hz_B0 h]
  exact ⟨fun z => Classical.byContradiction z, fun a b => b a⟩
theorem hz_Bi {P Q : Prop} {x : Int32} (e : P ↔ Q) (h : hz_B P x) : hz_B Q x := by
  rcases h with ⟨a, b⟩ | ⟨a, b⟩
  · exact Or.inl ⟨e.mp a, b⟩
  · exact Or.inr ⟨fun z => a (e.mpr z), b⟩
theorem hz_Bn {P : Prop} {x : Int32} (h : hz_B P x) : vp_nar .boolean x = x := by
  rcases hz_B01 h with e | e <;> rw [e] <;> rfl
theorem hz_01n {x : Int32} (h : x = 0 ∨ x = 1) : vp_nar .boolean x = x := by
  rcases h with e | e <;> rw [e] <;> rfl

/-- how many of the first n are o's -/
def hz_ct (wo : Nat → Nat) (o : Nat) : Nat → Nat
  | 0 => 0
  | k + 1 => hz_ct wo o k + (if wo k = o then 1 else 0)
theorem hz_ct_s (wo : Nat → Nat) (o k : Nat) : hz_ct wo o (k + 1) = hz_ct wo o k + (if wo k = o then 1 else 0) := rfl
theorem hz_ct_y {wo : Nat → Nat} {o k : Nat} (h : wo k = o) : hz_ct wo o (k + 1) = hz_ct wo o k + 1 := by rw [hz_ct_s, if_pos h]
theorem hz_ct_n {wo : Nat → Nat} {o k : Nat} (h : ¬ wo k = o) : hz_ct wo o (k + 1) = hz_ct wo o k := by rw [hz_ct_s, if_neg h, Nat.add_zero]
theorem hz_ct_le (wo : Nat → Nat) (o : Nat) : ∀ n, hz_ct wo o n ≤ n
  | 0 => Nat.le_refl _
  | n + 1 => by
    have := hz_ct_le wo o n
    rw [hz_ct_s]
    split <;> omega
theorem hz_ct_mono (wo : Nat → Nat) (o : Nat) {a b : Nat} (h : a ≤ b) : hz_ct wo o a ≤ hz_ct wo o b := by
  induction b with
  | zero => rw [Nat.le_zero.mp h]; exact Nat.le_refl _
  | succ b ih =>
    rcases Nat.lt_or_ge b a with h2 | h2
    · have e : a = b + 1 := by omega
      rw [e]; exact Nat.le_refl _
    · have := ih h2
      rw [hz_ct_s]
      omega
theorem hz_ct_congr {wo wo' : Nat → Nat} {o : Nat} : ∀ {n : Nat}, (∀ i, i < n → wo i = wo' i) → hz_ct wo o n = hz_ct wo' o n
  | 0, _ => rfl
  | n + 1, h => by rw [hz_ct_s, hz_ct_s, hz_ct_congr (n := n) (fun i hi => h i (by omega)), h n (by omega)]
theorem hz_ct_ex {wo : Nat → Nat} {o c : Nat} : ∀ {n : Nat}, 0 < c → c ≤ hz_ct wo o n → ∃ i, i < n ∧ wo i = o ∧ hz_ct wo o i + 1 = c
  | 0, h0, h => by
    have : hz_ct wo o 0 = 0 := rfl
    omega
  | n + 1, h0, h => by
    rcases Nat.lt_or_ge (hz_ct wo o n) c with h2 | h2
    · by_cases hw : wo n = o
      · rw [hz_ct_y hw] at h
        exact ⟨n, by omega, hw, by omega⟩
      · rw [hz_ct_n hw] at h
        omega
    · obtain ⟨i, hi, h3⟩ := hz_ct_ex (n := n) h0 h2
      exact ⟨i, by omega, h3⟩
/-- the number of an access among those of its machine -/
def hz_num (wo : Nat → Nat) (i : Nat) : Nat := hz_ct wo (wo i) i + 1
theorem hz_num_le {wo : Nat → Nat} {i K : Nat} (h : i < K) : hz_num wo i ≤ hz_ct wo (wo i) K := by
  have h1 : hz_num wo i = hz_ct wo (wo i) (i + 1) := (hz_ct_y rfl).symm
  rw [h1]
  exact hz_ct_mono _ _ h
theorem hz_num_lt {wo : Nat → Nat} {i j : Nat} (h : i < j) (e : wo i = wo j) : hz_num wo i < hz_num wo j := by
  have h1 := hz_num_le (wo := wo) h
  unfold hz_num at *
  rw [← e]
  omega
theorem hz_num_iff {wo : Nat → Nat} {i j : Nat} (e : wo i = wo j) : hz_num wo i ≤ hz_num wo j ↔ i ≤ j := by
  constructor
  · intro h
    rcases Nat.lt_or_ge j i with h2 | h2
    · have := hz_num_lt h2 e.symm
      omega
    · exact h2
  · intro h
    rcases Nat.lt_or_eq_of_le h with h2 | h2
    · exact Nat.le_of_lt (hz_num_lt h2 e)
    · rw [h2]; exact Nat.le_refl _
theorem hz_num_u {wo : Nat → Nat} {K c i : Nat} (h : i < K) : hz_num (hz_u wo K c) i = hz_num wo i := by
  unfold hz_num
  rw [hz_un (by omega)]
  exact congrArg (· + 1) (hz_ct_congr (fun j hj => hz_un (by omega)))
theorem hz_num_K {wo : Nat → Nat} {K c : Nat} : hz_num (hz_u wo K c) K = hz_ct wo c K + 1 := by
  unfold hz_num
  rw [hz_us]
  exact congrArg (· + 1) (hz_ct_congr (fun j hj => hz_un (by omega)))
theorem hz_ct_uK {wo : Nat → Nat} {K c o : Nat} : hz_ct (hz_u wo K c) o (K + 1) = hz_ct wo o K + (if c = o then 1 else 0) := by
  rw [hz_ct_s, hz_us, hz_ct_congr (wo := hz_u wo K c) (wo' := wo) (fun j hj => hz_un (by omega))]

/-- the latest below k (plus one) with P; 0 if there is none -/
noncomputable def hz_la (P : Nat → Prop) : Nat → Nat
  | 0 => 0
  | k + 1 => hz_if (P k) (k + 1) (hz_la P k)
theorem hz_la_y {P : Nat → Prop} {k : Nat} (h : P k) : hz_la P (k + 1) = k + 1 := hz_ift h
theorem hz_la_n {P : Nat → Prop} {k : Nat} (h : ¬ P k) : hz_la P (k + 1) = hz_la P k := hz_iff h
theorem hz_la_le (P : Nat → Prop) : ∀ k, hz_la P k ≤ k
  | 0 => Nat.le_refl _
  | k + 1 => by
    by_cases h : P k
    · rw [hz_la_y h]; exact Nat.le_refl _
    · rw [hz_la_n h]; exact Nat.le_succ_of_le (hz_la_le P k)
theorem hz_la_congr {P Q : Nat → Prop} : ∀ {k : Nat}, (∀ i, i < k → (P i ↔ Q i)) → hz_la P k = hz_la Q k
  | 0, _ => rfl
  | k + 1, h => by
    have ih := hz_la_congr (k := k) (fun i hi => h i (by omega))
    by_cases hp : P k
    · rw [hz_la_y hp, hz_la_y ((h k (by omega)).mp hp)]
    · rw [hz_la_n hp, hz_la_n (fun z => hp ((h k (by omega)).mpr z)), ih]
theorem hz_la_ge {P : Nat → Prop} {i : Nat} : ∀ {k : Nat}, i < k → P i → i + 1 ≤ hz_la P k
  | 0, h, _ => by omega
  | k + 1, h, hp => by
    by_cases hk : P k
    · rw [hz_la_y hk]; omega
    · rw [hz_la_n hk]
      refine hz_la_ge (k := k) ?_ hp
      rcases Nat.lt_or_ge i k with h2 | h2
      · exact h2
      · have e : i = k := by omega
        rw [e] at hp
        exact absurd hp hk
theorem hz_la_at {P : Nat → Prop} {j : Nat} : ∀ {k : Nat}, hz_la P k = j + 1 → j < k ∧ P j
  | 0, h => by
    have : hz_la P 0 = 0 := rfl
    omega
  | k + 1, h => by
    by_cases hk : P k
    · rw [hz_la_y hk] at h
      have e : k = j := by omega
      rw [← e]
      exact ⟨by omega, hk⟩
    · rw [hz_la_n hk] at h
      have := hz_la_at (k := k) h
      exact ⟨by omega, this.2⟩
theorem hz_la_0 {P : Nat → Prop} {k : Nat} (h : ∀ i, i < k → ¬ P i) : hz_la P k = 0 := by
  rcases Nat.eq_zero_or_pos (hz_la P k) with e | e
  · exact e
  · have := hz_la_at (P := P) (k := k) (j := hz_la P k - 1) (by omega)
    exact absurd this.2 (h _ this.1)
theorem hz_la_z {P : Nat → Prop} {i k : Nat} (h : hz_la P k = 0) (hi : i < k) : ¬ P i := by
  intro z
  have := hz_la_ge hi z
  omega
theorem hz_la_mono {P Q : Nat → Prop} {k : Nat} (h : ∀ i, i < k → P i → Q i) : hz_la P k ≤ hz_la Q k := by
  rcases Nat.eq_zero_or_pos (hz_la P k) with e | e
  · omega
  · have := hz_la_at (P := P) (k := k) (j := hz_la P k - 1) (by omega)
    have := hz_la_ge this.1 (h _ this.1 this.2)
    omega
theorem hz_la_eq {P : Nat → Prop} {k j : Nat} (hj : j < k) (hp : P j) (h : ∀ i, j < i → i < k → ¬ P i) : hz_la P k = j + 1 := by
  have h1 := hz_la_ge hj hp
  rcases Nat.lt_or_ge (j + 1) (hz_la P k) with h2 | h2
  · have := hz_la_at (P := P) (k := k) (j := hz_la P k - 1) (by omega)
    exact absurd this.2 (h _ (by omega) this.1)
  · omega
/-- one more has it -/
theorem hz_la_ins {P Q : Nat → Prop} {k i : Nat} (hi : i < k) (h : ∀ j, j < k → (Q j ↔ P j ∨ j = i)) : hz_la Q k = if i + 1 < hz_la P k then hz_la P k else i + 1 := by
  have hq := hz_la_ge hi ((h i hi).mpr (Or.inr rfl))
  have hm := hz_la_mono (P := P) (Q := Q) (fun j hj z => (h j hj).mpr (Or.inl z))
  have ha := hz_la_at (P := Q) (k := k) (j := hz_la Q k - 1) (by omega)
  rcases (h _ ha.1).mp ha.2 with z | z
  · have := hz_la_ge ha.1 z
    split <;> omega
  · split <;> omega

/-- the first from a on, below k (plus one), with P; 0 if there is none -/
noncomputable def hz_nx (P : Nat → Prop) (a : Nat) : Nat → Nat
  | 0 => 0
  | k + 1 => if hz_nx P a k = 0 then hz_if (a ≤ k ∧ P k) (k + 1) 0 else hz_nx P a k
theorem hz_nx_k {P : Nat → Prop} {a k : Nat} (h : ¬ hz_nx P a k = 0) : hz_nx P a (k + 1) = hz_nx P a k := if_neg h
theorem hz_nx_y {P : Nat → Prop} {a k : Nat} (h : hz_nx P a k = 0) (ha : a ≤ k) (hp : P k) : hz_nx P a (k + 1) = k + 1 := by
  show (if _ then _ else _) = _
  rw [if_pos h, hz_ift ⟨ha, hp⟩]
theorem hz_nx_n {P : Nat → Prop} {a k : Nat} (hp : ¬ (a ≤ k ∧ P k)) : hz_nx P a (k + 1) = hz_nx P a k := by
  show (if _ then _ else _) = _
  by_cases h : hz_nx P a k = 0
  · rw [if_pos h, hz_iff hp, h]
  · rw [if_neg h]
theorem hz_nx_z {P : Nat → Prop} {a : Nat} : ∀ {k : Nat}, hz_nx P a k = 0 → ∀ j, a ≤ j → j < k → ¬ P j
  | 0, _, j, _, h => by omega
  | k + 1, h, j, ha, hj => by
    by_cases h0 : hz_nx P a k = 0
    · intro hp
      rcases Nat.lt_or_ge j k with h2 | h2
      · exact hz_nx_z (k := k) h0 j ha h2 hp
      · have e : j = k := by omega
        rw [e] at hp ha
        rw [hz_nx_y h0 ha hp] at h
        omega
    · rw [hz_nx_k h0] at h
      exact absurd h h0
theorem hz_nx_at {P : Nat → Prop} {a j : Nat} : ∀ {k : Nat}, hz_nx P a k = j + 1 → a ≤ j ∧ j < k ∧ P j ∧ ∀ i, a ≤ i → i < j → ¬ P i
  | 0, h => by
    have : hz_nx P a 0 = 0 := rfl
    omega
  | k + 1, h => by
    by_cases h0 : hz_nx P a k = 0
    · by_cases hp : a ≤ k ∧ P k
      · rw [hz_nx_y h0 hp.1 hp.2] at h
        have e : k = j := by omega
        rw [← e]
        exact ⟨hp.1, by omega, hp.2, fun i h1 h2 => hz_nx_z h0 i h1 h2⟩
      · rw [hz_nx_n hp] at h
        omega
    · rw [hz_nx_k h0] at h
      have := hz_nx_at (k := k) h
      exact ⟨this.1, by omega, this.2.2⟩
theorem hz_nx_le (P : Nat → Prop) (a k : Nat) : hz_nx P a k ≤ k := by
  rcases Nat.eq_zero_or_pos (hz_nx P a k) with e | e
  · omega
  · have := hz_nx_at (P := P) (a := a) (k := k) (j := hz_nx P a k - 1) (by omega)
    omega
theorem hz_nx_0 {P : Nat → Prop} {a k : Nat} (h : ∀ j, a ≤ j → j < k → ¬ P j) : hz_nx P a k = 0 := by
  rcases Nat.eq_zero_or_pos (hz_nx P a k) with e | e
  · exact e
  · have := hz_nx_at (P := P) (a := a) (k := k) (j := hz_nx P a k - 1) (by omega)
    exact absurd this.2.2.1 (h _ this.1 this.2.1)
theorem hz_nx_congr {P Q : Nat → Prop} {a : Nat} : ∀ {k : Nat}, (∀ i, i < k → (P i ↔ Q i)) → hz_nx P a k = hz_nx Q a k
  | 0, _ => rfl
  | k + 1, h => by
    have ih := hz_nx_congr (a := a) (k := k) (fun i hi => h i (by omega))
    have hk := h k (by omega)
    by_cases h0 : hz_nx P a k = 0
    · by_cases hp : a ≤ k ∧ P k
      · rw [hz_nx_y h0 hp.1 hp.2, hz_nx_y (ih ▸ h0) hp.1 (hk.mp hp.2)]
      · rw [hz_nx_n hp, hz_nx_n (fun z => hp ⟨z.1, hk.mpr z.2⟩), ih]
    · rw [hz_nx_k h0, hz_nx_k (ih ▸ h0), ih]
theorem hz_nx_ne {P : Nat → Prop} {a j k : Nat} (ha : a ≤ j) (hj : j < k) (hp : P j) : ∃ i, hz_nx P a k = i + 1 ∧ a ≤ i ∧ i ≤ j ∧ i < k ∧ P i ∧ ∀ q, a ≤ q → q < i → ¬ P q := by
  rcases Nat.eq_zero_or_pos (hz_nx P a k) with e | e
  · exact absurd hp (hz_nx_z e j ha hj)
  · have := hz_nx_at (P := P) (a := a) (k := k) (j := hz_nx P a k - 1) (by omega)
    refine ⟨hz_nx P a k - 1, by omega, this.1, ?_, this.2⟩
    rcases Nat.lt_or_ge j (hz_nx P a k - 1) with h2 | h2
    · exact absurd hp (this.2.2.2 j ha h2)
    · exact h2
/-- the value of a word by its latest write -/
def hz_val (yo yv : Nat → Int32) (w l : Nat) : Int32 := if l = 0 then yo w else yv (l - 1)
theorem hz_val_0 {yo yv : Nat → Int32} {w : Nat} : hz_val yo yv w 0 = yo w := rfl
theorem hz_val_s {yo yv : Nat → Int32} {w l : Nat} : hz_val yo yv w (l + 1) = yv l := rfl
theorem hz_val_u {yo yv : Nat → Int32} {w l K : Nat} {x : Int32} (h : l ≤ K) : hz_val yo (upd yv K x) w l = hz_val yo yv w l := by
  cases l with
  | zero => rfl
  | succ l => rw [hz_val_s, hz_val_s, pk_un (by omega)]
/-- a latest place, as an int: -1 if there is none -/
def hz_e (l : Nat) : Int32 := nI l - 1
theorem hz_e0 : hz_e 0 = -1 := rfl
theorem hz_es (l : Nat) : hz_e (l + 1) = nI l := nI_pred l
theorem hz_e_toInt {l : Nat} (h : l < 2 ^ 30) : (hz_e l).toInt = (l : Int) - 1 := by
  cases l with
  | zero => rw [hz_e0]; decide
  | succ l => rw [hz_es, nI_toInt (by omega)]; omega
theorem hz_e_lt0 {l : Nat} (h : l < 2 ^ 30) : hz_e l < 0 ↔ l = 0 := by
  rw [Int32.lt_iff_toInt_lt, hz_e_toInt h, show (0 : Int32).toInt = 0 from by decide]
  omega
theorem hz_e_ge0 {l : Nat} (h : l < 2 ^ 30) : 0 ≤ hz_e l ↔ 0 < l := by
  rw [Int32.le_iff_toInt_le, hz_e_toInt h, show (0 : Int32).toInt = 0 from by decide]
  omega
theorem hz_e_le {a b : Nat} (ha : a < 2 ^ 30) (hb : b < 2 ^ 30) : hz_e a ≤ hz_e b ↔ a ≤ b := by
  rw [Int32.le_iff_toInt_le, hz_e_toInt ha, hz_e_toInt hb]
  omega
end
section
/-! C: the relation's parts -/
def hr_H (K : Nat) (wo wh : Nat → Nat) : Prop := K ≤ 300 ∧ (∀ i, wo i < 4) ∧ (∀ i, wh i < 64)
/-- what is known: of machines and of locks -/
def hr_K (K : Nat) (wo kn : Nat → Nat) (yk yp : Nat → Int32) : Prop :=
  (∀ j, kn j ≤ 300) ∧ (∀ x o, x < 9 → o < 4 → kn (4 * x + o) ≤ kn (5 * o)) ∧ (∀ o, o < 4 → kn (5 * o) = hz_ct wo o K) ∧
  (∀ m i, m < 4 → i < K → hz_B (hz_num wo i ≤ kn (4 * m + wo i)) (yk (300 * m + i))) ∧
  (∀ l i, l < 4 → i < K → hz_B (hz_num wo i ≤ kn (4 * (4 + l) + wo i)) (yp (300 * l + i)))
/-- rows, states, holders; e: a machine that is between two rows (4: none) -/
def hr_L (e : Nat) (ln gq : Nat → Nat) (st yf ho : Nat → Int32) : Prop :=
  (∀ j, gq j < 4) ∧ (∀ r, r < 8 → ln r ≤ 4) ∧
  (∀ r k, r < 8 → k < ln r → st (gq (4 * r + k)) = if r < 4 then 1 else 3) ∧
  (∀ r k, r < 4 → k < ln r → yf (gq (4 * r + k)) = nI r) ∧
  (∀ r k s q, r < 8 → k < ln r → s < 8 → q < ln s → gq (4 * r + k) = gq (4 * s + q) → r = s ∧ k = q) ∧
  (∀ r, r < 4 → 0 < ln r → ∃ h, h < 4 ∧ ho r = nI h) ∧
  (∀ m, m < 4 → m ≠ e → st m = 1 → ∃ r k, r < 4 ∧ k < ln r ∧ gq (4 * r + k) = m) ∧
  (∀ l, l < 4 → ho l = -1 ∨ ∃ h, h < 4 ∧ ho l = nI h)
def hz_b2 (st : Nat → Int32) : Nat := (if st 0 = 2 then 1 else 0) + (if st 1 = 2 then 1 else 0) + (if st 2 = 2 then 1 else 0) + (if st 3 = 2 then 1 else 0)
/-- the barrier -/
def hr_B (gt : Nat) (st : Nat → Int32) (kn : Nat → Nat) : Prop := gt = hz_b2 st ∧ gt < 4 ∧ ∀ m, m < 4 → st m = 2 → kn (4 * 8 + m) = kn (5 * m)
/-- a member of the chain of writes of machine o to page p -/
def hz_C (wo wh : Nat → Nat) (yr sc : Nat → Int32) (o p i : Nat) : Prop := wo i = o ∧ wh i / 8 = p ∧ ¬ yr i = 0 ∧ sc p = 0
def hr_C (K : Nat) (wo wh : Nat → Nat) (yr sc yv : Nat → Int32) (gc gd : Nat → Nat) (wt : Nat → Int32) (gx gf gl gs : Nat → Nat) (S : Nat → Nat → Prop) : Prop :=
  (∀ o p i, o < 4 → p < 8 → i < K → hz_C wo wh yr sc o p i → gc i = hz_num wo i ∧ gd i = wh i ∧ wt i = yv i ∧ gx i = hz_nx (hz_C wo wh yr sc o p) (i + 1) K) ∧
  (∀ o p, o < 4 → p < 8 → gf (8 * o + p) = hz_nx (hz_C wo wh yr sc o p) 0 K ∧ gl (8 * o + p) = hz_la (hz_C wo wh yr sc o p) K) ∧
  (∀ m p o, m < 4 → p < 8 → o < 4 → gs (32 * m + 4 * p + o) = 0 ∨ ∃ i, i < K ∧ gs (32 * m + 4 * p + o) = i + 1 ∧ hz_C wo wh yr sc o p i) ∧
  (∀ m p o i, m < 4 → p < 8 → o < 4 → o ≠ m → i < K → hz_C wo wh yr sc o p i → (S m i ↔ i < gs (32 * m + 4 * p + o))) ∧
  (∀ m i, m < 4 → i < K → ¬ yr i = 0 → wo i = m → S m i)
/-- copies -/
def hz_Q (wh : Nat → Nat) (yr sc : Nat → Int32) (S : Nat → Nat → Prop) (m w i : Nat) : Prop := wh i = w ∧ ¬ yr i = 0 ∧ sc (w / 8) = 0 ∧ S m i
def hr_V (K : Nat) (wh : Nat → Nat) (yr sc yv yo : Nat → Int32) (gm : Nat → Nat) (va : Nat → Int32) (S : Nat → Nat → Prop) : Prop :=
  (∀ m w, m < 4 → w < 64 → gm (64 * m + w) = hz_la (hz_Q wh yr sc S m w) K) ∧
  (∀ m w, m < 4 → w < 64 → sc (w / 8) = 0 → va (64 * m + w) = hz_val yo yv w (gm (64 * m + w)))
/-- strict pages: the words -/
def hz_W (wh : Nat → Nat) (yr : Nat → Int32) (w i : Nat) : Prop := wh i = w ∧ ¬ yr i = 0
def hr_D (K : Nat) (wh : Nat → Nat) (yr sc yv yo co : Nat → Int32) : Prop :=
  (∀ p, sc p = 0 ∨ sc p = 1) ∧ (∀ w, w < 64 → ¬ sc (w / 8) = 0 → co w = hz_val yo yv w (hz_la (hz_W wh yr w) K))
/-- strict pages: the directory -/
def hz_O1 (wo wh : Nat → Nat) (sc : Nat → Int32) (p m i : Nat) : Prop := ¬ sc p = 0 ∧ wh i / 8 = p ∧ wo i = m
def hz_O2 (wo wh : Nat → Nat) (yr sc : Nat → Int32) (p m i : Nat) : Prop := ¬ sc p = 0 ∧ wh i / 8 = p ∧ wo i = m ∧ ¬ yr i = 0
def hz_O3 (wo wh : Nat → Nat) (sc : Nat → Int32) (p m i : Nat) : Prop := ¬ sc p = 0 ∧ wh i / 8 = p ∧ ¬ wo i = m
def hz_O4 (wo wh : Nat → Nat) (yr sc : Nat → Int32) (p m i : Nat) : Prop := ¬ sc p = 0 ∧ wh i / 8 = p ∧ ¬ wo i = m ∧ ¬ yr i = 0
def hr_O (K : Nat) (wo wh : Nat → Nat) (yr sc : Nat → Int32) (gh go : Nat → Nat) : Prop :=
  ∀ p, p < 8 → gh p < 16 ∧ go p ≤ 4 ∧ ∀ m, m < 4 →
    (((gh p).testBit m = true ↔ hz_la (hz_O4 wo wh yr sc p m) K < hz_la (hz_O1 wo wh sc p m) K) ∧
     (go p = m + 1 ↔ hz_la (hz_O3 wo wh sc p m) K < hz_la (hz_O2 wo wh yr sc p m) K))
/-- the latest read and write of each machine of a word -/
def hr_R (K : Nat) (wo wh : Nat → Nat) (yr : Nat → Int32) (gr gw : Nat → Nat) : Prop :=
  ∀ w o, w < 64 → o < 4 → gr (4 * w + o) ≤ 300 ∧ gw (4 * w + o) ≤ 300 ∧
    (∀ k, k < gw (4 * w + o) ↔ ∃ i, i < K ∧ wo i = o ∧ wh i = w ∧ ¬ yr i = 0 ∧ k < hz_num wo i) ∧
    (∀ k, (k < gw (4 * w + o) ∨ k < gr (4 * w + o)) ↔ ∃ i, i < K ∧ wo i = o ∧ wh i = w ∧ k < hz_num wo i)

/-! D: what is known, step by step -/
def hz_lrn (kn : Nat → Nat) (t f : Nat) : Nat → Nat := fun j => if j / 4 = t then (if kn j < kn (4 * f + j % 4) then kn (4 * f + j % 4) else kn j) else kn j
theorem hz_lrn_at (kn : Nat → Nat) (t f x o : Nat) (ho : o < 4) : hz_lrn kn t f (4 * x + o) = if x = t then (if kn (4 * x + o) < kn (4 * f + o) then kn (4 * f + o) else kn (4 * x + o)) else kn (4 * x + o) := by
  unfold hz_lrn
  rw [show (4 * x + o) / 4 = x from by omega, show (4 * x + o) % 4 = o from by omega]
theorem hz_lrn_own {kn : Nat → Nat} {t f : Nat} (h2 : ∀ x o, x < 9 → o < 4 → kn (4 * x + o) ≤ kn (5 * o)) (hf : f < 9) {o : Nat} (ho : o < 4) : hz_lrn kn t f (5 * o) = kn (5 * o) := by
  have e : 5 * o = 4 * o + o := by omega
  have h := h2 f o hf ho
  rw [e] at h ⊢
  rw [hz_lrn_at _ _ _ _ _ ho]
  split
  · split <;> omega
  · rfl
theorem hz_lrn_n {kn : Nat → Nat} {t f : Nat} {x o : Nat} (ho : o < 4) (h : x ≠ t) : hz_lrn kn t f (4 * x + o) = kn (4 * x + o) := by
  rw [hz_lrn_at _ _ _ _ _ ho, if_neg h]
theorem hz_lrn_b {kn : Nat → Nat} (h : ∀ j, kn j ≤ 300) (t f : Nat) : ∀ j, hz_lrn kn t f j ≤ 300 := by
  intro j
  have a := h j
  have b := h (4 * f + j % 4)
  unfold hz_lrn
  split
  · split <;> omega
  · omega
theorem hz_lrn_2 {kn : Nat → Nat} {t f : Nat} (h2 : ∀ x o, x < 9 → o < 4 → kn (4 * x + o) ≤ kn (5 * o)) (hf : f < 9) : ∀ x o, x < 9 → o < 4 → hz_lrn kn t f (4 * x + o) ≤ hz_lrn kn t f (5 * o) := by
  intro x o hx ho
  have a := h2 x o hx ho
  have b := h2 f o hf ho
  rw [hz_lrn_own h2 hf ho, hz_lrn_at _ _ _ _ _ ho]
  split
  · split <;> omega
  · omega
/-- Y's sets when a machine gets a lock -/
def hz_gk (yk yp : Nat → Int32) (t l K : Nat) : Nat → Int32 := fun j => if 300 * t ≤ j ∧ j < 300 * t + K ∧ ¬ yp (300 * l + (j - 300 * t)) = 0 then 1 else yk j
theorem hr_K_gets {K : Nat} {wo kn : Nat → Nat} {yk yp : Nat → Int32} {t l : Nat} (hw : ∀ i, wo i < 4) (hK : K ≤ 300) (h : hr_K K wo kn yk yp) (ht : t < 4) (hl : l < 4) : hr_K K wo (hz_lrn kn t (4 + l)) (hz_gk yk yp t l K) yp := by
  obtain ⟨h1, h2, h3, h4, h5⟩ := h
  refine ⟨hz_lrn_b h1 _ _, hz_lrn_2 h2 (by omega), ?_, ?_, ?_⟩
  · intro o ho
    rw [hz_lrn_own h2 (by omega) ho]
    exact h3 o ho
  · intro m i hm hi
    rw [hz_lrn_at _ _ _ _ _ (hw i)]
    have a := h4 m i hm hi
    have b := h5 l i hl hi
    by_cases e : m = t
    · rw [if_pos e]
      rw [e] at a ⊢
      by_cases z : yp (300 * l + i) = 0
      · have g : hz_gk yk yp t l K (300 * t + i) = yk (300 * t + i) := by
          unfold hz_gk
          rw [show 300 * t + i - 300 * t = i from by omega, if_neg (fun q => q.2.2 z)]
        rw [g]
        have b' := (hz_B0 b).mp z
        refine hz_Bi ?_ a
        constructor
        · intro q; split <;> omega
        · intro q; split at q <;> omega
      · have g : hz_gk yk yp t l K (300 * t + i) = 1 := by
          unfold hz_gk
          rw [show 300 * t + i - 300 * t = i from by omega, if_pos ⟨by omega, by omega, z⟩]
        rw [g]
        have b' := (hz_B1 b).mp z
        refine hz_Bt ?_
        split <;> omega
    · rw [if_neg e]
      unfold hz_gk
      rw [if_neg (fun q => by omega)]
      exact a
  · intro q i hq hi
    rw [hz_lrn_n (hw i) (by omega)]
    exact h5 q i hq hi
def hz_kee (kn : Nat → Nat) (t f : Nat) : Nat → Nat := fun j => if j / 4 = t then kn (4 * f + j % 4) else kn j
theorem hz_kee_at (kn : Nat → Nat) (t f x o : Nat) (ho : o < 4) : hz_kee kn t f (4 * x + o) = if x = t then kn (4 * f + o) else kn (4 * x + o) := by
  unfold hz_kee
  rw [show (4 * x + o) / 4 = x from by omega, show (4 * x + o) % 4 = o from by omega]
theorem hz_kee_5 {kn : Nat → Nat} {t f o : Nat} (ht : 4 ≤ t) (ho : o < 4) : hz_kee kn t f (5 * o) = kn (5 * o) := by
  have e : 5 * o = 4 * o + o := by omega
  rw [e, hz_kee_at _ _ _ _ _ ho, if_neg (by omega)]
def hz_gp (yp yk : Nat → Int32) (l m K : Nat) : Nat → Int32 := fun j => if 300 * l ≤ j ∧ j < 300 * l + K then yk (300 * m + (j - 300 * l)) else yp j
theorem hr_K_keep {K : Nat} {wo kn : Nat → Nat} {yk yp : Nat → Int32} {m l : Nat} (hw : ∀ i, wo i < 4) (hK : K ≤ 300) (h : hr_K K wo kn yk yp) (hm : m < 4) (hl : l < 4) : hr_K K wo (hz_kee kn (4 + l) m) yk (hz_gp yp yk l m K) := by
  obtain ⟨h1, h2, h3, h4, h5⟩ := h
  refine ⟨?_, ?_, ?_, ?_, ?_⟩
  · intro j
    have a := h1 j
    have b := h1 (4 * m + j % 4)
    unfold hz_kee
    split <;> omega
  · intro x o hx ho
    have a := h2 x o hx ho
    have b := h2 m o (by omega) ho
    rw [hz_kee_5 (by omega) ho, hz_kee_at _ _ _ _ _ ho]
    split <;> omega
  · intro o ho
    rw [hz_kee_5 (by omega) ho]
    exact h3 o ho
  · intro q i hq hi
    rw [hz_kee_at _ _ _ _ _ (hw i), if_neg (by omega)]
    exact h4 q i hq hi
  · intro q i hq hi
    rw [hz_kee_at _ _ _ _ _ (hw i)]
    unfold hz_gp
    by_cases e : q = l
    · rw [if_pos (by omega), e, if_pos ⟨by omega, by omega⟩, show 300 * l + i - 300 * l = i from by omega]
      exact h4 m i hm hi
    · rw [if_neg (by omega), if_neg (fun z => by omega)]
      exact h5 q i hq hi
/-- one arrives at the barrier -/
theorem hr_K_arr {K : Nat} {wo kn : Nat → Nat} {yk yp : Nat → Int32} {m : Nat} (hw : ∀ i, wo i < 4) (h : hr_K K wo kn yk yp) (hm : m < 4) : hr_K K wo (hz_lrn kn 8 m) yk yp := by
  obtain ⟨h1, h2, h3, h4, h5⟩ := h
  refine ⟨hz_lrn_b h1 _ _, hz_lrn_2 h2 (by omega), ?_, ?_, ?_⟩
  · intro o ho
    rw [hz_lrn_own h2 (by omega) ho]
    exact h3 o ho
  · intro q i hq hi
    rw [hz_lrn_n (hw i) (by omega)]
    exact h4 q i hq hi
  · intro q i hq hi
    rw [hz_lrn_n (hw i) (by omega)]
    exact h5 q i hq hi
/-- all learn what the barrier knows -/
def hz_ba (kn : Nat → Nat) (t : Nat) : Nat → Nat := fun j => if j < 4 * t then kn (4 * 8 + j % 4) else kn j
theorem hz_ba_s {kn : Nat → Nat} {t : Nat} (ht : t < 4) (h : ∀ x o, x < 4 → o < 4 → kn (4 * x + o) ≤ kn (4 * 8 + o)) : hz_lrn (hz_ba kn t) t 8 = hz_ba kn (t + 1) := by
  funext j
  unfold hz_lrn hz_ba
  by_cases e : j / 4 = t
  · have a := h t (j % 4) ht (by omega)
    rw [show 4 * t + j % 4 = j from by omega] at a
    have n1 : ¬ j < 4 * t := by omega
    have n2 : ¬ 4 * 8 + j % 4 < 4 * t := by omega
    have n3 : j < 4 * (t + 1) := by omega
    simp only [if_pos e, n1, n2, n3, if_false, if_true]
    split <;> omega
  · rw [if_neg e]
    by_cases z : j < 4 * t
    · rw [if_pos z, if_pos (by omega)]
    · rw [if_neg z, if_neg (by omega)]
theorem hr_K_bar {K : Nat} {wo kn : Nat → Nat} {yk yp yk' : Nat → Int32} (hw : ∀ i, wo i < 4) (h : hr_K K wo kn yk yp) (hb : ∀ m, m < 4 → kn (4 * 8 + m) = kn (5 * m)) (hy : ∀ m i, m < 4 → i < K → yk' (300 * m + i) = 1) : hr_K K wo (hz_ba kn 4) yk' yp := by
  obtain ⟨h1, h2, h3, h4, h5⟩ := h
  have e5 : ∀ o, o < 4 → hz_ba kn 4 (5 * o) = kn (5 * o) := by
    intro o ho
    unfold hz_ba
    rw [if_pos (by omega), show (5 * o) % 4 = o from by omega]
    exact hb o ho
  refine ⟨?_, ?_, ?_, ?_, ?_⟩
  · intro j
    have a := h1 j
    have b := h1 (4 * 8 + j % 4)
    unfold hz_ba
    split <;> omega
  · intro x o hx ho
    rw [e5 o ho]
    have a := h2 x o hx ho
    have b := h2 8 o (by omega) ho
    unfold hz_ba
    rw [show (4 * x + o) % 4 = o from by omega]
    split <;> omega
  · intro o ho
    rw [e5 o ho]
    exact h3 o ho
  · intro m i hm hi
    rw [hy m i hm hi]
    refine hz_Bt ?_
    unfold hz_ba
    have := hw i
    rw [if_pos (by omega), show (4 * m + wo i) % 4 = wo i from by omega, hb _ (hw i), h3 _ (hw i)]
    exact hz_num_le hi
  · intro l i hl hi
    unfold hz_ba
    rw [if_neg (by omega)]
    exact h5 l i hl hi
/-- an access -/
theorem hr_K_acc {K c : Nat} {wo kn : Nat → Nat} {yk yp yk' yp' : Nat → Int32} (hw : ∀ i, wo i < 4) (hK : K < 300) (h : hr_K K wo kn yk yp) (hc : c < 4)
    (a1 : ∀ m i, m < 4 → i < K → yk' (300 * m + i) = yk (300 * m + i)) (a2 : ∀ l i, l < 4 → i < K → yp' (300 * l + i) = yp (300 * l + i))
    (b1 : ∀ m, m < 4 → yk' (300 * m + K) = if m = c then 1 else 0) (b2 : ∀ l, l < 4 → yp' (300 * l + K) = 0) :
    hr_K (K + 1) (hz_u wo K c) (hz_u kn (5 * c) (kn (5 * c) + 1)) yk' yp' := by
  obtain ⟨h1, h2, h3, h4, h5⟩ := h
  have hK' := hz_ct_le wo c K
  have hc5 := h3 c hc
  refine ⟨?_, ?_, ?_, ?_, ?_⟩
  · intro j
    have := h1 j
    unfold hz_u
    split <;> omega
  · intro x o hx ho
    have := h2 x o hx ho
    unfold hz_u
    by_cases e : o = c
    · rw [e] at this ⊢
      rw [if_pos rfl]
      split <;> omega
    · rw [if_neg (by omega), if_neg (by omega)]
      exact this
  · intro o ho
    rw [hz_ct_uK]
    by_cases e : c = o
    · rw [← e, if_pos rfl, hz_us, hc5]
    · rw [if_neg e, hz_un (by omega), Nat.add_zero]
      exact h3 o ho
  · intro m i hm hi
    by_cases e : i = K
    · rw [e, hz_num_K, hz_us, b1 m hm]
      by_cases em : m = c
      · rw [if_pos em, em, show 4 * c + c = 5 * c from by omega, hz_us]
        exact hz_Bt (by omega)
      · rw [if_neg em, hz_un (by omega)]
        have := h2 m c (by omega) hc
        exact hz_Bf (by omega)
    · have hi' : i < K := by omega
      rw [hz_num_u hi', hz_un (j := i) (by omega), a1 m i hm hi']
      refine hz_Bi ?_ (h4 m i hm hi')
      by_cases e2 : 4 * m + wo i = 5 * c
      · rw [e2, hz_us]
        have e3 : wo i = c := by have := hw i; omega
        have := hz_num_le (wo := wo) hi'
        rw [e3] at this
        constructor <;> intro <;> omega
      · rw [hz_un e2]
  · intro l i hl hi
    by_cases e : i = K
    · rw [e, hz_num_K, hz_us, b2 l hl, hz_un (by omega)]
      have := h2 (4 + l) c (by omega) hc
      exact hz_Bf (by omega)
    · have hi' : i < K := by omega
      have hwi := hw i
      rw [hz_num_u hi', hz_un (j := i) (by omega), a2 l i hl hi', hz_un (by omega)]
      exact h5 l i hl hi'
/-- all is known to all -/
theorem hr_K_all {K : Nat} {wo kn : Nat → Nat} {yk yp : Nat → Int32} (hw : ∀ i, wo i < 4) (h : hr_K K wo kn yk yp) : (∀ m o, m < 4 → o < 4 → kn (4 * m + o) = kn (5 * o)) ↔ (∀ m i, m < 4 → i < K → ¬ yk (300 * m + i) = 0) := by
  obtain ⟨h1, h2, h3, h4, h5⟩ := h
  constructor
  · intro a m i hm hi
    rw [hz_B1 (h4 m i hm hi), a m _ hm (hw i), h3 _ (hw i)]
    exact hz_num_le hi
  · intro a m o hm ho
    have b := h2 m o (by omega) ho
    rcases Nat.eq_zero_or_pos (hz_ct wo o K) with e | e
    · have := h3 o ho
      omega
    · obtain ⟨i, hi, e1, e2⟩ := hz_ct_ex e (Nat.le_refl _)
      have := (hz_B1 (h4 m i hm hi)).mp (a m i hm hi)
      unfold hz_num at this
      rw [e1] at this
      have := h3 o ho
      omega
/-- how many of o's are known -/
theorem hz_ct_known {wo : Nat → Nat} {o c : Nat} {P : Nat → Prop} (hP : ∀ i, wo i = o → (P i ↔ hz_num wo i ≤ c)) (g : Nat → Nat) (g0 : g 0 = 0) (gy : ∀ i, wo i = o → P i → g (i + 1) = g i + 1) (gn : ∀ i, ¬ (wo i = o ∧ P i) → g (i + 1) = g i) : ∀ n, g n = if hz_ct wo o n ≤ c then hz_ct wo o n else c := by
  intro n
  induction n with
  | zero =>
    have : hz_ct wo o 0 = 0 := rfl
    rw [g0, this, if_pos (Nat.zero_le _)]
  | succ n ih =>
    by_cases e : wo n = o
    · have hp := hP n e
      unfold hz_num at hp
      rw [e] at hp
      rw [hz_ct_y e]
      by_cases z : P n
      · have := hp.mp z
        rw [gy n e z, ih]
        rw [if_pos (by omega), if_pos (by omega)]
      · have : ¬ hz_ct wo o n + 1 ≤ c := fun q => z (hp.mpr q)
        rw [gn n (fun q => z q.2), ih]
        rw [if_neg this]
        split <;> omega
    · rw [gn n (fun q => e q.1), ih, hz_ct_n e]
end
section
/-! E: rows, states, the barrier -/
theorem hz_pig0 : ∀ a b c d m : Fin 4, ¬ ((a ≠ b ∧ a ≠ c ∧ a ≠ d ∧ b ≠ c) ∧ (b ≠ d ∧ c ≠ d ∧ a ≠ m) ∧ (b ≠ m ∧ c ≠ m ∧ d ≠ m)) := by decide +kernel
theorem hz_pig {a b c d m : Nat} (ha : a < 4) (hb : b < 4) (hc : c < 4) (hd : d < 4) (hm : m < 4) (h1 : a ≠ b) (h2 : a ≠ c) (h3 : a ≠ d) (h4 : b ≠ c) (h5 : b ≠ d) (h6 : c ≠ d) (h7 : a ≠ m) (h8 : b ≠ m) (h9 : c ≠ m) (h10 : d ≠ m) : False :=
  hz_pig0 ⟨a, ha⟩ ⟨b, hb⟩ ⟨c, hc⟩ ⟨d, hd⟩ ⟨m, hm⟩ ⟨⟨fun e => h1 (Fin.mk.inj e), fun e => h2 (Fin.mk.inj e), fun e => h3 (Fin.mk.inj e), fun e => h4 (Fin.mk.inj e)⟩, ⟨fun e => h5 (Fin.mk.inj e), fun e => h6 (Fin.mk.inj e), fun e => h7 (Fin.mk.inj e)⟩, ⟨fun e => h8 (Fin.mk.inj e), fun e => h9 (Fin.mk.inj e), fun e => h10 (Fin.mk.inj e)⟩⟩
def hz_out (ln gq : Nat → Nat) (m : Nat) : Prop := ∀ r k, r < 8 → k < ln r → gq (4 * r + k) ≠ m
theorem hr_L_out {e : Nat} {ln gq : Nat → Nat} {st yf ho : Nat → Int32} {m : Nat} (h : hr_L e ln gq st yf ho) (h1 : ¬ st m = 1) (h3 : ¬ st m = 3) : hz_out ln gq m := by
  intro r k hr hk z
  have := h.2.2.1 r k hr hk
  rw [z] at this
  split at this
  · exact h1 this
  · exact h3 this
theorem hr_L_3 {e : Nat} {ln gq : Nat → Nat} {st yf ho : Nat → Int32} {m r : Nat} (h : hr_L e ln gq st yf ho) (ho : hz_out ln gq m) (hm : m < 4) (hr : r < 8) : ln r ≤ 3 := by
  obtain ⟨q4, lb, est, eyf, dis, hol, one, hov⟩ := h
  have := lb r hr
  rcases Nat.lt_or_ge 3 (ln r) with z | z
  · exfalso
    have D : ∀ k q, k < 4 → q < 4 → k ≠ q → gq (4 * r + k) ≠ gq (4 * r + q) := fun k q hk hq hn e => hn (dis r k r q hr (by omega) hr (by omega) e).2
    exact hz_pig (q4 (4 * r + 0)) (q4 (4 * r + 1)) (q4 (4 * r + 2)) (q4 (4 * r + 3)) hm (D 0 1 (by omega) (by omega) (by omega)) (D 0 2 (by omega) (by omega) (by omega)) (D 0 3 (by omega) (by omega) (by omega)) (D 1 2 (by omega) (by omega) (by omega)) (D 1 3 (by omega) (by omega) (by omega)) (D 2 3 (by omega) (by omega) (by omega)) (ho r 0 hr (by omega)) (ho r 1 hr (by omega)) (ho r 2 hr (by omega)) (ho r 3 hr (by omega))
  · exact z
theorem hr_L_push {e : Nat} {ln gq : Nat → Nat} {st yf ho yf' : Nat → Int32} {m r : Nat} {s : Int32} (h : hr_L e ln gq st yf ho) (ht : hz_out ln gq m) (he : e = m ∨ e = 4) (hm : m < 4) (hr : r < 8)
    (hh : r < 4 → ∃ h, h < 4 ∧ ho r = nI h) (hs : s = if r < 4 then 1 else 3) (y1 : r < 4 → yf' m = nI r) (y2 : ∀ j, j ≠ m → yf' j = yf j) :
    hr_L 4 (hz_u ln r (ln r + 1)) (hz_u gq (4 * r + ln r) m) (upd st m s) yf' ho := by
  have l3 := hr_L_3 h ht hm hr
  obtain ⟨q4, lb, est, eyf, dis, hol, one, hov⟩ := h
  have hp : ∀ x k, x < 8 → k < hz_u ln r (ln r + 1) x → (x = r ∧ k = ln r ∧ hz_u gq (4 * r + ln r) m (4 * x + k) = m) ∨ (k < ln x ∧ hz_u gq (4 * r + ln r) m (4 * x + k) = gq (4 * x + k) ∧ gq (4 * x + k) ≠ m) := by
    intro x k hx hk
    by_cases ex : x = r
    · rw [ex, hz_us] at hk
      by_cases ek : k = ln r
      · exact Or.inl ⟨ex, ek, by rw [ex, ek, hz_us]⟩
      · exact Or.inr ⟨by rw [ex]; omega, by rw [ex, hz_un (by omega)], by rw [ex]; exact ht r k hr (by omega)⟩
    · rw [hz_un ex] at hk
      have := lb x hx
      exact Or.inr ⟨hk, hz_un (by omega), ht x k hx hk⟩
  refine ⟨?_, ?_, ?_, ?_, ?_, ?_, ?_, hov⟩
  · intro j
    have := q4 j
    unfold hz_u
    split <;> omega
  · intro x hx
    have := lb x hx
    unfold hz_u
    split <;> omega
  · intro x k hx hk
    rcases hp x k hx hk with ⟨e1, e2, e3⟩ | ⟨e1, e2, e3⟩
    · rw [e3, pk_us, hs, e1]
    · rw [e2, pk_un e3]
      exact est x k hx e1
  · intro x k hx hk
    rcases hp x k (by omega) hk with ⟨e1, e2, e3⟩ | ⟨e1, e2, e3⟩
    · rw [e3, e1]
      exact y1 (by omega)
    · rw [e2, y2 _ e3]
      exact eyf x k hx e1
  · intro x k x' k' hx hk hx' hk' ee
    rcases hp x k hx hk with ⟨e1, e2, e3⟩ | ⟨e1, e2, e3⟩
    · rcases hp x' k' hx' hk' with ⟨d1, d2, d3⟩ | ⟨d1, d2, d3⟩
      · omega
      · rw [e3, d2] at ee
        exact absurd ee.symm d3
    · rcases hp x' k' hx' hk' with ⟨d1, d2, d3⟩ | ⟨d1, d2, d3⟩
      · rw [e2, d3] at ee
        exact absurd ee e3
      · rw [e2, d2] at ee
        exact dis x k x' k' hx e1 hx' d1 ee
  · intro x hx hl
    by_cases ex : x = r
    · rw [ex] at hx ⊢
      exact hh hx
    · rw [hz_un ex] at hl
      exact hol x hx hl
  · intro q hq _ h1
    by_cases eq : q = m
    · rw [eq, pk_us, hs] at h1
      by_cases z : r < 4
      · exact ⟨r, ln r, z, by rw [hz_us]; omega, by rw [hz_us, eq]⟩
      · rw [if_neg z] at h1
        exact absurd h1 (by decide)
    · rw [pk_un eq] at h1
      have hqe : q ≠ e := by clear hh; omega
      obtain ⟨x, k, hx, hk, e3⟩ := one q hq hqe h1
      have := lb x (by omega)
      refine ⟨x, k, hx, ?_, ?_⟩
      · unfold hz_u
        split
        · rename_i z
          rw [z] at hk
          omega
        · exact hk
      · by_cases ex : x = r
        · rw [ex] at hk e3 ⊢
          rw [hz_un (by omega)]
          exact e3
        · rw [hz_un (by omega)]
          exact e3
def hz_shf (gq : Nat → Nat) (r n : Nat) : Nat → Nat := fun j => if 4 * r ≤ j ∧ j < 4 * r + n then gq (j + 1) else gq j
theorem hr_L_pop {ln gq : Nat → Nat} {st yf ho : Nat → Int32} {r : Nat} (h : hr_L 4 ln gq st yf ho) (hr : r < 8) (hl : 0 < ln r) :
    hr_L (gq (4 * r)) (hz_u ln r (ln r - 1)) (hz_shf gq r (ln r - 1)) st yf ho ∧ hz_out (hz_u ln r (ln r - 1)) (hz_shf gq r (ln r - 1)) (gq (4 * r)) := by
  obtain ⟨q4, lb, est, eyf, dis, hol, one, hov⟩ := h
  have hp : ∀ x k, x < 8 → k < hz_u ln r (ln r - 1) x → ∃ k', k' < ln x ∧ hz_shf gq r (ln r - 1) (4 * x + k) = gq (4 * x + k') ∧ (x = r → k' = k + 1) ∧ (x ≠ r → k' = k) := by
    intro x k hx hk
    by_cases ex : x = r
    · rw [ex, hz_us] at hk
      refine ⟨k + 1, by rw [ex]; omega, ?_, fun _ => rfl, fun z => absurd ex z⟩
      unfold hz_shf
      rw [ex, if_pos ⟨by omega, by omega⟩, Nat.add_assoc]
    · rw [hz_un ex] at hk
      have := lb x hx
      have := lb r hr
      refine ⟨k, hk, ?_, fun z => absurd z ex, fun _ => rfl⟩
      unfold hz_shf
      rw [if_neg (by omega)]
  refine ⟨⟨?_, ?_, ?_, ?_, ?_, ?_, ?_, hov⟩, ?_⟩
  · intro j
    unfold hz_shf
    split
    · exact q4 _
    · exact q4 _
  · intro x hx
    have := lb x hx
    have := lb r hr
    unfold hz_u
    split <;> omega
  · intro x k hx hk
    obtain ⟨k', a, b, -, -⟩ := hp x k hx hk
    rw [b]
    exact est x k' hx a
  · intro x k hx hk
    obtain ⟨k', a, b, -, -⟩ := hp x k (by omega) hk
    rw [b]
    exact eyf x k' hx a
  · intro x k x2 k2 hx hk hx2 hk2 ee
    obtain ⟨k', a, b, c, d⟩ := hp x k hx hk
    obtain ⟨k2', a2, b2, c2, d2⟩ := hp x2 k2 hx2 hk2
    rw [b, b2] at ee
    have := dis x k' x2 k2' hx a hx2 a2 ee
    refine ⟨this.1, ?_⟩
    by_cases z : x = r
    · have := c z
      have := c2 (by omega)
      omega
    · have := d z
      have := d2 (by omega)
      omega
  · intro x hx hl'
    refine hol x hx ?_
    unfold hz_u at hl'
    split at hl'
    · rename_i z
      rw [z]; exact hl
    · exact hl'
  · intro q hq hne h1
    obtain ⟨x, k, hx, hk, e3⟩ := one q hq (by omega) h1
    have lx := lb x (by omega)
    have lr := lb r hr
    by_cases ex : x = r
    · have k0 : k ≠ 0 := by
        intro z
        rw [z, ex, Nat.add_zero] at e3
        exact hne e3.symm
      refine ⟨x, k - 1, hx, ?_, ?_⟩
      · rw [ex, hz_us]
        rw [ex] at hk
        omega
      · unfold hz_shf
        rw [ex] at hk e3 ⊢
        rw [if_pos ⟨by omega, by omega⟩, show 4 * r + (k - 1) + 1 = 4 * r + k from by omega]
        exact e3
    · refine ⟨x, k, hx, ?_, ?_⟩
      · rw [hz_un ex]
        exact hk
      · unfold hz_shf
        rw [if_neg (by omega)]
        exact e3
  · intro x k hx hk z
    obtain ⟨k', a, b, c, d⟩ := hp x k hx hk
    rw [b] at z
    have e0 : gq (4 * x + k') = gq (4 * r + 0) := z
    have := dis x k' r 0 hx a hr hl e0
    have := c this.1
    omega
theorem hr_L_set {e : Nat} {ln gq : Nat → Nat} {st yf ho : Nat → Int32} {m : Nat} {s : Int32} (h : hr_L e ln gq st yf ho) (ht : hz_out ln gq m) (he : e = m ∨ e = 4) (hs : ¬ s = 1) : hr_L 4 ln gq (upd st m s) yf ho := by
  obtain ⟨q4, lb, est, eyf, dis, hol, one, hov⟩ := h
  refine ⟨q4, lb, ?_, eyf, dis, hol, ?_, hov⟩
  · intro x k hx hk
    rw [pk_un (ht x k hx hk)]
    exact est x k hx hk
  · intro q hq _ h1
    by_cases eq : q = m
    · rw [eq, pk_us] at h1
      exact absurd h1 hs
    · rw [pk_un eq] at h1
      exact one q hq (by omega) h1
theorem hr_L_ho {e : Nat} {ln gq : Nat → Nat} {st yf ho : Nat → Int32} {l h0 : Nat} (h : hr_L e ln gq st yf ho) (hh : h0 < 4) : hr_L e ln gq st yf (upd ho l (nI h0)) := by
  obtain ⟨q4, lb, est, eyf, dis, hol, one, hov⟩ := h
  refine ⟨q4, lb, est, eyf, dis, ?_, one, ?_⟩
  · intro r hr hl
    by_cases z : r = l
    · exact ⟨h0, hh, by rw [z, pk_us]⟩
    · rw [pk_un z]; exact hol r hr hl
  · intro r hr
    by_cases z : r = l
    · exact Or.inr ⟨h0, hh, by rw [z, pk_us]⟩
    · rw [pk_un z]; exact hov r hr
theorem hr_L_hm {e : Nat} {ln gq : Nat → Nat} {st yf ho : Nat → Int32} {l : Nat} (h : hr_L e ln gq st yf ho) (hh : ln l = 0) : hr_L e ln gq st yf (upd ho l (-1)) := by
  obtain ⟨q4, lb, est, eyf, dis, hol, one, hov⟩ := h
  refine ⟨q4, lb, est, eyf, dis, ?_, one, ?_⟩
  · intro r hr hl
    by_cases z : r = l
    · rw [z] at hl; omega
    · rw [pk_un z]; exact hol r hr hl
  · intro r hr
    by_cases z : r = l
    · exact Or.inl (by rw [z, pk_us])
    · rw [pk_un z]; exact hov r hr
/-- all have arrived: nobody waits or rests -/
theorem hr_L_bar {ln gq : Nat → Nat} {st yf ho st' : Nat → Int32} (h : hr_L 4 ln gq st yf ho) (h2 : ∀ m, m < 4 → st m = 2) (h0 : ∀ m, m < 4 → st' m = 0) : hr_L 4 ln gq st' yf ho := by
  obtain ⟨q4, lb, est, eyf, dis, hol, one, hov⟩ := h
  have hn : ∀ r k, r < 8 → k < ln r → False := by
    intro r k hr hk
    have := est r k hr hk
    rw [h2 _ (q4 _)] at this
    split at this
    · exact absurd this (by decide)
    · exact absurd this (by decide)
  refine ⟨q4, lb, fun r k hr hk => (hn r k hr hk).elim, eyf, dis, hol, ?_, hov⟩
  intro q hq _ h1
  rw [h0 q hq] at h1
  exact absurd h1 (by decide)
theorem hz_4 {P : Nat → Prop} (h0 : P 0) (h1 : P 1) (h2 : P 2) (h3 : P 3) {m : Nat} (hm : m < 4) : P m := by
  match m, hm with
  | 0, _ => exact h0
  | 1, _ => exact h1
  | 2, _ => exact h2
  | 3, _ => exact h3
theorem hz_b2_n {st : Nat → Int32} {m : Nat} {s : Int32} (hm : m < 4) (h : ¬ st m = 2) (hs : ¬ s = 2) : hz_b2 (upd st m s) = hz_b2 st := by
  revert h
  refine hz_4 (P := fun m => ¬ st m = 2 → hz_b2 (upd st m s) = hz_b2 st) ?_ ?_ ?_ ?_ hm
  all_goals
    intro h
    unfold hz_b2 upd
    simp [h, hs]
theorem hz_b2_y {st : Nat → Int32} {m : Nat} (hm : m < 4) (h : ¬ st m = 2) : hz_b2 (upd st m 2) = hz_b2 st + 1 := by
  revert h
  refine hz_4 (P := fun m => ¬ st m = 2 → hz_b2 (upd st m 2) = hz_b2 st + 1) ?_ ?_ ?_ ?_ hm
  all_goals
    intro h
    unfold hz_b2 upd
    simp [h]
    try omega
theorem hz_b2_4 {st : Nat → Int32} : hz_b2 st = 4 ↔ ∀ m, m < 4 → st m = 2 := by
  constructor
  · intro h m hm
    unfold hz_b2 at h
    by_cases a0 : st 0 = 2 <;> by_cases a1 : st 1 = 2 <;> by_cases a2 : st 2 = 2 <;> by_cases a3 : st 3 = 2 <;> simp only [a0, a1, a2, a3, if_true, if_false] at h <;> first
      | exact hz_4 (P := fun m => st m = 2) a0 a1 a2 a3 hm
      | omega
  · intro h
    unfold hz_b2
    rw [h 0 (by omega), h 1 (by omega), h 2 (by omega), h 3 (by omega)]
    rfl
theorem hz_b2_le (st : Nat → Int32) : hz_b2 st ≤ 4 := by
  unfold hz_b2
  repeat' split
  all_goals omega
theorem hr_B_n {gt : Nat} {st : Nat → Int32} {kn kn' : Nat → Nat} {m : Nat} {s : Int32} (h : hr_B gt st kn) (hm : m < 4) (h2 : ¬ st m = 2) (hs : ¬ s = 2)
    (hk : ∀ q, q < 4 → q ≠ m → kn' (4 * 8 + q) = kn (4 * 8 + q) ∧ kn' (5 * q) = kn (5 * q)) : hr_B gt (upd st m s) kn' := by
  obtain ⟨a, b, c⟩ := h
  refine ⟨by rw [hz_b2_n hm h2 hs]; exact a, b, ?_⟩
  intro q hq h
  by_cases e : q = m
  · rw [e, pk_us] at h
    exact absurd h hs
  · rw [pk_un e] at h
    rw [(hk q hq e).1, (hk q hq e).2]
    exact c q hq h
theorem hr_B_k {gt : Nat} {st : Nat → Int32} {kn kn' : Nat → Nat} {m : Nat} (h : hr_B gt st kn) (h2 : ¬ st m = 2)
    (hk : ∀ q, q < 4 → q ≠ m → kn' (4 * 8 + q) = kn (4 * 8 + q) ∧ kn' (5 * q) = kn (5 * q)) : hr_B gt st kn' := by
  obtain ⟨a, b, c⟩ := h
  refine ⟨a, b, ?_⟩
  intro q hq h
  have e : q ≠ m := by
    intro e
    rw [e] at h
    exact h2 h
  rw [(hk q hq e).1, (hk q hq e).2]
  exact c q hq h
end
section
/-! F: an access, pure: chains, copies, strict pages, races -/
section FACC
variable {K c w o p m i : Nat} {wo wh gc gd gx gf gl gs gm gh go gr gw : Nat → Nat} {yr sc yv yo wt va co : Nat → Int32} {b v : Int32} {S S' : Nat → Nat → Prop}
theorem hz_C_u (h : i < K) : hz_C (hz_u wo K c) (hz_u wh K w) (upd yr K b) sc o p i ↔ hz_C wo wh yr sc o p i := by
  unfold hz_C
  rw [hz_un (by omega), hz_un (by omega), pk_un (by omega)]
theorem hz_C_K : hz_C (hz_u wo K c) (hz_u wh K w) (upd yr K b) sc o p K ↔ (c = o ∧ w / 8 = p ∧ ¬ b = 0 ∧ sc p = 0) := by
  unfold hz_C
  rw [hz_us, hz_us, pk_us]
theorem hr_C_acc0 (h : hr_C K wo wh yr sc yv gc gd wt gx gf gl gs S) (hn : b = 0 ∨ ¬ sc (w / 8) = 0)
    (a : ∀ m i, m < 4 → i < K → (S' m i ↔ S m i)) (bK : ∀ m, m < 4 → (S' m K ↔ (m = c ∧ ¬ b = 0))) :
    hr_C (K + 1) (hz_u wo K c) (hz_u wh K w) (upd yr K b) sc (upd yv K v) gc gd wt gx gf gl gs S' := by
  obtain ⟨h1, h2, h3, h4, h5⟩ := h
  have nK : ∀ o p, ¬ hz_C (hz_u wo K c) (hz_u wh K w) (upd yr K b) sc o p K := by
    intro o p z
    rw [hz_C_K] at z
    obtain ⟨_, z2, z3, z4⟩ := z
    rcases hn with q | q
    · exact z3 q
    · rw [z2] at q; exact q z4
  have cx : ∀ o p a, hz_nx (hz_C (hz_u wo K c) (hz_u wh K w) (upd yr K b) sc o p) a (K + 1) = hz_nx (hz_C wo wh yr sc o p) a K := by
    intro o p a
    rw [hz_nx_n (fun z => nK o p z.2)]
    exact hz_nx_congr (fun i hi => hz_C_u hi)
  have lt : ∀ {i : Nat} {o p : Nat}, i < K + 1 → hz_C (hz_u wo K c) (hz_u wh K w) (upd yr K b) sc o p i → i < K := by
    intro i o p hi z
    rcases Nat.lt_or_ge i K with q | q
    · exact q
    · have e : i = K := by omega
      rw [e] at z
      exact absurd z (nK o p)
  refine ⟨?_, ?_, ?_, ?_, ?_⟩
  · intro o p i ho hp hi z
    have hi' := lt hi z
    have := h1 o p i ho hp hi' ((hz_C_u hi').mp z)
    rw [hz_num_u hi', hz_un (by omega), pk_un (by omega), cx]
    exact this
  · intro o p ho hp
    rw [cx, hz_la_n (nK o p), hz_la_congr (fun i hi => hz_C_u hi)]
    exact h2 o p ho hp
  · intro m p o hm hp ho
    rcases h3 m p o hm hp ho with z | ⟨i, hi, z1, z2⟩
    · exact Or.inl z
    · exact Or.inr ⟨i, by omega, z1, (hz_C_u hi).mpr z2⟩
  · intro m p o i hm hp ho hne hi z
    have hi' := lt hi z
    rw [a m i hm hi']
    exact h4 m p o i hm hp ho hne hi' ((hz_C_u hi').mp z)
  · intro m i hm hi hy hw
    by_cases e : i = K
    · rw [e, pk_us] at hy
      rw [e, hz_us] at hw
      rw [e, bK m hm]
      exact ⟨hw.symm, hy⟩
    · rw [pk_un e] at hy
      rw [hz_un e] at hw
      rw [a m i hm (by omega)]
      exact h5 m i hm (by omega) hy hw
theorem hr_C_acc1 {gx' gf' : Nat → Nat} (h : hr_C K wo wh yr sc yv gc gd wt gx gf gl gs S) (hb : ¬ b = 0) (hs : sc (w / 8) = 0) (hc : c < 4) (hw : w < 64)
    (a : ∀ m i, m < 4 → i < K → (S' m i ↔ S m i)) (bK : ∀ m, m < 4 → (S' m K ↔ (m = c ∧ ¬ b = 0)))
    (hx : (gl (8 * c + w / 8) = 0 ∧ gx' = hz_u gx K 0 ∧ gf' = hz_u gf (8 * c + w / 8) (K + 1)) ∨ (¬ gl (8 * c + w / 8) = 0 ∧ gx' = hz_u (hz_u gx K 0) (gl (8 * c + w / 8) - 1) (K + 1) ∧ gf' = gf)) :
    hr_C (K + 1) (hz_u wo K c) (hz_u wh K w) (upd yr K b) sc (upd yv K v) (hz_u gc K (hz_ct wo c K + 1)) (hz_u gd K w) (upd wt K v) gx' gf' (hz_u gl (8 * c + w / 8) (K + 1)) gs S' := by
  obtain ⟨h1, h2, h3, h4, h5⟩ := h
  have hK : hz_C (hz_u wo K c) (hz_u wh K w) (upd yr K b) sc c (w / 8) K := hz_C_K.mpr ⟨rfl, rfl, hb, hs⟩
  have h20 := h2 c (w / 8) hc (by omega)
  have cx : ∀ o p a, ¬ (o = c ∧ p = w / 8) → hz_nx (hz_C (hz_u wo K c) (hz_u wh K w) (upd yr K b) sc o p) a (K + 1) = hz_nx (hz_C wo wh yr sc o p) a K := by
    intro o p a hn
    rw [hz_nx_n (fun z => hn ⟨(hz_C_K.mp z.2).1.symm, (hz_C_K.mp z.2).2.1.symm⟩)]
    exact hz_nx_congr (fun i hi => hz_C_u hi)
  have cg : ∀ o p a, hz_nx (hz_C (hz_u wo K c) (hz_u wh K w) (upd yr K b) sc o p) a K = hz_nx (hz_C wo wh yr sc o p) a K := fun o p a => hz_nx_congr (fun i hi => hz_C_u hi)
  have lK := hz_la_le (hz_C wo wh yr sc c (w / 8)) K
  refine ⟨?_, ?_, ?_, ?_, ?_⟩
  · intro o p i ho hp hi z
    by_cases e : i = K
    · rw [e] at z ⊢
      rw [hz_num_K, hz_us, hz_us, hz_us, pk_us, pk_us]
      refine ⟨rfl, rfl, rfl, ?_⟩
      rw [hz_nx_0 (fun j h1 h2 => by omega)]
      rcases hx with ⟨x1, x2, x3⟩ | ⟨x1, x2, x3⟩
      · rw [x2, hz_us]
      · rw [x2, hz_un (by omega), hz_us]
    · have hi' : i < K := by omega
      have z' := (hz_C_u hi').mp z
      obtain ⟨g1, g2, g3, g4⟩ := h1 o p i ho hp hi' z'
      rw [hz_num_u hi', hz_un e, hz_un e, hz_un e, pk_un e, pk_un e]
      refine ⟨g1, g2, g3, ?_⟩
      by_cases ep : o = c ∧ p = w / 8
      · rw [ep.1, ep.2] at z' g4 ⊢
        have hge := hz_la_ge hi' z'
        rcases hx with ⟨x1, x2, x3⟩ | ⟨x1, x2, x3⟩
        · omega
        · have hl := hz_la_at (P := hz_C wo wh yr sc c (w / 8)) (k := K) (j := gl (8 * c + w / 8) - 1) (by omega)
          by_cases el : i = gl (8 * c + w / 8) - 1
          · rw [x2, el, hz_us]
            symm
            refine hz_nx_y ?_ (by omega) hK
            rw [cg]
            refine hz_nx_0 (fun j j1 j2 j3 => ?_)
            have := hz_la_ge j2 j3
            omega
          · rw [x2, hz_un el, hz_un e, g4]
            obtain ⟨q, e1, _⟩ := hz_nx_ne (P := hz_C wo wh yr sc c (w / 8)) (a := i + 1) (j := gl (8 * c + w / 8) - 1) (k := K) (by omega) hl.1 hl.2
            rw [hz_nx_k (by rw [cg, e1]; omega), cg]
      · rw [cx o p _ ep, ← g4]
        rcases hx with ⟨x1, x2, x3⟩ | ⟨x1, x2, x3⟩
        · rw [x2, hz_un e]
        · have hl := hz_la_at (P := hz_C wo wh yr sc c (w / 8)) (k := K) (j := gl (8 * c + w / 8) - 1) (by omega)
          have : i ≠ gl (8 * c + w / 8) - 1 := by
            intro el
            rw [← el] at hl
            exact ep ⟨z'.1.symm.trans hl.2.1, z'.2.1.symm.trans hl.2.2.1⟩
          rw [x2, hz_un this, hz_un e]
  · intro o p ho hp
    have h2' := h2 o p ho hp
    by_cases ep : o = c ∧ p = w / 8
    · rw [ep.1, ep.2, hz_us, hz_la_y hK]
      refine ⟨?_, rfl⟩
      rcases hx with ⟨x1, x2, x3⟩ | ⟨x1, x2, x3⟩
      · rw [x3, hz_us]
        symm
        refine hz_nx_y ?_ (Nat.zero_le _) hK
        rw [cg]
        exact hz_nx_0 (fun j _ j2 => hz_la_z (h20.2.symm.trans x1) j2)
      · have hl := hz_la_at (P := hz_C wo wh yr sc c (w / 8)) (k := K) (j := gl (8 * c + w / 8) - 1) (by omega)
        obtain ⟨q, e1, _⟩ := hz_nx_ne (P := hz_C wo wh yr sc c (w / 8)) (a := 0) (Nat.zero_le _) hl.1 hl.2
        rw [x3, hz_nx_k (by rw [cg, e1]; omega), cg]
        exact h20.1
    · have ne : 8 * o + p ≠ 8 * c + w / 8 := by
        intro e
        exact ep ⟨by omega, by omega⟩
      rw [cx o p _ ep, hz_la_n (fun z => ep ⟨(hz_C_K.mp z).1.symm, (hz_C_K.mp z).2.1.symm⟩), hz_la_congr (fun i hi => hz_C_u hi), hz_un ne]
      refine ⟨?_, h2'.2⟩
      rcases hx with ⟨x1, x2, x3⟩ | ⟨x1, x2, x3⟩
      · rw [x3, hz_un ne]; exact h2'.1
      · rw [x3]; exact h2'.1
  · intro m p o hm hp ho
    rcases h3 m p o hm hp ho with z | ⟨i, hi, z1, z2⟩
    · exact Or.inl z
    · exact Or.inr ⟨i, by omega, z1, (hz_C_u hi).mpr z2⟩
  · intro m p o i hm hp ho hne hi z
    by_cases e : i = K
    · rw [e] at z ⊢
      have := (hz_C_K.mp z).1
      rw [bK m hm]
      constructor
      · intro q; omega
      · intro q
        rcases h3 m p o hm hp ho with z | ⟨j, hj, z1, z2⟩ <;> omega
    · have hi' : i < K := by omega
      rw [a m i hm hi']
      exact h4 m p o i hm hp ho hne hi' ((hz_C_u hi').mp z)
  · intro m i hm hi hy hw
    by_cases e : i = K
    · rw [e, pk_us] at hy
      rw [e, hz_us] at hw
      rw [e, bK m hm]
      exact ⟨hw.symm, hy⟩
    · rw [pk_un e] at hy
      rw [hz_un e] at hw
      rw [a m i hm (by omega)]
      exact h5 m i hm (by omega) hy hw
theorem hz_Q_u (h : i < K) (a : S' m i ↔ S m i) {w' : Nat} : hz_Q (hz_u wh K w) (upd yr K b) sc S' m w' i ↔ hz_Q wh yr sc S m w' i := by
  unfold hz_Q
  rw [hz_un (by omega), pk_un (by omega), a]
theorem hz_Q_K {w' : Nat} : hz_Q (hz_u wh K w) (upd yr K b) sc S' m w' K ↔ (w = w' ∧ ¬ b = 0 ∧ sc (w' / 8) = 0 ∧ S' m K) := by
  unfold hz_Q
  rw [hz_us, pk_us]
theorem hr_V_acc0 (h : hr_V K wh yr sc yv yo gm va S) (hn : b = 0 ∨ ¬ sc (w / 8) = 0) (a : ∀ m i, m < 4 → i < K → (S' m i ↔ S m i)) :
    hr_V (K + 1) (hz_u wh K w) (upd yr K b) sc (upd yv K v) yo gm va S' := by
  obtain ⟨h1, h2⟩ := h
  refine ⟨?_, ?_⟩
  · intro m w' hm hw
    have nK : ¬ hz_Q (hz_u wh K w) (upd yr K b) sc S' m w' K := by
      intro z
      obtain ⟨z1, z2, z3, _⟩ := hz_Q_K.mp z
      rcases hn with q | q
      · exact z2 q
      · rw [z1] at q; exact q z3
    rw [hz_la_n nK, hz_la_congr (fun i hi => hz_Q_u hi (a m i hm hi))]
    exact h1 m w' hm hw
  · intro m w' hm hw hs
    have := hz_la_le (hz_Q wh yr sc S m w') K
    rw [hz_val_u (by rw [h1 m w' hm hw]; exact this)]
    exact h2 m w' hm hw hs
theorem hr_V_acc1 (h : hr_V K wh yr sc yv yo gm va S) (hb : ¬ b = 0) (hs : sc (w / 8) = 0) (hc : c < 4) (hw0 : w < 64) (a : ∀ m i, m < 4 → i < K → (S' m i ↔ S m i)) (bK : ∀ m, m < 4 → (S' m K ↔ (m = c ∧ ¬ b = 0))) :
    hr_V (K + 1) (hz_u wh K w) (upd yr K b) sc (upd yv K v) yo (hz_u gm (64 * c + w) (K + 1)) (upd va (64 * c + w) v) S' := by
  obtain ⟨h1, h2⟩ := h
  refine ⟨?_, ?_⟩
  · intro m w' hm hw
    by_cases e : m = c ∧ w' = w
    · rw [e.1, e.2, hz_us]
      symm
      exact hz_la_y (hz_Q_K.mpr ⟨rfl, hb, hs, (bK c hc).mpr ⟨rfl, hb⟩⟩)
    · have nK : ¬ hz_Q (hz_u wh K w) (upd yr K b) sc S' m w' K := by
        intro z
        obtain ⟨z1, z2, z3, z4⟩ := hz_Q_K.mp z
        exact e ⟨((bK m hm).mp z4).1, z1.symm⟩
      rw [hz_un (by omega), hz_la_n nK, hz_la_congr (fun i hi => hz_Q_u hi (a m i hm hi))]
      exact h1 m w' hm hw
  · intro m w' hm hw hs'
    by_cases e : m = c ∧ w' = w
    · rw [e.1, e.2, hz_us, pk_us, hz_val_s, pk_us]
    · have := hz_la_le (hz_Q wh yr sc S m w') K
      rw [hz_un (by omega), pk_un (by omega), hz_val_u (by rw [h1 m w' hm hw]; exact this)]
      exact h2 m w' hm hw hs'
theorem hz_W_u (h : i < K) {w' : Nat} : hz_W (hz_u wh K w) (upd yr K b) w' i ↔ hz_W wh yr w' i := by
  unfold hz_W
  rw [hz_un (by omega), pk_un (by omega)]
theorem hz_W_K {w' : Nat} : hz_W (hz_u wh K w) (upd yr K b) w' K ↔ (w = w' ∧ ¬ b = 0) := by
  unfold hz_W
  rw [hz_us, pk_us]
theorem hr_D_acc0 (h : hr_D K wh yr sc yv yo co) (hn : b = 0 ∨ sc (w / 8) = 0) : hr_D (K + 1) (hz_u wh K w) (upd yr K b) sc (upd yv K v) yo co := by
  refine ⟨h.1, ?_⟩
  intro w' hw hs
  have nK : ¬ hz_W (hz_u wh K w) (upd yr K b) w' K := by
    intro z
    obtain ⟨z1, z2⟩ := hz_W_K.mp z
    rcases hn with q | q
    · exact z2 q
    · rw [z1] at q; exact hs q
  rw [hz_la_n nK, hz_la_congr (fun i hi => hz_W_u hi), hz_val_u (hz_la_le _ _)]
  exact h.2 w' hw hs
theorem hr_D_acc1 (h : hr_D K wh yr sc yv yo co) (hb : ¬ b = 0) : hr_D (K + 1) (hz_u wh K w) (upd yr K b) sc (upd yv K v) yo (upd co w v) := by
  refine ⟨h.1, ?_⟩
  intro w' hw hs
  by_cases e : w' = w
  · rw [e, pk_us, hz_la_y (hz_W_K.mpr ⟨rfl, hb⟩), hz_val_s, pk_us]
  · have nK : ¬ hz_W (hz_u wh K w) (upd yr K b) w' K := fun z => e (hz_W_K.mp z).1.symm
    rw [pk_un e, hz_la_n nK, hz_la_congr (fun i hi => hz_W_u hi), hz_val_u (hz_la_le _ _)]
    exact h.2 w' hw hs
theorem hr_R_acc {gr' gw' : Nat → Nat} (h : hr_R K wo wh yr gr gw) (hK : K < 300) (hc : c < 4) (hw0 : w < 64) (w1 : ∀ j, j ≠ 4 * w + c → gw' j = gw j) (r1 : ∀ j, j ≠ 4 * w + c → gr' j = gr j)
    (w2 : (b = 0 ∧ gw' (4 * w + c) = gw (4 * w + c)) ∨ (¬ b = 0 ∧ gw' (4 * w + c) = hz_ct wo c K + 1)) (r2 : (¬ b = 0 ∧ gr' (4 * w + c) = gr (4 * w + c)) ∨ gr' (4 * w + c) = hz_ct wo c K + 1) :
    hr_R (K + 1) (hz_u wo K c) (hz_u wh K w) (upd yr K b) gr' gw' := by
  intro w' o hw ho
  obtain ⟨g1, g2, g3, g4⟩ := h w' o hw ho
  by_cases e : 4 * w' + o = 4 * w + c
  · have e1 : w' = w := by omega
    have e2 : o = c := by omega
    rw [e1, e2] at g1 g2 g3 g4
    rw [e1, e2]
    have hle := hz_ct_le wo c K
    have big : ∀ i, i < K → wo i = c → hz_num wo i < hz_ct wo c K + 1 := by
      intro i hi hw
      have := hz_num_le (wo := wo) hi
      rw [hw] at this
      omega
    refine ⟨by omega, by omega, ?_, ?_⟩
    · intro k
      constructor
      · intro hk
        rcases w2 with ⟨q1, q2⟩ | ⟨q1, q2⟩
        · rw [q2] at hk
          obtain ⟨i, i1, i2, i3, i4, i5⟩ := (g3 k).mp hk
          exact ⟨i, by omega, by rw [hz_un (by omega)]; exact i2, by rw [hz_un (by omega)]; exact i3, by rw [pk_un (by omega)]; exact i4, by rw [hz_num_u i1]; exact i5⟩
        · exact ⟨K, by omega, hz_us, hz_us, by rw [pk_us]; exact q1, by rw [hz_num_K]; omega⟩
      · rintro ⟨i, i1, i2, i3, i4, i5⟩
        by_cases ei : i = K
        · rw [ei, pk_us] at i4
          rw [ei, hz_num_K] at i5
          rcases w2 with ⟨q1, q2⟩ | ⟨q1, q2⟩
          · exact absurd q1 i4
          · omega
        · rw [hz_un ei] at i2 i3
          rw [pk_un ei] at i4
          rw [hz_num_u (by omega)] at i5
          rcases w2 with ⟨q1, q2⟩ | ⟨q1, q2⟩
          · rw [q2]
            exact (g3 k).mpr ⟨i, by omega, i2, i3, i4, i5⟩
          · have := big i (by omega) i2
            omega
    · intro k
      constructor
      · intro hk
        have old : (k < gw (4 * w + c) ∨ k < gr (4 * w + c)) → ∃ i, i < K + 1 ∧ hz_u wo K c i = c ∧ hz_u wh K w i = w ∧ k < hz_num (hz_u wo K c) i := by
          intro q
          obtain ⟨i, i1, i2, i3, i5⟩ := (g4 k).mp q
          exact ⟨i, by omega, by rw [hz_un (by omega)]; exact i2, by rw [hz_un (by omega)]; exact i3, by rw [hz_num_u i1]; exact i5⟩
        have new : k < hz_ct wo c K + 1 → ∃ i, i < K + 1 ∧ hz_u wo K c i = c ∧ hz_u wh K w i = w ∧ k < hz_num (hz_u wo K c) i := by
          intro q
          exact ⟨K, by omega, hz_us, hz_us, by rw [hz_num_K]; omega⟩
        rcases hk with hk | hk
        · rcases w2 with ⟨q1, q2⟩ | ⟨q1, q2⟩
          · exact old (Or.inl (by omega))
          · exact new (by omega)
        · rcases r2 with ⟨q1, q2⟩ | q2
          · exact old (Or.inr (by omega))
          · exact new (by omega)
      · rintro ⟨i, i1, i2, i3, i5⟩
        have hk : k < hz_ct wo c K + 1 := by
          by_cases ei : i = K
          · rw [ei, hz_num_K] at i5
            exact i5
          · rw [hz_un ei] at i2
            rw [hz_num_u (by omega)] at i5
            have := big i (by omega) i2
            omega
        rcases w2 with ⟨q1, q2⟩ | ⟨q1, q2⟩
        · rcases r2 with ⟨q3, q4⟩ | q4
          · exact absurd q1 q3
          · right; omega
        · left; omega
  · rw [w1 _ e, r1 _ e]
    have ne : ∀ i, i < K + 1 → hz_u wo K c i = o → hz_u wh K w i = w' → i < K := by
      intro i i1 i2 i3
      rcases Nat.lt_or_ge i K with q | q
      · exact q
      · have ei : i = K := by omega
        rw [ei, hz_us] at i2 i3
        omega
    refine ⟨g1, g2, ?_, ?_⟩
    · intro k
      rw [g3 k]
      constructor
      · rintro ⟨i, i1, i2, i3, i4, i5⟩
        exact ⟨i, by omega, by rw [hz_un (by omega)]; exact i2, by rw [hz_un (by omega)]; exact i3, by rw [pk_un (by omega)]; exact i4, by rw [hz_num_u i1]; exact i5⟩
      · rintro ⟨i, i1, i2, i3, i4, i5⟩
        have hi := ne i i1 i2 i3
        rw [hz_un (by omega)] at i2 i3
        rw [pk_un (by omega)] at i4
        rw [hz_num_u hi] at i5
        exact ⟨i, hi, i2, i3, i4, i5⟩
    · intro k
      rw [g4 k]
      constructor
      · rintro ⟨i, i1, i2, i3, i5⟩
        exact ⟨i, by omega, by rw [hz_un (by omega)]; exact i2, by rw [hz_un (by omega)]; exact i3, by rw [hz_num_u i1]; exact i5⟩
      · rintro ⟨i, i1, i2, i3, i5⟩
        have hi := ne i i1 i2 i3
        rw [hz_un (by omega)] at i2 i3
        rw [hz_num_u hi] at i5
        exact ⟨i, hi, i2, i3, i5⟩
end FACC
end
section
/-! G: strict pages: the directory -/
section GDIR
variable {K c w p m i : Nat} {wo wh gh go : Nat → Nat} {yr sc : Nat → Int32} {b : Int32}
theorem hz_O1u (h : i < K) : hz_O1 (hz_u wo K c) (hz_u wh K w) sc p m i ↔ hz_O1 wo wh sc p m i := by
  unfold hz_O1; rw [hz_un (by omega), hz_un (by omega)]
theorem hz_O2u (h : i < K) : hz_O2 (hz_u wo K c) (hz_u wh K w) (upd yr K b) sc p m i ↔ hz_O2 wo wh yr sc p m i := by
  unfold hz_O2; rw [hz_un (by omega), hz_un (by omega), pk_un (by omega)]
theorem hz_O3u (h : i < K) : hz_O3 (hz_u wo K c) (hz_u wh K w) sc p m i ↔ hz_O3 wo wh sc p m i := by
  unfold hz_O3; rw [hz_un (by omega), hz_un (by omega)]
theorem hz_O4u (h : i < K) : hz_O4 (hz_u wo K c) (hz_u wh K w) (upd yr K b) sc p m i ↔ hz_O4 wo wh yr sc p m i := by
  unfold hz_O4; rw [hz_un (by omega), hz_un (by omega), pk_un (by omega)]
theorem hz_O1K : hz_O1 (hz_u wo K c) (hz_u wh K w) sc p m K ↔ (¬ sc p = 0 ∧ w / 8 = p ∧ c = m) := by
  unfold hz_O1; rw [hz_us, hz_us]
theorem hz_O2K : hz_O2 (hz_u wo K c) (hz_u wh K w) (upd yr K b) sc p m K ↔ (¬ sc p = 0 ∧ w / 8 = p ∧ c = m ∧ ¬ b = 0) := by
  unfold hz_O2; rw [hz_us, hz_us, pk_us]
theorem hz_O3K : hz_O3 (hz_u wo K c) (hz_u wh K w) sc p m K ↔ (¬ sc p = 0 ∧ w / 8 = p ∧ ¬ c = m) := by
  unfold hz_O3; rw [hz_us, hz_us]
theorem hz_O4K : hz_O4 (hz_u wo K c) (hz_u wh K w) (upd yr K b) sc p m K ↔ (¬ sc p = 0 ∧ w / 8 = p ∧ ¬ c = m ∧ ¬ b = 0) := by
  unfold hz_O4; rw [hz_us, hz_us, pk_us]
theorem hz_O1n (h : ¬ (¬ sc p = 0 ∧ w / 8 = p ∧ c = m)) : hz_la (hz_O1 (hz_u wo K c) (hz_u wh K w) sc p m) (K + 1) = hz_la (hz_O1 wo wh sc p m) K := by
  rw [hz_la_n (fun z => h (hz_O1K.mp z)), hz_la_congr (fun i hi => hz_O1u hi)]
theorem hz_O2n (h : ¬ (¬ sc p = 0 ∧ w / 8 = p ∧ c = m ∧ ¬ b = 0)) : hz_la (hz_O2 (hz_u wo K c) (hz_u wh K w) (upd yr K b) sc p m) (K + 1) = hz_la (hz_O2 wo wh yr sc p m) K := by
  rw [hz_la_n (fun z => h (hz_O2K.mp z)), hz_la_congr (fun i hi => hz_O2u hi)]
theorem hz_O3n (h : ¬ (¬ sc p = 0 ∧ w / 8 = p ∧ ¬ c = m)) : hz_la (hz_O3 (hz_u wo K c) (hz_u wh K w) sc p m) (K + 1) = hz_la (hz_O3 wo wh sc p m) K := by
  rw [hz_la_n (fun z => h (hz_O3K.mp z)), hz_la_congr (fun i hi => hz_O3u hi)]
theorem hz_O4n (h : ¬ (¬ sc p = 0 ∧ w / 8 = p ∧ ¬ c = m ∧ ¬ b = 0)) : hz_la (hz_O4 (hz_u wo K c) (hz_u wh K w) (upd yr K b) sc p m) (K + 1) = hz_la (hz_O4 wo wh yr sc p m) K := by
  rw [hz_la_n (fun z => h (hz_O4K.mp z)), hz_la_congr (fun i hi => hz_O4u hi)]
theorem hz_O1y (h : ¬ sc p = 0 ∧ w / 8 = p ∧ c = m) : hz_la (hz_O1 (hz_u wo K c) (hz_u wh K w) sc p m) (K + 1) = K + 1 := hz_la_y (hz_O1K.mpr h)
theorem hz_O2y (h : ¬ sc p = 0 ∧ w / 8 = p ∧ c = m ∧ ¬ b = 0) : hz_la (hz_O2 (hz_u wo K c) (hz_u wh K w) (upd yr K b) sc p m) (K + 1) = K + 1 := hz_la_y (hz_O2K.mpr h)
theorem hz_O3y (h : ¬ sc p = 0 ∧ w / 8 = p ∧ ¬ c = m) : hz_la (hz_O3 (hz_u wo K c) (hz_u wh K w) sc p m) (K + 1) = K + 1 := hz_la_y (hz_O3K.mpr h)
theorem hz_O4y (h : ¬ sc p = 0 ∧ w / 8 = p ∧ ¬ c = m ∧ ¬ b = 0) : hz_la (hz_O4 (hz_u wo K c) (hz_u wh K w) (upd yr K b) sc p m) (K + 1) = K + 1 := hz_la_y (hz_O4K.mpr h)
theorem hr_O_n (h : hr_O K wo wh yr sc gh go) (hp : p < 8) (hn : sc (w / 8) = 0 ∨ ¬ w / 8 = p) : gh p < 16 ∧ go p ≤ 4 ∧ ∀ m, m < 4 →
    (((gh p).testBit m = true ↔ hz_la (hz_O4 (hz_u wo K c) (hz_u wh K w) (upd yr K b) sc p m) (K + 1) < hz_la (hz_O1 (hz_u wo K c) (hz_u wh K w) sc p m) (K + 1)) ∧
     (go p = m + 1 ↔ hz_la (hz_O3 (hz_u wo K c) (hz_u wh K w) sc p m) (K + 1) < hz_la (hz_O2 (hz_u wo K c) (hz_u wh K w) (upd yr K b) sc p m) (K + 1))) := by
  obtain ⟨h1, h2, h3⟩ := h p hp
  have no : ¬ (¬ sc p = 0 ∧ w / 8 = p) := by
    intro z
    rcases hn with q | q
    · rw [z.2] at q; exact z.1 q
    · exact q z.2
  refine ⟨h1, h2, fun m hm => ?_⟩
  rw [hz_O1n (fun z => no ⟨z.1, z.2.1⟩), hz_O2n (fun z => no ⟨z.1, z.2.1⟩), hz_O3n (fun z => no ⟨z.1, z.2.1⟩), hz_O4n (fun z => no ⟨z.1, z.2.1⟩)]
  exact h3 m hm
theorem hr_O_acc0 (h : hr_O K wo wh yr sc gh go) (hs : sc (w / 8) = 0) : hr_O (K + 1) (hz_u wo K c) (hz_u wh K w) (upd yr K b) sc gh go :=
  fun _ hp => hr_O_n h hp (Or.inl hs)
theorem hz_p4 {c : Nat} (hc : c < 4) : 2 ^ c < 16 := hz_4 (P := fun c => 2 ^ c < 16) (by decide) (by decide) (by decide) (by decide) hc
theorem hr_O_accr {go' : Nat → Nat} (h : hr_O K wo wh yr sc gh go) (hs : ¬ sc (w / 8) = 0) (hb : b = 0) (hc : c < 4)
    (ho : (go (w / 8) = c + 1 ∧ go' = go) ∨ (¬ go (w / 8) = c + 1 ∧ go' = hz_u go (w / 8) 0)) :
    hr_O (K + 1) (hz_u wo K c) (hz_u wh K w) (upd yr K b) sc (hz_u gh (w / 8) (gh (w / 8) ||| 2 ^ c)) go' := by
  intro p hp
  by_cases ep : w / 8 = p
  · subst ep
    obtain ⟨h1, h2, h3⟩ := h (w / 8) hp
    rw [hz_us]
    refine ⟨Nat.or_lt_two_pow (n := 4) h1 (hz_p4 hc), ?_, fun m hm => ?_⟩
    · rcases ho with ⟨_, q⟩ | ⟨_, q⟩
      · rw [q]; exact h2
      · rw [q, hz_us]; omega
    · obtain ⟨g1, g2⟩ := h3 m hm
      rw [Nat.testBit_or, Nat.testBit_two_pow, hz_O4n (fun z => z.2.2.2 hb), hz_O2n (fun z => z.2.2.2 hb)]
      have l4 := hz_la_le (hz_O4 wo wh yr sc (w / 8) m) K
      have l2 := hz_la_le (hz_O2 wo wh yr sc (w / 8) m) K
      by_cases em : c = m
      · subst em
        rw [hz_O1y ⟨hs, rfl, rfl⟩, hz_O3n (fun z => z.2.2 rfl)]
        refine ⟨?_, ?_⟩
        · rw [decide_eq_true (rfl : c = c), Bool.or_true]
          exact ⟨fun _ => by omega, fun _ => rfl⟩
        · rcases ho with ⟨q1, q⟩ | ⟨q1, q⟩
          · rw [q]; exact g2
          · rw [q, hz_us, ← g2]
            constructor
            · intro z; omega
            · intro z; exact absurd z q1
      · rw [hz_O1n (fun z => em z.2.2), hz_O3y ⟨hs, rfl, em⟩]
        refine ⟨?_, ?_⟩
        · rw [decide_eq_false em, Bool.or_false]
          exact g1
        · rcases ho with ⟨q1, q⟩ | ⟨q1, q⟩
          · rw [q]
            constructor <;> intro z <;> omega
          · rw [q, hz_us]
            constructor <;> intro z <;> omega
  · have := hr_O_n (b := b) (c := c) h hp (Or.inr ep)
    rw [hz_un (fun z => ep z.symm)]
    rcases ho with ⟨_, q⟩ | ⟨_, q⟩
    · rw [q]; exact this
    · rw [q, hz_un (fun z => ep z.symm)]; exact this
/-- an owner has the page alone -/
theorem hr_O_own (h : hr_O K wo wh yr sc gh go) (hp : p < 8) (hc : c < 4) (ho : go p = c + 1) : ∀ m, m < 4 → ((gh p).testBit m = true ↔ m = c) := by
  obtain ⟨h1, h2, h3⟩ := h p hp
  intro m hm
  have a := (h3 c hc).2.mp ho
  have b1 : hz_la (hz_O2 wo wh yr sc p c) K ≤ hz_la (hz_O1 wo wh sc p c) K := hz_la_mono (fun i _ z => ⟨z.1, z.2.1, z.2.2.1⟩)
  have b2 : hz_la (hz_O4 wo wh yr sc p c) K ≤ hz_la (hz_O3 wo wh sc p c) K := hz_la_mono (fun i _ z => ⟨z.1, z.2.1, z.2.2.1⟩)
  rw [(h3 m hm).1]
  by_cases e : m = c
  · rw [e]
    exact ⟨fun _ => rfl, fun _ => by omega⟩
  · have b3 : hz_la (hz_O1 wo wh sc p m) K ≤ hz_la (hz_O3 wo wh sc p c) K := hz_la_mono (fun i _ z => ⟨z.1, z.2.1, fun q => e (z.2.2.symm.trans q)⟩)
    have b4 : hz_la (hz_O2 wo wh yr sc p c) K ≤ hz_la (hz_O4 wo wh yr sc p m) K := hz_la_mono (fun i _ z => ⟨z.1, z.2.1, fun q => e (q.symm.trans z.2.2.1), z.2.2.2⟩)
    constructor
    · intro z; omega
    · intro z; exact absurd z e
theorem hr_O_accw {gh' go' : Nat → Nat} (h : hr_O K wo wh yr sc gh go) (hs : ¬ sc (w / 8) = 0) (hb : ¬ b = 0) (hc : c < 4)
    (ho : (go (w / 8) = c + 1 ∧ gh' = gh ∧ go' = go) ∨ (¬ go (w / 8) = c + 1 ∧ gh' = hz_u gh (w / 8) (2 ^ c) ∧ go' = hz_u go (w / 8) (c + 1))) :
    hr_O (K + 1) (hz_u wo K c) (hz_u wh K w) (upd yr K b) sc gh' go' := by
  intro p hp
  by_cases ep : w / 8 = p
  · subst ep
    obtain ⟨h1, h2, h3⟩ := h (w / 8) hp
    have tb : ∀ m, m < 4 → ((gh' (w / 8)).testBit m = true ↔ m = c) := by
      rcases ho with ⟨q1, q2, q3⟩ | ⟨q1, q2, q3⟩
      · rw [q2]; exact hr_O_own h hp hc q1
      · intro m hm
        rw [q2, hz_us, Nat.testBit_two_pow, decide_eq_true_eq]
        exact ⟨fun z => z.symm, fun z => z.symm⟩
    have og : go' (w / 8) = c + 1 := by
      rcases ho with ⟨q1, q2, q3⟩ | ⟨q1, q2, q3⟩
      · rw [q3]; exact q1
      · rw [q3, hz_us]
    have hb16 : gh' (w / 8) < 16 := by
      rcases ho with ⟨q1, q2, q3⟩ | ⟨q1, q2, q3⟩
      · rw [q2]; exact h1
      · rw [q2, hz_us]; exact hz_p4 hc
    refine ⟨hb16, by omega, fun m hm => ?_⟩
    rw [tb m hm, og]
    have l4 := hz_la_le (hz_O4 wo wh yr sc (w / 8) m) K
    have l3 := hz_la_le (hz_O3 wo wh sc (w / 8) m) K
    have l1 := hz_la_le (hz_O1 wo wh sc (w / 8) m) K
    have l2 := hz_la_le (hz_O2 wo wh yr sc (w / 8) m) K
    by_cases em : c = m
    · subst em
      rw [hz_O1y ⟨hs, rfl, rfl⟩, hz_O3n (fun z => z.2.2 rfl), hz_O2y ⟨hs, rfl, rfl, hb⟩, hz_O4n (fun z => z.2.2.1 rfl)]
      exact ⟨⟨fun _ => by omega, fun _ => rfl⟩, ⟨fun _ => by omega, fun _ => rfl⟩⟩
    · rw [hz_O1n (fun z => em z.2.2), hz_O3y ⟨hs, rfl, em⟩, hz_O2n (fun z => em z.2.2.1), hz_O4y ⟨hs, rfl, em, hb⟩]
      refine ⟨⟨fun z => absurd z.symm em, fun z => by omega⟩, ⟨fun z => by omega, fun z => by omega⟩⟩
  · have := hr_O_n (b := b) (c := c) h hp (Or.inr ep)
    rcases ho with ⟨q1, q2, q3⟩ | ⟨q1, q2, q3⟩
    · rw [q2, q3]; exact this
    · rw [q2, q3, hz_un (fun z => ep z.symm), hz_un (fun z => ep z.symm)]; exact this
end GDIR
end
section
/-! H: a write is seen; what is fresh; sizes of sets -/
def hz_kw (kn wo : Nat → Nat) (m i : Nat) : Prop := hz_num wo i ≤ kn (4 * m + wo i)
/-- fresh: a known write of the page that isn't seen -/
def hz_F (wo wh kn : Nat → Nat) (yr sc : Nat → Int32) (S : Nat → Nat → Prop) (m p i : Nat) : Prop := wh i / 8 = p ∧ ¬ yr i = 0 ∧ sc p = 0 ∧ hz_kw kn wo m i ∧ ¬ S m i
section HSEE
variable {K m p o i : Nat} {wo wh kn gc gd gx gf gl gs gm gm' : Nat → Nat} {yr sc yv yo wt va va' : Nat → Int32} {S S' : Nat → Nat → Prop}
theorem hr_C_S (a : ∀ m i, m < 4 → i < K → (S' m i ↔ S m i)) (h : hr_C K wo wh yr sc yv gc gd wt gx gf gl gs S) : hr_C K wo wh yr sc yv gc gd wt gx gf gl gs S' := by
  obtain ⟨h1, h2, h3, h4, h5⟩ := h
  refine ⟨h1, h2, h3, ?_, ?_⟩
  · intro m p o i hm hp ho hne hi z
    rw [a m i hm hi]
    exact h4 m p o i hm hp ho hne hi z
  · intro m i hm hi hy hw
    rw [a m i hm hi]
    exact h5 m i hm hi hy hw
theorem hr_V_S (a : ∀ m i, m < 4 → i < K → (S' m i ↔ S m i)) (h : hr_V K wh yr sc yv yo gm va S) : hr_V K wh yr sc yv yo gm va S' := by
  obtain ⟨h1, h2⟩ := h
  refine ⟨?_, h2⟩
  intro m w hm hw
  rw [h1 m w hm hw]
  refine hz_la_congr (fun i hi => ?_)
  unfold hz_Q
  rw [a m i hm hi]
theorem hr_C_see (h : hr_C K wo wh yr sc yv gc gd wt gx gf gl gs S) (hm : m < 4) (hp : p < 8) (ho : o < 4) (hne : o ≠ m) (hi : hz_nx (hz_C wo wh yr sc o p) (gs (32 * m + 4 * p + o)) K = i + 1) :
    hr_C K wo wh yr sc yv gc gd wt gx gf gl (hz_u gs (32 * m + 4 * p + o) (i + 1)) (fun m' j => S m' j ∨ (m' = m ∧ j = i)) := by
  obtain ⟨h1, h2, h3, h4, h5⟩ := h
  obtain ⟨i1, i2, i3, i4⟩ := hz_nx_at hi
  refine ⟨h1, h2, ?_, ?_, ?_⟩
  · intro m' p' o' hm' hp' ho'
    by_cases e : m' = m ∧ p' = p ∧ o' = o
    · rw [e.1, e.2.1, e.2.2, hz_us]
      exact Or.inr ⟨i, i2, rfl, i3⟩
    · rw [hz_un (by omega)]
      exact h3 m' p' o' hm' hp' ho'
  · intro m' p' o' j hm' hp' ho' hne' hj z
    have old := h4 m' p' o' j hm' hp' ho' hne' hj z
    by_cases e : m' = m ∧ p' = p ∧ o' = o
    · rw [e.1, e.2.1, e.2.2] at old ⊢
      rw [e.2.1, e.2.2] at z
      rw [hz_us]
      show (S m j ∨ (m = m ∧ j = i)) ↔ _
      rw [old]
      constructor
      · rintro (q | ⟨_, q⟩) <;> omega
      · intro q
        rcases Nat.lt_or_ge j (gs (32 * m + 4 * p + o)) with q2 | q2
        · exact Or.inl q2
        · refine Or.inr ⟨rfl, ?_⟩
          rcases Nat.lt_or_ge j i with q3 | q3
          · exact absurd z (i4 j q2 q3)
          · omega
    · rw [hz_un (by omega), ← old]
      show (S m' j ∨ (m' = m ∧ j = i)) ↔ _
      constructor
      · rintro (q | ⟨q1, q2⟩)
        · exact q
        · exfalso
          rw [q2] at z
          exact e ⟨q1, z.2.1.symm.trans i3.2.1, z.1.symm.trans i3.1⟩
      · intro q; exact Or.inl q
  · intro m' j hm' hj hy hw
    exact Or.inl (h5 m' j hm' hj hy hw)
theorem hr_V_see (hw : ∀ i, wh i < 64) (h : hr_V K wh yr sc yv yo gm va S) (hm : m < 4) (hiK : i < K) (hC : hz_C wo wh yr sc o p i) (ht : wt i = yv i)
    (hg : (gm (64 * m + wh i) ≤ i + 1 ∧ gm' = hz_u gm (64 * m + wh i) (i + 1) ∧ va' = upd va (64 * m + wh i) (wt i)) ∨ (¬ gm (64 * m + wh i) ≤ i + 1 ∧ gm' = gm ∧ va' = va)) :
    hr_V K wh yr sc yv yo gm' va' (fun m' j => S m' j ∨ (m' = m ∧ j = i)) := by
  obtain ⟨h1, h2⟩ := h
  have hwi := hw i
  have same : ∀ m' w, m' < 4 → w < 64 → ¬ (m' = m ∧ w = wh i) → hz_la (hz_Q wh yr sc (fun m' j => S m' j ∨ (m' = m ∧ j = i)) m' w) K = hz_la (hz_Q wh yr sc S m' w) K := by
    intro m' w hm' hw' ne
    refine hz_la_congr (fun j hj => ?_)
    unfold hz_Q
    constructor
    · rintro ⟨a1, a2, a3, a4 | ⟨a4, a5⟩⟩
      · exact ⟨a1, a2, a3, a4⟩
      · rw [a5] at a1
        exact absurd ⟨a4, a1.symm⟩ ne
    · rintro ⟨a1, a2, a3, a4⟩
      exact ⟨a1, a2, a3, Or.inl a4⟩
  have ins : hz_la (hz_Q wh yr sc (fun m' j => S m' j ∨ (m' = m ∧ j = i)) m (wh i)) K = if i + 1 < hz_la (hz_Q wh yr sc S m (wh i)) K then hz_la (hz_Q wh yr sc S m (wh i)) K else i + 1 := by
    refine hz_la_ins hiK (fun j hj => ?_)
    unfold hz_Q
    constructor
    · rintro ⟨a1, a2, a3, a4 | ⟨a4, a5⟩⟩
      · exact Or.inl ⟨a1, a2, a3, a4⟩
      · exact Or.inr a5
    · rintro (⟨a1, a2, a3, a4⟩ | a5)
      · exact ⟨a1, a2, a3, Or.inl a4⟩
      · rw [a5]
        exact ⟨rfl, hC.2.2.1, by rw [hC.2.1]; exact hC.2.2.2, Or.inr ⟨rfl, rfl⟩⟩
  have gmi := h1 m (wh i) hm hwi
  have big := hz_la_le (hz_Q wh yr sc S m (wh i)) K
  refine ⟨?_, ?_⟩
  · intro m' w hm' hw'
    by_cases e : m' = m ∧ w = wh i
    · rw [e.1, e.2, ins, ← gmi]
      rcases hg with ⟨g1, g2, g3⟩ | ⟨g1, g2, g3⟩
      · rw [g2, hz_us, if_neg (by omega)]
      · rw [g2, if_pos (by omega)]
    · rw [same m' w hm' hw' e]
      rcases hg with ⟨g1, g2, g3⟩ | ⟨g1, g2, g3⟩
      · rw [g2, hz_un (by omega)]
        exact h1 m' w hm' hw'
      · rw [g2]
        exact h1 m' w hm' hw'
  · intro m' w hm' hw' hs
    rcases hg with ⟨g1, g2, g3⟩ | ⟨g1, g2, g3⟩
    · by_cases e : m' = m ∧ w = wh i
      · rw [e.1, e.2, g2, g3, hz_us, pk_us, hz_val_s, ht]
      · rw [g2, g3, hz_un (by omega), pk_un (by omega)]
        exact h2 m' w hm' hw' hs
    · rw [g2, g3]
      exact h2 m' w hm' hw' hs
/-- the first unseen write of a chain, if it is known, is fresh -/
theorem hz_F_of (h : hr_C K wo wh yr sc yv gc gd wt gx gf gl gs S) (hm : m < 4) (hp : p < 8) (ho : o < 4) (hne : o ≠ m) (hi : hz_nx (hz_C wo wh yr sc o p) (gs (32 * m + 4 * p + o)) K = i + 1) (hk : hz_kw kn wo m i) :
    i < K ∧ hz_F wo wh kn yr sc S m p i := by
  obtain ⟨h1, h2, h3, h4, h5⟩ := h
  obtain ⟨i1, i2, i3, i4⟩ := hz_nx_at hi
  refine ⟨i2, i3.2.1, i3.2.2.1, i3.2.2.2, hk, ?_⟩
  rw [h4 m p o i hm hp ho hne i2 i3]
  omega
/-- a fresh write lies in a chain whose first unseen write is known -/
theorem hz_F_to (h : hr_C K wo wh yr sc yv gc gd wt gx gf gl gs S) (hwo : ∀ i, wo i < 4) (hm : m < 4) (hp : p < 8) (hi : i < K) (hF : hz_F wo wh kn yr sc S m p i) :
    wo i ≠ m ∧ ∃ j, hz_nx (hz_C wo wh yr sc (wo i) p) (gs (32 * m + 4 * p + wo i)) K = j + 1 ∧ hz_kw kn wo m j := by
  obtain ⟨h1, h2, h3, h4, h5⟩ := h
  obtain ⟨f1, f2, f3, f4, f5⟩ := hF
  have ne : wo i ≠ m := fun e => f5 (h5 m i hm hi f2 e)
  have hC : hz_C wo wh yr sc (wo i) p i := ⟨rfl, f1, f2, f3⟩
  rw [h4 m p (wo i) i hm hp (hwo i) ne hi hC] at f5
  obtain ⟨j, e1, j1, j2, j3, j4, j5⟩ := hz_nx_ne (Nat.le_of_not_lt f5) hi hC
  refine ⟨ne, j, e1, ?_⟩
  unfold hz_kw at *
  rw [j4.1]
  have := (hz_num_iff (wo := wo) (i := j) (j := i) j4.1).mpr j2
  omega
/-- behind a first unseen write that isn't known nothing is fresh -/
theorem hz_F_none (h : hr_C K wo wh yr sc yv gc gd wt gx gf gl gs S) (hm : m < 4) (hp : p < 8) (ho : o < 4) (hne : o ≠ m)
    (hn : hz_nx (hz_C wo wh yr sc o p) (gs (32 * m + 4 * p + o)) K = 0 ∨ ∃ j, hz_nx (hz_C wo wh yr sc o p) (gs (32 * m + 4 * p + o)) K = j + 1 ∧ ¬ hz_kw kn wo m j) :
    ∀ i, i < K → hz_C wo wh yr sc o p i → hz_kw kn wo m i → S m i := by
  obtain ⟨h1, h2, h3, h4, h5⟩ := h
  intro i hi hC hk
  rw [h4 m p o i hm hp ho hne hi hC]
  rcases Nat.lt_or_ge i (gs (32 * m + 4 * p + o)) with q | q
  · exact q
  · exfalso
    obtain ⟨j, e1, j1, j2, j3, j4, j5⟩ := hz_nx_ne q hi hC
    rcases hn with e | ⟨j', e, e2⟩
    · omega
    · have ej : j' = j := by omega
      rw [ej] at e2
      apply e2
      unfold hz_kw at *
      have ew : wo j = wo i := j4.1.trans hC.1.symm
      rw [ew]
      have := (hz_num_iff (wo := wo) (i := j) (j := i) ew).mpr j2
      omega
end HSEE
/-! sizes of sets of eight -/
def hz_bt (n q : Nat) : Nat := if n.testBit q = true then 1 else 0
def hz_pc (n : Nat) : Nat := hz_bt n 0 + hz_bt n 1 + hz_bt n 2 + hz_bt n 3 + hz_bt n 4 + hz_bt n 5 + hz_bt n 6 + hz_bt n 7
theorem hz_pc_s : ∀ s, s < 256 → ¬ s = 0 → (s &&& (s - 1)) < s ∧ hz_pc (s &&& (s - 1)) + 1 = hz_pc s := by decide +kernel
theorem hz_pc_0 : hz_pc 0 = 0 := by decide +kernel
noncomputable def hz_cp (P : Nat → Prop) : Nat → Nat
  | 0 => 0
  | k + 1 => hz_cp P k + hz_if (P k) 1 0
theorem hz_cp_s (P : Nat → Prop) (k : Nat) : hz_cp P (k + 1) = hz_cp P k + hz_if (P k) 1 0 := rfl
theorem hz_cp_y {P : Nat → Prop} {k : Nat} (h : P k) : hz_cp P (k + 1) = hz_cp P k + 1 := by rw [hz_cp_s, hz_ift h]
theorem hz_cp_n {P : Nat → Prop} {k : Nat} (h : ¬ P k) : hz_cp P (k + 1) = hz_cp P k := by rw [hz_cp_s, hz_iff h, Nat.add_zero]
theorem hz_bt_if {n q : Nat} {P : Nat → Prop} (h : n.testBit q = true ↔ P q) : hz_bt n q = hz_if (P q) 1 0 := by
  unfold hz_bt
  by_cases z : P q
  · rw [hz_ift z, if_pos (h.mpr z)]
  · rw [hz_iff z, if_neg (fun y => z (h.mp y))]
theorem hz_pc_cp {n : Nat} {P : Nat → Prop} (h : ∀ q, q < 8 → (n.testBit q = true ↔ P q)) : hz_pc n = hz_cp P 8 := by
  unfold hz_pc
  rw [hz_bt_if (h 0 (by omega)), hz_bt_if (h 1 (by omega)), hz_bt_if (h 2 (by omega)), hz_bt_if (h 3 (by omega)), hz_bt_if (h 4 (by omega)), hz_bt_if (h 5 (by omega)), hz_bt_if (h 6 (by omega)), hz_bt_if (h 7 (by omega))]
  rw [hz_cp_s, hz_cp_s, hz_cp_s, hz_cp_s, hz_cp_s, hz_cp_s, hz_cp_s, hz_cp_s]
  show _ = 0 + _ + _ + _ + _ + _ + _ + _ + _
  omega
end
section
/-! I: the component's walks: guards, knowledge, rows -/
def hz_bad (st : Nat → Int32) (x : Int32) : Prop := x < 0 ∨ 4 ≤ x ∨ ∃ m : Nat, m < 4 ∧ x = nI m ∧ ¬ st m = 0
theorem hz_run (st : Nat → Int32) (x : Int32) : hz_bad st x ∨ ∃ m : Nat, m < 4 ∧ x = nI m ∧ st m = 0 := by
  rcases pk_ix x (n := 4) (by decide) with h | h | ⟨m, hm, e⟩
  · exact Or.inl (Or.inl h)
  · exact Or.inl (Or.inr (Or.inl h))
  · by_cases z : st m = 0
    · exact Or.inr ⟨m, hm, e, z⟩
    · exact Or.inl (Or.inr (Or.inr ⟨m, hm, e, z⟩))
theorem hz_ix (x : Int32) (n : Nat) (hn : n < 2 ^ 31) : (x < 0 ∨ nI n ≤ x) ∨ ∃ j : Nat, j < n ∧ x = nI j := by
  rcases pk_ix x hn with h | h | h
  · exact Or.inl (Or.inl h)
  · exact Or.inl (Or.inr h)
  · exact Or.inr h
def hz_lrk (kn : Nat → Nat) (t f k : Nat) : Nat → Nat := fun j => if j / 4 = t ∧ k ≤ j % 4 then (if kn j < kn (4 * f + j % 4) then kn (4 * f + j % 4) else kn j) else kn j
theorem hz_lrk_0 (kn : Nat → Nat) (t f : Nat) : hz_lrk kn t f 0 = hz_lrn kn t f := by
  funext j
  unfold hz_lrk hz_lrn
  by_cases e : j / 4 = t
  · rw [if_pos ⟨e, Nat.zero_le _⟩, if_pos e]
  · rw [if_neg (fun z => e z.1), if_neg e]
theorem hz_lrk_4 (kn : Nat → Nat) (t f : Nat) : hz_lrk kn t f 4 = kn := by
  funext j
  unfold hz_lrk
  rw [if_neg (by omega)]
theorem hz_lrk_y {kn : Nat → Nat} {t f k : Nat} (hne : t ≠ f) (hk : k < 4) (h : kn (4 * t + k) < kn (4 * f + k)) : hz_lrk (hz_u kn (4 * t + k) (kn (4 * f + k))) t f (k + 1) = hz_lrk kn t f k := by
  funext j
  unfold hz_lrk
  rw [hz_un (j := 4 * f + j % 4) (by omega)]
  by_cases e : j = 4 * t + k
  · subst e
    rw [show (4 * t + k) / 4 = t from by omega, show (4 * t + k) % 4 = k from by omega, hz_us, if_neg (by omega), if_pos ⟨rfl, Nat.le_refl _⟩, if_pos h]
  · rw [hz_un e]
    by_cases e2 : j / 4 = t ∧ k ≤ j % 4
    · rw [if_pos e2, if_pos ⟨e2.1, by omega⟩]
    · rw [if_neg e2, if_neg (by omega)]
theorem hz_lrk_n {kn : Nat → Nat} {t f k : Nat} (hk : k < 4) (h : kn (4 * f + k) ≤ kn (4 * t + k)) : hz_lrk kn t f (k + 1) = hz_lrk kn t f k := by
  funext j
  unfold hz_lrk
  by_cases e : j = 4 * t + k
  · subst e
    rw [show (4 * t + k) / 4 = t from by omega, show (4 * t + k) % 4 = k from by omega, if_neg (by omega), if_pos ⟨rfl, Nat.le_refl _⟩, if_neg (by omega)]
  · by_cases e2 : j / 4 = t ∧ k ≤ j % 4
    · rw [if_pos e2, if_pos ⟨e2.1, by omega⟩]
    · rw [if_neg e2, if_neg (by omega)]
def hz_kek (kn : Nat → Nat) (t f k : Nat) : Nat → Nat := fun j => if j / 4 = t ∧ k ≤ j % 4 then kn (4 * f + j % 4) else kn j
theorem hz_kek_0 (kn : Nat → Nat) (t f : Nat) : hz_kek kn t f 0 = hz_kee kn t f := by
  funext j
  unfold hz_kek hz_kee
  by_cases e : j / 4 = t
  · rw [if_pos ⟨e, Nat.zero_le _⟩, if_pos e]
  · rw [if_neg (fun z => e z.1), if_neg e]
theorem hz_kek_4 (kn : Nat → Nat) (t f : Nat) : hz_kek kn t f 4 = kn := by
  funext j
  unfold hz_kek
  rw [if_neg (by omega)]
theorem hz_kek_s {kn : Nat → Nat} {t f k : Nat} (hne : t ≠ f) (hk : k < 4) : hz_kek (hz_u kn (4 * t + k) (kn (4 * f + k))) t f (k + 1) = hz_kek kn t f k := by
  funext j
  unfold hz_kek
  rw [hz_un (j := 4 * f + j % 4) (by omega)]
  by_cases e : j = 4 * t + k
  · subst e
    rw [show (4 * t + k) / 4 = t from by omega, show (4 * t + k) % 4 = k from by omega, hz_us, if_neg (by omega), if_pos ⟨rfl, Nat.le_refl _⟩]
  · rw [hz_un e]
    by_cases e2 : j / 4 = t ∧ k ≤ j % 4
    · rw [if_pos e2, if_pos ⟨e2.1, by omega⟩]
    · rw [if_neg e2, if_neg (by omega)]
section XW
variable {th rd fb kp : Int32} {kX st ho ro le va sm wc wd wt nx fi la sn sc co hv ow rA wA fe mo ra ac lo rq : Nat → Int32}
theorem hx_four {post : Int32 → Prop} {m : Nat} (hm : m < 4) (h : post 1) : wpX_isFour post (nI m) :=
  And.intro (fun z => absurd z (nI_pos (by omega))) (fun _ => br_f (nI_ge (b := 4) hm (by decide)) h)
theorem hx_four_n {post : Int32 → Prop} {x : Int32} (hx : x < 0 ∨ 4 ≤ x) (h : post 0) : wpX_isFour post x := by
  unfold wpX_isFour
  by_cases z : x < 0
  · exact br_t z h
  · exact br_f z (br_t (hx.resolve_left z) h)
theorem hx_runs {post : Int32 → Prop} {m : Nat} (hm : m < 4) (h0 : st m = 0) (h : post 1) : wpX_runs post (th, rd, fb, kp, kX, st, ho, ro, le, va, sm, wc, wd, wt, nx, fi, la, sn, sc, co, hv, ow, rA, wA, fe, mo, ra, ac, lo, rq) (nI m) := by
  unfold wpX_runs
  refine hx_four hm (br_f (by decide) ⟨vp_in_nI hm (by decide), ?_⟩)
  rw [nI_clamp (by omega)]
  exact br_t h0 h
theorem hx_runs_n {post : Int32 → Prop} {x : Int32} (hx : hz_bad st x) (h : post 0) : wpX_runs post (th, rd, fb, kp, kX, st, ho, ro, le, va, sm, wc, wd, wt, nx, fi, la, sn, sc, co, hv, ow, rA, wA, fe, mo, ra, ac, lo, rq) x := by
  unfold wpX_runs
  rcases hx with z | z | ⟨m, hm, e, z⟩
  · exact hx_four_n (Or.inl z) (br_t rfl h)
  · exact hx_four_n (Or.inr z) (br_t rfl h)
  · rw [e]
    refine hx_four hm (br_f (by decide) ⟨vp_in_nI hm (by decide), ?_⟩)
    rw [nI_clamp (by omega)]
    exact br_f z h
theorem hx_learn2 {post : SX → Prop} {t f : Nat} (ht : t < 9) (hf : f < 9) (hne : t ≠ f) : ∀ (n k : Nat) (kn : Nat → Nat), (∀ j, kn j ≤ 300) → 4 < n + k → k ≤ 4 →
    post (th, rd, fb, kp, hz_n (hz_lrk kn t f k), st, ho, ro, le, va, sm, wc, wd, wt, nx, fi, la, sn, sc, co, hv, ow, rA, wA, fe, mo, ra, ac, lo, rq) → wX_learn_2 post (nI t) (nI f) th rd fb kp n (nI k) (hz_n kn) st ho ro le va sm wc wd wt nx fi la sn sc co hv ow rA wA fe mo ra ac lo rq := by
  intro n
  induction n with
  | zero => intro k kn hb h1 h2; omega
  | succ n ih =>
    intro k kn hb h1 h2 h
    by_cases e : k = 4
    · subst e
      rw [hz_lrk_4] at h
      exact And.intro (fun _ => h) (fun z => absurd (Int32.le_refl _) z)
    · have hk : k < 4 := by omega
      have b1 := hb (4 * t + k)
      have b2 := hb (4 * f + k)
      have e4 : ¬ 4 ≤ k := by omega
      by_cases c : kn (4 * f + k) ≤ kn (4 * t + k)
      · rw [← hz_lrk_n hk c] at h
        simp (disch := omega) only [wX_learn_2, e4, c, forall_eq, nI_leI, nI_ltI, nI_eq, vp_in_nI, nI_clamp, nI_add, nI_1, hz_na, hz_nup, true_implies, forall_const, not_true_eq_false, not_false_eq_true, false_implies, and_true, true_and, implies_true, and_self, if_true, if_false, ite_true, ite_false, reduceIte, ha_m4, ha_m8, ha_m5, ha_m32, ha_m64, ha_m300, ha_a4, ha_a16, ha_a300, ha_a600, ha_a900, ha_p8, ha_l4, ha_l5, ha_l8, ha_l32, ha_l36, ha_l64, ha_l128, ha_l256, ha_le7, ha_7lt, ha_e0, ha_e1, ha_e2, ha_e300, ha_le0, ha_lt0, ha_0le, ha_d8, ha_s1, ha_80, ha_10]
        exact ih (k + 1) kn hb (by omega) (by omega) h
      · rw [← hz_lrk_y hne hk (by omega)] at h
        simp (disch := omega) only [wX_learn_2, e4, c, ha_vs, forall_eq, nI_leI, nI_ltI, nI_eq, vp_in_nI, nI_clamp, nI_add, nI_1, hz_na, hz_nup, true_implies, forall_const, not_true_eq_false, not_false_eq_true, false_implies, and_true, true_and, implies_true, and_self, if_true, if_false, ite_true, ite_false, reduceIte, ha_m4, ha_m8, ha_m5, ha_m32, ha_m64, ha_m300, ha_a4, ha_a16, ha_a300, ha_a600, ha_a900, ha_p8, ha_l4, ha_l5, ha_l8, ha_l32, ha_l36, ha_l64, ha_l128, ha_l256, ha_le7, ha_7lt, ha_e0, ha_e1, ha_e2, ha_e300, ha_le0, ha_lt0, ha_0le, ha_d8, ha_s1, ha_80, ha_10]
        refine ih (k + 1) _ (fun j => ?_) (by omega) (by omega) h
        unfold hz_u
        split
        · exact b2
        · exact hb j
theorem hx_learn {post : SX → Prop} {t f : Nat} {kn : Nat → Nat} (ht : t < 9) (hf : f < 9) (hne : t ≠ f) (hb : ∀ j, kn j ≤ 300) (h : post (th, rd, fb, kp, hz_n (hz_lrn kn t f), st, ho, ro, le, va, sm, wc, wd, wt, nx, fi, la, sn, sc, co, hv, ow, rA, wA, fe, mo, ra, ac, lo, rq)) : wpX_learn post (th, rd, fb, kp, hz_n kn, st, ho, ro, le, va, sm, wc, wd, wt, nx, fi, la, sn, sc, co, hv, ow, rA, wA, fe, mo, ra, ac, lo, rq) (nI t) (nI f) := by
  unfold wpX_learn
  refine Exists.intro 5 (hx_learn2 ht hf hne 5 0 kn hb (by omega) (by omega) ?_)
  rw [hz_lrk_0]
  exact h
theorem hx_keep2 {post : SX → Prop} {t f : Nat} (ht : t < 9) (hf : f < 9) (hne : t ≠ f) : ∀ (n k : Nat) (kn : Nat → Nat), (∀ j, kn j ≤ 300) → 4 < n + k → k ≤ 4 →
    post (th, rd, fb, kp, hz_n (hz_kek kn t f k), st, ho, ro, le, va, sm, wc, wd, wt, nx, fi, la, sn, sc, co, hv, ow, rA, wA, fe, mo, ra, ac, lo, rq) → wX_keep_2 post (nI t) (nI f) th rd fb kp n (nI k) (hz_n kn) st ho ro le va sm wc wd wt nx fi la sn sc co hv ow rA wA fe mo ra ac lo rq := by
  intro n
  induction n with
  | zero => intro k kn hb h1 h2; omega
  | succ n ih =>
    intro k kn hb h1 h2 h
    by_cases e : k = 4
    · subst e
      rw [hz_kek_4] at h
      exact And.intro (fun _ => h) (fun z => absurd (Int32.le_refl _) z)
    · have hk : k < 4 := by omega
      have b2 := hb (4 * f + k)
      have e4 : ¬ 4 ≤ k := by omega
      rw [← hz_kek_s hne hk] at h
      simp (disch := omega) only [wX_keep_2, e4, ha_vs, forall_eq, nI_leI, nI_ltI, nI_eq, vp_in_nI, nI_clamp, nI_add, nI_1, hz_na, hz_nup, true_implies, forall_const, not_true_eq_false, not_false_eq_true, false_implies, and_true, true_and, implies_true, and_self, if_true, if_false, ite_true, ite_false, reduceIte, ha_m4, ha_m8, ha_m5, ha_m32, ha_m64, ha_m300, ha_a4, ha_a16, ha_a300, ha_a600, ha_a900, ha_p8, ha_l4, ha_l5, ha_l8, ha_l32, ha_l36, ha_l64, ha_l128, ha_l256, ha_le7, ha_7lt, ha_e0, ha_e1, ha_e2, ha_e300, ha_le0, ha_lt0, ha_0le, ha_d8, ha_s1, ha_80, ha_10]
      refine ih (k + 1) _ (fun j => ?_) (by omega) (by omega) h
      unfold hz_u
      split
      · exact b2
      · exact hb j
theorem hx_keep {post : SX → Prop} {t f : Nat} {kn : Nat → Nat} (ht : t < 9) (hf : f < 9) (hne : t ≠ f) (hb : ∀ j, kn j ≤ 300) (h : post (th, rd, fb, kp, hz_n (hz_kee kn t f), st, ho, ro, le, va, sm, wc, wd, wt, nx, fi, la, sn, sc, co, hv, ow, rA, wA, fe, mo, ra, ac, lo, rq)) : wpX_keep post (th, rd, fb, kp, hz_n kn, st, ho, ro, le, va, sm, wc, wd, wt, nx, fi, la, sn, sc, co, hv, ow, rA, wA, fe, mo, ra, ac, lo, rq) (nI t) (nI f) := by
  unfold wpX_keep
  refine Exists.intro 5 (hx_keep2 ht hf hne 5 0 kn hb (by omega) (by omega) ?_)
  rw [hz_kek_0]
  exact h
theorem hx_join {post : SX → Prop} {r m : Nat} {ln gq : Nat → Nat} (hr : r < 8) (hm : m < 4) (hl : ln r ≤ 3) (h : post (th, rd, fb, kp, kX, st, ho, hz_n (hz_u gq (4 * r + ln r) m), hz_n (hz_u ln r (ln r + 1)), va, sm, wc, wd, wt, nx, fi, la, sn, sc, co, hv, ow, rA, wA, fe, mo, ra, ac, lo, rq)) : wpX_join post (th, rd, fb, kp, kX, st, ho, hz_n gq, hz_n ln, va, sm, wc, wd, wt, nx, fi, la, sn, sc, co, hv, ow, rA, wA, fe, mo, ra, ac, lo, rq) (nI r) (nI m) := by
  simp (disch := omega) only [wpX_join, ha_nb, ha_vb, forall_eq, nI_leI, nI_ltI, nI_eq, vp_in_nI, nI_clamp, nI_add, nI_1, hz_na, hz_nup, true_implies, forall_const, not_true_eq_false, not_false_eq_true, false_implies, and_true, true_and, implies_true, and_self, if_true, if_false, ite_true, ite_false, reduceIte, ha_m4, ha_m8, ha_m5, ha_m32, ha_m64, ha_m300, ha_a4, ha_a16, ha_a300, ha_a600, ha_a900, ha_p8, ha_l4, ha_l5, ha_l8, ha_l32, ha_l36, ha_l64, ha_l128, ha_l256, ha_le7, ha_7lt, ha_e0, ha_e1, ha_e2, ha_e300, ha_le0, ha_lt0, ha_0le, ha_d8, ha_s1, ha_80, ha_10]
  exact h
theorem hx_leave24 {post : Int32 → SX → Prop} {r L : Nat} {x2 : Int32} {ln gq : Nat → Nat} (hr : r < 8) (hq : ∀ j, gq j < 4) (hL : ln r = L) (hL3 : L ≤ 3) : ∀ (n k : Nat), L < n + k → k ≤ L →
    post x2 (th, rd, fb, kp, kX, st, ho, hz_n (hz_shf gq r L), hz_n ln, va, sm, wc, wd, wt, nx, fi, la, sn, sc, co, hv, ow, rA, wA, fe, mo, ra, ac, lo, rq) → wX_leave_24 post (nI r) x2 th rd fb kp n (nI (4 * r + k)) kX st ho (hz_n (hz_shf gq r k)) (hz_n ln) va sm wc wd wt nx fi la sn sc co hv ow rA wA fe mo ra ac lo rq := by
  intro n
  induction n with
  | zero => intro k h1 h2; omega
  | succ n ih =>
    intro k h1 h2 h
    by_cases e : k = L
    · subst e
      have e4 : 4 * r + ln r ≤ 4 * r + k := by omega
      simp (disch := omega) only [wX_leave_24, e4, forall_eq, nI_leI, nI_ltI, nI_eq, vp_in_nI, nI_clamp, nI_add, nI_1, hz_na, hz_nup, true_implies, forall_const, not_true_eq_false, not_false_eq_true, false_implies, and_true, true_and, implies_true, and_self, if_true, if_false, ite_true, ite_false, reduceIte, ha_m4, ha_m8, ha_m5, ha_m32, ha_m64, ha_m300, ha_a4, ha_a16, ha_a300, ha_a600, ha_a900, ha_p8, ha_l4, ha_l5, ha_l8, ha_l32, ha_l36, ha_l64, ha_l128, ha_l256, ha_le7, ha_7lt, ha_e0, ha_e1, ha_e2, ha_e300, ha_le0, ha_lt0, ha_0le, ha_d8, ha_s1, ha_80, ha_10]
      exact h
    · have e4 : ¬ 4 * r + ln r ≤ 4 * r + k := by omega
      have q1 := hq (4 * r + k + 1 + 1)
      have q2 := hq (4 * r + k + 1)
      have b : hz_shf gq r k (4 * r + k + 1) = gq (4 * r + k + 1) := by
        unfold hz_shf
        rw [if_neg (by omega)]
      have s : hz_u (hz_shf gq r k) (4 * r + k) (gq (4 * r + k + 1)) = hz_shf gq r (k + 1) := by
        funext j
        unfold hz_u hz_shf
        by_cases z : j = 4 * r + k
        · rw [if_pos z, if_pos ⟨by omega, by omega⟩, z]
        · rw [if_neg z]
          by_cases z2 : 4 * r ≤ j ∧ j < 4 * r + k
          · rw [if_pos z2, if_pos ⟨by omega, by omega⟩]
          · rw [if_neg z2, if_neg (by omega)]
      simp (disch := omega) only [wX_leave_24, e4, b, ha_vb, forall_eq, nI_leI, nI_ltI, nI_eq, vp_in_nI, nI_clamp, nI_add, nI_1, hz_na, hz_nup, true_implies, forall_const, not_true_eq_false, not_false_eq_true, false_implies, and_true, true_and, implies_true, and_self, if_true, if_false, ite_true, ite_false, reduceIte, ha_m4, ha_m8, ha_m5, ha_m32, ha_m64, ha_m300, ha_a4, ha_a16, ha_a300, ha_a600, ha_a900, ha_p8, ha_l4, ha_l5, ha_l8, ha_l32, ha_l36, ha_l64, ha_l128, ha_l256, ha_le7, ha_7lt, ha_e0, ha_e1, ha_e2, ha_e300, ha_le0, ha_lt0, ha_0le, ha_d8, ha_s1, ha_80, ha_10]
      rw [s]
      exact ih (k + 1) (by omega) (by omega) h
theorem hx_leave {post : Int32 → SX → Prop} {r : Nat} {ln gq : Nat → Nat} (hr : r < 8) (hq : ∀ j, gq j < 4) (h4 : ln r ≤ 4) (h0 : 0 < ln r)
    (h : post (nI (gq (4 * r))) (th, rd, fb, kp, kX, st, ho, hz_n (hz_shf gq r (ln r - 1)), hz_n (hz_u ln r (ln r - 1)), va, sm, wc, wd, wt, nx, fi, la, sn, sc, co, hv, ow, rA, wA, fe, mo, ra, ac, lo, rq)) : wpX_leave post (th, rd, fb, kp, kX, st, ho, hz_n gq, hz_n ln, va, sm, wc, wd, wt, nx, fi, la, sn, sc, co, hv, ow, rA, wA, fe, mo, ra, ac, lo, rq) (nI r) := by
  have q := hq (4 * r)
  simp (disch := omega) only [wpX_leave, ha_nb, ha_vb, forall_eq, nI_leI, nI_ltI, nI_eq, vp_in_nI, nI_clamp, nI_add, nI_1, hz_na, hz_nup, true_implies, forall_const, not_true_eq_false, not_false_eq_true, false_implies, and_true, true_and, implies_true, and_self, if_true, if_false, ite_true, ite_false, reduceIte, ha_m4, ha_m8, ha_m5, ha_m32, ha_m64, ha_m300, ha_a4, ha_a16, ha_a300, ha_a600, ha_a900, ha_p8, ha_l4, ha_l5, ha_l8, ha_l32, ha_l36, ha_l64, ha_l128, ha_l256, ha_le7, ha_7lt, ha_e0, ha_e1, ha_e2, ha_e300, ha_le0, ha_lt0, ha_0le, ha_d8, ha_s1, ha_80, ha_10]
  refine Exists.intro (ln r + 1) ?_
  have s : hz_shf gq r 0 = gq := by
    funext j
    unfold hz_shf
    rw [if_neg (by omega)]
  have := hx_leave24 (th := th) (rd := rd) (fb := fb) (kp := kp) (kX := kX) (st := st) (ho := ho) (va := va) (sm := sm) (wc := wc) (wd := wd) (wt := wt) (nx := nx) (fi := fi) (la := la) (sn := sn) (sc := sc) (co := co) (hv := hv) (ow := ow) (rA := rA) (wA := wA) (fe := fe) (mo := mo) (ra := ra) (ac := ac) (lo := lo) (rq := rq) (post := post) (x2 := nI (gq (4 * r))) (ln := hz_u ln r (ln r - 1)) hr hq hz_us (by omega) (ln r + 1) 0 (by omega) (by omega) h
  rw [s] at this
  exact this
theorem hx_grant {post : SX → Prop} {l m : Nat} {kn : Nat → Nat} (hl : l < 4) (hm : m < 4) (hb : ∀ j, kn j ≤ 300) (h : post (th, rd, fb, kp, hz_n (hz_lrn kn m (4 + l)), upd st m 0, upd ho l (nI m), ro, le, va, sm, wc, wd, wt, nx, fi, la, sn, sc, co, hv, ow, rA, wA, fe, mo, ra, ac, lo, rq)) : wpX_grant post (th, rd, fb, kp, hz_n kn, st, ho, ro, le, va, sm, wc, wd, wt, nx, fi, la, sn, sc, co, hv, ow, rA, wA, fe, mo, ra, ac, lo, rq) (nI l) (nI m) := by
  simp (disch := omega) only [wpX_grant, ha_nb, ha_vb, ha_vb0, forall_eq, nI_leI, nI_ltI, nI_eq, vp_in_nI, nI_clamp, nI_add, nI_1, hz_na, hz_nup, true_implies, forall_const, not_true_eq_false, not_false_eq_true, false_implies, and_true, true_and, implies_true, and_self, if_true, if_false, ite_true, ite_false, reduceIte, ha_m4, ha_m8, ha_m5, ha_m32, ha_m64, ha_m300, ha_a4, ha_a16, ha_a300, ha_a600, ha_a900, ha_p8, ha_l4, ha_l5, ha_l8, ha_l32, ha_l36, ha_l64, ha_l128, ha_l256, ha_le7, ha_7lt, ha_e0, ha_e1, ha_e2, ha_e300, ha_le0, ha_lt0, ha_0le, ha_d8, ha_s1, ha_80, ha_10]
  exact hx_learn (by omega) (by omega) (by omega) hb h
theorem hx_holds {post : Int32 → Prop} {m l : Nat} (hm : m < 4) (hl : l < 4) (h0 : st m = 0) (hh : ho l = nI m) (h : post 1) : wpX_holds post (th, rd, fb, kp, kX, st, ho, ro, le, va, sm, wc, wd, wt, nx, fi, la, sn, sc, co, hv, ow, rA, wA, fe, mo, ra, ac, lo, rq) (nI m) (nI l) := by
  unfold wpX_holds
  refine hx_runs hm h0 (br_f (by decide) (hx_four hl (br_f (by decide) ⟨vp_in_nI hl (by decide), ?_⟩)))
  rw [nI_clamp (by omega)]
  exact br_t hh h
/-- not held -/
def hz_nh (st ho : Nat → Int32) (x y : Int32) : Prop := hz_bad st x ∨ ∃ m : Nat, m < 4 ∧ x = nI m ∧ st m = 0 ∧ ((y < 0 ∨ 4 ≤ y) ∨ ∃ l : Nat, l < 4 ∧ y = nI l ∧ ¬ ho l = nI m)
theorem hz_hol (st ho : Nat → Int32) (x y : Int32) : hz_nh st ho x y ∨ ∃ m l : Nat, m < 4 ∧ l < 4 ∧ x = nI m ∧ y = nI l ∧ st m = 0 ∧ ho l = nI m := by
  rcases hz_run st x with h | ⟨m, hm, e, z⟩
  · exact Or.inl (Or.inl h)
  · rcases hz_ix y 4 (by decide) with h | ⟨l, hl, e2⟩
    · exact Or.inl (Or.inr ⟨m, hm, e, z, Or.inl h⟩)
    · by_cases q : ho l = nI m
      · exact Or.inr ⟨m, l, hm, hl, e, e2, z, q⟩
      · exact Or.inl (Or.inr ⟨m, hm, e, z, Or.inr ⟨l, hl, e2, q⟩⟩)
theorem hx_holds_n {post : Int32 → Prop} {x y : Int32} (hx : hz_nh st ho x y) (h : post 0) : wpX_holds post (th, rd, fb, kp, kX, st, ho, ro, le, va, sm, wc, wd, wt, nx, fi, la, sn, sc, co, hv, ow, rA, wA, fe, mo, ra, ac, lo, rq) x y := by
  unfold wpX_holds
  rcases hx with z | ⟨m, hm, e, h0, z⟩
  · exact hx_runs_n z (br_t rfl h)
  · rw [e]
    refine hx_runs hm h0 (br_f (by decide) ?_)
    rcases z with z | ⟨l, hl, e2, q⟩
    · exact hx_four_n z (br_t rfl h)
    · rw [e2]
      refine hx_four hl (br_f (by decide) ⟨vp_in_nI hl (by decide), ?_⟩)
      rw [nI_clamp (by omega)]
      exact br_f q h
end XW
end
section
/-! J: the reference's walks: guards, rows, sets -/
theorem hz_gk_s {yk yp : Nat → Int32} {t l i : Nat} (h : ¬ yp (300 * l + i) = 0) : upd (hz_gk yk yp t l i) (300 * t + i) 1 = hz_gk yk yp t l (i + 1) := by
  funext j
  unfold upd hz_gk
  by_cases z : j = 300 * t + i
  · subst z
    rw [if_pos rfl, if_pos ⟨by omega, by omega, by rw [show 300 * t + i - 300 * t = i from by omega]; exact h⟩]
  · rw [if_neg z]
    by_cases z2 : 300 * t ≤ j ∧ j < 300 * t + i ∧ ¬ yp (300 * l + (j - 300 * t)) = 0
    · rw [if_pos z2, if_pos ⟨z2.1, by omega, z2.2.2⟩]
    · rw [if_neg z2, if_neg (fun q => z2 ⟨q.1, by omega, q.2.2⟩)]
theorem hz_gk_n {yk yp : Nat → Int32} {t l i : Nat} (h : yp (300 * l + i) = 0) : hz_gk yk yp t l i = hz_gk yk yp t l (i + 1) := by
  funext j
  unfold hz_gk
  by_cases z2 : 300 * t ≤ j ∧ j < 300 * t + i ∧ ¬ yp (300 * l + (j - 300 * t)) = 0
  · rw [if_pos z2, if_pos ⟨z2.1, by omega, z2.2.2⟩]
  · rw [if_neg z2, if_neg]
    intro q
    by_cases z : j = 300 * t + i
    · subst z
      rw [show 300 * t + i - 300 * t = i from by omega] at q
      exact q.2.2 h
    · exact z2 ⟨q.1, by omega, q.2.2⟩
theorem hz_gp_s {yk yp : Nat → Int32} {l m i : Nat} : upd (hz_gp yp yk l m i) (300 * l + i) (yk (300 * m + i)) = hz_gp yp yk l m (i + 1) := by
  funext j
  unfold upd hz_gp
  by_cases z : j = 300 * l + i
  · subst z
    rw [if_pos rfl, if_pos ⟨by omega, by omega⟩, show 300 * l + i - 300 * l = i from by omega]
  · rw [if_neg z]
    by_cases z2 : 300 * l ≤ j ∧ j < 300 * l + i
    · rw [if_pos z2, if_pos ⟨z2.1, by omega⟩]
    · rw [if_neg z2, if_neg (fun q => z2 ⟨q.1, by omega⟩)]
theorem hz_gk_0 (yk yp : Nat → Int32) (t l : Nat) : hz_gk yk yp t l 0 = yk := by
  funext j
  unfold hz_gk
  rw [if_neg (fun q => by omega)]
theorem hz_gp_0 (yk yp : Nat → Int32) (l m : Nat) : hz_gp yp yk l m 0 = yp := by
  funext j
  unfold hz_gp
  rw [if_neg (fun q => by omega)]
section YW
variable {kp rd lr : Int32} {yw yh yv yr yk ys yp yo sc st yf ho ro le fe mo ra ac lo rq : Nat → Int32}
theorem hy_in {post : Int32 → Prop} {m n : Nat} (hm : m < n) (hn : n < 2 ^ 31) (h : post 1) : wpY_in post (nI m) (nI n) :=
  And.intro (fun z => absurd z (nI_pos (by omega))) (fun _ => br_f (nI_ge hm hn) h)
theorem hy_in4 {post : Int32 → Prop} {m : Nat} (hm : m < 4) (h : post 1) : wpY_in post (nI m) 4 := hy_in (n := 4) hm (by decide) h
theorem hy_in5 {post : Int32 → Prop} {m : Nat} (hm : m < 5) (h : post 1) : wpY_in post (nI m) 5 := hy_in (n := 5) hm (by decide) h
theorem hy_in8 {post : Int32 → Prop} {m : Nat} (hm : m < 8) (h : post 1) : wpY_in post (nI m) 8 := hy_in (n := 8) hm (by decide) h
theorem hy_in64 {post : Int32 → Prop} {m : Nat} (hm : m < 64) (h : post 1) : wpY_in post (nI m) 64 := hy_in (n := 64) hm (by decide) h
theorem hy_in_n {post : Int32 → Prop} {x y : Int32} (hx : x < 0 ∨ y ≤ x) (h : post 0) : wpY_in post x y := by
  unfold wpY_in
  by_cases z : x < 0
  · exact br_t z h
  · exact br_f z (br_t (hx.resolve_left z) h)
theorem hy_runs {post : Int32 → Prop} {m : Nat} (hm : m < 4) (h0 : st m = 0) (h : post 1) : wpY_runs post (kp, rd, lr, yw, yh, yv, yr, yk, ys, yp, yo, sc, st, yf, ho, ro, le, fe, mo, ra, ac, lo, rq) (nI m) := by
  unfold wpY_runs
  refine hy_in4 hm (br_f (by decide) ⟨vp_in_nI hm (by decide), ?_⟩)
  rw [nI_clamp (by omega)]
  exact br_t h0 h
theorem hy_runs_n {post : Int32 → Prop} {x : Int32} (hx : hz_bad st x) (h : post 0) : wpY_runs post (kp, rd, lr, yw, yh, yv, yr, yk, ys, yp, yo, sc, st, yf, ho, ro, le, fe, mo, ra, ac, lo, rq) x := by
  unfold wpY_runs
  rcases hx with z | z | ⟨m, hm, e, z⟩
  · exact hy_in_n (Or.inl z) (br_t rfl h)
  · exact hy_in_n (Or.inr z) (br_t rfl h)
  · rw [e]
    refine hy_in4 hm (br_f (by decide) ⟨vp_in_nI hm (by decide), ?_⟩)
    rw [nI_clamp (by omega)]
    exact br_f z h
theorem hy_holds {post : Int32 → Prop} {m l : Nat} (hm : m < 4) (hl : l < 4) (h0 : st m = 0) (hh : ho l = nI m) (h : post 1) : wpY_holds post (kp, rd, lr, yw, yh, yv, yr, yk, ys, yp, yo, sc, st, yf, ho, ro, le, fe, mo, ra, ac, lo, rq) (nI m) (nI l) := by
  unfold wpY_holds
  refine hy_runs hm h0 (br_f (by decide) (hy_in4 hl (br_f (by decide) ⟨vp_in_nI hl (by decide), ?_⟩)))
  rw [nI_clamp (by omega)]
  exact br_t hh h
theorem hy_holds_n {post : Int32 → Prop} {x y : Int32} (hx : hz_nh st ho x y) (h : post 0) : wpY_holds post (kp, rd, lr, yw, yh, yv, yr, yk, ys, yp, yo, sc, st, yf, ho, ro, le, fe, mo, ra, ac, lo, rq) x y := by
  unfold wpY_holds
  rcases hx with z | ⟨m, hm, e, h0, z⟩
  · exact hy_runs_n z (br_t rfl h)
  · rw [e]
    refine hy_runs hm h0 (br_f (by decide) ?_)
    rcases z with z | ⟨l, hl, e2, q⟩
    · exact hy_in_n z (br_t rfl h)
    · rw [e2]
      refine hy_in4 hl (br_f (by decide) ⟨vp_in_nI hl (by decide), ?_⟩)
      rw [nI_clamp (by omega)]
      exact br_f q h
theorem hy_push {post : SY → Prop} {r m : Nat} {ln gq : Nat → Nat} (hr : r < 8) (hl : ln r ≤ 3) (h : post (kp, rd, lr, yw, yh, yv, yr, yk, ys, yp, yo, sc, st, yf, ho, hz_n (hz_u gq (4 * r + ln r) m), hz_n (hz_u ln r (ln r + 1)), fe, mo, ra, ac, lo, rq)) : wpY_push post (kp, rd, lr, yw, yh, yv, yr, yk, ys, yp, yo, sc, st, yf, ho, hz_n gq, hz_n ln, fe, mo, ra, ac, lo, rq) (nI r) (nI m) := by
  simp (disch := omega) only [wpY_push, forall_eq, nI_leI, nI_ltI, nI_eq, vp_in_nI, nI_clamp, nI_add, nI_1, hz_na, hz_nup, true_implies, forall_const, not_true_eq_false, not_false_eq_true, false_implies, and_true, true_and, implies_true, and_self, if_true, if_false, ite_true, ite_false, reduceIte, ha_m4, ha_m8, ha_m5, ha_m32, ha_m64, ha_m300, ha_a4, ha_a16, ha_a300, ha_a600, ha_a900, ha_p8, ha_l4, ha_l5, ha_l8, ha_l32, ha_l36, ha_l64, ha_l128, ha_l256, ha_le7, ha_7lt, ha_e0, ha_e1, ha_e2, ha_e300, ha_le0, ha_lt0, ha_0le, ha_d8, ha_s1, ha_80, ha_10]
  exact h
theorem hy_shift21 {post : Int32 → SY → Prop} {r L : Nat} {x2 : Int32} {ln gq : Nat → Nat} (hr : r < 8) (hL : ln r = L) (hL3 : L ≤ 3) : ∀ (n k : Nat), L < n + k → k ≤ L →
    post x2 (kp, rd, lr, yw, yh, yv, yr, yk, ys, yp, yo, sc, st, yf, ho, hz_n (hz_shf gq r L), hz_n ln, fe, mo, ra, ac, lo, rq) → wY_shift_21 post (nI r) x2 kp rd lr n (nI k) yw yh yv yr yk ys yp yo sc st yf ho (hz_n (hz_shf gq r k)) (hz_n ln) fe mo ra ac lo rq := by
  intro n
  induction n with
  | zero => intro k h1 h2; omega
  | succ n ih =>
    intro k h1 h2 h
    by_cases e : k = L
    · subst e
      have e4 : ln r ≤ k := by omega
      simp (disch := omega) only [wY_shift_21, e4, forall_eq, nI_leI, nI_ltI, nI_eq, vp_in_nI, nI_clamp, nI_add, nI_1, hz_na, hz_nup, true_implies, forall_const, not_true_eq_false, not_false_eq_true, false_implies, and_true, true_and, implies_true, and_self, if_true, if_false, ite_true, ite_false, reduceIte, ha_m4, ha_m8, ha_m5, ha_m32, ha_m64, ha_m300, ha_a4, ha_a16, ha_a300, ha_a600, ha_a900, ha_p8, ha_l4, ha_l5, ha_l8, ha_l32, ha_l36, ha_l64, ha_l128, ha_l256, ha_le7, ha_7lt, ha_e0, ha_e1, ha_e2, ha_e300, ha_le0, ha_lt0, ha_0le, ha_d8, ha_s1, ha_80, ha_10]
      exact h
    · have e4 : ¬ ln r ≤ k := by omega
      have b : hz_shf gq r k (4 * r + k + 1) = gq (4 * r + k + 1) := by
        unfold hz_shf
        rw [if_neg (by omega)]
      have s : hz_u (hz_shf gq r k) (4 * r + k) (gq (4 * r + k + 1)) = hz_shf gq r (k + 1) := by
        funext j
        unfold hz_u hz_shf
        by_cases z : j = 4 * r + k
        · rw [if_pos z, if_pos ⟨by omega, by omega⟩, z]
        · rw [if_neg z]
          by_cases z2 : 4 * r ≤ j ∧ j < 4 * r + k
          · rw [if_pos z2, if_pos ⟨by omega, by omega⟩]
          · rw [if_neg z2, if_neg (by omega)]
      simp (disch := omega) only [wY_shift_21, e4, b, forall_eq, nI_leI, nI_ltI, nI_eq, vp_in_nI, nI_clamp, nI_add, nI_1, hz_na, hz_nup, true_implies, forall_const, not_true_eq_false, not_false_eq_true, false_implies, and_true, true_and, implies_true, and_self, if_true, if_false, ite_true, ite_false, reduceIte, ha_m4, ha_m8, ha_m5, ha_m32, ha_m64, ha_m300, ha_a4, ha_a16, ha_a300, ha_a600, ha_a900, ha_p8, ha_l4, ha_l5, ha_l8, ha_l32, ha_l36, ha_l64, ha_l128, ha_l256, ha_le7, ha_7lt, ha_e0, ha_e1, ha_e2, ha_e300, ha_le0, ha_lt0, ha_0le, ha_d8, ha_s1, ha_80, ha_10]
      rw [s]
      exact ih (k + 1) (by omega) (by omega) h
theorem hy_shift {post : Int32 → SY → Prop} {r : Nat} {ln gq : Nat → Nat} (hr : r < 8) (h4 : ln r ≤ 4) (h0 : 0 < ln r)
    (h : post (nI (gq (4 * r))) (kp, rd, lr, yw, yh, yv, yr, yk, ys, yp, yo, sc, st, yf, ho, hz_n (hz_shf gq r (ln r - 1)), hz_n (hz_u ln r (ln r - 1)), fe, mo, ra, ac, lo, rq)) : wpY_shift post (kp, rd, lr, yw, yh, yv, yr, yk, ys, yp, yo, sc, st, yf, ho, hz_n gq, hz_n ln, fe, mo, ra, ac, lo, rq) (nI r) := by
  simp (disch := omega) only [wpY_shift, forall_eq, nI_leI, nI_ltI, nI_eq, vp_in_nI, nI_clamp, nI_add, nI_1, hz_na, hz_nup, true_implies, forall_const, not_true_eq_false, not_false_eq_true, false_implies, and_true, true_and, implies_true, and_self, if_true, if_false, ite_true, ite_false, reduceIte, ha_m4, ha_m8, ha_m5, ha_m32, ha_m64, ha_m300, ha_a4, ha_a16, ha_a300, ha_a600, ha_a900, ha_p8, ha_l4, ha_l5, ha_l8, ha_l32, ha_l36, ha_l64, ha_l128, ha_l256, ha_le7, ha_7lt, ha_e0, ha_e1, ha_e2, ha_e300, ha_le0, ha_lt0, ha_0le, ha_d8, ha_s1, ha_80, ha_10]
  refine Exists.intro (ln r + 1) ?_
  have s : hz_shf gq r 0 = gq := by
    funext j
    unfold hz_shf
    rw [if_neg (by omega)]
  have := hy_shift21 (kp := kp) (rd := rd) (lr := lr) (yw := yw) (yh := yh) (yv := yv) (yr := yr) (yk := yk) (ys := ys) (yp := yp) (yo := yo) (sc := sc) (st := st) (yf := yf) (ho := ho) (fe := fe) (mo := mo) (ra := ra) (ac := ac) (lo := lo) (rq := rq) (gq := gq) (post := post) (x2 := nI (gq (4 * r))) (ln := hz_u ln r (ln r - 1)) hr hz_us (by omega) (ln r + 1) 0 (by omega) (by omega) h
  rw [s] at this
  exact this
theorem hy_gets16 {post : SY → Prop} {K t l : Nat} (hK : K ≤ 300) (ht : t < 4) (hl : l < 4) : ∀ (n i : Nat), K < n + i → i ≤ K →
    post (nI K, rd, lr, yw, yh, yv, yr, hz_gk yk yp t l K, ys, yp, yo, sc, st, yf, ho, ro, le, fe, mo, ra, ac, lo, rq) → wY_gets_16 post (nI t) (nI l) (nI K) rd lr n (nI i) yw yh yv yr (hz_gk yk yp t l i) ys yp yo sc st yf ho ro le fe mo ra ac lo rq := by
  intro n
  induction n with
  | zero => intro i h1 h2; omega
  | succ n ih =>
    intro i h1 h2 h
    by_cases e : i = K
    · subst e
      exact And.intro (fun _ => h) (fun z => absurd (Int32.le_refl _) z)
    · have e4 : ¬ K ≤ i := by omega
      by_cases z : yp (300 * l + i) = 0
      · have := ih (i + 1) (by omega) (by omega) h
        rw [← hz_gk_n z] at this
        simp (disch := omega) only [wY_gets_16, e4, z, forall_eq, nI_leI, nI_ltI, nI_eq, vp_in_nI, nI_clamp, nI_add, nI_1, hz_na, hz_nup, true_implies, forall_const, not_true_eq_false, not_false_eq_true, false_implies, and_true, true_and, implies_true, and_self, if_true, if_false, ite_true, ite_false, reduceIte, ha_m4, ha_m8, ha_m5, ha_m32, ha_m64, ha_m300, ha_a4, ha_a16, ha_a300, ha_a600, ha_a900, ha_p8, ha_l4, ha_l5, ha_l8, ha_l32, ha_l36, ha_l64, ha_l128, ha_l256, ha_le7, ha_7lt, ha_e0, ha_e1, ha_e2, ha_e300, ha_le0, ha_lt0, ha_0le, ha_d8, ha_s1, ha_80, ha_10]
        exact this
      · have := ih (i + 1) (by omega) (by omega) h
        rw [← hz_gk_s z] at this
        simp (disch := omega) only [wY_gets_16, e4, z, ha_vz1, forall_eq, nI_leI, nI_ltI, nI_eq, vp_in_nI, nI_clamp, nI_add, nI_1, hz_na, hz_nup, true_implies, forall_const, not_true_eq_false, not_false_eq_true, false_implies, and_true, true_and, implies_true, and_self, if_true, if_false, ite_true, ite_false, reduceIte, ha_m4, ha_m8, ha_m5, ha_m32, ha_m64, ha_m300, ha_a4, ha_a16, ha_a300, ha_a600, ha_a900, ha_p8, ha_l4, ha_l5, ha_l8, ha_l32, ha_l36, ha_l64, ha_l128, ha_l256, ha_le7, ha_7lt, ha_e0, ha_e1, ha_e2, ha_e300, ha_le0, ha_lt0, ha_0le, ha_d8, ha_s1, ha_80, ha_10]
        exact this
theorem hy_gets {post : SY → Prop} {K m l : Nat} (hK : K ≤ 300) (hm : m < 4) (hl : l < 4) (h : post (nI K, rd, lr, yw, yh, yv, yr, hz_gk yk yp m l K, ys, yp, yo, sc, upd st m 0, yf, upd ho l (nI m), ro, le, fe, mo, ra, ac, lo, rq)) : wpY_gets post (nI K, rd, lr, yw, yh, yv, yr, yk, ys, yp, yo, sc, st, yf, ho, ro, le, fe, mo, ra, ac, lo, rq) (nI m) (nI l) := by
  simp (disch := omega) only [wpY_gets, forall_eq, nI_leI, nI_ltI, nI_eq, vp_in_nI, nI_clamp, nI_add, nI_1, hz_na, hz_nup, true_implies, forall_const, not_true_eq_false, not_false_eq_true, false_implies, and_true, true_and, implies_true, and_self, if_true, if_false, ite_true, ite_false, reduceIte, ha_m4, ha_m8, ha_m5, ha_m32, ha_m64, ha_m300, ha_a4, ha_a16, ha_a300, ha_a600, ha_a900, ha_p8, ha_l4, ha_l5, ha_l8, ha_l32, ha_l36, ha_l64, ha_l128, ha_l256, ha_le7, ha_7lt, ha_e0, ha_e1, ha_e2, ha_e300, ha_le0, ha_lt0, ha_0le, ha_d8, ha_s1, ha_80, ha_10]
  refine Exists.intro (K + 1) ?_
  have := hy_gets16 (rd := rd) (lr := lr) (yw := yw) (yh := yh) (yv := yv) (yr := yr) (yk := yk) (ys := ys) (yp := yp) (yo := yo) (sc := sc) (st := upd st m 0) (yf := yf) (ho := upd ho l (nI m)) (ro := ro) (le := le) (fe := fe) (mo := mo) (ra := ra) (ac := ac) (lo := lo) (rq := rq) (post := post) hK hm hl (K + 1) 0 (by omega) (by omega) h
  rw [hz_gk_0] at this
  exact this
end YW
end
section
/-! K: the component's walks: pages -/
section XP
variable {th rd fb kp : Int32} {kX st ho ro le va sm wc wd wt nx fi la sn sc co hv ow rA wA fe mo ra ac lo rq : Nat → Int32}
variable {K m p o : Nat} {wo wh kn gc gd gx gf gl gs gm : Nat → Nat} {yr yv yo : Nat → Int32} {S : Nat → Nat → Prop}
theorem hx_unseen {post : Int32 → Prop} (hC : hr_C K wo wh yr sc yv gc gd wt gx gf gl gs S) (hK : K ≤ 300) (hm : m < 4) (hp : p < 8) (ho' : o < 4)
    (h : post (nI (hz_nx (hz_C wo wh yr sc o p) (gs (32 * m + 4 * p + o)) K))) : wpX_unseen post (th, rd, fb, kp, kX, st, ho, ro, le, va, sm, wc, wd, wt, hz_n gx, hz_n gf, la, hz_n gs, sc, co, hv, ow, rA, wA, fe, mo, ra, ac, lo, rq) (nI m) (nI p) (nI o) := by
  obtain ⟨h1, h2, h3, h4, h5⟩ := hC
  rcases h3 m p o hm hp ho' with z | ⟨i, hi, z, hc⟩
  · rw [z, ← (h2 o p ho' hp).1] at h
    simp (disch := omega) only [wpX_unseen, z, nI_0, forall_eq, nI_leI, nI_ltI, nI_eq, vp_in_nI, nI_clamp, nI_add, nI_1, hz_na, hz_nup, true_implies, forall_const, not_true_eq_false, not_false_eq_true, false_implies, and_true, true_and, implies_true, and_self, if_true, if_false, ite_true, ite_false, reduceIte, ha_m4, ha_m8, ha_m5, ha_m32, ha_m64, ha_m300, ha_a4, ha_a16, ha_a300, ha_a600, ha_a900, ha_p8, ha_l4, ha_l5, ha_l8, ha_l32, ha_l36, ha_l64, ha_l128, ha_l256, ha_le7, ha_7lt, ha_e0, ha_e1, ha_e2, ha_e300, ha_le0, ha_lt0, ha_0le, ha_d8, ha_s1, ha_80, ha_10]
    exact h
  · rw [z, ← (h1 o p i ho' hp hi hc).2.2.2] at h
    have e0 : ¬ i + 1 = 0 := by omega
    simp (disch := omega) only [wpX_unseen, z, e0, Nat.add_sub_cancel, forall_eq, nI_leI, nI_ltI, nI_eq, vp_in_nI, nI_clamp, nI_add, nI_1, hz_na, hz_nup, true_implies, forall_const, not_true_eq_false, not_false_eq_true, false_implies, and_true, true_and, implies_true, and_self, if_true, if_false, ite_true, ite_false, reduceIte, ha_m4, ha_m8, ha_m5, ha_m32, ha_m64, ha_m300, ha_a4, ha_a16, ha_a300, ha_a600, ha_a900, ha_p8, ha_l4, ha_l5, ha_l8, ha_l32, ha_l36, ha_l64, ha_l128, ha_l256, ha_le7, ha_7lt, ha_e0, ha_e1, ha_e2, ha_e300, ha_le0, ha_lt0, ha_0le, ha_d8, ha_s1, ha_80, ha_10]
    exact h
theorem hx_known0 {post : Int32 → Prop} {x y : Int32} (h : post 0) : wpX_isKnown post (th, rd, fb, kp, kX, st, ho, ro, le, va, sm, wc, wd, wt, nx, fi, la, sn, sc, co, hv, ow, rA, wA, fe, mo, ra, ac, lo, rq) x y (nI 0) := by
  unfold wpX_isKnown
  exact br_t (Int32.le_refl _) h
theorem hx_known {post : Int32 → Prop} {j : Nat} (hj : j < 300) (hm : m < 4) (ho' : o < 4) (hc : gc j ≤ 300) (hb : kn (4 * m + o) ≤ 300) (h1 : gc j ≤ kn (4 * m + o) → post 1) (h0 : ¬ gc j ≤ kn (4 * m + o) → post 0) : wpX_isKnown post (th, rd, fb, kp, hz_n kn, st, ho, ro, le, va, sm, hz_n gc, wd, wt, nx, fi, la, sn, sc, co, hv, ow, rA, wA, fe, mo, ra, ac, lo, rq) (nI m) (nI o) (nI (j + 1)) := by
  have e0 : ¬ j + 1 = 0 := by omega
  by_cases z : gc j ≤ kn (4 * m + o)
  · have z' : ¬ kn (4 * m + o) < gc j := by omega
    simp (disch := omega) only [wpX_isKnown, e0, z', Nat.add_sub_cancel, forall_eq, nI_leI, nI_ltI, nI_eq, vp_in_nI, nI_clamp, nI_add, nI_1, hz_na, hz_nup, true_implies, forall_const, not_true_eq_false, not_false_eq_true, false_implies, and_true, true_and, implies_true, and_self, if_true, if_false, ite_true, ite_false, reduceIte, ha_m4, ha_m8, ha_m5, ha_m32, ha_m64, ha_m300, ha_a4, ha_a16, ha_a300, ha_a600, ha_a900, ha_p8, ha_l4, ha_l5, ha_l8, ha_l32, ha_l36, ha_l64, ha_l128, ha_l256, ha_le7, ha_7lt, ha_e0, ha_e1, ha_e2, ha_e300, ha_le0, ha_lt0, ha_0le, ha_d8, ha_s1, ha_80, ha_10]
    exact h1 z
  · have z' : kn (4 * m + o) < gc j := by omega
    simp (disch := omega) only [wpX_isKnown, e0, z', Nat.add_sub_cancel, forall_eq, nI_leI, nI_ltI, nI_eq, vp_in_nI, nI_clamp, nI_add, nI_1, hz_na, hz_nup, true_implies, forall_const, not_true_eq_false, not_false_eq_true, false_implies, and_true, true_and, implies_true, and_self, if_true, if_false, ite_true, ite_false, reduceIte, ha_m4, ha_m8, ha_m5, ha_m32, ha_m64, ha_m300, ha_a4, ha_a16, ha_a300, ha_a600, ha_a900, ha_p8, ha_l4, ha_l5, ha_l8, ha_l32, ha_l36, ha_l64, ha_l128, ha_l256, ha_le7, ha_7lt, ha_e0, ha_e1, ha_e2, ha_e300, ha_le0, ha_lt0, ha_0le, ha_d8, ha_s1, ha_80, ha_10]
    exact h0 z
/-- a chain's first unseen write is known -/
def hz_kn1 (K : Nat) (wo wh kn gs : Nat → Nat) (yr sc : Nat → Int32) (m p o : Nat) : Prop := ∃ j, hz_nx (hz_C wo wh yr sc o p) (gs (32 * m + 4 * p + o)) K = j + 1 ∧ hz_kw kn wo m j
theorem hx_known_nx {post : Int32 → Prop} (hC : hr_C K wo wh yr sc yv gc gd wt gx gf gl gs S) (hK : K ≤ 300) (hb : ∀ j, kn j ≤ 300) (hm : m < 4) (hp : p < 8) (ho' : o < 4)
    (h1 : hz_kn1 K wo wh kn gs yr sc m p o → post 1) (h0 : ¬ hz_kn1 K wo wh kn gs yr sc m p o → post 0) :
    wpX_isKnown post (th, rd, fb, kp, hz_n kn, st, ho, ro, le, va, sm, hz_n gc, wd, wt, nx, fi, la, sn, sc, co, hv, ow, rA, wA, fe, mo, ra, ac, lo, rq) (nI m) (nI o) (nI (hz_nx (hz_C wo wh yr sc o p) (gs (32 * m + 4 * p + o)) K)) := by
  rcases Nat.eq_zero_or_pos (hz_nx (hz_C wo wh yr sc o p) (gs (32 * m + 4 * p + o)) K) with e | e
  · rw [e]
    refine hx_known0 (h0 ?_)
    rintro ⟨j, e1, _⟩
    omega
  · obtain ⟨j, ej⟩ : ∃ j, hz_nx (hz_C wo wh yr sc o p) (gs (32 * m + 4 * p + o)) K = j + 1 := ⟨hz_nx (hz_C wo wh yr sc o p) (gs (32 * m + 4 * p + o)) K - 1, by omega⟩
    obtain ⟨i1, i2, i3, i4⟩ := hz_nx_at ej
    have hg := (hC.1 o p j ho' hp i2 i3).1
    have hn : hz_num wo j ≤ 300 := by
      have := hz_num_le (wo := wo) i2
      have := hz_ct_le wo (wo j) K
      omega
    rw [ej]
    refine hx_known (by omega) hm ho' (by omega) (hb _) ?_ ?_
    · intro z
      refine h1 ⟨j, ej, ?_⟩
      unfold hz_kw
      rw [i3.1, ← hg]
      exact z
    · intro z
      refine h0 ?_
      rintro ⟨j', e1, e2⟩
      have : j' = j := by omega
      rw [this] at e2
      unfold hz_kw at e2
      rw [i3.1, ← hg] at e2
      exact z e2
theorem hx_stale2 {post : Int32 → Prop} (hC : hr_C K wo wh yr sc yv gc gd wt gx gf gl gs S) (hK : K ≤ 300) (hb : ∀ j, kn j ≤ 300) (hm : m < 4) (hp : p < 8) : ∀ (n k : Nat), 4 < n + k → k ≤ 4 →
    ((∃ o, k ≤ o ∧ o < 4 ∧ o ≠ m ∧ hz_kn1 K wo wh kn gs yr sc m p o) → post 1) → ((¬ ∃ o, k ≤ o ∧ o < 4 ∧ o ≠ m ∧ hz_kn1 K wo wh kn gs yr sc m p o) → post 0) →
    wX_isStale_2 post (nI m) (nI p) th rd fb kp (hz_n kn) st ho ro le va sm (hz_n gc) wd wt (hz_n gx) (hz_n gf) la (hz_n gs) sc co hv ow rA wA fe mo ra ac lo rq n (nI k) := by
  intro n
  induction n with
  | zero => intro k h1 h2; omega
  | succ n ih =>
    intro k h1 h2 hy hn
    by_cases e : k = 4
    · subst e
      exact And.intro (fun _ => hn (fun ⟨o, o1, o2, _⟩ => by omega)) (fun z => absurd (Int32.le_refl _) z)
    · refine And.intro (fun z => absurd z (nI_ge (b := 4) (by omega) (by decide))) (fun _ => ?_)
      have stp : ¬ (k ≠ m ∧ hz_kn1 K wo wh kn gs yr sc m p k) → wX_isStale_2 post (nI m) (nI p) th rd fb kp (hz_n kn) st ho ro le va sm (hz_n gc) wd wt (hz_n gx) (hz_n gf) la (hz_n gs) sc co hv ow rA wA fe mo ra ac lo rq n (nI (k + 1)) := by
        intro z
        refine ih (k + 1) (by omega) (by omega) ?_ ?_
        · rintro ⟨o, o1, o2, o3, o4⟩
          exact hy ⟨o, by omega, o2, o3, o4⟩
        · intro q
          refine hn ?_
          rintro ⟨o, o1, o2, o3, o4⟩
          by_cases eo : o = k
          · rw [eo] at o3 o4
            exact z ⟨o3, o4⟩
          · exact q ⟨o, by omega, o2, o3, o4⟩
      by_cases em : k = m
      · refine br_t (by rw [em]) (nm_r (nI_1 k) (stp (fun z => z.1 em)))
      · refine br_f (fun z => em ((nI_eq (by omega) (by omega)).mp z)) ?_
        refine hx_unseen hC hK hm hp (by omega) ?_
        refine hx_known_nx hC hK hb hm hp (by omega) ?_ ?_
        · intro z
          exact br_f (by decide) (hy ⟨k, Nat.le_refl _, by omega, em, z⟩)
        · intro z
          exact br_t rfl (nm_r (nI_1 k) (stp (fun q => z q.2)))
theorem hx_stale {post : Int32 → Prop} (hC : hr_C K wo wh yr sc yv gc gd wt gx gf gl gs S) (hwo : ∀ i, wo i < 4) (hK : K ≤ 300) (hb : ∀ j, kn j ≤ 300) (hm : m < 4) (hp : p < 8)
    (h1 : (∃ i, i < K ∧ hz_F wo wh kn yr sc S m p i) → post 1) (h0 : (¬ ∃ i, i < K ∧ hz_F wo wh kn yr sc S m p i) → post 0) :
    wpX_isStale post (th, rd, fb, kp, hz_n kn, st, ho, ro, le, va, sm, hz_n gc, wd, wt, hz_n gx, hz_n gf, la, hz_n gs, sc, co, hv, ow, rA, wA, fe, mo, ra, ac, lo, rq) (nI m) (nI p) := by
  unfold wpX_isStale
  refine Exists.intro 5 (hx_stale2 hC hK hb hm hp 5 0 (by omega) (by omega) ?_ ?_)
  · rintro ⟨o, _, o2, o3, j, e1, e2⟩
    exact h1 ⟨j, hz_F_of hC hm hp o2 o3 e1 e2⟩
  · intro z
    refine h0 ?_
    rintro ⟨i, hi, hF⟩
    obtain ⟨ne, j, e1, e2⟩ := hz_F_to hC hwo hm hp hi hF
    exact z ⟨wo i, Nat.zero_le _, hwo i, ne, j, e1, e2⟩
theorem hx_see {post : SX → Prop} {i w g : Nat} (hi : i < 300) (hd : gd i = w) (hw : w < 64) (hm : m < 4) (hg : gm (64 * m + w) ≤ 300)
    (h : ∀ (gm' : Nat → Nat) (va' : Nat → Int32), ((gm (64 * m + w) ≤ i + 1 ∧ gm' = hz_u gm (64 * m + w) (i + 1) ∧ va' = upd va (64 * m + w) (wt i)) ∨ (¬ gm (64 * m + w) ≤ i + 1 ∧ gm' = gm ∧ va' = va)) →
      post (th, rd, nI (g ||| 2 ^ (w % 8)), kp, kX, st, ho, ro, le, va', hz_n gm', wc, hz_n gd, wt, nx, fi, la, sn, sc, co, hv, ow, rA, wA, fe, mo, ra, ac, lo, rq)) : wpX_see post (th, rd, nI g, kp, kX, st, ho, ro, le, va, hz_n gm, wc, hz_n gd, wt, nx, fi, la, sn, sc, co, hv, ow, rA, wA, fe, mo, ra, ac, lo, rq) (nI m) (nI (i + 1)) := by
  by_cases z : gm (64 * m + w) ≤ i + 1
  · simp (disch := omega) only [wpX_see, hd, z, Nat.add_sub_cancel, ha_and7, ha_sh1, ha_or, ha_ns, ha_vs, forall_eq, nI_leI, nI_ltI, nI_eq, vp_in_nI, nI_clamp, nI_add, nI_1, hz_na, hz_nup, true_implies, forall_const, not_true_eq_false, not_false_eq_true, false_implies, and_true, true_and, implies_true, and_self, if_true, if_false, ite_true, ite_false, reduceIte, ha_m4, ha_m8, ha_m5, ha_m32, ha_m64, ha_m300, ha_a4, ha_a16, ha_a300, ha_a600, ha_a900, ha_p8, ha_l4, ha_l5, ha_l8, ha_l32, ha_l36, ha_l64, ha_l128, ha_l256, ha_le7, ha_7lt, ha_e0, ha_e1, ha_e2, ha_e300, ha_le0, ha_lt0, ha_0le, ha_d8, ha_s1, ha_80, ha_10]
    exact h _ _ (Or.inl ⟨z, rfl, rfl⟩)
  · simp (disch := omega) only [wpX_see, hd, z, Nat.add_sub_cancel, ha_and7, ha_sh1, ha_or, ha_ns, ha_vs, forall_eq, nI_leI, nI_ltI, nI_eq, vp_in_nI, nI_clamp, nI_add, nI_1, hz_na, hz_nup, true_implies, forall_const, not_true_eq_false, not_false_eq_true, false_implies, and_true, true_and, implies_true, and_self, if_true, if_false, ite_true, ite_false, reduceIte, ha_m4, ha_m8, ha_m5, ha_m32, ha_m64, ha_m300, ha_a4, ha_a16, ha_a300, ha_a600, ha_a900, ha_p8, ha_l4, ha_l5, ha_l8, ha_l32, ha_l36, ha_l64, ha_l128, ha_l256, ha_le7, ha_7lt, ha_e0, ha_e1, ha_e2, ha_e300, ha_le0, ha_lt0, ha_0le, ha_d8, ha_s1, ha_80, ha_10]
    exact h _ _ (Or.inr ⟨z, rfl, rfl⟩)
theorem hx_size4 {post : Int32 → Prop} : ∀ (n s a : Nat), s < 256 → s < n → post (nI (a + hz_pc s)) → wX_size_4 post n (nI a) (nI s) := by
  intro n
  induction n with
  | zero => intro s a h1 h2; omega
  | succ n ih =>
    intro s a h1 h2 h
    by_cases e : s = 0
    · subst e
      rw [hz_pc_0] at h
      exact And.intro (fun _ => h) (fun z => absurd rfl z)
    · have ⟨p1, p2⟩ := hz_pc_s s h1 e
      have := ih (s &&& (s - 1)) (a + 1) (by omega) (by omega) (by rw [show a + 1 + hz_pc (s &&& (s - 1)) = a + hz_pc s from by omega]; exact h)
      simp (disch := omega) only [wX_size_4, e, nx_and, forall_eq, nI_leI, nI_ltI, nI_eq, vp_in_nI, nI_clamp, nI_add, nI_1, hz_na, hz_nup, true_implies, forall_const, not_true_eq_false, not_false_eq_true, false_implies, and_true, true_and, implies_true, and_self, if_true, if_false, ite_true, ite_false, reduceIte, ha_m4, ha_m8, ha_m5, ha_m32, ha_m64, ha_m300, ha_a4, ha_a16, ha_a300, ha_a600, ha_a900, ha_p8, ha_l4, ha_l5, ha_l8, ha_l32, ha_l36, ha_l64, ha_l128, ha_l256, ha_le7, ha_7lt, ha_e0, ha_e1, ha_e2, ha_e300, ha_le0, ha_lt0, ha_0le, ha_d8, ha_s1, ha_80, ha_10]
      exact this
theorem hx_size {post : Int32 → Prop} {s : Nat} (hs : s < 256) (h : post (nI (hz_pc s))) : wpX_size post (nI s) := by
  unfold wpX_size
  refine Exists.intro (s + 1) ?_
  have := hx_size4 (post := post) (s + 1) s 0 hs (by omega) (by rw [Nat.zero_add]; exact h)
  exact this
end XP
end
section
/-! L: the component's walks: all known writes of a page are seen -/
section XB
variable {th rd fb kp : Int32} {kX st ho ro le va sm wc wd wt nx fi la sn sc co hv ow rA wA fe mo ra ac lo rq : Nat → Int32}
variable {K m p o : Nat} {wo wh kn gc gd gx gf gl : Nat → Nat} {yr yv yo : Nat → Int32}
theorem hz_kn1_n {gs : Nat → Nat} {S : Nat → Nat → Prop} (hC : hr_C K wo wh yr sc yv gc gd wt gx gf gl gs S) (hm : m < 4) (hp : p < 8) (ho' : o < 4) (hne : o ≠ m) (h : ¬ hz_kn1 K wo wh kn gs yr sc m p o) :
    ∀ i, i < K → hz_C wo wh yr sc o p i → hz_kw kn wo m i → S m i := by
  refine hz_F_none hC hm hp ho' hne ?_
  rcases Nat.eq_zero_or_pos (hz_nx (hz_C wo wh yr sc o p) (gs (32 * m + 4 * p + o)) K) with e | e
  · exact Or.inl e
  · refine Or.inr ⟨hz_nx (hz_C wo wh yr sc o p) (gs (32 * m + 4 * p + o)) K - 1, by omega, fun z => h ⟨_, ?_, z⟩⟩
    omega
theorem hx_b29 (hwh : ∀ i, wh i < 64) (hK : K ≤ 300) (hb : ∀ j, kn j ≤ 300) (hm : m < 4) (hp : p < 8) (ho' : o < 4) (hne : o ≠ m) : ∀ (d : Nat) (gs gm : Nat → Nat) (va : Nat → Int32) (g : Nat) (S : Nat → Nat → Prop),
    hr_C K wo wh yr sc yv gc gd wt gx gf gl gs S → hr_V K wh yr sc yv yo gm va S → g < 256 → K - gs (32 * m + 4 * p + o) ≤ d →
    ∃ (gs' gm' : Nat → Nat) (va' : Nat → Int32) (g' : Nat) (S' : Nat → Nat → Prop), hr_C K wo wh yr sc yv gc gd wt gx gf gl gs' S' ∧ hr_V K wh yr sc yv yo gm' va' S' ∧ g' < 256 ∧
      (∀ m' j, S' m' j ↔ S m' j ∨ (m' = m ∧ j < K ∧ hz_C wo wh yr sc o p j ∧ hz_kw kn wo m j)) ∧
      (∀ q, q < 8 → (g'.testBit q = true ↔ g.testBit q = true ∨ ∃ j, j < K ∧ hz_C wo wh yr sc o p j ∧ hz_kw kn wo m j ∧ ¬ S m j ∧ wh j % 8 = q)) ∧
      ∀ (post : SX → Prop) (J7 : Int32 → Int32 → Int32 → Int32 → Int32 → (Nat → Int32) → (Nat → Int32) → (Nat → Int32) → (Nat → Int32) → (Nat → Int32) → (Nat → Int32) → (Nat → Int32) → (Nat → Int32) → (Nat → Int32) → (Nat → Int32) → (Nat → Int32) → (Nat → Int32) → (Nat → Int32) → (Nat → Int32) → (Nat → Int32) → (Nat → Int32) → (Nat → Int32) → (Nat → Int32) → (Nat → Int32) → (Nat → Int32) → (Nat → Int32) → (Nat → Int32) → (Nat → Int32) → (Nat → Int32) → (Nat → Int32) → (Nat → Int32) → Prop) (n : Nat), d < n →
        J7 (nI (o + 1)) th rd (nI g') kp (hz_n kn) st ho ro le va' (hz_n gm') (hz_n gc) (hz_n gd) wt (hz_n gx) (hz_n gf) la (hz_n gs') sc co hv ow rA wA fe mo ra ac lo rq →
        wX_bring_29 post J7 (nI m) (nI p) (nI o) n (nI (hz_nx (hz_C wo wh yr sc o p) (gs (32 * m + 4 * p + o)) K)) th rd (nI g) kp (hz_n kn) st ho ro le va (hz_n gm) (hz_n gc) (hz_n gd) wt (hz_n gx) (hz_n gf) la (hz_n gs) sc co hv ow rA wA fe mo ra ac lo rq := by
  intro d
  induction d with
  | zero =>
    intro gs gm va g S hC hV hg hd
    have nk : ¬ hz_kn1 K wo wh kn gs yr sc m p o := by
      rintro ⟨j, e1, _⟩
      have := hz_nx_at e1
      omega
    refine ⟨gs, gm, va, g, S, hC, hV, hg, ?_, ?_, ?_⟩
    · intro m' j
      refine ⟨Or.inl, ?_⟩
      rintro (z | ⟨z1, z2, z3, z4⟩)
      · exact z
      · rw [z1]; exact hz_kn1_n hC hm hp ho' hne nk j z2 z3 z4
    · intro q hq
      refine ⟨Or.inl, ?_⟩
      rintro (z | ⟨j, z2, z3, z4, z5, _⟩)
      · exact z
      · exact absurd (hz_kn1_n hC hm hp ho' hne nk j z2 z3 z4) z5
    · intro post J7 n hn h
      obtain ⟨n, rfl⟩ : ∃ n', n = n' + 1 := ⟨n - 1, by omega⟩
      rw [wX_bring_29]
      refine hx_known_nx hC hK hb hm hp ho' (fun z => absurd z nk) (fun _ => br_t rfl (nm_r (nI_1 o) h))
  | succ d ih =>
    intro gs gm va g S hC hV hg hd
    by_cases nk : hz_kn1 K wo wh kn gs yr sc m p o
    · obtain ⟨i, e1, e2⟩ := nk
      obtain ⟨i1, i2, i3, i4⟩ := hz_nx_at e1
      obtain ⟨c1, c2, c3, c4⟩ := hC.1 o p i ho' hp i2 i3
      have nS : ¬ S m i := (hz_F_of hC hm hp ho' hne e1 e2).2.2.2.2.2
      have hgm : gm (64 * m + wh i) ≤ 300 := by
        rw [hV.1 m (wh i) hm (hwh i)]
        have := hz_la_le (hz_Q wh yr sc S m (wh i)) K
        omega
      have hC1 := hr_C_see hC hm hp ho' hne e1
      obtain ⟨gm1, va1, hg1⟩ : ∃ (gm1 : Nat → Nat) (va1 : Nat → Int32), (gm (64 * m + wh i) ≤ i + 1 ∧ gm1 = hz_u gm (64 * m + wh i) (i + 1) ∧ va1 = upd va (64 * m + wh i) (wt i)) ∨ (¬ gm (64 * m + wh i) ≤ i + 1 ∧ gm1 = gm ∧ va1 = va) := by
        by_cases z : gm (64 * m + wh i) ≤ i + 1
        · exact ⟨_, _, Or.inl ⟨z, rfl, rfl⟩⟩
        · exact ⟨_, _, Or.inr ⟨z, rfl, rfl⟩⟩
      have hV1 := hr_V_see (o := o) (p := p) hwh hV hm i2 i3 c3 hg1
      have hw8 : 2 ^ (wh i % 8) < 2 ^ 8 := Nat.pow_lt_pow_right (by omega) (by omega)
      have hg2 : (g ||| 2 ^ (wh i % 8)) < 256 := Nat.or_lt_two_pow (n := 8) hg hw8
      obtain ⟨gs', gm', va', g', S', r1, r2, r3, r4, r5, r6⟩ := ih _ gm1 va1 _ _ hC1 hV1 hg2 (by rw [hz_us]; omega)
      refine ⟨gs', gm', va', g', S', r1, r2, r3, ?_, ?_, ?_⟩
      · intro m' j
        rw [r4 m' j]
        constructor
        · rintro ((z | ⟨z1, z2⟩) | z)
          · exact Or.inl z
          · exact Or.inr ⟨z1, by rw [z2]; exact i2, by rw [z2]; exact i3, by rw [z2]; exact e2⟩
          · exact Or.inr z
        · rintro (z | z)
          · exact Or.inl (Or.inl z)
          · exact Or.inr z
      · intro q hq
        rw [r5 q hq, Nat.testBit_or, Nat.testBit_two_pow]
        constructor
        · rintro (z | ⟨j, z1, z2, z3, z4, z5⟩)
          · rw [Bool.or_eq_true, decide_eq_true_eq] at z
            rcases z with z | z
            · exact Or.inl z
            · exact Or.inr ⟨i, i2, i3, e2, nS, z⟩
          · exact Or.inr ⟨j, z1, z2, z3, fun y => z4 (Or.inl y), z5⟩
        · rintro (z | ⟨j, z1, z2, z3, z4, z5⟩)
          · exact Or.inl (by rw [z, Bool.true_or])
          · by_cases ej : j = i
            · rw [ej] at z5
              exact Or.inl (by rw [decide_eq_true z5, Bool.or_true])
            · exact Or.inr ⟨j, z1, z2, z3, fun y => y.elim z4 (fun y => ej y.2), z5⟩
      · intro post J7 n hn h
        obtain ⟨n, rfl⟩ : ∃ n', n = n' + 1 := ⟨n - 1, by omega⟩
        have r := r6 post J7 n (by omega) h
        rw [hz_us, ← c4] at r
        rw [wX_bring_29]
        refine hx_known_nx hC hK hb hm hp ho' (fun _ => br_f (by decide) ?_) (fun z => absurd ⟨i, e1, e2⟩ z)
        rw [e1]
        refine hx_see (by omega) c2 (hwh i) hm hgm ?_
        intro gm2 va2 hg3
        have eq : gm2 = gm1 ∧ va2 = va1 := by
          rcases hg1 with ⟨a1, a2, a3⟩ | ⟨a1, a2, a3⟩ <;> rcases hg3 with ⟨b1, b2, b3⟩ | ⟨b1, b2, b3⟩
          · exact ⟨b2.trans a2.symm, b3.trans a3.symm⟩
          · exact absurd a1 b1
          · exact absurd b1 a1
          · exact ⟨b2.trans a2.symm, b3.trans a3.symm⟩
        rw [eq.1, eq.2]
        have hi3 : i + 1 < 32768 := by omega
        have hi4 : i < 300 := by omega
        simp (disch := omega) only [Nat.add_sub_cancel, ha_ns, ha_vs, forall_eq, nI_leI, nI_ltI, nI_eq, vp_in_nI, nI_clamp, nI_add, nI_1, hz_na, hz_nup, true_implies, forall_const, not_true_eq_false, not_false_eq_true, false_implies, and_true, true_and, implies_true, and_self, if_true, if_false, ite_true, ite_false, reduceIte, ha_m4, ha_m8, ha_m5, ha_m32, ha_m64, ha_m300, ha_a4, ha_a16, ha_a300, ha_a600, ha_a900, ha_p8, ha_l4, ha_l5, ha_l8, ha_l32, ha_l36, ha_l64, ha_l128, ha_l256, ha_le7, ha_7lt, ha_e0, ha_e1, ha_e2, ha_e300, ha_le0, ha_lt0, ha_0le, ha_d8, ha_s1, ha_80, ha_10]
        exact r
    · refine ⟨gs, gm, va, g, S, hC, hV, hg, ?_, ?_, ?_⟩
      · intro m' j
        refine ⟨Or.inl, ?_⟩
        rintro (z | ⟨z1, z2, z3, z4⟩)
        · exact z
        · rw [z1]; exact hz_kn1_n hC hm hp ho' hne nk j z2 z3 z4
      · intro q hq
        refine ⟨Or.inl, ?_⟩
        rintro (z | ⟨j, z2, z3, z4, z5, _⟩)
        · exact z
        · exact absurd (hz_kn1_n hC hm hp ho' hne nk j z2 z3 z4) z5
      · intro post J7 n hn h
        obtain ⟨n, rfl⟩ : ∃ n', n = n' + 1 := ⟨n - 1, by omega⟩
        rw [wX_bring_29]
        refine hx_known_nx hC hK hb hm hp ho' (fun z => absurd z nk) (fun _ => br_t rfl (nm_r (nI_1 o) h))
/-- the known writes of machines from k on to a page -/
def hz_T (K : Nat) (wo wh kn : Nat → Nat) (yr sc : Nat → Int32) (m p k j : Nat) : Prop := j < K ∧ k ≤ wo j ∧ wo j ≠ m ∧ hz_C wo wh yr sc (wo j) p j ∧ hz_kw kn wo m j
theorem hx_b7 (hwo : ∀ i, wo i < 4) (hwh : ∀ i, wh i < 64) (hK : K ≤ 300) (hb : ∀ j, kn j ≤ 300) (hm : m < 4) (hp : p < 8) : ∀ (e k : Nat), k + e = 4 → ∀ (gs gm : Nat → Nat) (va : Nat → Int32) (g : Nat) (S : Nat → Nat → Prop),
    hr_C K wo wh yr sc yv gc gd wt gx gf gl gs S → hr_V K wh yr sc yv yo gm va S → g < 256 →
    ∃ (gs' gm' : Nat → Nat) (va' : Nat → Int32) (g' : Nat) (S' : Nat → Nat → Prop), hr_C K wo wh yr sc yv gc gd wt gx gf gl gs' S' ∧ hr_V K wh yr sc yv yo gm' va' S' ∧ g' < 256 ∧
      (∀ m' j, S' m' j ↔ S m' j ∨ (m' = m ∧ hz_T K wo wh kn yr sc m p k j)) ∧
      (∀ q, q < 8 → (g'.testBit q = true ↔ g.testBit q = true ∨ ∃ j, hz_T K wo wh kn yr sc m p k j ∧ ¬ S m j ∧ wh j % 8 = q)) ∧
      ∀ (post : SX → Prop) (n : Nat), e < n →
        post (th, rd, nI g', kp, hz_n kn, st, ho, ro, le, va', hz_n gm', hz_n gc, hz_n gd, wt, hz_n gx, hz_n gf, la, hz_n gs', sc, co, hv, ow, rA, wA, fe, mo, ra, ac, lo, rq) →
        wX_bring_7 post (nI m) (nI p) n (nI k) th rd (nI g) kp (hz_n kn) st ho ro le va (hz_n gm) (hz_n gc) (hz_n gd) wt (hz_n gx) (hz_n gf) la (hz_n gs) sc co hv ow rA wA fe mo ra ac lo rq := by
  intro e
  induction e with
  | zero =>
    intro k hk gs gm va g S hC hV hg
    have ek : k = 4 := by omega
    subst ek
    refine ⟨gs, gm, va, g, S, hC, hV, hg, ?_, ?_, ?_⟩
    · intro m' j
      refine ⟨Or.inl, ?_⟩
      rintro (z | ⟨_, _, z, _⟩)
      · exact z
      · have := hwo j; omega
    · intro q hq
      refine ⟨Or.inl, ?_⟩
      rintro (z | ⟨j, ⟨_, z, _⟩, _⟩)
      · exact z
      · have := hwo j; omega
    · intro post n hn h
      obtain ⟨n, rfl⟩ : ∃ n', n = n' + 1 := ⟨n - 1, by omega⟩
      exact And.intro (fun _ => h) (fun z => absurd (Int32.le_refl _) z)
  | succ e ih =>
    intro k hk gs gm va g S hC hV hg
    have k4 : ¬ (4 : Int32) ≤ nI k := nI_ge (b := 4) (by omega) (by decide)
    by_cases em : k = m
    · obtain ⟨gs', gm', va', g', S', r1, r2, r3, r4, r5, r6⟩ := ih (k + 1) (by omega) gs gm va g S hC hV hg
      have tT : ∀ j, hz_T K wo wh kn yr sc m p (k + 1) j ↔ hz_T K wo wh kn yr sc m p k j := by
        intro j
        unfold hz_T
        constructor
        · rintro ⟨z1, z2, z3, z4⟩; exact ⟨z1, by omega, z3, z4⟩
        · rintro ⟨z1, z2, z3, z4⟩; exact ⟨z1, by omega, z3, z4⟩
      refine ⟨gs', gm', va', g', S', r1, r2, r3, ?_, ?_, ?_⟩
      · intro m' j; rw [r4 m' j, tT]
      · intro q hq
        rw [r5 q hq]
        constructor
        · rintro (z | ⟨j, z1, z2⟩)
          · exact Or.inl z
          · exact Or.inr ⟨j, (tT j).mp z1, z2⟩
        · rintro (z | ⟨j, z1, z2⟩)
          · exact Or.inl z
          · exact Or.inr ⟨j, (tT j).mpr z1, z2⟩
      · intro post n hn h
        obtain ⟨n, rfl⟩ : ∃ n', n = n' + 1 := ⟨n - 1, by omega⟩
        exact And.intro (fun z => absurd z k4) (fun _ => br_t (by rw [em]) (nm_r (nI_1 k) (r6 post n (by omega) h)))
    · obtain ⟨gs1, gm1, va1, g1, S1, s1, s2, s3, s4, s5, s6⟩ := hx_b29 (th := th) (rd := rd) (kp := kp) (st := st) (ho := ho) (ro := ro) (le := le) (la := la) (co := co) (hv := hv) (ow := ow) (rA := rA) (wA := wA) (fe := fe) (mo := mo) (ra := ra) (ac := ac) (lo := lo) (rq := rq) (o := k) hwh hK hb hm hp (by omega) em K gs gm va g S hC hV hg (by omega)
      obtain ⟨gs', gm', va', g', S', r1, r2, r3, r4, r5, r6⟩ := ih (k + 1) (by omega) gs1 gm1 va1 g1 S1 s1 s2 s3
      have tT : ∀ j, hz_T K wo wh kn yr sc m p k j ↔ (j < K ∧ hz_C wo wh yr sc k p j ∧ hz_kw kn wo m j) ∨ hz_T K wo wh kn yr sc m p (k + 1) j := by
        intro j
        unfold hz_T
        constructor
        · rintro ⟨z1, z2, z3, z4, z5⟩
          by_cases ew : wo j = k
          · rw [ew] at z4; exact Or.inl ⟨z1, z4, z5⟩
          · exact Or.inr ⟨z1, by omega, z3, z4, z5⟩
        · rintro (⟨z1, z2, z3⟩ | ⟨z1, z2, z3, z4, z5⟩)
          · have ew := z2.1
            exact ⟨z1, by omega, by omega, by rw [ew]; exact z2, z3⟩
          · exact ⟨z1, by omega, z3, z4, z5⟩
      refine ⟨gs', gm', va', g', S', r1, r2, r3, ?_, ?_, ?_⟩
      · intro m' j
        rw [r4 m' j, s4 m' j, tT]
        constructor
        · rintro ((z | ⟨z1, z2⟩) | ⟨z1, z2⟩)
          · exact Or.inl z
          · exact Or.inr ⟨z1, Or.inl z2⟩
          · exact Or.inr ⟨z1, Or.inr z2⟩
        · rintro (z | ⟨z1, z2 | z2⟩)
          · exact Or.inl (Or.inl z)
          · exact Or.inl (Or.inr ⟨z1, z2⟩)
          · exact Or.inr ⟨z1, z2⟩
      · intro q hq
        rw [r5 q hq, s5 q hq]
        constructor
        · rintro ((z | ⟨j, z1, z2, z3, z4, z5⟩) | ⟨j, z1, z2, z3⟩)
          · exact Or.inl z
          · exact Or.inr ⟨j, (tT j).mpr (Or.inl ⟨z1, z2, z3⟩), z4, z5⟩
          · exact Or.inr ⟨j, (tT j).mpr (Or.inr z1), fun y => z2 ((s4 m j).mpr (Or.inl y)), z3⟩
        · rintro (z | ⟨j, z1, z2, z3⟩)
          · exact Or.inl (Or.inl z)
          · by_cases y : j < K ∧ hz_C wo wh yr sc k p j ∧ hz_kw kn wo m j
            · exact Or.inl (Or.inr ⟨j, y.1, y.2.1, y.2.2, z2, z3⟩)
            · refine Or.inr ⟨j, ((tT j).mp z1).resolve_left y, fun x => ?_, z3⟩
              rcases (s4 m j).mp x with x | ⟨_, x⟩
              · exact z2 x
              · exact y x
      · intro post n hn h
        obtain ⟨n, rfl⟩ : ∃ n', n = n' + 1 := ⟨n - 1, by omega⟩
        refine And.intro (fun z => absurd z k4) (fun _ => br_f (fun z => em ((nI_eq (by omega) (by omega)).mp z)) ?_)
        refine hx_unseen hC hK hm hp (by omega) ?_
        exact Exists.intro (K + 1) (s6 post _ (K + 1) (by omega) (r6 post n (by omega) h))
/-- all known writes of a page are seen -/
theorem hx_bring (hwo : ∀ i, wo i < 4) (hwh : ∀ i, wh i < 64) (hK : K ≤ 300) (hb : ∀ j, kn j ≤ 300) (hm : m < 4) (hp : p < 8) {gs gm : Nat → Nat} {va : Nat → Int32} {S : Nat → Nat → Prop}
    (hC : hr_C K wo wh yr sc yv gc gd wt gx gf gl gs S) (hV : hr_V K wh yr sc yv yo gm va S) :
    ∃ (gs' gm' : Nat → Nat) (va' : Nat → Int32) (g' : Nat) (S' : Nat → Nat → Prop), hr_C K wo wh yr sc yv gc gd wt gx gf gl gs' S' ∧ hr_V K wh yr sc yv yo gm' va' S' ∧ g' < 256 ∧
      (∀ m' j, j < K → (S' m' j ↔ S m' j ∨ (m' = m ∧ hz_F wo wh kn yr sc S m p j))) ∧
      (∀ q, q < 8 → (g'.testBit q = true ↔ ∃ j, j < K ∧ hz_F wo wh kn yr sc S m p j ∧ wh j = 8 * p + q)) ∧
      ∀ (post : SX → Prop), post (th, rd, nI g', kp, hz_n kn, st, ho, ro, le, va', hz_n gm', hz_n gc, hz_n gd, wt, hz_n gx, hz_n gf, la, hz_n gs', sc, co, hv, ow, rA, wA, fe, mo, ra, ac, lo, rq) →
        wpX_bring post (th, rd, fb, kp, hz_n kn, st, ho, ro, le, va, hz_n gm, hz_n gc, hz_n gd, wt, hz_n gx, hz_n gf, la, hz_n gs, sc, co, hv, ow, rA, wA, fe, mo, ra, ac, lo, rq) (nI m) (nI p) := by
  obtain ⟨gs', gm', va', g', S', r1, r2, r3, r4, r5, r6⟩ := hx_b7 (th := th) (rd := rd) (kp := kp) (st := st) (ho := ho) (ro := ro) (le := le) (la := la) (co := co) (hv := hv) (ow := ow) (rA := rA) (wA := wA) (fe := fe) (mo := mo) (ra := ra) (ac := ac) (lo := lo) (rq := rq) (p := p) hwo hwh hK hb hm hp 4 0 (by omega) gs gm va 0 S hC hV (by omega)
  have tF : ∀ j, ¬ S m j → j < K → (hz_T K wo wh kn yr sc m p 0 j ↔ hz_F wo wh kn yr sc S m p j) := by
    intro j nS hj
    constructor
    · rintro ⟨z1, z2, z3, ⟨_, z4, z5, z6⟩, z7⟩
      exact ⟨z4, z5, z6, z7, nS⟩
    · rintro ⟨z1, z2, z3, z4, z5⟩
      exact ⟨hj, Nat.zero_le _, fun e => nS (hC.2.2.2.2 m j hm hj z2 e), ⟨rfl, z1, z2, z3⟩, z4⟩
  refine ⟨gs', gm', va', g', S', r1, r2, r3, ?_, ?_, ?_⟩
  · intro m' j hj
    rw [r4 m' j]
    constructor
    · rintro (z | ⟨z1, z2⟩)
      · exact Or.inl z
      · by_cases y : S m j
        · rw [z1]; exact Or.inl y
        · exact Or.inr ⟨z1, (tF j y hj).mp z2⟩
    · rintro (z | ⟨z1, z2⟩)
      · exact Or.inl z
      · exact Or.inr ⟨z1, (tF j z2.2.2.2.2 hj).mpr z2⟩
  · intro q hq
    rw [r5 q hq, Nat.zero_testBit]
    constructor
    · rintro (z | ⟨j, z1, z2, z3⟩)
      · exact absurd z (by decide)
      · have f := (tF j z2 z1.1).mp z1
        refine ⟨j, z1.1, f, ?_⟩
        have := f.1
        omega
    · rintro ⟨j, z1, z2, z3⟩
      refine Or.inr ⟨j, (tF j z2.2.2.2.2 z1).mpr z2, z2.2.2.2.2, ?_⟩
      omega
  · intro post h
    unfold wpX_bring
    exact Exists.intro 5 (r6 post 5 (by omega) h)
/-- a page is fetched if it is stale -/
theorem hx_fetch1 {post : SX → Prop} (hwo : ∀ i, wo i < 4) (hK : K ≤ 300) (hb : ∀ j, kn j ≤ 300) (hm : m < 4) (hp : p < 8) {gs : Nat → Nat} {S : Nat → Nat → Prop} {g' : Nat} {va' sm' sn' : Nat → Int32}
    (hC : hr_C K wo wh yr sc yv gc gd wt gx gf gl gs S) (hF : ∃ i, i < K ∧ hz_F wo wh kn yr sc S m p i) (hg : g' < 256)
    (hbr : ∀ (post : SX → Prop), post (th, rd, nI g', kp, hz_n kn, st, ho, ro, le, va', sm', hz_n gc, hz_n gd, wt, hz_n gx, hz_n gf, la, sn', sc, co, hv, ow, rA, wA, fe, mo, ra, ac, lo, rq) →
        wpX_bring post (th, rd, fb, kp, hz_n kn, st, ho, ro, le, va, sm, hz_n gc, hz_n gd, wt, hz_n gx, hz_n gf, la, hz_n gs, sc, co, hv, ow, rA, wA, fe, mo, ra, ac, lo, rq) (nI m) (nI p))
    (h : post (th, rd, nI g', kp, hz_n kn, st, ho, ro, le, va', sm', hz_n gc, hz_n gd, wt, hz_n gx, hz_n gf, la, sn', sc, co, hv, ow, rA, wA, upd fe m (fe m + 1), upd mo m (mo m + nI (hz_pc g')), ra, ac, lo, rq)) :
    wpX_fetch post (th, rd, fb, kp, hz_n kn, st, ho, ro, le, va, sm, hz_n gc, hz_n gd, wt, hz_n gx, hz_n gf, la, hz_n gs, sc, co, hv, ow, rA, wA, fe, mo, ra, ac, lo, rq) (nI m) (nI p) := by
  unfold wpX_fetch
  refine hx_stale hC hwo hK hb hm hp (fun _ => br_f (by decide) (hbr _ ?_)) (fun z => absurd hF z)
  have hi : vp_in (nI m) 4 := vp_in_nI hm (by decide)
  refine ⟨hi, hi, nm_e ⟨hi, hx_size hg ⟨hi, nm_e ?_⟩⟩⟩
  rw [nI_clamp (by omega)]
  exact h
theorem hx_fetch0 {post : SX → Prop} (hwo : ∀ i, wo i < 4) (hK : K ≤ 300) (hb : ∀ j, kn j ≤ 300) (hm : m < 4) (hp : p < 8) {gs : Nat → Nat} {S : Nat → Nat → Prop}
    (hC : hr_C K wo wh yr sc yv gc gd wt gx gf gl gs S) (hF : ¬ ∃ i, i < K ∧ hz_F wo wh kn yr sc S m p i)
    (h : post (th, rd, fb, kp, hz_n kn, st, ho, ro, le, va, sm, hz_n gc, hz_n gd, wt, hz_n gx, hz_n gf, la, hz_n gs, sc, co, hv, ow, rA, wA, fe, mo, ra, ac, lo, rq)) :
    wpX_fetch post (th, rd, fb, kp, hz_n kn, st, ho, ro, le, va, sm, hz_n gc, hz_n gd, wt, hz_n gx, hz_n gf, la, hz_n gs, sc, co, hv, ow, rA, wA, fe, mo, ra, ac, lo, rq) (nI m) (nI p) := by
  unfold wpX_fetch
  exact hx_stale hC hwo hK hb hm hp (fun z => absurd z hF) (fun _ => br_t rfl h)
end XB
end
section
/-! M: the reference's walks: pages -/
def hz_fr (yr yk ys : Nat → Int32) (m i : Nat) : Prop := ¬ yr i = 0 ∧ ¬ yk (300 * m + i) = 0 ∧ ys (300 * m + i) = 0
def hz_S (ys : Nat → Int32) (m i : Nat) : Prop := ¬ ys (300 * m + i) = 0
noncomputable def hz_set (ys : Nat → Int32) (A : Nat → Prop) : Nat → Int32 := fun j => @ite Int32 (A j) (Classical.propDecidable _) 1 (ys j)
theorem hz_set_y {ys : Nat → Int32} {A : Nat → Prop} {j : Nat} (h : A j) : hz_set ys A j = 1 := by unfold hz_set; rw [if_pos h]
theorem hz_set_n {ys : Nat → Int32} {A : Nat → Prop} {j : Nat} (h : ¬ A j) : hz_set ys A j = ys j := by unfold hz_set; rw [if_neg h]
theorem hz_set_c {ys : Nat → Int32} {A B : Nat → Prop} (h : ∀ j, A j ↔ B j) : hz_set ys A = hz_set ys B := by
  have e : A = B := funext (fun j => propext (h j))
  rw [e]
theorem hz_set_0 {ys : Nat → Int32} {A : Nat → Prop} (h : ∀ j, ¬ A j) : hz_set ys A = ys := funext (fun _ => hz_set_n (h _))
theorem hz_set_u {ys : Nat → Int32} {A : Nat → Prop} {k : Nat} : upd (hz_set ys A) k 1 = hz_set ys (fun j => A j ∨ j = k) := by
  funext j
  by_cases e : j = k
  · rw [e, pk_us, hz_set_y (A := fun j => A j ∨ j = k) (Or.inr rfl)]
  · rw [pk_un e]
    by_cases a : A j
    · rw [hz_set_y a, hz_set_y (A := fun j => A j ∨ j = k) (Or.inl a)]
    · rw [hz_set_n a, hz_set_n (A := fun j => A j ∨ j = k) (fun z => z.elim a e)]
noncomputable def hz_inc (lo : Nat → Int32) (A : Nat → Prop) : Nat → Int32 := fun j => @ite Int32 (A j) (Classical.propDecidable _) (lo j + 1) (lo j)
theorem hz_inc_n {lo : Nat → Int32} {A : Nat → Prop} {j : Nat} (h : ¬ A j) : hz_inc lo A j = lo j := by unfold hz_inc; rw [if_neg h]
theorem hz_inc_y {lo : Nat → Int32} {A : Nat → Prop} {j : Nat} (h : A j) : hz_inc lo A j = lo j + 1 := by unfold hz_inc; rw [if_pos h]
theorem hz_inc_c {lo : Nat → Int32} {A B : Nat → Prop} (h : ∀ j, A j ↔ B j) : hz_inc lo A = hz_inc lo B := by
  have e : A = B := funext (fun j => propext (h j))
  rw [e]
theorem hz_inc_0 {lo : Nat → Int32} {A : Nat → Prop} (h : ∀ j, ¬ A j) : hz_inc lo A = lo := funext (fun _ => hz_inc_n (h _))
theorem hz_inc_u {lo : Nat → Int32} {A : Nat → Prop} {k : Nat} (hk : ¬ A k) : upd (hz_inc lo A) k (hz_inc lo A k + 1) = hz_inc lo (fun j => A j ∨ j = k) := by
  funext j
  by_cases e : j = k
  · rw [e, pk_us, hz_inc_n hk, hz_inc_y (A := fun j => A j ∨ j = k) (Or.inr rfl)]
  · rw [pk_un e]
    by_cases a : A j
    · rw [hz_inc_y a, hz_inc_y (A := fun j => A j ∨ j = k) (Or.inl a)]
    · rw [hz_inc_n a, hz_inc_n (A := fun j => A j ∨ j = k) (fun z => z.elim a e)]
/-- fresh writes of words from 8p on: those of words below w, and of w those below i -/
def hz_A (K : Nat) (wh : Nat → Nat) (yr yk ys : Nat → Int32) (m p w i q : Nat) : Prop := ∃ j, q = 300 * m + j ∧ j < K ∧ hz_fr yr yk ys m j ∧ 8 * p ≤ wh j ∧ (wh j < w ∨ (wh j = w ∧ j < i))
/-- a word has a fresh write -/
def hz_P (K : Nat) (wh : Nat → Nat) (yr yk ys : Nat → Int32) (m p q : Nat) : Prop := ∃ j, j < K ∧ wh j = 8 * p + q ∧ hz_fr yr yk ys m j
section YP
variable {kp rd lr : Int32} {yw yh yv yr yk ys yp yo sc st yf ho ro le fe mo ra ac lo rq : Nat → Int32}
variable {K m p : Nat} {wo wh kn : Nat → Nat}
theorem hy_fresh {post : Int32 → Prop} {i : Nat} (hi : i < 300) (hm : m < 4) (h1 : hz_fr yr yk ys m i → post 1) (h0 : ¬ hz_fr yr yk ys m i → post 0) : wpY_fresh post (kp, rd, lr, yw, yh, yv, yr, yk, ys, yp, yo, sc, st, yf, ho, ro, le, fe, mo, ra, ac, lo, rq) (nI m) (nI i) := by
  unfold hz_fr at h1 h0
  by_cases a : yr i = 0
  · simp (disch := omega) only [wpY_fresh, a, forall_eq, nI_leI, nI_ltI, nI_eq, vp_in_nI, nI_clamp, nI_add, nI_1, hz_na, hz_nup, true_implies, forall_const, not_true_eq_false, not_false_eq_true, false_implies, and_true, true_and, implies_true, and_self, if_true, if_false, ite_true, ite_false, reduceIte, ha_m4, ha_m8, ha_m5, ha_m32, ha_m64, ha_m300, ha_a4, ha_a16, ha_a300, ha_a600, ha_a900, ha_p8, ha_l4, ha_l5, ha_l8, ha_l32, ha_l36, ha_l64, ha_l128, ha_l256, ha_le7, ha_7lt, ha_e0, ha_e1, ha_e2, ha_e300, ha_le0, ha_lt0, ha_0le, ha_d8, ha_s1, ha_80, ha_10]
    exact h0 (fun z => z.1 a)
  · by_cases b : yk (300 * m + i) = 0
    · simp (disch := omega) only [wpY_fresh, a, b, forall_eq, nI_leI, nI_ltI, nI_eq, vp_in_nI, nI_clamp, nI_add, nI_1, hz_na, hz_nup, true_implies, forall_const, not_true_eq_false, not_false_eq_true, false_implies, and_true, true_and, implies_true, and_self, if_true, if_false, ite_true, ite_false, reduceIte, ha_m4, ha_m8, ha_m5, ha_m32, ha_m64, ha_m300, ha_a4, ha_a16, ha_a300, ha_a600, ha_a900, ha_p8, ha_l4, ha_l5, ha_l8, ha_l32, ha_l36, ha_l64, ha_l128, ha_l256, ha_le7, ha_7lt, ha_e0, ha_e1, ha_e2, ha_e300, ha_le0, ha_lt0, ha_0le, ha_d8, ha_s1, ha_80, ha_10]
      exact h0 (fun z => z.2.1 b)
    · by_cases c : ys (300 * m + i) = 0
      · simp (disch := omega) only [wpY_fresh, a, b, c, forall_eq, nI_leI, nI_ltI, nI_eq, vp_in_nI, nI_clamp, nI_add, nI_1, hz_na, hz_nup, true_implies, forall_const, not_true_eq_false, not_false_eq_true, false_implies, and_true, true_and, implies_true, and_self, if_true, if_false, ite_true, ite_false, reduceIte, ha_m4, ha_m8, ha_m5, ha_m32, ha_m64, ha_m300, ha_a4, ha_a16, ha_a300, ha_a600, ha_a900, ha_p8, ha_l4, ha_l5, ha_l8, ha_l32, ha_l36, ha_l64, ha_l128, ha_l256, ha_le7, ha_7lt, ha_e0, ha_e1, ha_e2, ha_e300, ha_le0, ha_lt0, ha_0le, ha_d8, ha_s1, ha_80, ha_10]
        exact h1 ⟨a, b, c⟩
      · simp (disch := omega) only [wpY_fresh, a, b, c, forall_eq, nI_leI, nI_ltI, nI_eq, vp_in_nI, nI_clamp, nI_add, nI_1, hz_na, hz_nup, true_implies, forall_const, not_true_eq_false, not_false_eq_true, false_implies, and_true, true_and, implies_true, and_self, if_true, if_false, ite_true, ite_false, reduceIte, ha_m4, ha_m8, ha_m5, ha_m32, ha_m64, ha_m300, ha_a4, ha_a16, ha_a300, ha_a600, ha_a900, ha_p8, ha_l4, ha_l5, ha_l8, ha_l32, ha_l36, ha_l64, ha_l128, ha_l256, ha_le7, ha_7lt, ha_e0, ha_e1, ha_e2, ha_e300, ha_le0, ha_lt0, ha_0le, ha_d8, ha_s1, ha_80, ha_10]
        exact h0 (fun z => c z.2.2)
theorem hy_stale2 {post : Int32 → Prop} (hwh : ∀ i, wh i < 64) (hK : K ≤ 300) (hm : m < 4) (hp : p < 8) (hs : sc p = 0) : ∀ (n i : Nat), K < n + i → i ≤ K →
    ((∃ j, i ≤ j ∧ j < K ∧ wh j / 8 = p ∧ hz_fr yr yk ys m j) → post 1) → ((¬ ∃ j, i ≤ j ∧ j < K ∧ wh j / 8 = p ∧ hz_fr yr yk ys m j) → post 0) →
    wY_isStale_2 post (nI m) (nI p) (nI K) rd lr yw (hz_n wh) yv yr yk ys yp yo sc st yf ho ro le fe mo ra ac lo rq n (nI i) := by
  intro n
  induction n with
  | zero => intro i h1 h2; omega
  | succ n ih =>
    intro i h1 h2 hy hn
    by_cases e : i = K
    · subst e
      exact And.intro (fun _ => hn (fun ⟨o, o1, o2, _⟩ => by omega)) (fun z => absurd (Int32.le_refl _) z)
    · have iK : ¬ K ≤ i := by omega
      have stp : ¬ (wh i / 8 = p ∧ hz_fr yr yk ys m i) → wY_isStale_2 post (nI m) (nI p) (nI K) rd lr yw (hz_n wh) yv yr yk ys yp yo sc st yf ho ro le fe mo ra ac lo rq n (nI (i + 1)) := by
        intro z
        refine ih (i + 1) (by omega) (by omega) ?_ ?_
        · rintro ⟨o, o1, o2, o3⟩
          exact hy ⟨o, by omega, o2, o3⟩
        · intro q
          refine hn ?_
          rintro ⟨o, o1, o2, o3⟩
          by_cases eo : o = i
          · rw [eo] at o3
            exact z o3
          · exact q ⟨o, by omega, o2, o3⟩
      have hwi := hwh i
      by_cases a : wh i / 8 = p
      · simp (disch := omega) only [wY_isStale_2, iK, hs, a, forall_eq, nI_leI, nI_ltI, nI_eq, vp_in_nI, nI_clamp, nI_add, nI_1, hz_na, hz_nup, true_implies, forall_const, not_true_eq_false, not_false_eq_true, false_implies, and_true, true_and, implies_true, and_self, if_true, if_false, ite_true, ite_false, reduceIte, ha_m4, ha_m8, ha_m5, ha_m32, ha_m64, ha_m300, ha_a4, ha_a16, ha_a300, ha_a600, ha_a900, ha_p8, ha_l4, ha_l5, ha_l8, ha_l32, ha_l36, ha_l64, ha_l128, ha_l256, ha_le7, ha_7lt, ha_e0, ha_e1, ha_e2, ha_e300, ha_le0, ha_lt0, ha_0le, ha_d8, ha_s1, ha_80, ha_10]
        refine hy_fresh (by omega) hm ?_ ?_
        · intro z
          exact br_f (by decide) (hy ⟨i, Nat.le_refl _, by omega, a, z⟩)
        · intro z
          exact br_t rfl (stp (fun q => z q.2))
      · simp (disch := omega) only [wY_isStale_2, iK, hs, a, forall_eq, nI_leI, nI_ltI, nI_eq, vp_in_nI, nI_clamp, nI_add, nI_1, hz_na, hz_nup, true_implies, forall_const, not_true_eq_false, not_false_eq_true, false_implies, and_true, true_and, implies_true, and_self, if_true, if_false, ite_true, ite_false, reduceIte, ha_m4, ha_m8, ha_m5, ha_m32, ha_m64, ha_m300, ha_a4, ha_a16, ha_a300, ha_a600, ha_a900, ha_p8, ha_l4, ha_l5, ha_l8, ha_l32, ha_l36, ha_l64, ha_l128, ha_l256, ha_le7, ha_7lt, ha_e0, ha_e1, ha_e2, ha_e300, ha_le0, ha_lt0, ha_0le, ha_d8, ha_s1, ha_80, ha_10]
        exact stp (fun q => a q.1)
theorem hz_F_fr {yp : Nat → Int32} (hk : hr_K K wo kn yk yp) (hm : m < 4) {j : Nat} (hj : j < K) : hz_F wo wh kn yr sc (hz_S ys) m p j ↔ (wh j / 8 = p ∧ sc p = 0 ∧ hz_fr yr yk ys m j) := by
  have k4 := hz_B1 (hk.2.2.2.1 m j hm hj)
  unfold hz_F hz_fr hz_S hz_kw
  rw [k4]
  constructor
  · rintro ⟨a, b, c, d, e⟩
    exact ⟨a, c, b, d, Classical.byContradiction e⟩
  · rintro ⟨a, c, b, d, e⟩
    exact ⟨a, b, c, d, fun z => z e⟩
theorem hy_stale {post : Int32 → Prop} (hwh : ∀ i, wh i < 64) (hK : K ≤ 300) (hk : hr_K K wo kn yk yp) (hm : m < 4) (hp : p < 8)
    (h1 : (∃ i, i < K ∧ hz_F wo wh kn yr sc (hz_S ys) m p i) → post 1) (h0 : (¬ ∃ i, i < K ∧ hz_F wo wh kn yr sc (hz_S ys) m p i) → post 0) :
    wpY_isStale post (nI K, rd, lr, yw, hz_n wh, yv, yr, yk, ys, yp, yo, sc, st, yf, ho, ro, le, fe, mo, ra, ac, lo, rq) (nI m) (nI p) := by
  unfold wpY_isStale
  by_cases hs : sc p = 0
  · refine Exists.intro (K + 1) (hy_stale2 hwh hK hm hp hs (K + 1) 0 (by omega) (by omega) ?_ ?_)
    · rintro ⟨j, _, j2, j3, j4⟩
      exact h1 ⟨j, j2, (hz_F_fr hk hm j2).mpr ⟨j3, hs, j4⟩⟩
    · intro z
      refine h0 ?_
      rintro ⟨j, j1, j2⟩
      have := (hz_F_fr hk hm j1).mp j2
      exact z ⟨j, Nat.zero_le _, j1, this.1, this.2.2⟩
  · have p0 : post 0 := h0 (fun ⟨j, _, z⟩ => hs z.2.2.1)
    refine Exists.intro 1 ?_
    rw [wY_isStale_2]
    refine br_c (fun _ => p0) (fun _ => ⟨vp_in_nI hp (by decide), br_f ?_ p0⟩)
    rw [nI_clamp (by omega)]
    exact hs
theorem hy_f32 {post : SY → Prop} {w q : Nat} {J15 : Int32 → (Nat → Int32) → (Nat → Int32) → (Nat → Int32) → (Nat → Int32) → (Nat → Int32) → (Nat → Int32) → (Nat → Int32) → (Nat → Int32) → (Nat → Int32) → (Nat → Int32) → (Nat → Int32) → (Nat → Int32) → (Nat → Int32) → (Nat → Int32) → (Nat → Int32) → (Nat → Int32) → (Nat → Int32) → (Nat → Int32) → (Nat → Int32) → (Nat → Int32) → Prop}
    (hwh : ∀ i, wh i < 64) (hK : K ≤ 300) (hm : m < 4) (hw : w = 8 * p + q) (hw64 : w < 64)
    (h : J15 (nI (w + 1)) yw (hz_n wh) yv yr yk (hz_set ys (hz_A K wh yr yk ys m p w K)) yp yo sc st yf ho ro le fe (upd mo m (mo m + nI (hz_cp (hz_P K wh yr yk ys m p) (q + 1)))) ra ac lo rq) : ∀ (n i : Nat) (x : Int32), K < n + i → i ≤ K →
    ((x = 0 ∧ ¬ ∃ j, j < i ∧ wh j = w ∧ hz_fr yr yk ys m j) ∨ (x = 1 ∧ ∃ j, j < i ∧ wh j = w ∧ hz_fr yr yk ys m j)) →
    wY_fetch_32 post J15 (nI m) (nI p) (nI w) (nI K) rd lr n x (nI i) yw (hz_n wh) yv yr yk (hz_set ys (hz_A K wh yr yk ys m p w i)) yp yo sc st yf ho ro le fe (upd mo m (mo m + nI (hz_cp (hz_P K wh yr yk ys m p) q))) ra ac lo rq := by
  intro n
  induction n with
  | zero => intro i x h1 h2; omega
  | succ n ih =>
    intro i x h1 h2 hx
    by_cases e : i = K
    · subst e
      rw [wY_fetch_32]
      refine br_t (Int32.le_refl _) ?_
      rcases hx with ⟨x0, xn⟩ | ⟨x1, xy⟩
      · rw [x0]
        refine br_t rfl (nm_r (nI_1 w) ?_)
        rw [hz_cp_n (P := hz_P i wh yr yk ys m p) (k := q) (by rintro ⟨j, j1, j2, j3⟩; exact xn ⟨j, j1, by omega, j3⟩)] at h
        exact h
      · rw [x1]
        obtain ⟨j, j1, j2, j3⟩ := xy
        rw [hz_cp_y (P := hz_P i wh yr yk ys m p) (k := q) ⟨j, j1, by omega, j3⟩] at h
        have hv : vp_in (nI m) 4 := vp_in_nI hm (by decide)
        refine br_f (by decide) ⟨hv, hv, nm_r (e' := upd mo m (mo m + nI (hz_cp (hz_P i wh yr yk ys m p) q + 1))) ?_ (nm_r (nI_1 w) h)⟩
        rw [nI_clamp (by omega), pk_us, Int32.add_assoc, nI_1]
        funext t
        unfold upd
        by_cases et : t = m
        · rw [if_pos et, if_pos et]
        · rw [if_neg et, if_neg et, if_neg et]
    · have iK : ¬ K ≤ i := by omega
      have hwi := hwh i
      by_cases a : wh i = w
      · simp (disch := omega) only [wY_fetch_32, iK, a, ha_vz1, forall_eq, nI_leI, nI_ltI, nI_eq, vp_in_nI, nI_clamp, nI_add, nI_1, hz_na, hz_nup, true_implies, forall_const, not_true_eq_false, not_false_eq_true, false_implies, and_true, true_and, implies_true, and_self, if_true, if_false, ite_true, ite_false, reduceIte, ha_m4, ha_m8, ha_m5, ha_m32, ha_m64, ha_m300, ha_a4, ha_a16, ha_a300, ha_a600, ha_a900, ha_p8, ha_l4, ha_l5, ha_l8, ha_l32, ha_l36, ha_l64, ha_l128, ha_l256, ha_le7, ha_7lt, ha_e0, ha_e1, ha_e2, ha_e300, ha_le0, ha_lt0, ha_0le, ha_d8, ha_s1, ha_80, ha_10]
        have same : hz_set ys (hz_A K wh yr yk ys m p w i) (300 * m + i) = ys (300 * m + i) := by
          refine hz_set_n ?_
          rintro ⟨j, j1, j2, j3, j4, j5⟩
          have : j = i := by omega
          rw [this] at j5
          omega
        refine hy_fresh (by omega) hm ?_ ?_
        · intro z
          have z' : hz_fr yr yk ys m i := by
            unfold hz_fr at z ⊢
            rw [same] at z
            exact z
          have := ih (i + 1) 1 (by omega) (by omega) (Or.inr ⟨rfl, i, by omega, a, z'⟩)
          rw [hz_set_c (A := hz_A K wh yr yk ys m p w (i + 1)) (B := fun j => hz_A K wh yr yk ys m p w i j ∨ j = 300 * m + i) ?_, ← hz_set_u] at this
          · exact br_f (by decide) this
          · intro t
            constructor
            · rintro ⟨j, j1, j2, j3, j4, j5⟩
              by_cases ej : j = i
              · exact Or.inr (by rw [j1, ej])
              · exact Or.inl ⟨j, j1, j2, j3, j4, by omega⟩
            · rintro (⟨j, j1, j2, j3, j4, j5⟩ | z2)
              · exact ⟨j, j1, j2, j3, j4, by omega⟩
              · exact ⟨i, z2, by omega, z', by omega, by omega⟩
        · intro z
          have z' : ¬ hz_fr yr yk ys m i := by
            unfold hz_fr at z ⊢
            rw [same] at z
            exact z
          have := ih (i + 1) x (by omega) (by omega) (by
            rcases hx with ⟨x0, xn⟩ | ⟨x1, j, j1, j2⟩
            · refine Or.inl ⟨x0, ?_⟩
              rintro ⟨j, j1, j2, j3⟩
              by_cases ej : j = i
              · rw [ej] at j3; exact z' j3
              · exact xn ⟨j, by omega, j2, j3⟩
            · exact Or.inr ⟨x1, j, by omega, j2⟩)
          rw [hz_set_c (A := hz_A K wh yr yk ys m p w (i + 1)) (B := hz_A K wh yr yk ys m p w i) ?_] at this
          · exact br_t rfl this
          · intro t
            constructor
            · rintro ⟨j, j1, j2, j3, j4, j5⟩
              by_cases ej : j = i
              · rw [ej] at j3; exact absurd j3 z'
              · exact ⟨j, j1, j2, j3, j4, by omega⟩
            · rintro ⟨j, j1, j2, j3, j4, j5⟩
              exact ⟨j, j1, j2, j3, j4, by omega⟩
      · simp (disch := omega) only [wY_fetch_32, iK, a, forall_eq, nI_leI, nI_ltI, nI_eq, vp_in_nI, nI_clamp, nI_add, nI_1, hz_na, hz_nup, true_implies, forall_const, not_true_eq_false, not_false_eq_true, false_implies, and_true, true_and, implies_true, and_self, if_true, if_false, ite_true, ite_false, reduceIte, ha_m4, ha_m8, ha_m5, ha_m32, ha_m64, ha_m300, ha_a4, ha_a16, ha_a300, ha_a600, ha_a900, ha_p8, ha_l4, ha_l5, ha_l8, ha_l32, ha_l36, ha_l64, ha_l128, ha_l256, ha_le7, ha_7lt, ha_e0, ha_e1, ha_e2, ha_e300, ha_le0, ha_lt0, ha_0le, ha_d8, ha_s1, ha_80, ha_10]
        have := ih (i + 1) x (by omega) (by omega) (by
          rcases hx with ⟨x0, xn⟩ | ⟨x1, j, j1, j2⟩
          · refine Or.inl ⟨x0, ?_⟩
            rintro ⟨j, j1, j2, j3⟩
            by_cases ej : j = i
            · rw [ej] at j2; exact a j2
            · exact xn ⟨j, by omega, j2, j3⟩
          · exact Or.inr ⟨x1, j, by omega, j2⟩)
        rw [hz_set_c (A := hz_A K wh yr yk ys m p w (i + 1)) (B := hz_A K wh yr yk ys m p w i) ?_] at this
        · exact this
        · intro t
          constructor
          · rintro ⟨j, j1, j2, j3, j4, j5⟩
            by_cases ej : j = i
            · rw [ej] at j5
              exact ⟨j, j1, j2, j3, j4, by rw [ej]; omega⟩
            · exact ⟨j, j1, j2, j3, j4, by omega⟩
          · rintro ⟨j, j1, j2, j3, j4, j5⟩
            exact ⟨j, j1, j2, j3, j4, by omega⟩
theorem hy_f15 {post : SY → Prop} (hwh : ∀ i, wh i < 64) (hK : K ≤ 300) (hm : m < 4) (hp : p < 8)
    (h : post (nI K, rd, lr, yw, hz_n wh, yv, yr, yk, hz_set ys (hz_A K wh yr yk ys m p (8 * p + 8) 0), yp, yo, sc, st, yf, ho, ro, le, fe, upd mo m (mo m + nI (hz_cp (hz_P K wh yr yk ys m p) 8)), ra, ac, lo, rq)) : ∀ (n q : Nat), 8 < n + q → q ≤ 8 →
    wY_fetch_15 post (nI m) (nI p) (nI K) rd lr n (nI (8 * p + q)) yw (hz_n wh) yv yr yk (hz_set ys (hz_A K wh yr yk ys m p (8 * p + q) 0)) yp yo sc st yf ho ro le fe (upd mo m (mo m + nI (hz_cp (hz_P K wh yr yk ys m p) q))) ra ac lo rq := by
  intro n
  induction n with
  | zero => intro q h1 h2; omega
  | succ n ih =>
    intro q h1 h2
    rw [wY_fetch_15, ha_m8, ha_p8]
    by_cases e : q = 8
    · subst e
      exact br_t (Int32.le_refl _) h
    · refine br_f (nI_ge (by omega) (by omega)) (Exists.intro (K + 1) ?_)
      refine hy_f32 hwh hK hm rfl (by omega) ?_ (K + 1) 0 0 (by omega) (by omega) (Or.inl ⟨rfl, fun ⟨j, j1, _⟩ => by omega⟩)
      have := ih (q + 1) (by omega) (by omega)
      rw [hz_set_c (A := hz_A K wh yr yk ys m p (8 * p + (q + 1)) 0) (B := hz_A K wh yr yk ys m p (8 * p + q) K) ?_] at this
      · exact this
      · intro t
        constructor
        · rintro ⟨j, j1, j2, j3, j4, j5⟩
          exact ⟨j, j1, j2, j3, j4, by omega⟩
        · rintro ⟨j, j1, j2, j3, j4, j5⟩
          exact ⟨j, j1, j2, j3, j4, by omega⟩
theorem hy_fetch {post : SY → Prop} (hwh : ∀ i, wh i < 64) (hK : K ≤ 300) (hm : m < 4) (hp : p < 8)
    (h : post (nI K, rd, lr, yw, hz_n wh, yv, yr, yk, hz_set ys (hz_A K wh yr yk ys m p (8 * p + 8) 0), yp, yo, sc, st, yf, ho, ro, le, upd fe m (fe m + 1), upd mo m (mo m + nI (hz_cp (hz_P K wh yr yk ys m p) 8)), ra, ac, lo, rq)) : wpY_fetch post (nI K, rd, lr, yw, hz_n wh, yv, yr, yk, ys, yp, yo, sc, st, yf, ho, ro, le, fe, mo, ra, ac, lo, rq) (nI m) (nI p) := by
  simp (disch := omega) only [wpY_fetch, forall_eq, nI_leI, nI_ltI, nI_eq, vp_in_nI, nI_clamp, nI_add, nI_1, hz_na, hz_nup, true_implies, forall_const, not_true_eq_false, not_false_eq_true, false_implies, and_true, true_and, implies_true, and_self, if_true, if_false, ite_true, ite_false, reduceIte, ha_m4, ha_m8, ha_m5, ha_m32, ha_m64, ha_m300, ha_a4, ha_a16, ha_a300, ha_a600, ha_a900, ha_p8, ha_l4, ha_l5, ha_l8, ha_l32, ha_l36, ha_l64, ha_l128, ha_l256, ha_le7, ha_7lt, ha_e0, ha_e1, ha_e2, ha_e300, ha_le0, ha_lt0, ha_0le, ha_d8, ha_s1, ha_80, ha_10]
  refine Exists.intro 9 ?_
  have := hy_f15 (rd := rd) (lr := lr) (yw := yw) (yv := yv) (yr := yr) (yk := yk) (ys := ys) (yp := yp) (yo := yo) (sc := sc) (st := st) (yf := yf) (ho := ho) (ro := ro) (le := le) (fe := upd fe m (fe m + 1)) (mo := mo) (ra := ra) (ac := ac) (lo := lo) (rq := rq) (post := post) hwh hK hm hp h 9 0 (by omega) (by omega)
  rw [hz_set_0 (A := hz_A K wh yr yk ys m p (8 * p + 0) 0) (by rintro t ⟨j, j1, j2, j3, j4, j5⟩; omega)] at this
  have e0 : hz_cp (hz_P K wh yr yk ys m p) 0 = 0 := rfl
  rw [e0, nI_0, Int32.add_zero, ha_uid rfl] at this
  exact this
end YP
end
section
/-! R: the relation -/
def i_Rel (_ : Nat) (u : SX) (v : SY) : Prop := ∃ (gt K : Nat) (kn gq ln gm gc gd gx gf gl gs gh go gr gw wo wh : Nat → Nat) (rd fb lr : Int32) (st ho va wt sc co fe mo ra ac lo rq yv yr yk ys yp yo yf : Nat → Int32), u = ((nI gt), rd, fb, (nI K), (hz_n kn), st, ho, (hz_n gq), (hz_n ln), va, (hz_n gm), (hz_n gc), (hz_n gd), wt, (hz_n gx), (hz_n gf), (hz_n gl), (hz_n gs), sc, co, (hz_n gh), (hz_n go), (hz_n gr), (hz_n gw), fe, mo, ra, ac, lo, rq) ∧ v = ((nI K), rd, lr, (hz_n wo), (hz_n wh), yv, yr, yk, ys, yp, yo, sc, st, yf, ho, (hz_n gq), (hz_n ln), fe, mo, ra, ac, lo, rq) ∧ hr_H K wo wh ∧ hr_K K wo kn yk yp ∧ hr_L 4 ln gq st yf ho ∧ hr_B gt st kn ∧ hr_C K wo wh yr sc yv gc gd wt gx gf gl gs (hz_S ys) ∧ hr_V K wh yr sc yv yo gm va (hz_S ys) ∧ hr_D K wh yr sc yv yo co ∧ hr_O K wo wh yr sc gh go ∧ hr_R K wo wh yr gr gw
theorem hr_in {k : Nat} {gt K : Nat} {kn gq ln gm gc gd gx gf gl gs gh go gr gw wo wh : Nat → Nat} {rd fb lr : Int32} {st ho va wt sc co fe mo ra ac lo rq yv yr yk ys yp yo yf : Nat → Int32} (hH : hr_H K wo wh) (hK : hr_K K wo kn yk yp) (hL : hr_L 4 ln gq st yf ho) (hB : hr_B gt st kn) (hC : hr_C K wo wh yr sc yv gc gd wt gx gf gl gs (hz_S ys)) (hV : hr_V K wh yr sc yv yo gm va (hz_S ys)) (hD : hr_D K wh yr sc yv yo co) (hO : hr_O K wo wh yr sc gh go) (hR : hr_R K wo wh yr gr gw) : i_Rel k ((nI gt), rd, fb, (nI K), (hz_n kn), st, ho, (hz_n gq), (hz_n ln), va, (hz_n gm), (hz_n gc), (hz_n gd), wt, (hz_n gx), (hz_n gf), (hz_n gl), (hz_n gs), sc, co, (hz_n gh), (hz_n go), (hz_n gr), (hz_n gw), fe, mo, ra, ac, lo, rq) ((nI K), rd, lr, (hz_n wo), (hz_n wh), yv, yr, yk, ys, yp, yo, sc, st, yf, ho, (hz_n gq), (hz_n ln), fe, mo, ra, ac, lo, rq) :=
  Exists.intro gt (Exists.intro K (Exists.intro kn (Exists.intro gq (Exists.intro ln (Exists.intro gm (Exists.intro gc (Exists.intro gd (Exists.intro gx (Exists.intro gf (Exists.intro gl (Exists.intro gs (Exists.intro gh (Exists.intro go (Exists.intro gr (Exists.intro gw (Exists.intro wo (Exists.intro wh (Exists.intro rd (Exists.intro fb (Exists.intro lr (Exists.intro st (Exists.intro ho (Exists.intro va (Exists.intro wt (Exists.intro sc (Exists.intro co (Exists.intro fe (Exists.intro mo (Exists.intro ra (Exists.intro ac (Exists.intro lo (Exists.intro rq (Exists.intro yv (Exists.intro yr (Exists.intro yk (Exists.intro ys (Exists.intro yp (Exists.intro yo (Exists.intro yf (⟨rfl, rfl, hH, hK, hL, hB, hC, hV, hD, hO, hR⟩))))))))))))))))))))))))))))))))))))))))
theorem hr_el {k : Nat} {u : SX} {v : SY} {P : SX → SY → Prop} (h : ∀ (gt K : Nat) (kn gq ln gm gc gd gx gf gl gs gh go gr gw wo wh : Nat → Nat) (rd fb lr : Int32) (st ho va wt sc co fe mo ra ac lo rq yv yr yk ys yp yo yf : Nat → Int32), hr_H K wo wh → hr_K K wo kn yk yp → hr_L 4 ln gq st yf ho → hr_B gt st kn → hr_C K wo wh yr sc yv gc gd wt gx gf gl gs (hz_S ys) → hr_V K wh yr sc yv yo gm va (hz_S ys) → hr_D K wh yr sc yv yo co → hr_O K wo wh yr sc gh go → hr_R K wo wh yr gr gw → P ((nI gt), rd, fb, (nI K), (hz_n kn), st, ho, (hz_n gq), (hz_n ln), va, (hz_n gm), (hz_n gc), (hz_n gd), wt, (hz_n gx), (hz_n gf), (hz_n gl), (hz_n gs), sc, co, (hz_n gh), (hz_n go), (hz_n gr), (hz_n gw), fe, mo, ra, ac, lo, rq) ((nI K), rd, lr, (hz_n wo), (hz_n wh), yv, yr, yk, ys, yp, yo, sc, st, yf, ho, (hz_n gq), (hz_n ln), fe, mo, ra, ac, lo, rq)) (I : i_Rel k u v) : P u v :=
  Exists.elim I (fun gt I => Exists.elim I (fun K I => Exists.elim I (fun kn I => Exists.elim I (fun gq I => Exists.elim I (fun ln I => Exists.elim I (fun gm I => Exists.elim I (fun gc I => Exists.elim I (fun gd I => Exists.elim I (fun gx I => Exists.elim I (fun gf I => Exists.elim I (fun gl I => Exists.elim I (fun gs I => Exists.elim I (fun gh I => Exists.elim I (fun go I => Exists.elim I (fun gr I => Exists.elim I (fun gw I => Exists.elim I (fun wo I => Exists.elim I (fun wh I => Exists.elim I (fun rd I => Exists.elim I (fun fb I => Exists.elim I (fun lr I => Exists.elim I (fun st I => Exists.elim I (fun ho I => Exists.elim I (fun va I => Exists.elim I (fun wt I => Exists.elim I (fun sc I => Exists.elim I (fun co I => Exists.elim I (fun fe I => Exists.elim I (fun mo I => Exists.elim I (fun ra I => Exists.elim I (fun ac I => Exists.elim I (fun lo I => Exists.elim I (fun rq I => Exists.elim I (fun yv I => Exists.elim I (fun yr I => Exists.elim I (fun yk I => Exists.elim I (fun ys I => Exists.elim I (fun yp I => Exists.elim I (fun yo I => Exists.elim I (fun yf I => by
    obtain ⟨e1, e2, h1, h2, h3, h4, h5, h6, h7, h8, h9⟩ := I
    subst e1 e2
    exact h gt K kn gq ln gm gc gd gx gf gl gs gh go gr gw wo wh rd fb lr st ho va wt sc co fe mo ra ac lo rq yv yr yk ys yp yo yf h1 h2 h3 h4 h5 h6 h7 h8 h9))))))))))))))))))))))))))))))))))))))))
theorem i_up {k : Nat} {u : SX} {v : SY} (h : i_Rel k u v) : i_Rel (k + 4) u v := h
end
section
/-! S: the answers -/
theorem hz_cp_congr {P Q : Nat → Prop} : ∀ {k : Nat}, (∀ i, i < k → (P i ↔ Q i)) → hz_cp P k = hz_cp Q k
  | 0, _ => rfl
  | k + 1, h => by
    have ih := hz_cp_congr (k := k) (fun i hi => h i (by omega))
    by_cases hp : P k
    · rw [hz_cp_y hp, hz_cp_y ((h k (by omega)).mp hp), ih]
    · rw [hz_cp_n hp, hz_cp_n (fun z => hp ((h k (by omega)).mpr z)), ih]
theorem hz_cp_le (P : Nat → Prop) : ∀ k, hz_cp P k ≤ k
  | 0 => Nat.le_refl _
  | k + 1 => by
    have := hz_cp_le P k
    by_cases hp : P k
    · rw [hz_cp_y hp]; omega
    · rw [hz_cp_n hp]; omega
theorem hz_cp_kn {K o c : Nat} {wo : Nat → Nat} {P : Nat → Prop} (hP : ∀ i, i < K → (P i ↔ (wo i = o ∧ hz_num wo i ≤ c))) (hc : c ≤ hz_ct wo o K) : hz_cp P K = c := by
  rw [hz_cp_congr hP, hz_ct_known (wo := wo) (o := o) (c := c) (P := fun i => hz_num wo i ≤ c) (fun i _ => Iff.rfl) (hz_cp (fun i => wo i = o ∧ hz_num wo i ≤ c)) rfl (fun i h1 h2 => hz_cp_y (P := fun i => wo i = o ∧ hz_num wo i ≤ c) ⟨h1, h2⟩) (fun i h => hz_cp_n (P := fun i => wo i = o ∧ hz_num wo i ≤ c) h) K]
  split <;> omega
section YC
variable {kp rd lr : Int32} {yw yh yv yr yk ys yp yo sc st yf ho ro le fe mo ra ac lo rq : Nat → Int32}
variable {K m o : Nat} {wo : Nat → Nat}
theorem hy_cnk {post : Int32 → Prop} (hwo : ∀ i, wo i < 4) (hK : K ≤ 300) (hm : m < 4) (ho' : o < 4) (h : post (nI (hz_cp (fun i => wo i = o ∧ ¬ yk (300 * m + i) = 0) K))) : ∀ (n i : Nat), K < n + i → i ≤ K →
    wY_counted__known_24 post (nI m) (nI o) (nI K) rd lr (hz_n wo) yh yv yr yk ys yp yo sc st yf ho ro le fe mo ra ac lo rq n (nI (hz_cp (fun i => wo i = o ∧ ¬ yk (300 * m + i) = 0) i)) (nI i) := by
  intro n
  induction n with
  | zero => intro i h1 h2; omega
  | succ n ih =>
    intro i h1 h2
    by_cases e : i = K
    · subst e
      exact And.intro (fun _ => h) (fun z => absurd (Int32.le_refl _) z)
    · have iK : ¬ K ≤ i := by omega
      have hwi := hwo i
      have := ih (i + 1) (by omega) (by omega)
      by_cases a : wo i = o
      · by_cases b : yk (300 * m + i) = 0
        · rw [hz_cp_n (P := fun i => wo i = o ∧ ¬ yk (300 * m + i) = 0) (k := i) (fun z => z.2 b)] at this
          simp (disch := omega) only [wY_counted__known_24, iK, a, b, forall_eq, nI_leI, nI_ltI, nI_eq, vp_in_nI, nI_clamp, nI_add, nI_1, hz_na, hz_nup, true_implies, forall_const, not_true_eq_false, not_false_eq_true, false_implies, and_true, true_and, implies_true, and_self, if_true, if_false, ite_true, ite_false, reduceIte, ha_m4, ha_m8, ha_m5, ha_m32, ha_m64, ha_m300, ha_a4, ha_a16, ha_a300, ha_a600, ha_a900, ha_p8, ha_l4, ha_l5, ha_l8, ha_l32, ha_l36, ha_l64, ha_l128, ha_l256, ha_le7, ha_7lt, ha_e0, ha_e1, ha_e2, ha_e300, ha_le0, ha_lt0, ha_0le, ha_d8, ha_s1, ha_80, ha_10]
          exact this
        · rw [hz_cp_y (P := fun i => wo i = o ∧ ¬ yk (300 * m + i) = 0) (k := i) ⟨a, b⟩] at this
          simp (disch := omega) only [wY_counted__known_24, iK, a, b, forall_eq, nI_leI, nI_ltI, nI_eq, vp_in_nI, nI_clamp, nI_add, nI_1, hz_na, hz_nup, true_implies, forall_const, not_true_eq_false, not_false_eq_true, false_implies, and_true, true_and, implies_true, and_self, if_true, if_false, ite_true, ite_false, reduceIte, ha_m4, ha_m8, ha_m5, ha_m32, ha_m64, ha_m300, ha_a4, ha_a16, ha_a300, ha_a600, ha_a900, ha_p8, ha_l4, ha_l5, ha_l8, ha_l32, ha_l36, ha_l64, ha_l128, ha_l256, ha_le7, ha_7lt, ha_e0, ha_e1, ha_e2, ha_e300, ha_le0, ha_lt0, ha_0le, ha_d8, ha_s1, ha_80, ha_10]
          exact this
      · rw [hz_cp_n (P := fun i => wo i = o ∧ ¬ yk (300 * m + i) = 0) (k := i) (fun z => a z.1)] at this
        simp (disch := omega) only [wY_counted__known_24, iK, a, forall_eq, nI_leI, nI_ltI, nI_eq, vp_in_nI, nI_clamp, nI_add, nI_1, hz_na, hz_nup, true_implies, forall_const, not_true_eq_false, not_false_eq_true, false_implies, and_true, true_and, implies_true, and_self, if_true, if_false, ite_true, ite_false, reduceIte, ha_m4, ha_m8, ha_m5, ha_m32, ha_m64, ha_m300, ha_a4, ha_a16, ha_a300, ha_a600, ha_a900, ha_p8, ha_l4, ha_l5, ha_l8, ha_l32, ha_l36, ha_l64, ha_l128, ha_l256, ha_le7, ha_7lt, ha_e0, ha_e1, ha_e2, ha_e300, ha_le0, ha_lt0, ha_0le, ha_d8, ha_s1, ha_80, ha_10]
        exact this
theorem hy_cnp {post : Int32 → Prop} (hwo : ∀ i, wo i < 4) (hK : K ≤ 300) (hm : m < 4) (ho' : o < 4) (h : post (nI (hz_cp (fun i => wo i = o ∧ ¬ yp (300 * m + i) = 0) K))) : ∀ (n i : Nat), K < n + i → i ≤ K →
    wY_counted__keeps_24 post (nI m) (nI o) (nI K) rd lr (hz_n wo) yh yv yr yk ys yp yo sc st yf ho ro le fe mo ra ac lo rq n (nI (hz_cp (fun i => wo i = o ∧ ¬ yp (300 * m + i) = 0) i)) (nI i) := by
  intro n
  induction n with
  | zero => intro i h1 h2; omega
  | succ n ih =>
    intro i h1 h2
    by_cases e : i = K
    · subst e
      exact And.intro (fun _ => h) (fun z => absurd (Int32.le_refl _) z)
    · have iK : ¬ K ≤ i := by omega
      have hwi := hwo i
      have := ih (i + 1) (by omega) (by omega)
      by_cases a : wo i = o
      · by_cases b : yp (300 * m + i) = 0
        · rw [hz_cp_n (P := fun i => wo i = o ∧ ¬ yp (300 * m + i) = 0) (k := i) (fun z => z.2 b)] at this
          simp (disch := omega) only [wY_counted__keeps_24, iK, a, b, forall_eq, nI_leI, nI_ltI, nI_eq, vp_in_nI, nI_clamp, nI_add, nI_1, hz_na, hz_nup, true_implies, forall_const, not_true_eq_false, not_false_eq_true, false_implies, and_true, true_and, implies_true, and_self, if_true, if_false, ite_true, ite_false, reduceIte, ha_m4, ha_m8, ha_m5, ha_m32, ha_m64, ha_m300, ha_a4, ha_a16, ha_a300, ha_a600, ha_a900, ha_p8, ha_l4, ha_l5, ha_l8, ha_l32, ha_l36, ha_l64, ha_l128, ha_l256, ha_le7, ha_7lt, ha_e0, ha_e1, ha_e2, ha_e300, ha_le0, ha_lt0, ha_0le, ha_d8, ha_s1, ha_80, ha_10]
          exact this
        · rw [hz_cp_y (P := fun i => wo i = o ∧ ¬ yp (300 * m + i) = 0) (k := i) ⟨a, b⟩] at this
          simp (disch := omega) only [wY_counted__keeps_24, iK, a, b, forall_eq, nI_leI, nI_ltI, nI_eq, vp_in_nI, nI_clamp, nI_add, nI_1, hz_na, hz_nup, true_implies, forall_const, not_true_eq_false, not_false_eq_true, false_implies, and_true, true_and, implies_true, and_self, if_true, if_false, ite_true, ite_false, reduceIte, ha_m4, ha_m8, ha_m5, ha_m32, ha_m64, ha_m300, ha_a4, ha_a16, ha_a300, ha_a600, ha_a900, ha_p8, ha_l4, ha_l5, ha_l8, ha_l32, ha_l36, ha_l64, ha_l128, ha_l256, ha_le7, ha_7lt, ha_e0, ha_e1, ha_e2, ha_e300, ha_le0, ha_lt0, ha_0le, ha_d8, ha_s1, ha_80, ha_10]
          exact this
      · rw [hz_cp_n (P := fun i => wo i = o ∧ ¬ yp (300 * m + i) = 0) (k := i) (fun z => a z.1)] at this
        simp (disch := omega) only [wY_counted__keeps_24, iK, a, forall_eq, nI_leI, nI_ltI, nI_eq, vp_in_nI, nI_clamp, nI_add, nI_1, hz_na, hz_nup, true_implies, forall_const, not_true_eq_false, not_false_eq_true, false_implies, and_true, true_and, implies_true, and_self, if_true, if_false, ite_true, ite_false, reduceIte, ha_m4, ha_m8, ha_m5, ha_m32, ha_m64, ha_m300, ha_a4, ha_a16, ha_a300, ha_a600, ha_a900, ha_p8, ha_l4, ha_l5, ha_l8, ha_l32, ha_l36, ha_l64, ha_l128, ha_l256, ha_le7, ha_7lt, ha_e0, ha_e1, ha_e2, ha_e300, ha_le0, ha_lt0, ha_0le, ha_d8, ha_s1, ha_80, ha_10]
        exact this
theorem hy_tot {post : Int32 → Prop} {x : Int32} (h : (x = 0 → post kp) ∧ (¬ x = 0 → ((x = 1 → post rd) ∧ (¬ x = 1 → ((x = 2 → post (nI (hz_cp (fun j => st j = 0) 4))) ∧ (¬ x = 2 → post (-1))))))) : ∀ (n k : Nat), 4 < n + k → k ≤ 4 →
    wY_total_4 post x kp rd lr yw yh yv yr yk ys yp yo sc st yf ho ro le fe mo ra ac lo rq n (nI (hz_cp (fun j => st j = 0) k)) (nI k) := by
  intro n
  induction n with
  | zero => intro k h1 h2; omega
  | succ n ih =>
    intro k h1 h2
    by_cases e : k = 4
    · subst e
      exact And.intro (fun _ => h) (fun z => absurd (Int32.le_refl _) z)
    · have e4 : ¬ 4 ≤ k := by omega
      have := ih (k + 1) (by omega) (by omega)
      by_cases a : st k = 0
      · rw [hz_cp_y (P := fun j => st j = 0) (k := k) a] at this
        simp (disch := omega) only [wY_total_4, e4, a, forall_eq, nI_leI, nI_ltI, nI_eq, vp_in_nI, nI_clamp, nI_add, nI_1, hz_na, hz_nup, true_implies, forall_const, not_true_eq_false, not_false_eq_true, false_implies, and_true, true_and, implies_true, and_self, if_true, if_false, ite_true, ite_false, reduceIte, ha_m4, ha_m8, ha_m5, ha_m32, ha_m64, ha_m300, ha_a4, ha_a16, ha_a300, ha_a600, ha_a900, ha_p8, ha_l4, ha_l5, ha_l8, ha_l32, ha_l36, ha_l64, ha_l128, ha_l256, ha_le7, ha_7lt, ha_e0, ha_e1, ha_e2, ha_e300, ha_le0, ha_lt0, ha_0le, ha_d8, ha_s1, ha_80, ha_10]
        exact this
      · rw [hz_cp_n (P := fun j => st j = 0) (k := k) a] at this
        simp (disch := omega) only [wY_total_4, e4, a, forall_eq, nI_leI, nI_ltI, nI_eq, vp_in_nI, nI_clamp, nI_add, nI_1, hz_na, hz_nup, true_implies, forall_const, not_true_eq_false, not_false_eq_true, false_implies, and_true, true_and, implies_true, and_self, if_true, if_false, ite_true, ite_false, reduceIte, ha_m4, ha_m8, ha_m5, ha_m32, ha_m64, ha_m300, ha_a4, ha_a16, ha_a300, ha_a600, ha_a900, ha_p8, ha_l4, ha_l5, ha_l8, ha_l32, ha_l36, ha_l64, ha_l128, ha_l256, ha_le7, ha_7lt, ha_e0, ha_e1, ha_e2, ha_e300, ha_le0, ha_lt0, ha_0le, ha_d8, ha_s1, ha_80, ha_10]
        exact this
end YC
section XC
variable {th rd fb kp : Int32} {kX st ho ro le va sm wc wd wt nx fi la sn sc co hv ow rA wA fe mo ra ac lo rq : Nat → Int32}
theorem hx_tot {post : Int32 → Prop} (h : post (nI (hz_cp (fun j => st j = 0) 4))) : ∀ (n k : Nat), 4 < n + k → k ≤ 4 →
    wX_total_30 post th rd fb kp kX st ho ro le va sm wc wd wt nx fi la sn sc co hv ow rA wA fe mo ra ac lo rq n (nI (hz_cp (fun j => st j = 0) k)) (nI k) := by
  intro n
  induction n with
  | zero => intro k h1 h2; omega
  | succ n ih =>
    intro k h1 h2
    by_cases e : k = 4
    · subst e
      exact And.intro (fun _ => h) (fun z => absurd (Int32.le_refl _) z)
    · have e4 : ¬ 4 ≤ k := by omega
      have := ih (k + 1) (by omega) (by omega)
      by_cases a : st k = 0
      · rw [hz_cp_y (P := fun j => st j = 0) (k := k) a] at this
        simp (disch := omega) only [wX_total_30, e4, a, forall_eq, nI_leI, nI_ltI, nI_eq, vp_in_nI, nI_clamp, nI_add, nI_1, hz_na, hz_nup, true_implies, forall_const, not_true_eq_false, not_false_eq_true, false_implies, and_true, true_and, implies_true, and_self, if_true, if_false, ite_true, ite_false, reduceIte, ha_m4, ha_m8, ha_m5, ha_m32, ha_m64, ha_m300, ha_a4, ha_a16, ha_a300, ha_a600, ha_a900, ha_p8, ha_l4, ha_l5, ha_l8, ha_l32, ha_l36, ha_l64, ha_l128, ha_l256, ha_le7, ha_7lt, ha_e0, ha_e1, ha_e2, ha_e300, ha_le0, ha_lt0, ha_0le, ha_d8, ha_s1, ha_80, ha_10]
        exact this
      · rw [hz_cp_n (P := fun j => st j = 0) (k := k) a] at this
        simp (disch := omega) only [wX_total_30, e4, a, forall_eq, nI_leI, nI_ltI, nI_eq, vp_in_nI, nI_clamp, nI_add, nI_1, hz_na, hz_nup, true_implies, forall_const, not_true_eq_false, not_false_eq_true, false_implies, and_true, true_and, implies_true, and_self, if_true, if_false, ite_true, ite_false, reduceIte, ha_m4, ha_m8, ha_m5, ha_m32, ha_m64, ha_m300, ha_a4, ha_a16, ha_a300, ha_a600, ha_a900, ha_p8, ha_l4, ha_l5, ha_l8, ha_l32, ha_l36, ha_l64, ha_l128, ha_l256, ha_le7, ha_7lt, ha_e0, ha_e1, ha_e2, ha_e300, ha_le0, ha_lt0, ha_0le, ha_d8, ha_s1, ha_80, ha_10]
        exact this
end XC
theorem i_vc_state {k : Nat} {u : SX} {v : SY} (I : i_Rel k u v) (hk : k + 4 ≤ 2048) (v1 : Int32) : wpX_state (fun r => wpY_state (fun r' => r' = r ∧ i_Rel (k + 4) u v) v v1) u v1 := by
  refine hr_el (P := fun u v => wpX_state (fun r => wpY_state (fun r' => r' = r ∧ i_Rel (k + 4) u v) v v1) u v1) ?_ I
  intro gt K kn gq ln gm gc gd gx gf gl gs gh go gr gw wo wh rd fb lr st ho va wt sc co fe mo ra ac lo rq yv yr yk ys yp yo yf hH hK hL hB hC hV hD hO hR
  have R : i_Rel (k + 4) ((nI gt), rd, fb, (nI K), (hz_n kn), st, ho, (hz_n gq), (hz_n ln), va, (hz_n gm), (hz_n gc), (hz_n gd), wt, (hz_n gx), (hz_n gf), (hz_n gl), (hz_n gs), sc, co, (hz_n gh), (hz_n go), (hz_n gr), (hz_n gw), fe, mo, ra, ac, lo, rq) ((nI K), rd, lr, (hz_n wo), (hz_n wh), yv, yr, yk, ys, yp, yo, sc, st, yf, ho, (hz_n gq), (hz_n ln), fe, mo, ra, ac, lo, rq) := hr_in hH hK hL hB hC hV hD hO hR
  unfold wpX_state
  rcases hz_ix v1 4 (by decide) with hx | ⟨m, hm, rfl⟩
  · refine hx_four_n hx (br_t rfl ?_)
    unfold wpY_state
    exact hy_in_n hx (br_t rfl ⟨rfl, R⟩)
  · refine hx_four hm (br_f (by decide) ⟨vp_in_nI hm (by decide), ?_⟩)
    unfold wpY_state
    exact hy_in4 hm (br_f (by decide) ⟨vp_in_nI hm (by decide), rfl, R⟩)
theorem i_vc_holder {k : Nat} {u : SX} {v : SY} (I : i_Rel k u v) (hk : k + 4 ≤ 2048) (v1 : Int32) : wpX_holder (fun r => wpY_holder (fun r' => r' = r ∧ i_Rel (k + 4) u v) v v1) u v1 := by
  refine hr_el (P := fun u v => wpX_holder (fun r => wpY_holder (fun r' => r' = r ∧ i_Rel (k + 4) u v) v v1) u v1) ?_ I
  intro gt K kn gq ln gm gc gd gx gf gl gs gh go gr gw wo wh rd fb lr st ho va wt sc co fe mo ra ac lo rq yv yr yk ys yp yo yf hH hK hL hB hC hV hD hO hR
  have R : i_Rel (k + 4) ((nI gt), rd, fb, (nI K), (hz_n kn), st, ho, (hz_n gq), (hz_n ln), va, (hz_n gm), (hz_n gc), (hz_n gd), wt, (hz_n gx), (hz_n gf), (hz_n gl), (hz_n gs), sc, co, (hz_n gh), (hz_n go), (hz_n gr), (hz_n gw), fe, mo, ra, ac, lo, rq) ((nI K), rd, lr, (hz_n wo), (hz_n wh), yv, yr, yk, ys, yp, yo, sc, st, yf, ho, (hz_n gq), (hz_n ln), fe, mo, ra, ac, lo, rq) := hr_in hH hK hL hB hC hV hD hO hR
  unfold wpX_holder
  rcases hz_ix v1 4 (by decide) with hx | ⟨m, hm, rfl⟩
  · refine hx_four_n hx (br_t rfl ?_)
    unfold wpY_holder
    exact hy_in_n hx (br_t rfl ⟨rfl, R⟩)
  · refine hx_four hm (br_f (by decide) ⟨vp_in_nI hm (by decide), ?_⟩)
    unfold wpY_holder
    exact hy_in4 hm (br_f (by decide) ⟨vp_in_nI hm (by decide), rfl, R⟩)
theorem i_vc_races {k : Nat} {u : SX} {v : SY} (I : i_Rel k u v) (hk : k + 4 ≤ 2048) (v1 : Int32) : wpX_races (fun r => wpY_races (fun r' => r' = r ∧ i_Rel (k + 4) u v) v v1) u v1 := by
  refine hr_el (P := fun u v => wpX_races (fun r => wpY_races (fun r' => r' = r ∧ i_Rel (k + 4) u v) v v1) u v1) ?_ I
  intro gt K kn gq ln gm gc gd gx gf gl gs gh go gr gw wo wh rd fb lr st ho va wt sc co fe mo ra ac lo rq yv yr yk ys yp yo yf hH hK hL hB hC hV hD hO hR
  have R : i_Rel (k + 4) ((nI gt), rd, fb, (nI K), (hz_n kn), st, ho, (hz_n gq), (hz_n ln), va, (hz_n gm), (hz_n gc), (hz_n gd), wt, (hz_n gx), (hz_n gf), (hz_n gl), (hz_n gs), sc, co, (hz_n gh), (hz_n go), (hz_n gr), (hz_n gw), fe, mo, ra, ac, lo, rq) ((nI K), rd, lr, (hz_n wo), (hz_n wh), yv, yr, yk, ys, yp, yo, sc, st, yf, ho, (hz_n gq), (hz_n ln), fe, mo, ra, ac, lo, rq) := hr_in hH hK hL hB hC hV hD hO hR
  unfold wpX_races
  rcases hz_ix v1 64 (by decide) with hx | ⟨m, hm, rfl⟩
  · have q : wpY_races (fun r' => r' = -1 ∧ i_Rel (k + 4) ((nI gt), rd, fb, (nI K), (hz_n kn), st, ho, (hz_n gq), (hz_n ln), va, (hz_n gm), (hz_n gc), (hz_n gd), wt, (hz_n gx), (hz_n gf), (hz_n gl), (hz_n gs), sc, co, (hz_n gh), (hz_n go), (hz_n gr), (hz_n gw), fe, mo, ra, ac, lo, rq) ((nI K), rd, lr, (hz_n wo), (hz_n wh), yv, yr, yk, ys, yp, yo, sc, st, yf, ho, (hz_n gq), (hz_n ln), fe, mo, ra, ac, lo, rq)) ((nI K), rd, lr, (hz_n wo), (hz_n wh), yv, yr, yk, ys, yp, yo, sc, st, yf, ho, (hz_n gq), (hz_n ln), fe, mo, ra, ac, lo, rq) v1 := by
      unfold wpY_races
      exact hy_in_n hx (br_t rfl ⟨rfl, R⟩)
    by_cases z : v1 < 0
    · exact br_t z q
    · exact br_f z (br_t (hx.resolve_left z) q)
  · refine br_f (nI_pos (by omega)) (br_f (nI_ge (b := 64) hm (by decide)) ⟨vp_in_nI hm (by decide), ?_⟩)
    unfold wpY_races
    exact hy_in64 hm (br_f (by decide) ⟨vp_in_nI hm (by decide), rfl, R⟩)
theorem i_vc_waits {k : Nat} {u : SX} {v : SY} (I : i_Rel k u v) (hk : k + 4 ≤ 2048) (v1 : Int32) (v2 : Int32) (v3 : Int32) : wpX_waits (fun r => wpY_waits (fun r' => r' = r ∧ i_Rel (k + 4) u v) v v1 (lw_bz v2) v3) u v1 (lw_bz v2) v3 := by
  refine hr_el (P := fun u v => wpX_waits (fun r => wpY_waits (fun r' => r' = r ∧ i_Rel (k + 4) u v) v v1 (lw_bz v2) v3) u v1 (lw_bz v2) v3) ?_ I
  intro gt K kn gq ln gm gc gd gx gf gl gs gh go gr gw wo wh rd fb lr st ho va wt sc co fe mo ra ac lo rq yv yr yk ys yp yo yf hH hK hL hB hC hV hD hO hR
  have R : i_Rel (k + 4) ((nI gt), rd, fb, (nI K), (hz_n kn), st, ho, (hz_n gq), (hz_n ln), va, (hz_n gm), (hz_n gc), (hz_n gd), wt, (hz_n gx), (hz_n gf), (hz_n gl), (hz_n gs), sc, co, (hz_n gh), (hz_n go), (hz_n gr), (hz_n gw), fe, mo, ra, ac, lo, rq) ((nI K), rd, lr, (hz_n wo), (hz_n wh), yv, yr, yk, ys, yp, yo, sc, st, yf, ho, (hz_n gq), (hz_n ln), fe, mo, ra, ac, lo, rq) := hr_in hH hK hL hB hC hV hD hO hR
  have row : ∀ (r : Nat), r < 8 → ∃ x : Int32, (∀ post : Int32 → Prop, post x → wX_waits_20 post v3 (nI r) (nI gt) rd fb (nI K) (hz_n kn) st ho (hz_n gq) (hz_n ln) va (hz_n gm) (hz_n gc) (hz_n gd) wt (hz_n gx) (hz_n gf) (hz_n gl) (hz_n gs) sc co (hz_n gh) (hz_n go) (hz_n gr) (hz_n gw) fe mo ra ac lo rq) ∧ (∀ post : Int32 → Prop, post x → wY_waits_21 post v3 (nI r) (nI K) rd lr (hz_n wo) (hz_n wh) yv yr yk ys yp yo sc st yf ho (hz_n gq) (hz_n ln) fe mo ra ac lo rq) := by
    intro r hr
    have l4 := hL.2.1 r hr
    by_cases e : v3 = -1
    · refine ⟨nI (ln r), fun post h => ?_, fun post h => ?_⟩
      · unfold wX_waits_20
        refine br_t e ⟨vp_in_nI hr (by decide), ?_⟩
        rw [nI_clamp (by omega)]
        exact h
      · unfold wY_waits_21
        refine br_t e ⟨vp_in_nI hr (by decide), ?_⟩
        rw [nI_clamp (by omega)]
        exact h
    · rcases hz_ix v3 (ln r) (by omega) with hx | ⟨j, hj, rfl⟩
      · refine ⟨-1, fun post h => ?_, fun post h => ?_⟩
        · unfold wX_waits_20
          refine br_f e ?_
          by_cases z : v3 < 0
          · exact br_t z h
          · refine br_f z ⟨vp_in_nI hr (by decide), ?_⟩
            rw [nI_clamp (by omega)]
            exact br_t (hx.resolve_left z) h
        · unfold wY_waits_21
          refine br_f e ⟨vp_in_nI hr (by decide), ?_⟩
          rw [nI_clamp (by omega)]
          exact hy_in_n hx (br_t rfl h)
      · have jl : ¬ ln r ≤ j := by omega
        refine ⟨nI (gq (4 * r + j)), fun post h => ?_, fun post h => ?_⟩
        · simp (disch := omega) only [wX_waits_20, e, jl, forall_eq, nI_leI, nI_ltI, nI_eq, vp_in_nI, nI_clamp, nI_add, nI_1, hz_na, hz_nup, true_implies, forall_const, not_true_eq_false, not_false_eq_true, false_implies, and_true, true_and, implies_true, and_self, if_true, if_false, ite_true, ite_false, reduceIte, ha_m4, ha_m8, ha_m5, ha_m32, ha_m64, ha_m300, ha_a4, ha_a16, ha_a300, ha_a600, ha_a900, ha_p8, ha_l4, ha_l5, ha_l8, ha_l32, ha_l36, ha_l64, ha_l128, ha_l256, ha_le7, ha_7lt, ha_e0, ha_e1, ha_e2, ha_e300, ha_le0, ha_lt0, ha_0le, ha_d8, ha_s1, ha_80, ha_10]
          exact h
        · unfold wY_waits_21
          refine br_f e ⟨vp_in_nI hr (by decide), ?_⟩
          rw [nI_clamp (by omega)]
          refine hy_in hj (by omega) (br_f (by decide) ?_)
          simp (disch := omega) only [forall_eq, nI_leI, nI_ltI, nI_eq, vp_in_nI, nI_clamp, nI_add, nI_1, hz_na, hz_nup, true_implies, forall_const, not_true_eq_false, not_false_eq_true, false_implies, and_true, true_and, implies_true, and_self, if_true, if_false, ite_true, ite_false, reduceIte, ha_m4, ha_m8, ha_m5, ha_m32, ha_m64, ha_m300, ha_a4, ha_a16, ha_a300, ha_a600, ha_a900, ha_p8, ha_l4, ha_l5, ha_l8, ha_l32, ha_l36, ha_l64, ha_l128, ha_l256, ha_le7, ha_7lt, ha_e0, ha_e1, ha_e2, ha_e300, ha_le0, ha_lt0, ha_0le, ha_d8, ha_s1, ha_80, ha_10]
          exact h
  unfold wpX_waits
  rcases hz_ix v1 4 (by decide) with hx | ⟨m, hm, rfl⟩
  · refine hx_four_n hx (br_t rfl ?_)
    unfold wpY_waits
    exact hy_in_n hx (br_t rfl ⟨rfl, R⟩)
  · refine hx_four hm (br_f (by decide) ?_)
    rcases lw_bz_01 v2 with e | e
    · rw [e]
      obtain ⟨x, hX, hY⟩ := row m (by omega)
      refine br_t rfl (hX _ ?_)
      unfold wpY_waits
      exact hy_in4 hm (br_f (by decide) (br_t rfl (hY _ ⟨rfl, R⟩)))
    · rw [e]
      obtain ⟨x, hX, hY⟩ := row (4 + m) (by omega)
      refine br_f (by decide) ?_
      rw [ha_a4]
      refine hX _ ?_
      unfold wpY_waits
      refine hy_in4 hm (br_f (by decide) (br_f (by decide) ?_))
      rw [ha_a4]
      exact hY _ ⟨rfl, R⟩
theorem i_vc_knows {k : Nat} {u : SX} {v : SY} (I : i_Rel k u v) (hk : k + 4 ≤ 2048) (v1 : Int32) (v2 : Int32) : wpX_knows (fun r => wpY_knows (fun r' => r' = r ∧ i_Rel (k + 4) u v) v v1 v2) u v1 v2 := by
  refine hr_el (P := fun u v => wpX_knows (fun r => wpY_knows (fun r' => r' = r ∧ i_Rel (k + 4) u v) v v1 v2) u v1 v2) ?_ I
  intro gt K kn gq ln gm gc gd gx gf gl gs gh go gr gw wo wh rd fb lr st ho va wt sc co fe mo ra ac lo rq yv yr yk ys yp yo yf hH hK hL hB hC hV hD hO hR
  have R : i_Rel (k + 4) ((nI gt), rd, fb, (nI K), (hz_n kn), st, ho, (hz_n gq), (hz_n ln), va, (hz_n gm), (hz_n gc), (hz_n gd), wt, (hz_n gx), (hz_n gf), (hz_n gl), (hz_n gs), sc, co, (hz_n gh), (hz_n go), (hz_n gr), (hz_n gw), fe, mo, ra, ac, lo, rq) ((nI K), rd, lr, (hz_n wo), (hz_n wh), yv, yr, yk, ys, yp, yo, sc, st, yf, ho, (hz_n gq), (hz_n ln), fe, mo, ra, ac, lo, rq) := hr_in hH hK hL hB hC hV hD hO hR
  unfold wpX_knows
  rcases hz_ix v1 4 (by decide) with hx | ⟨m, hm, rfl⟩
  · refine hx_four_n hx (br_t rfl ?_)
    unfold wpY_knows wpY_counted__known
    exact hy_in_n hx (br_t rfl ⟨rfl, R⟩)
  · refine hx_four hm (br_f (by decide) ?_)
    rcases hz_ix v2 4 (by decide) with hx | ⟨o, ho', rfl⟩
    · refine hx_four_n hx (br_t rfl ?_)
      unfold wpY_knows wpY_counted__known
      exact hy_in4 hm (br_f (by decide) (hy_in_n hx (br_t rfl ⟨rfl, R⟩)))
    · refine hx_four ho' (br_f (by decide) ?_)
      simp (disch := omega) only [forall_eq, nI_leI, nI_ltI, nI_eq, vp_in_nI, nI_clamp, nI_add, nI_1, hz_na, hz_nup, true_implies, forall_const, not_true_eq_false, not_false_eq_true, false_implies, and_true, true_and, implies_true, and_self, if_true, if_false, ite_true, ite_false, reduceIte, ha_m4, ha_m8, ha_m5, ha_m32, ha_m64, ha_m300, ha_a4, ha_a16, ha_a300, ha_a600, ha_a900, ha_p8, ha_l4, ha_l5, ha_l8, ha_l32, ha_l36, ha_l64, ha_l128, ha_l256, ha_le7, ha_7lt, ha_e0, ha_e1, ha_e2, ha_e300, ha_le0, ha_lt0, ha_0le, ha_d8, ha_s1, ha_80, ha_10]
      unfold wpY_knows wpY_counted__known
      refine hy_in4 hm (br_f (by decide) (hy_in4 ho' (br_f (by decide) (Exists.intro (K + 1) ?_))))
      refine hy_cnk hH.2.1 hH.1 hm ho' ⟨?_, R⟩ (K + 1) 0 (by omega) (by omega)
      refine congrArg nI (hz_cp_kn (wo := wo) (o := o) ?_ ?_)
      · intro i hi
        rw [hz_B1 (hK.2.2.2.1 m i hm hi)]
        constructor
        · rintro ⟨a, b⟩
          rw [a] at b
          exact ⟨a, b⟩
        · rintro ⟨a, b⟩
          refine ⟨a, ?_⟩
          rw [a]
          exact b
      · rw [← hK.2.2.1 o ho']
        exact hK.2.1 m o (by omega) ho'
theorem i_vc_keeps {k : Nat} {u : SX} {v : SY} (I : i_Rel k u v) (hk : k + 4 ≤ 2048) (v1 : Int32) (v2 : Int32) : wpX_keeps (fun r => wpY_keeps (fun r' => r' = r ∧ i_Rel (k + 4) u v) v v1 v2) u v1 v2 := by
  refine hr_el (P := fun u v => wpX_keeps (fun r => wpY_keeps (fun r' => r' = r ∧ i_Rel (k + 4) u v) v v1 v2) u v1 v2) ?_ I
  intro gt K kn gq ln gm gc gd gx gf gl gs gh go gr gw wo wh rd fb lr st ho va wt sc co fe mo ra ac lo rq yv yr yk ys yp yo yf hH hK hL hB hC hV hD hO hR
  have R : i_Rel (k + 4) ((nI gt), rd, fb, (nI K), (hz_n kn), st, ho, (hz_n gq), (hz_n ln), va, (hz_n gm), (hz_n gc), (hz_n gd), wt, (hz_n gx), (hz_n gf), (hz_n gl), (hz_n gs), sc, co, (hz_n gh), (hz_n go), (hz_n gr), (hz_n gw), fe, mo, ra, ac, lo, rq) ((nI K), rd, lr, (hz_n wo), (hz_n wh), yv, yr, yk, ys, yp, yo, sc, st, yf, ho, (hz_n gq), (hz_n ln), fe, mo, ra, ac, lo, rq) := hr_in hH hK hL hB hC hV hD hO hR
  unfold wpX_keeps
  rcases hz_ix v1 4 (by decide) with hx | ⟨m, hm, rfl⟩
  · refine hx_four_n hx (br_t rfl ?_)
    unfold wpY_keeps wpY_counted__keeps
    exact hy_in_n hx (br_t rfl ⟨rfl, R⟩)
  · refine hx_four hm (br_f (by decide) ?_)
    rcases hz_ix v2 4 (by decide) with hx | ⟨o, ho', rfl⟩
    · refine hx_four_n hx (br_t rfl ?_)
      unfold wpY_keeps wpY_counted__keeps
      exact hy_in4 hm (br_f (by decide) (hy_in_n hx (br_t rfl ⟨rfl, R⟩)))
    · refine hx_four ho' (br_f (by decide) ?_)
      simp (disch := omega) only [forall_eq, nI_leI, nI_ltI, nI_eq, vp_in_nI, nI_clamp, nI_add, nI_1, hz_na, hz_nup, true_implies, forall_const, not_true_eq_false, not_false_eq_true, false_implies, and_true, true_and, implies_true, and_self, if_true, if_false, ite_true, ite_false, reduceIte, ha_m4, ha_m8, ha_m5, ha_m32, ha_m64, ha_m300, ha_a4, ha_a16, ha_a300, ha_a600, ha_a900, ha_p8, ha_l4, ha_l5, ha_l8, ha_l32, ha_l36, ha_l64, ha_l128, ha_l256, ha_le7, ha_7lt, ha_e0, ha_e1, ha_e2, ha_e300, ha_le0, ha_lt0, ha_0le, ha_d8, ha_s1, ha_80, ha_10]
      unfold wpY_keeps wpY_counted__keeps
      refine hy_in4 hm (br_f (by decide) (hy_in4 ho' (br_f (by decide) (Exists.intro (K + 1) ?_))))
      refine hy_cnp hH.2.1 hH.1 hm ho' ⟨?_, R⟩ (K + 1) 0 (by omega) (by omega)
      rw [show 16 + 4 * m + o = 4 * (4 + m) + o from by omega]
      refine congrArg nI (hz_cp_kn (wo := wo) (o := o) ?_ ?_)
      · intro i hi
        rw [hz_B1 (hK.2.2.2.2 m i hm hi)]
        constructor
        · rintro ⟨a, b⟩
          rw [a] at b
          exact ⟨a, b⟩
        · rintro ⟨a, b⟩
          refine ⟨a, ?_⟩
          rw [a]
          exact b
      · rw [← hK.2.2.1 o ho']
        exact hK.2.1 (4 + m) o (by omega) ho'
theorem i_vc_total {k : Nat} {u : SX} {v : SY} (I : i_Rel k u v) (hk : k + 4 ≤ 2048) (v1 : Int32) : wpX_total (fun r => wpY_total (fun r' => r' = r ∧ i_Rel (k + 4) u v) v v1) u v1 := by
  refine hr_el (P := fun u v => wpX_total (fun r => wpY_total (fun r' => r' = r ∧ i_Rel (k + 4) u v) v v1) u v1) ?_ I
  intro gt K kn gq ln gm gc gd gx gf gl gs gh go gr gw wo wh rd fb lr st ho va wt sc co fe mo ra ac lo rq yv yr yk ys yp yo yf hH hK hL hB hC hV hD hO hR
  have R : i_Rel (k + 4) ((nI gt), rd, fb, (nI K), (hz_n kn), st, ho, (hz_n gq), (hz_n ln), va, (hz_n gm), (hz_n gc), (hz_n gd), wt, (hz_n gx), (hz_n gf), (hz_n gl), (hz_n gs), sc, co, (hz_n gh), (hz_n go), (hz_n gr), (hz_n gw), fe, mo, ra, ac, lo, rq) ((nI K), rd, lr, (hz_n wo), (hz_n wh), yv, yr, yk, ys, yp, yo, sc, st, yf, ho, (hz_n gq), (hz_n ln), fe, mo, ra, ac, lo, rq) := hr_in hH hK hL hB hC hV hD hO hR
  have T : ∀ post : Int32 → Prop, ((v1 = 0 → post (nI K)) ∧ (¬ v1 = 0 → ((v1 = 1 → post rd) ∧ (¬ v1 = 1 → ((v1 = 2 → post (nI (hz_cp (fun j => st j = 0) 4))) ∧ (¬ v1 = 2 → post (-1))))))) → wpY_total post ((nI K), rd, lr, (hz_n wo), (hz_n wh), yv, yr, yk, ys, yp, yo, sc, st, yf, ho, (hz_n gq), (hz_n ln), fe, mo, ra, ac, lo, rq) v1 := by
    intro post h
    unfold wpY_total
    exact Exists.intro 5 (hy_tot h 5 0 (by omega) (by omega))
  unfold wpX_total
  by_cases a : v1 = 0
  · exact br_t a (T _ (br_t a ⟨rfl, R⟩))
  · refine br_f a ?_
    by_cases b : v1 = 1
    · exact br_t b (T _ (br_f a (br_t b ⟨rfl, R⟩)))
    · refine br_f b ?_
      by_cases c : v1 = 2
      · exact br_t c (Exists.intro 5 (hx_tot (T _ (br_f a (br_f b (br_t c ⟨rfl, R⟩)))) 5 0 (by omega) (by omega)))
      · exact br_f c (T _ (br_f a (br_f b (br_f c ⟨rfl, R⟩))))
theorem i_vc_count {k : Nat} {u : SX} {v : SY} (I : i_Rel k u v) (hk : k + 4 ≤ 2048) (v1 : Int32) (v2 : Int32) : wpX_count (fun r => wpY_count (fun r' => r' = r ∧ i_Rel (k + 4) u v) v v1 v2) u v1 v2 := by
  refine hr_el (P := fun u v => wpX_count (fun r => wpY_count (fun r' => r' = r ∧ i_Rel (k + 4) u v) v v1 v2) u v1 v2) ?_ I
  intro gt K kn gq ln gm gc gd gx gf gl gs gh go gr gw wo wh rd fb lr st ho va wt sc co fe mo ra ac lo rq yv yr yk ys yp yo yf hH hK hL hB hC hV hD hO hR
  have R : i_Rel (k + 4) ((nI gt), rd, fb, (nI K), (hz_n kn), st, ho, (hz_n gq), (hz_n ln), va, (hz_n gm), (hz_n gc), (hz_n gd), wt, (hz_n gx), (hz_n gf), (hz_n gl), (hz_n gs), sc, co, (hz_n gh), (hz_n go), (hz_n gr), (hz_n gw), fe, mo, ra, ac, lo, rq) ((nI K), rd, lr, (hz_n wo), (hz_n wh), yv, yr, yk, ys, yp, yo, sc, st, yf, ho, (hz_n gq), (hz_n ln), fe, mo, ra, ac, lo, rq) := hr_in hH hK hL hB hC hV hD hO hR
  unfold wpX_count
  rcases hz_ix v1 4 (by decide) with hx | ⟨m, hm, rfl⟩
  · refine hx_four_n hx (br_t rfl ?_)
    unfold wpY_count
    exact hy_in_n hx (br_t rfl ⟨rfl, R⟩)
  · refine hx_four hm (br_f (by decide) ?_)
    have hi : vp_in (nI m) 4 := vp_in_nI hm (by decide)
    rcases hz_ix v2 5 (by decide) with hx | ⟨o, ho', rfl⟩
    · have q : wpY_count (fun r' => r' = -1 ∧ i_Rel (k + 4) ((nI gt), rd, fb, (nI K), (hz_n kn), st, ho, (hz_n gq), (hz_n ln), va, (hz_n gm), (hz_n gc), (hz_n gd), wt, (hz_n gx), (hz_n gf), (hz_n gl), (hz_n gs), sc, co, (hz_n gh), (hz_n go), (hz_n gr), (hz_n gw), fe, mo, ra, ac, lo, rq) ((nI K), rd, lr, (hz_n wo), (hz_n wh), yv, yr, yk, ys, yp, yo, sc, st, yf, ho, (hz_n gq), (hz_n ln), fe, mo, ra, ac, lo, rq)) ((nI K), rd, lr, (hz_n wo), (hz_n wh), yv, yr, yk, ys, yp, yo, sc, st, yf, ho, (hz_n gq), (hz_n ln), fe, mo, ra, ac, lo, rq) (nI m) v2 := by
        unfold wpY_count
        exact hy_in4 hm (br_f (by decide) (hy_in_n hx (br_t rfl ⟨rfl, R⟩)))
      have ne : ∀ c : Nat, c < 5 → ¬ v2 = nI c := by
        intro c hc e
        rw [e] at hx
        rcases hx with z | z
        · exact nI_pos (by omega) z
        · exact nI_ge hc (by decide) z
      exact br_f (ne 0 (by omega)) (br_f (ne 1 (by omega)) (br_f (ne 2 (by omega)) (br_f (ne 3 (by omega)) (br_f (ne 4 (by omega)) q))))
    · have Y : ∀ post : Int32 → Prop, _ → wpY_count post ((nI K), rd, lr, (hz_n wo), (hz_n wh), yv, yr, yk, ys, yp, yo, sc, st, yf, ho, (hz_n gq), (hz_n ln), fe, mo, ra, ac, lo, rq) (nI m) (nI o) := fun post h => by
        unfold wpY_count
        exact hy_in4 hm (br_f (by decide) (hy_in5 ho' (br_f (by decide) h)))
      match o, ho' with
      | 0, _ => exact br_t rfl ⟨hi, Y _ (br_t rfl ⟨hi, rfl, R⟩)⟩
      | 1, _ => exact br_f (by decide) (br_t rfl ⟨hi, Y _ (br_f (by decide) (br_t rfl ⟨hi, rfl, R⟩))⟩)
      | 2, _ => exact br_f (by decide) (br_f (by decide) (br_t rfl ⟨hi, Y _ (br_f (by decide) (br_f (by decide) (br_t rfl ⟨hi, rfl, R⟩)))⟩))
      | 3, _ => exact br_f (by decide) (br_f (by decide) (br_f (by decide) (br_t rfl ⟨hi, Y _ (br_f (by decide) (br_f (by decide) (br_f (by decide) (br_t rfl ⟨hi, rfl, R⟩))))⟩)))
      | 4, _ => exact br_f (by decide) (br_f (by decide) (br_f (by decide) (br_f (by decide) (br_t rfl ⟨hi, Y _ (br_f (by decide) (br_f (by decide) (br_f (by decide) (br_f (by decide) ⟨hi, rfl, R⟩))))⟩))))
theorem i_vc_stale {k : Nat} {u : SX} {v : SY} (I : i_Rel k u v) (hk : k + 4 ≤ 2048) (v1 : Int32) (v2 : Int32) : wpX_stale (fun r => wpY_stale (fun r' => r' = r ∧ i_Rel (k + 4) u v) v v1 v2) u v1 v2 := by
  refine hr_el (P := fun u v => wpX_stale (fun r => wpY_stale (fun r' => r' = r ∧ i_Rel (k + 4) u v) v v1 v2) u v1 v2) ?_ I
  intro gt K kn gq ln gm gc gd gx gf gl gs gh go gr gw wo wh rd fb lr st ho va wt sc co fe mo ra ac lo rq yv yr yk ys yp yo yf hH hK hL hB hC hV hD hO hR
  have R : i_Rel (k + 4) ((nI gt), rd, fb, (nI K), (hz_n kn), st, ho, (hz_n gq), (hz_n ln), va, (hz_n gm), (hz_n gc), (hz_n gd), wt, (hz_n gx), (hz_n gf), (hz_n gl), (hz_n gs), sc, co, (hz_n gh), (hz_n go), (hz_n gr), (hz_n gw), fe, mo, ra, ac, lo, rq) ((nI K), rd, lr, (hz_n wo), (hz_n wh), yv, yr, yk, ys, yp, yo, sc, st, yf, ho, (hz_n gq), (hz_n ln), fe, mo, ra, ac, lo, rq) := hr_in hH hK hL hB hC hV hD hO hR
  unfold wpX_stale
  rcases hz_ix v1 4 (by decide) with hx | ⟨m, hm, rfl⟩
  · refine hx_four_n hx (br_t rfl ?_)
    unfold wpY_stale
    exact hy_in_n hx (br_t rfl ⟨rfl, R⟩)
  · refine hx_four hm (br_f (by decide) ?_)
    rcases hz_ix v2 8 (by decide) with hx | ⟨p, hp, rfl⟩
    · have q : wpY_stale (fun r' => r' = -1 ∧ i_Rel (k + 4) ((nI gt), rd, fb, (nI K), (hz_n kn), st, ho, (hz_n gq), (hz_n ln), va, (hz_n gm), (hz_n gc), (hz_n gd), wt, (hz_n gx), (hz_n gf), (hz_n gl), (hz_n gs), sc, co, (hz_n gh), (hz_n go), (hz_n gr), (hz_n gw), fe, mo, ra, ac, lo, rq) ((nI K), rd, lr, (hz_n wo), (hz_n wh), yv, yr, yk, ys, yp, yo, sc, st, yf, ho, (hz_n gq), (hz_n ln), fe, mo, ra, ac, lo, rq)) ((nI K), rd, lr, (hz_n wo), (hz_n wh), yv, yr, yk, ys, yp, yo, sc, st, yf, ho, (hz_n gq), (hz_n ln), fe, mo, ra, ac, lo, rq) (nI m) v2 := by
        unfold wpY_stale
        exact hy_in4 hm (br_f (by decide) (hy_in_n hx (br_t rfl ⟨rfl, R⟩)))
      by_cases z : v2 < 0
      · exact br_t z q
      · refine br_f z (br_f ?_ q)
        have z8 := hx.resolve_left z
        rw [Int32.le_iff_toInt_le] at z8 ⊢
        have e8 : (nI 8).toInt = 8 := by decide
        have e7 : (7 : Int32).toInt = 7 := by decide
        omega
    · refine br_f (nI_pos (by omega)) (br_t ((ha_le7 (by omega)).mpr (by omega)) ?_)
      refine hx_stale hC hH.2.1 hH.1 hK.1 hm hp ?_ ?_
      · intro z
        refine br_f (by decide) ?_
        unfold wpY_stale
        exact hy_in4 hm (br_f (by decide) (hy_in8 hp (br_f (by decide) (hy_stale hH.2.2 hH.1 hK hm hp (fun _ => br_f (by decide) ⟨rfl, R⟩) (fun q => absurd z q)))))
      · intro z
        refine br_t rfl ?_
        unfold wpY_stale
        exact hy_in4 hm (br_f (by decide) (hy_in8 hp (br_f (by decide) (hy_stale hH.2.2 hH.1 hK hm hp (fun q => absurd q z) (fun _ => br_t rfl ⟨rfl, R⟩)))))
end
section
/-! T: locks -/
theorem ha_uu {f : Nat → Int32} {i : Nat} {x y : Int32} : upd (upd f i x) i y = upd f i y := by
  funext k
  unfold upd
  by_cases h1 : k = i
  · rw [if_pos h1, if_pos h1]
  · rw [if_neg h1, if_neg h1, if_neg h1]
section XL
variable {th rd fb kp : Int32} {kX st ho ro le va sm wc wd wt nx fi la sn sc co hv ow rA wA fe mo ra ac lo rq : Nat → Int32}
variable {m l : Nat} {kn gq ln : Nat → Nat}
theorem hz_kee_b (h : ∀ j, kn j ≤ 300) (t f : Nat) : ∀ j, hz_kee kn t f j ≤ 300 := by
  intro j
  unfold hz_kee
  split
  · exact h _
  · exact h _
theorem hx_give0 {post : SX → Prop} (hm : m < 4) (hl : l < 4) (hb : ∀ j, kn j ≤ 300) (h0 : ln l = 0) (h : post (th, rd, fb, kp, hz_n (hz_kee kn (4 + l) m), st, upd ho l (-1), ro, hz_n ln, va, sm, wc, wd, wt, nx, fi, la, sn, sc, co, hv, ow, rA, wA, fe, mo, ra, ac, lo, rq)) : wpX_giveBack post (th, rd, fb, kp, hz_n kn, st, ho, ro, hz_n ln, va, sm, wc, wd, wt, nx, fi, la, sn, sc, co, hv, ow, rA, wA, fe, mo, ra, ac, lo, rq) (nI m) (nI l) := by
  unfold wpX_giveBack
  rw [ha_a4]
  refine hx_keep (by omega) (by omega) (by omega) hb ?_
  simp (disch := omega) only [h0, ha_vbm, forall_eq, nI_leI, nI_ltI, nI_eq, vp_in_nI, nI_clamp, nI_add, nI_1, hz_na, hz_nup, true_implies, forall_const, not_true_eq_false, not_false_eq_true, false_implies, and_true, true_and, implies_true, and_self, if_true, if_false, ite_true, ite_false, reduceIte, ha_m4, ha_m8, ha_m5, ha_m32, ha_m64, ha_m300, ha_a4, ha_a16, ha_a300, ha_a600, ha_a900, ha_p8, ha_l4, ha_l5, ha_l8, ha_l32, ha_l36, ha_l64, ha_l128, ha_l256, ha_le7, ha_7lt, ha_e0, ha_e1, ha_e2, ha_e300, ha_le0, ha_lt0, ha_0le, ha_d8, ha_s1, ha_80, ha_10]
  exact h
theorem hx_give1 {post : SX → Prop} (hm : m < 4) (hl : l < 4) (hb : ∀ j, kn j ≤ 300) (hq : ∀ j, gq j < 4) (h4 : ln l ≤ 4) (h0 : 0 < ln l)
    (h : post (th, rd, fb, kp, hz_n (hz_lrn (hz_kee kn (4 + l) m) (gq (4 * l)) (4 + l)), upd st (gq (4 * l)) 0, upd (upd ho l (-1)) l (nI (gq (4 * l))), hz_n (hz_shf gq l (ln l - 1)), hz_n (hz_u ln l (ln l - 1)), va, sm, wc, wd, wt, nx, fi, la, sn, sc, co, hv, ow, rA, wA, fe, mo, ra, ac, lo, rq)) : wpX_giveBack post (th, rd, fb, kp, hz_n kn, st, ho, hz_n gq, hz_n ln, va, sm, wc, wd, wt, nx, fi, la, sn, sc, co, hv, ow, rA, wA, fe, mo, ra, ac, lo, rq) (nI m) (nI l) := by
  unfold wpX_giveBack
  rw [ha_a4]
  have n0 : ¬ ln l = 0 := by omega
  refine hx_keep (by omega) (by omega) (by omega) hb ?_
  simp (disch := omega) only [n0, ha_vbm, forall_eq, nI_leI, nI_ltI, nI_eq, vp_in_nI, nI_clamp, nI_add, nI_1, hz_na, hz_nup, true_implies, forall_const, not_true_eq_false, not_false_eq_true, false_implies, and_true, true_and, implies_true, and_self, if_true, if_false, ite_true, ite_false, reduceIte, ha_m4, ha_m8, ha_m5, ha_m32, ha_m64, ha_m300, ha_a4, ha_a16, ha_a300, ha_a600, ha_a900, ha_p8, ha_l4, ha_l5, ha_l8, ha_l32, ha_l36, ha_l64, ha_l128, ha_l256, ha_le7, ha_7lt, ha_e0, ha_e1, ha_e2, ha_e300, ha_le0, ha_lt0, ha_0le, ha_d8, ha_s1, ha_80, ha_10]
  refine hx_leave (by omega) hq h4 h0 ?_
  exact hx_grant hl (hq _) (hz_kee_b hb _ _) h
end XL
section YL
variable {kp rd lr : Int32} {yw yh yv yr yk ys yp yo sc st yf ho ro le fe mo ra ac lo rq : Nat → Int32}
variable {K m l : Nat} {gq ln : Nat → Nat}
theorem hy_give2 {post : SY → Prop} (hK : K ≤ 300) (hm : m < 4) (hl : l < 4) (hy : ∀ i, i < K → yk (300 * m + i) = 0 ∨ yk (300 * m + i) = 1)
    (h : ∀ n, wY_give_2 post (nI m) (nI l) (nI K) rd lr (n + 1) (nI K) yw yh yv yr yk ys (hz_gp yp yk l m K) yo sc st yf ho ro le fe mo ra ac lo rq) : ∀ (n i : Nat), K < n + i → i ≤ K →
    wY_give_2 post (nI m) (nI l) (nI K) rd lr n (nI i) yw yh yv yr yk ys (hz_gp yp yk l m i) yo sc st yf ho ro le fe mo ra ac lo rq := by
  intro n
  induction n with
  | zero => intro i h1 h2; omega
  | succ n ih =>
    intro i h1 h2
    by_cases e : i = K
    · subst e
      exact h n
    · have e4 : ¬ K ≤ i := by omega
      have := ih (i + 1) (by omega) (by omega)
      rw [← hz_gp_s] at this
      have hn := hz_01n (hy i (by omega))
      simp (disch := omega) only [wY_give_2, e4, hn, forall_eq, nI_leI, nI_ltI, nI_eq, vp_in_nI, nI_clamp, nI_add, nI_1, hz_na, hz_nup, true_implies, forall_const, not_true_eq_false, not_false_eq_true, false_implies, and_true, true_and, implies_true, and_self, if_true, if_false, ite_true, ite_false, reduceIte, ha_m4, ha_m8, ha_m5, ha_m32, ha_m64, ha_m300, ha_a4, ha_a16, ha_a300, ha_a600, ha_a900, ha_p8, ha_l4, ha_l5, ha_l8, ha_l32, ha_l36, ha_l64, ha_l128, ha_l256, ha_le7, ha_7lt, ha_e0, ha_e1, ha_e2, ha_e300, ha_le0, ha_lt0, ha_0le, ha_d8, ha_s1, ha_80, ha_10]
      exact this
theorem hy_give0 {post : SY → Prop} (hK : K ≤ 300) (hm : m < 4) (hl : l < 4) (hy : ∀ i, i < K → yk (300 * m + i) = 0 ∨ yk (300 * m + i) = 1) (h0 : ln l = 0)
    (h : post (nI K, rd, lr, yw, yh, yv, yr, yk, ys, hz_gp yp yk l m K, yo, sc, st, yf, upd ho l (-1), ro, hz_n ln, fe, mo, ra, ac, lo, rq)) : wpY_give post (nI K, rd, lr, yw, yh, yv, yr, yk, ys, yp, yo, sc, st, yf, ho, ro, hz_n ln, fe, mo, ra, ac, lo, rq) (nI m) (nI l) := by
  unfold wpY_give
  refine Exists.intro (K + 1) ?_
  have := hy_give2 (rd := rd) (lr := lr) (yw := yw) (yh := yh) (yv := yv) (yr := yr) (yk := yk) (ys := ys) (yp := yp) (yo := yo) (sc := sc) (st := st) (yf := yf) (ho := ho) (ro := ro) (le := hz_n ln) (fe := fe) (mo := mo) (ra := ra) (ac := ac) (lo := lo) (rq := rq) (post := post) hK hm hl hy ?_ (K + 1) 0 (by omega) (by omega)
  · rw [hz_gp_0] at this
    exact this
  · intro n
    rw [wY_give_2]
    refine br_t (Int32.le_refl _) ?_
    simp (disch := omega) only [h0, forall_eq, nI_leI, nI_ltI, nI_eq, vp_in_nI, nI_clamp, nI_add, nI_1, hz_na, hz_nup, true_implies, forall_const, not_true_eq_false, not_false_eq_true, false_implies, and_true, true_and, implies_true, and_self, if_true, if_false, ite_true, ite_false, reduceIte, ha_m4, ha_m8, ha_m5, ha_m32, ha_m64, ha_m300, ha_a4, ha_a16, ha_a300, ha_a600, ha_a900, ha_p8, ha_l4, ha_l5, ha_l8, ha_l32, ha_l36, ha_l64, ha_l128, ha_l256, ha_le7, ha_7lt, ha_e0, ha_e1, ha_e2, ha_e300, ha_le0, ha_lt0, ha_0le, ha_d8, ha_s1, ha_80, ha_10]
    exact h
theorem hy_give1 {post : SY → Prop} (hK : K ≤ 300) (hm : m < 4) (hl : l < 4) (hy : ∀ i, i < K → yk (300 * m + i) = 0 ∨ yk (300 * m + i) = 1) (hq : ∀ j, gq j < 4) (h4 : ln l ≤ 4) (h0 : 0 < ln l)
    (h : post (nI K, rd, lr, yw, yh, yv, yr, hz_gk yk (hz_gp yp yk l m K) (gq (4 * l)) l K, ys, hz_gp yp yk l m K, yo, sc, upd st (gq (4 * l)) 0, yf, upd (upd ho l (-1)) l (nI (gq (4 * l))), hz_n (hz_shf gq l (ln l - 1)), hz_n (hz_u ln l (ln l - 1)), fe, mo, ra, ac, lo, rq)) : wpY_give post (nI K, rd, lr, yw, yh, yv, yr, yk, ys, yp, yo, sc, st, yf, ho, hz_n gq, hz_n ln, fe, mo, ra, ac, lo, rq) (nI m) (nI l) := by
  unfold wpY_give
  refine Exists.intro (K + 1) ?_
  have n0 : ¬ ln l = 0 := by omega
  have := hy_give2 (rd := rd) (lr := lr) (yw := yw) (yh := yh) (yv := yv) (yr := yr) (yk := yk) (ys := ys) (yp := yp) (yo := yo) (sc := sc) (st := st) (yf := yf) (ho := ho) (ro := hz_n gq) (le := hz_n ln) (fe := fe) (mo := mo) (ra := ra) (ac := ac) (lo := lo) (rq := rq) (post := post) hK hm hl hy ?_ (K + 1) 0 (by omega) (by omega)
  · rw [hz_gp_0] at this
    exact this
  · intro n
    rw [wY_give_2]
    refine br_t (Int32.le_refl _) ?_
    simp (disch := omega) only [n0, forall_eq, nI_leI, nI_ltI, nI_eq, vp_in_nI, nI_clamp, nI_add, nI_1, hz_na, hz_nup, true_implies, forall_const, not_true_eq_false, not_false_eq_true, false_implies, and_true, true_and, implies_true, and_self, if_true, if_false, ite_true, ite_false, reduceIte, ha_m4, ha_m8, ha_m5, ha_m32, ha_m64, ha_m300, ha_a4, ha_a16, ha_a300, ha_a600, ha_a900, ha_p8, ha_l4, ha_l5, ha_l8, ha_l32, ha_l36, ha_l64, ha_l128, ha_l256, ha_le7, ha_7lt, ha_e0, ha_e1, ha_e2, ha_e300, ha_le0, ha_lt0, ha_0le, ha_d8, ha_s1, ha_80, ha_10]
    refine hy_shift (by omega) h4 h0 ?_
    exact hy_gets hK (hq _) hl h
end YL
/-! a lock is given back: pure -/
section GIV
variable {K gt m l : Nat} {wo kn gq ln : Nat → Nat} {yk yp st ho yf : Nat → Int32}
theorem hr_give1 (hw : ∀ i, wo i < 4) (hK' : K ≤ 300) (hK : hr_K K wo kn yk yp) (hL : hr_L 4 ln gq st yf ho) (hB : hr_B gt st kn) (hm : m < 4) (hl : l < 4) (h0 : 0 < ln l) :
    hr_K K wo (hz_lrn (hz_kee kn (4 + l) m) (gq (4 * l)) (4 + l)) (hz_gk yk (hz_gp yp yk l m K) (gq (4 * l)) l K) (hz_gp yp yk l m K) ∧
    hr_L 4 (hz_u ln l (ln l - 1)) (hz_shf gq l (ln l - 1)) (upd st (gq (4 * l)) 0) yf (upd (upd ho l (-1)) l (nI (gq (4 * l)))) ∧
    hr_B gt (upd st (gq (4 * l)) 0) (hz_lrn (hz_kee kn (4 + l) m) (gq (4 * l)) (4 + l)) := by
  have q4 := hL.1 (4 * l)
  have s1 : st (gq (4 * l)) = 1 := by
    have := hL.2.2.1 l 0 (by omega) h0
    rw [Nat.add_zero, if_pos hl] at this
    exact this
  refine ⟨?_, ?_, ?_⟩
  · exact hr_K_gets hw hK' (hr_K_keep hw hK' hK hm hl) q4 hl
  · obtain ⟨p1, p2⟩ := hr_L_pop hL (by omega) h0
    have := hr_L_ho (l := l) (hr_L_set (s := 0) p1 p2 (Or.inl rfl) (by decide)) q4
    rw [ha_uu]
    exact this
  · refine hr_B_n hB q4 (by rw [s1]; decide) (by decide) ?_
    intro q hq hne
    refine ⟨?_, ?_⟩
    · rw [hz_lrn_n hq (by omega), hz_kee_at _ _ _ _ _ hq, if_neg (by omega)]
    · rw [show 5 * q = 4 * q + q from by omega, hz_lrn_n hq hne, hz_kee_at _ _ _ _ _ hq, if_neg (by omega)]
theorem hr_give0 (hw : ∀ i, wo i < 4) (hK' : K ≤ 300) (hK : hr_K K wo kn yk yp) (hL : hr_L 4 ln gq st yf ho) (hB : hr_B gt st kn) (hm : m < 4) (hl : l < 4) (h0 : ln l = 0) :
    hr_K K wo (hz_kee kn (4 + l) m) yk (hz_gp yp yk l m K) ∧ hr_L 4 ln gq st yf (upd ho l (-1)) ∧ hr_B gt st (hz_kee kn (4 + l) m) := by
  refine ⟨hr_K_keep hw hK' hK hm hl, hr_L_hm hL h0, ?_⟩
  obtain ⟨b1, b2, b3⟩ := hB
  refine ⟨b1, b2, ?_⟩
  intro q hq hs
  rw [hz_kee_at _ _ _ _ _ hq, if_neg (by omega), hz_kee_5 (by omega) hq]
  exact b3 q hq hs
end GIV
theorem i_vc_release {k : Nat} {u : SX} {v : SY} (I : i_Rel k u v) (hk : k + 4 ≤ 2048) (v1 : Int32) (v2 : Int32) : wpX_release (fun r u' => wpY_release (fun r' v' => r' = r ∧ i_Rel (k + 4) u' v') v v1 v2) u v1 v2 := by
  refine hr_el (P := fun u v => wpX_release (fun r u' => wpY_release (fun r' v' => r' = r ∧ i_Rel (k + 4) u' v') v v1 v2) u v1 v2) ?_ I
  intro gt K kn gq ln gm gc gd gx gf gl gs gh go gr gw wo wh rd fb lr st ho va wt sc co fe mo ra ac lo rq yv yr yk ys yp yo yf hH hK hL hB hC hV hD hO hR
  unfold wpX_release
  rcases hz_hol st ho v1 v2 with hx | ⟨m, l, hm, hl, rfl, rfl, h0, hh⟩
  · refine hx_holds_n hx (br_t rfl ?_)
    unfold wpY_release
    exact hy_holds_n hx (br_t rfl ⟨rfl, hr_in hH hK hL hB hC hV hD hO hR⟩)
  · refine hx_holds hm hl h0 hh (br_f (by decide) ?_)
    have hy : ∀ i, i < K → yk (300 * m + i) = 0 ∨ yk (300 * m + i) = 1 := fun i hi => hz_B01 (hK.2.2.2.1 m i hm hi)
    rcases Nat.eq_zero_or_pos (ln l) with e | e
    · refine hx_give0 hm hl hK.1 e ?_
      unfold wpY_release
      refine hy_holds hm hl h0 hh (br_f (by decide) (hy_give0 hH.1 hm hl hy e ⟨rfl, ?_⟩))
      obtain ⟨g1, g2, g3⟩ := hr_give0 hH.2.1 hH.1 hK hL hB hm hl e
      exact hr_in hH g1 g2 g3 hC hV hD hO hR
    · refine hx_give1 hm hl hK.1 hL.1 (hL.2.1 l (by omega)) e ?_
      unfold wpY_release
      refine hy_holds hm hl h0 hh (br_f (by decide) (hy_give1 hH.1 hm hl hy hL.1 (hL.2.1 l (by omega)) e ⟨rfl, ?_⟩))
      obtain ⟨g1, g2, g3⟩ := hr_give1 hH.2.1 hH.1 hK hL hB hm hl e
      exact hr_in hH g1 g2 g3 hC hV hD hO hR
theorem i_vc_acquire {k : Nat} {u : SX} {v : SY} (I : i_Rel k u v) (hk : k + 4 ≤ 2048) (v1 : Int32) (v2 : Int32) : wpX_acquire (fun r u' => wpY_acquire (fun r' v' => r' = r ∧ i_Rel (k + 4) u' v') v v1 v2) u v1 v2 := by
  refine hr_el (P := fun u v => wpX_acquire (fun r u' => wpY_acquire (fun r' v' => r' = r ∧ i_Rel (k + 4) u' v') v v1 v2) u v1 v2) ?_ I
  intro gt K kn gq ln gm gc gd gx gf gl gs gh go gr gw wo wh rd fb lr st ho va wt sc co fe mo ra ac lo rq yv yr yk ys yp yo yf hH hK hL hB hC hV hD hO hR
  have R : i_Rel (k + 4) ((nI gt), rd, fb, (nI K), (hz_n kn), st, ho, (hz_n gq), (hz_n ln), va, (hz_n gm), (hz_n gc), (hz_n gd), wt, (hz_n gx), (hz_n gf), (hz_n gl), (hz_n gs), sc, co, (hz_n gh), (hz_n go), (hz_n gr), (hz_n gw), fe, mo, ra, ac, lo, rq) ((nI K), rd, lr, (hz_n wo), (hz_n wh), yv, yr, yk, ys, yp, yo, sc, st, yf, ho, (hz_n gq), (hz_n ln), fe, mo, ra, ac, lo, rq) := hr_in hH hK hL hB hC hV hD hO hR
  unfold wpX_acquire
  rcases hz_run st v1 with hx | ⟨m, hm, rfl, h0⟩
  · refine hx_runs_n hx (br_t rfl ?_)
    unfold wpY_acquire
    exact hy_runs_n hx (br_t rfl ⟨rfl, R⟩)
  · refine hx_runs hm h0 (br_f (by decide) ?_)
    rcases hz_ix v2 4 (by decide) with hx | ⟨l, hl, rfl⟩
    · refine hx_four_n hx (br_t rfl ?_)
      unfold wpY_acquire
      exact hy_runs hm h0 (br_f (by decide) (hy_in_n hx (br_t rfl ⟨rfl, R⟩)))
    · refine hx_four hl (br_f (by decide) ?_)
      have hi : vp_in (nI l) 4 := vp_in_nI hl (by decide)
      have Y : ∀ post : Int32 → SY → Prop, _ → wpY_acquire post ((nI K), rd, lr, (hz_n wo), (hz_n wh), yv, yr, yk, ys, yp, yo, sc, st, yf, ho, (hz_n gq), (hz_n ln), fe, mo, ra, ac, lo, rq) (nI m) (nI l) := fun post h => by
        unfold wpY_acquire
        exact hy_runs hm h0 (br_f (by decide) (hy_in4 hl (br_f (by decide) h)))
      rw [nI_clamp (by omega)] at Y ⊢
      refine ⟨hi, ?_⟩
      by_cases e : ho l = nI m
      · exact br_t e (Y _ ⟨hi, br_t e ⟨rfl, R⟩⟩)
      · refine br_f e ⟨hi, ?_⟩
        have out : hz_out ln gq m := hr_L_out hL (by rw [h0]; decide) (by rw [h0]; decide)
        rcases hL.2.2.2.2.2.2.2 l hl with z | ⟨h', hh', z⟩
        · refine br_t (by rw [z]; decide) ?_
          refine hx_grant hl hm hK.1 ?_
          refine Y _ ⟨hi, br_f e ⟨hi, br_f (by rw [z]; decide) (hy_gets hH.1 hm hl ⟨rfl, ?_⟩)⟩⟩
          have L' := hr_L_set (s := 0) (hr_L_ho (l := l) hL hm) out (Or.inr rfl) (by decide)
          have B' : hr_B gt (upd st m 0) (hz_lrn kn m (4 + l)) := by
            refine hr_B_n hB hm (by rw [h0]; decide) (by decide) ?_
            intro q hq hne
            refine ⟨hz_lrn_n hq (by omega), ?_⟩
            rw [show 5 * q = 4 * q + q from by omega, hz_lrn_n hq hne]
          exact hr_in hH (hr_K_gets hH.2.1 hH.1 hK hm hl) L' B' hC hV hD hO hR
        · refine br_f (by rw [z]; exact nI_pos (by omega)) ?_
          have l3 := hr_L_3 hL out hm (r := l) (by omega)
          refine hx_join (by omega) hm l3 ?_
          have hi2 : vp_in (nI m) 4 := vp_in_nI hm (by decide)
          refine ⟨hi2, nm_r (e' := upd st m 1) (by rw [nI_clamp (by omega), ha_vb1]) ?_⟩
          refine Y _ ⟨hi, br_f e ⟨hi, br_t (by rw [z]; exact nI_pos' (by omega)) ⟨hi2, nm_r (e' := upd st m 1) (by rw [nI_clamp (by omega)]) ⟨hi2, nm_r (e' := upd yf m (nI l)) (by rw [nI_clamp (by omega)]) (hy_push (by omega) l3 ⟨rfl, ?_⟩)⟩⟩⟩⟩
          have L' : hr_L 4 (hz_u ln l (ln l + 1)) (hz_u gq (4 * l + ln l) m) (upd st m 1) (upd yf m (nI l)) ho :=
            hr_L_push hL out (Or.inr rfl) hm (by omega) (fun _ => ⟨h', hh', z⟩) (by rw [if_pos hl]) (fun _ => pk_us) (fun j hj => pk_un hj)
          have B' : hr_B gt (upd st m 1) kn := hr_B_n hB hm (by rw [h0]; decide) (by decide) (fun q _ _ => ⟨rfl, rfl⟩)
          exact hr_in hH hK L' B' hC hV hD hO hR
end
section
/-! U: resting and waking -/
theorem hz_rest_q {gq ln : Nat → Nat} {l m : Nat} (h1 : ln l ≤ 4) : hz_shf (hz_u gq (4 * (4 + l) + ln (4 + l)) m) l (ln l - 1) = hz_u (hz_shf gq l (ln l - 1)) (4 * (4 + l) + ln (4 + l)) m := by
  funext j
  unfold hz_shf hz_u
  by_cases a : 4 * l ≤ j ∧ j < 4 * l + (ln l - 1)
  · rw [if_pos a, if_neg (by omega), if_neg (by omega)]
    dsimp only
    rw [if_pos a]
  · rw [if_neg a]
    by_cases b : j = 4 * (4 + l) + ln (4 + l)
    · rw [if_pos b, if_pos b]
    · rw [if_neg b, if_neg b]
      dsimp only
      rw [if_neg a]
theorem hz_uc {f : Nat → Nat} {i j x y : Nat} (h : i ≠ j) : hz_u (hz_u f i x) j y = hz_u (hz_u f j y) i x := by
  funext k
  unfold hz_u
  by_cases h1 : k = j
  · rw [if_pos h1, if_neg (by omega), if_pos h1]
  · rw [if_neg h1, if_neg h1]
theorem i_vc_rest {k : Nat} {u : SX} {v : SY} (I : i_Rel k u v) (hk : k + 4 ≤ 2048) (v1 : Int32) (v2 : Int32) : wpX_rest (fun r u' => wpY_rest (fun r' v' => r' = r ∧ i_Rel (k + 4) u' v') v v1 v2) u v1 v2 := by
  refine hr_el (P := fun u v => wpX_rest (fun r u' => wpY_rest (fun r' v' => r' = r ∧ i_Rel (k + 4) u' v') v v1 v2) u v1 v2) ?_ I
  intro gt K kn gq ln gm gc gd gx gf gl gs gh go gr gw wo wh rd fb lr st ho va wt sc co fe mo ra ac lo rq yv yr yk ys yp yo yf hH hK hL hB hC hV hD hO hR
  unfold wpX_rest
  rcases hz_hol st ho v1 v2 with hx | ⟨m, l, hm, hl, rfl, rfl, h0, hh⟩
  · refine hx_holds_n hx (br_t rfl ?_)
    unfold wpY_rest
    exact hy_holds_n hx (br_t rfl ⟨rfl, hr_in hH hK hL hB hC hV hD hO hR⟩)
  · have hi : vp_in (nI m) 4 := vp_in_nI hm (by decide)
    have hy : ∀ i, i < K → yk (300 * m + i) = 0 ∨ yk (300 * m + i) = 1 := fun i hi => hz_B01 (hK.2.2.2.1 m i hm hi)
    have out : hz_out ln gq m := hr_L_out hL (by rw [h0]; decide) (by rw [h0]; decide)
    have l3 := hr_L_3 hL out hm (r := 4 + l) (by omega)
    have ll := hL.2.1 l (by omega)
    have L1 : hr_L 4 (hz_u ln (4 + l) (ln (4 + l) + 1)) (hz_u gq (4 * (4 + l) + ln (4 + l)) m) (upd st m 3) yf ho :=
      hr_L_push hL out (Or.inr rfl) hm (by omega) (fun z => by omega) (by rw [if_neg (by omega)]) (fun z => by omega) (fun j hj => rfl)
    have B1 : hr_B gt (upd st m 3) kn := hr_B_n hB hm (by rw [h0]; decide) (by decide) (fun q _ _ => ⟨rfl, rfl⟩)
    have e1 : hz_u ln (4 + l) (ln (4 + l) + 1) l = ln l := hz_un (by omega)
    have e2 : hz_u gq (4 * (4 + l) + ln (4 + l)) m (4 * l) = gq (4 * l) := hz_un (by omega)
    refine hx_holds hm hl h0 hh (br_f (by decide) ⟨hi, nm_r (e' := upd st m 3) (by rw [nI_clamp (by omega), ha_vb3]) ?_⟩)
    rw [ha_a4]
    refine hx_join (by omega) hm l3 ?_
    rcases Nat.eq_zero_or_pos (ln l) with e | e
    · refine hx_give0 hm hl hK.1 (by rw [e1]; exact e) ?_
      unfold wpY_rest
      refine hy_holds hm hl h0 hh (br_f (by decide) (hy_give0 hH.1 hm hl hy e ⟨hi, nm_r (e' := upd st m 3) (by rw [nI_clamp (by omega)]) ?_⟩))
      rw [ha_a4]
      refine hy_push (by omega) l3 ⟨rfl, ?_⟩
      obtain ⟨g1, g2, g3⟩ := hr_give0 hH.2.1 hH.1 hK L1 B1 hm hl (by rw [e1]; exact e)
      exact hr_in hH g1 g2 g3 hC hV hD hO hR
    · refine hx_give1 hm hl hK.1 L1.1 (by rw [e1]; exact ll) (by rw [e1]; exact e) ?_
      unfold wpY_rest
      refine hy_holds hm hl h0 hh (br_f (by decide) (hy_give1 hH.1 hm hl hy hL.1 ll e ⟨hi, nm_r (e' := upd (upd st (gq (4 * l)) 0) m 3) (by rw [nI_clamp (by omega)]) ?_⟩))
      rw [ha_a4]
      have e3 : hz_u ln l (ln l - 1) (4 + l) = ln (4 + l) := hz_un (by omega)
      have ne : gq (4 * l) ≠ m := out l 0 (by omega) e
      refine hy_push (by omega) (by rw [e3]; exact l3) ⟨rfl, ?_⟩
      obtain ⟨g1, g2, g3⟩ := hr_give1 hH.2.1 hH.1 hK L1 B1 hm hl (by rw [e1]; exact e)
      rw [e3, ha_uc ne, ← hz_rest_q ll, hz_uc (f := ln) (show l ≠ 4 + l from by omega)]
      rw [e2] at g1 g3
      rw [e1, e2] at g2 ⊢
      exact hr_in hH g1 g2 g3 hC hV hD hO hR
section WAK
variable {gt K l : Nat} {kn gm gc gd gx gf gl gs gh go gr gw wo wh : Nat → Nat} {rd fb lr b : Int32} {ho va wt sc co fe mo ra ac lo rq yv yr yk ys yp yo : Nat → Int32}
theorem hz_wake (hl : l < 4) (hh : ∃ h, h < 4 ∧ ho l = nI h) (N : Nat) (hN : N < 100) : ∀ (d t : Nat) (ln gq : Nat → Nat) (st yf : Nat → Int32), N = t + d →
    ((¬ b = 0 ∧ ln (4 + l) = d) ∨ (b = 0 ∧ ((d = 1 ∧ t = 0 ∧ 0 < ln (4 + l)) ∨ (d = 0 ∧ (t = 1 ∨ ln (4 + l) = 0))))) → hr_L 4 ln gq st yf ho → hr_B gt st kn →
    ∃ (ln' gq' : Nat → Nat) (st' yf' : Nat → Int32), hr_L 4 ln' gq' st' yf' ho ∧ hr_B gt st' kn ∧
      (∀ (post : Int32 → SX → Prop) (n : Nat), d < n → post (nI N) ((nI gt), rd, fb, (nI K), (hz_n kn), st', ho, hz_n gq', hz_n ln', va, (hz_n gm), (hz_n gc), (hz_n gd), wt, (hz_n gx), (hz_n gf), (hz_n gl), (hz_n gs), sc, co, (hz_n gh), (hz_n go), (hz_n gr), (hz_n gw), fe, mo, ra, ac, lo, rq) → wX_wake_47 post (nI l) (nI N) n (nI t) (nI gt) rd fb (nI K) (hz_n kn) st ho (hz_n gq) (hz_n ln) va (hz_n gm) (hz_n gc) (hz_n gd) wt (hz_n gx) (hz_n gf) (hz_n gl) (hz_n gs) sc co (hz_n gh) (hz_n go) (hz_n gr) (hz_n gw) fe mo ra ac lo rq) ∧
      (∀ (post : Int32 → SY → Prop) (n : Nat), d < n → post (nI N) ((nI K), rd, lr, (hz_n wo), (hz_n wh), yv, yr, yk, ys, yp, yo, sc, st', yf', ho, hz_n gq', hz_n ln', fe, mo, ra, ac, lo, rq) → wY_wake_14 post (nI l) b n (nI t) (nI K) rd lr (hz_n wo) (hz_n wh) yv yr yk ys yp yo sc st yf ho (hz_n gq) (hz_n ln) fe mo ra ac lo rq) := by
  intro d
  induction d with
  | zero =>
    intro t ln gq st yf hN' hc hL hB
    have l4 := hL.2.1 (4 + l) (by omega)
    refine ⟨ln, gq, st, yf, hL, hB, ?_, ?_⟩
    · intro post n hn h
      obtain ⟨n, rfl⟩ : ∃ n', n = n' + 1 := ⟨n - 1, by omega⟩
      rw [wX_wake_47]
      exact br_t (nI_le (by omega) (by omega)) h
    · intro post n hn h
      obtain ⟨n, rfl⟩ : ∃ n', n = n' + 1 := ⟨n - 1, by omega⟩
      have et : N = t := by omega
      rw [et] at h
      by_cases z : ln (4 + l) = 0
      · simp (disch := omega) only [wY_wake_14, z, forall_eq, nI_leI, nI_ltI, nI_eq, vp_in_nI, nI_clamp, nI_add, nI_1, hz_na, hz_nup, true_implies, forall_const, not_true_eq_false, not_false_eq_true, false_implies, and_true, true_and, implies_true, and_self, if_true, if_false, ite_true, ite_false, reduceIte, ha_m4, ha_m8, ha_m5, ha_m32, ha_m64, ha_m300, ha_a4, ha_a16, ha_a300, ha_a600, ha_a900, ha_p8, ha_l4, ha_l5, ha_l8, ha_l32, ha_l36, ha_l64, ha_l128, ha_l256, ha_le7, ha_7lt, ha_e0, ha_e1, ha_e2, ha_e300, ha_le0, ha_lt0, ha_0le, ha_d8, ha_s1, ha_80, ha_10]
        exact h
      · have hb : b = 0 := by
          rcases hc with ⟨_, c2⟩ | ⟨c1, _⟩
          · exact absurd c2 z
          · exact c1
        have ht : ¬ t = 0 := by
          rcases hc with ⟨_, c2⟩ | ⟨_, c2⟩ <;> omega
        simp (disch := omega) only [wY_wake_14, z, hb, ht, forall_eq, nI_leI, nI_ltI, nI_eq, vp_in_nI, nI_clamp, nI_add, nI_1, hz_na, hz_nup, true_implies, forall_const, not_true_eq_false, not_false_eq_true, false_implies, and_true, true_and, implies_true, and_self, if_true, if_false, ite_true, ite_false, reduceIte, ha_m4, ha_m8, ha_m5, ha_m32, ha_m64, ha_m300, ha_a4, ha_a16, ha_a300, ha_a600, ha_a900, ha_p8, ha_l4, ha_l5, ha_l8, ha_l32, ha_l36, ha_l64, ha_l128, ha_l256, ha_le7, ha_7lt, ha_e0, ha_e1, ha_e2, ha_e300, ha_le0, ha_lt0, ha_0le, ha_d8, ha_s1, ha_80, ha_10]
        exact h
  | succ d ih =>
    intro t ln gq st yf hN' hc hL hB
    have l4 := hL.2.1 (4 + l) (by omega)
    have lp : 0 < ln (4 + l) := by
      rcases hc with ⟨_, c2⟩ | ⟨_, c2⟩ <;> omega
    obtain ⟨P1, out⟩ := hr_L_pop hL (show 4 + l < 8 from by omega) lp
    have q4 := hL.1 (4 * (4 + l))
    have s3 : st (gq (4 * (4 + l))) = 3 := by
      have := hL.2.2.1 (4 + l) 0 (by omega) lp
      rw [Nat.add_zero, if_neg (by omega)] at this
      exact this
    have l3 := hr_L_3 P1 out q4 (show l < 8 from by omega)
    have L2 := hr_L_push (s := 1) (yf' := upd yf (gq (4 * (4 + l))) (nI l)) P1 out (Or.inl rfl) q4 (show l < 8 from by omega) (fun _ => hh) (by rw [if_pos hl]) (fun _ => pk_us) (fun j hj => pk_un hj)
    have B2 : hr_B gt (upd st (gq (4 * (4 + l))) 1) kn := hr_B_n hB q4 (by rw [s3]; decide) (by decide) (fun q _ _ => ⟨rfl, rfl⟩)
    have e5 : hz_u (hz_u ln (4 + l) (ln (4 + l) - 1)) l (hz_u ln (4 + l) (ln (4 + l) - 1) l + 1) (4 + l) = ln (4 + l) - 1 := by
      rw [hz_un (by omega), hz_us]
    obtain ⟨ln', gq', st', yf', r1, r2, r3, r4⟩ := ih (t + 1) _ _ _ _ (by omega) (by
      rw [e5]
      rcases hc with ⟨c1, c2⟩ | ⟨c1, c2⟩
      · exact Or.inl ⟨c1, by omega⟩
      · exact Or.inr ⟨c1, by omega⟩) L2 B2
    have hi : vp_in (nI (gq (4 * (4 + l)))) 4 := vp_in_nI q4 (by decide)
    refine ⟨ln', gq', st', yf', r1, r2, ?_, ?_⟩
    · intro post n hn h
      obtain ⟨n, rfl⟩ : ∃ n', n = n' + 1 := ⟨n - 1, by omega⟩
      rw [wX_wake_47]
      refine br_f (nI_ge (by omega) (by omega)) ?_
      rw [ha_a4]
      refine hx_leave (by omega) hL.1 l4 lp ⟨hi, nm_r (e' := upd st (gq (4 * (4 + l))) 1) (by rw [nI_clamp (by omega), ha_vb1]) ?_⟩
      exact hx_join (by omega) q4 l3 (nm_r (nI_1 t) (r3 post n (by omega) h))
    · intro post n hn h
      obtain ⟨n, rfl⟩ : ∃ n', n = n' + 1 := ⟨n - 1, by omega⟩
      have W : wY_wake_34 post (wY_wake_14 post (nI l) b n) (nI l) b (nI t) (nI K) rd lr (hz_n wo) (hz_n wh) yv yr yk ys yp yo sc st yf ho (hz_n gq) (hz_n ln) fe mo ra ac lo rq := by
        unfold wY_wake_34
        rw [ha_a4]
        refine hy_shift (by omega) l4 lp ⟨hi, nm_r (e' := upd st (gq (4 * (4 + l))) 1) (by rw [nI_clamp (by omega)]) ⟨hi, nm_r (e' := upd yf (gq (4 * (4 + l))) (nI l)) (by rw [nI_clamp (by omega)]) ?_⟩⟩
        exact hy_push (by omega) l3 (nm_r (nI_1 t) (r4 post n (by omega) h))
      have z : ¬ ln (4 + l) = 0 := by omega
      rw [wY_wake_14, ha_a4]
      refine ⟨vp_in_nI (by omega) (by decide), ?_⟩
      rw [nI_clamp (by omega)]
      refine br_f (nI_nle lp (by omega)) ?_
      by_cases hb : b = 0
      · have ht : t = 0 := by
          rcases hc with ⟨c1, _⟩ | ⟨_, c2⟩
          · exact absurd hb c1
          · omega
        refine br_t hb (br_t ?_ W)
        rw [ht]
        exact nI_0
      · exact br_f hb W
end WAK
theorem i_vc_wake {k : Nat} {u : SX} {v : SY} (I : i_Rel k u v) (hk : k + 4 ≤ 2048) (v1 : Int32) (v2 : Int32) (v3 : Int32) : wpX_wake (fun r u' => wpY_wake (fun r' v' => r' = r ∧ i_Rel (k + 4) u' v') v v1 v2 (lw_bz v3)) u v1 v2 (lw_bz v3) := by
  refine hr_el (P := fun u v => wpX_wake (fun r u' => wpY_wake (fun r' v' => r' = r ∧ i_Rel (k + 4) u' v') v v1 v2 (lw_bz v3)) u v1 v2 (lw_bz v3)) ?_ I
  intro gt K kn gq ln gm gc gd gx gf gl gs gh go gr gw wo wh rd fb lr st ho va wt sc co fe mo ra ac lo rq yv yr yk ys yp yo yf hH hK hL hB hC hV hD hO hR
  unfold wpX_wake
  rcases hz_hol st ho v1 v2 with hx | ⟨m, l, hm, hl, rfl, rfl, h0, hh⟩
  · refine hx_holds_n hx (br_t rfl ?_)
    unfold wpY_wake
    exact hy_holds_n hx (br_t rfl ⟨rfl, hr_in hH hK hL hB hC hV hD hO hR⟩)
  · refine hx_holds hm hl h0 hh (br_f (by decide) ?_)
    have l4 := hL.2.1 (4 + l) (by omega)
    have hi : vp_in (nI (4 + l)) 8 := vp_in_nI (by omega) (by decide)
    have fin : ∀ N : Nat, N < 100 → ((¬ lw_bz v3 = 0 ∧ ln (4 + l) = N) ∨ (lw_bz v3 = 0 ∧ ((N = 1 ∧ 0 = 0 ∧ 0 < ln (4 + l)) ∨ (N = 0 ∧ (0 = 1 ∨ ln (4 + l) = 0))))) →
        ∃ n, wX_wake_47 (fun r u' => wpY_wake (fun r' v' => r' = r ∧ i_Rel (k + 4) u' v') ((nI K), rd, lr, (hz_n wo), (hz_n wh), yv, yr, yk, ys, yp, yo, sc, st, yf, ho, (hz_n gq), (hz_n ln), fe, mo, ra, ac, lo, rq) (nI m) (nI l) (lw_bz v3)) (nI l) (nI N) n 0 (nI gt) rd fb (nI K) (hz_n kn) st ho (hz_n gq) (hz_n ln) va (hz_n gm) (hz_n gc) (hz_n gd) wt (hz_n gx) (hz_n gf) (hz_n gl) (hz_n gs) sc co (hz_n gh) (hz_n go) (hz_n gr) (hz_n gw) fe mo ra ac lo rq := by
      intro N hN hc
      obtain ⟨ln', gq', st', yf', r1, r2, r3, r4⟩ := hz_wake (K := K) (rd := rd) (fb := fb) (lr := lr) (gm := gm) (gc := gc) (gd := gd) (gx := gx) (gf := gf) (gl := gl) (gs := gs) (gh := gh) (go := go) (gr := gr) (gw := gw) (wo := wo) (wh := wh) (va := va) (wt := wt) (sc := sc) (co := co) (fe := fe) (mo := mo) (ra := ra) (ac := ac) (lo := lo) (rq := rq) (yv := yv) (yr := yr) (yk := yk) (ys := ys) (yp := yp) (yo := yo) hl ⟨m, hm, hh⟩ N hN N 0 ln gq st yf (by omega) hc hL hB
      refine ⟨N + 1, r3 _ (N + 1) (by omega) ?_⟩
      unfold wpY_wake
      refine hy_holds hm hl h0 hh (br_f (by decide) (Exists.intro (N + 1) (r4 _ (N + 1) (by omega) ⟨rfl, ?_⟩)))
      exact hr_in hH hK r1 r2 hC hV hD hO hR
    rw [ha_a4]
    refine ⟨hi, ?_⟩
    rw [nI_clamp (by omega)]
    by_cases z : ln (4 + l) = 0
    · refine br_t ((ha_e0 (by omega)).mpr z) (fin 0 (by omega) ?_)
      by_cases q : lw_bz v3 = 0
      · exact Or.inr ⟨q, Or.inr ⟨rfl, Or.inr z⟩⟩
      · exact Or.inl ⟨q, z⟩
    · refine br_f (fun y => z ((ha_e0 (by omega)).mp y)) ?_
      by_cases q : lw_bz v3 = 0
      · exact br_t q (fin 1 (by omega) (Or.inr ⟨q, Or.inl ⟨rfl, rfl, by omega⟩⟩))
      · exact br_f q ⟨hi, nm_e (fin (ln (4 + l)) (by omega) (Or.inl ⟨q, rfl⟩))⟩
end
section
/-! V: the barrier -/
def hz_z (st : Nat → Int32) (t : Nat) : Nat → Int32 := fun j => if j < t then 0 else st j
theorem hz_z0 (st : Nat → Int32) : hz_z st 0 = st := by
  funext j
  unfold hz_z
  rw [if_neg (by omega)]
theorem hz_zs (st : Nat → Int32) (t : Nat) : upd (hz_z st t) t 0 = hz_z st (t + 1) := by
  funext j
  unfold upd hz_z
  by_cases e : j = t
  · rw [if_pos e, if_pos (by omega)]
  · rw [if_neg e]
    by_cases a : j < t
    · rw [if_pos a, if_pos (by omega)]
    · rw [if_neg a, if_neg (by omega)]
/-- all of the first i are known to all; of the next one to those below t -/
def hz_ya (yk : Nat → Int32) (i t : Nat) : Nat → Int32 := fun j => if j < 1200 ∧ (j % 300 < i ∨ (j % 300 = i ∧ j < 300 * t)) then 1 else yk j
theorem hz_ya0 (yk : Nat → Int32) : hz_ya yk 0 0 = yk := by
  funext j
  unfold hz_ya
  rw [if_neg (by omega)]
theorem hz_yas {yk : Nat → Int32} {i t : Nat} (hi : i < 300) (ht : t < 4) : upd (hz_ya yk i t) (300 * t + i) 1 = hz_ya yk i (t + 1) := by
  funext j
  unfold upd hz_ya
  by_cases e : j = 300 * t + i
  · rw [if_pos e, if_pos (by omega)]
  · rw [if_neg e]
    by_cases a : j < 1200 ∧ (j % 300 < i ∨ (j % 300 = i ∧ j < 300 * t))
    · rw [if_pos a, if_pos (by omega)]
    · rw [if_neg a, if_neg (by omega)]
theorem hz_ya4 {yk : Nat → Int32} {i : Nat} : hz_ya yk i 4 = hz_ya yk (i + 1) 0 := by
  funext j
  unfold hz_ya
  by_cases a : j < 1200 ∧ (j % 300 < i ∨ (j % 300 = i ∧ j < 300 * 4))
  · rw [if_pos a, if_pos (by omega)]
  · rw [if_neg a, if_neg (by omega)]
theorem hz_yan {yk : Nat → Int32} {i m : Nat} (hi : i < 300) : hz_ya yk i 0 (300 * m + i) = yk (300 * m + i) := by
  unfold hz_ya
  rw [if_neg (by omega)]
section XA
variable {th rd fb kp : Int32} {kX st ho ro le va sm wc wd wt nx fi la sn sc co hv ow rA wA fe mo ra ac lo rq : Nat → Int32}
theorem hx_arr61 {post : Int32 → SX → Prop} {kn : Nat → Nat} (hb : ∀ j, kn j ≤ 300) (hk : ∀ x o, x < 4 → o < 4 → kn (4 * x + o) ≤ kn (4 * 8 + o))
    (h : post 1 (th, rd, fb, kp, hz_n (hz_ba kn 4), hz_z st 4, ho, ro, le, va, sm, wc, wd, wt, nx, fi, la, sn, sc, co, hv, ow, rA, wA, fe, mo, ra, ac, lo, rq)) : ∀ (n t : Nat), 4 < n + t → t ≤ 4 → wX_arrive_61 post n (nI t) th rd fb kp (hz_n (hz_ba kn t)) (hz_z st t) ho ro le va sm wc wd wt nx fi la sn sc co hv ow rA wA fe mo ra ac lo rq := by
  intro n
  induction n with
  | zero => intro t h1 h2; omega
  | succ n ih =>
    intro t h1 h2
    rw [wX_arrive_61]
    by_cases e : t = 4
    · subst e
      exact br_t (Int32.le_refl _) h
    · refine br_f (nI_ge (b := 4) (by omega) (by decide)) ?_
      have b : ∀ j, hz_ba kn t j ≤ 300 := by
        intro j
        unfold hz_ba
        split
        · exact hb _
        · exact hb _
      refine hx_learn (f := 8) (by omega) (by omega) (by omega) b ?_
      rw [hz_ba_s (by omega) hk]
      refine ⟨vp_in_nI (by omega) (by decide), nm_r (e' := hz_z st (t + 1)) (by rw [nI_clamp (by omega), ha_vb0, hz_zs]) (nm_r (nI_1 t) ?_)⟩
      exact ih (t + 1) (by omega) (by omega)
end XA
section YA
variable {kp rd lr : Int32} {yw yh yv yr yk ys yp yo sc st yf ho ro le fe mo ra ac lo rq : Nat → Int32}
variable {K : Nat}
theorem hy_arr143 {post : Int32 → SY → Prop} (h : post 1 (kp, rd + 1, lr, yw, yh, yv, yr, yk, ys, yp, yo, sc, hz_z st 4, yf, ho, ro, le, fe, mo, ra, ac, lo, rq)) : ∀ (n t : Nat), 4 < n + t → t ≤ 4 → wY_arrive_143 post kp rd lr n (nI t) yw yh yv yr yk ys yp yo sc (hz_z st t) yf ho ro le fe mo ra ac lo rq := by
  intro n
  induction n with
  | zero => intro t h1 h2; omega
  | succ n ih =>
    intro t h1 h2
    rw [wY_arrive_143]
    by_cases e : t = 4
    · subst e
      exact br_t (Int32.le_refl _) (nm_e h)
    · refine br_f (nI_ge (b := 4) (by omega) (by decide)) ?_
      refine ⟨vp_in_nI (by omega) (by decide), nm_r (e' := hz_z st (t + 1)) (by rw [nI_clamp (by omega), hz_zs]) (nm_r (nI_1 t) ?_)⟩
      exact ih (t + 1) (by omega) (by omega)
theorem hy_arr109 {post : Int32 → SY → Prop} {J44 : Int32 → (Nat → Int32) → (Nat → Int32) → (Nat → Int32) → (Nat → Int32) → (Nat → Int32) → (Nat → Int32) → (Nat → Int32) → (Nat → Int32) → (Nat → Int32) → (Nat → Int32) → (Nat → Int32) → (Nat → Int32) → (Nat → Int32) → (Nat → Int32) → (Nat → Int32) → (Nat → Int32) → (Nat → Int32) → (Nat → Int32) → (Nat → Int32) → (Nat → Int32) → Prop} {i : Nat} (hi : i < 300)
    (h : J44 (nI (i + 1)) yw yh yv yr (hz_ya yk (i + 1) 0) ys yp yo sc st yf ho ro le fe mo ra ac lo rq) : ∀ (n t : Nat), 4 < n + t → t ≤ 4 → wY_arrive_109 post J44 (nI i) 1 kp rd lr n (nI t) yw yh yv yr (hz_ya yk i t) ys yp yo sc st yf ho ro le fe mo ra ac lo rq := by
  intro n
  induction n with
  | zero => intro t h1 h2; omega
  | succ n ih =>
    intro t h1 h2
    rw [wY_arrive_109]
    by_cases e : t = 4
    · subst e
      rw [hz_ya4]
      exact br_t (Int32.le_refl _) (nm_r (nI_1 i) h)
    · refine br_f (nI_ge (b := 4) (by omega) (by decide)) ?_
      rw [ha_m300, nI_add]
      refine ⟨vp_in_nI (by omega) (by decide), nm_r (e' := hz_ya yk i (t + 1)) (by rw [nI_clamp (by omega), ha_vz1, hz_yas hi (by omega)]) (nm_r (nI_1 t) ?_)⟩
      exact ih (t + 1) (by omega) (by omega)
theorem hy_arr44 {post : Int32 → SY → Prop} (hK : K ≤ 300) (hy : ∀ i, i < K → ∃ m, m < 4 ∧ ¬ yk (300 * m + i) = 0) (h : post 1 (nI K, rd + 1, lr, yw, yh, yv, yr, hz_ya yk K 0, ys, yp, yo, sc, hz_z st 4, yf, ho, ro, le, fe, mo, ra, ac, lo, rq)) : ∀ (n i : Nat), K < n + i → i ≤ K →
    wY_arrive_44 post (nI K) rd lr n (nI i) yw yh yv yr (hz_ya yk i 0) ys yp yo sc st yf ho ro le fe mo ra ac lo rq := by
  intro n
  induction n with
  | zero => intro t h1 h2; omega
  | succ n ih =>
    intro i h1 h2
    rw [wY_arrive_44]
    by_cases e : i = K
    · subst e
      refine br_t (Int32.le_refl _) (Exists.intro 5 ?_)
      have := hy_arr143 h 5 0 (by omega) (by omega)
      rw [hz_z0] at this
      exact this
    · refine br_f (nI_ge (by omega) (by omega)) ?_
      have nx : ∃ n109, wY_arrive_109 post (wY_arrive_44 post (nI K) rd lr n) (nI i) 1 (nI K) rd lr n109 0 yw yh yv yr (hz_ya yk i 0) ys yp yo sc st yf ho ro le fe mo ra ac lo rq :=
        ⟨5, hy_arr109 (by omega) (ih (i + 1) (by omega) (by omega)) 5 0 (by omega) (by omega)⟩
      have g0 : hz_ya yk i 0 i = yk i := by
        have := hz_yan (yk := yk) (i := i) (m := 0) (by omega)
        rw [Nat.mul_zero, Nat.zero_add] at this
        exact this
      have g1 : hz_ya yk i 0 (300 + i) = yk (300 + i) := hz_yan (m := 1) (by omega)
      have g2 : hz_ya yk i 0 (600 + i) = yk (600 + i) := hz_yan (m := 2) (by omega)
      have g3 : hz_ya yk i 0 (900 + i) = yk (900 + i) := hz_yan (m := 3) (by omega)
      rw [ha_a300, ha_a600, ha_a900, nI_clamp (n := i) (by omega), nI_clamp (n := 300 + i) (by omega), nI_clamp (n := 600 + i) (by omega), nI_clamp (n := 900 + i) (by omega), g0, g1, g2, g3]
      refine ⟨vp_in_nI (by omega) (by decide), br_c (fun z0 => ⟨vp_in_nI (by omega) (by decide), br_c (fun z1 => ⟨vp_in_nI (by omega) (by decide), br_c (fun z2 => ⟨vp_in_nI (by omega) (by decide), br_c (fun z3 => ?_) (fun _ => nx)⟩) (fun _ => nx)⟩) (fun _ => nx)⟩) (fun _ => nx)⟩
      exfalso
      obtain ⟨m, hm, z⟩ := hy i (by omega)
      revert z
      refine hz_4 (P := fun m => ¬ yk (300 * m + i) = 0 → False) ?_ ?_ ?_ ?_ hm
      · intro z; rw [Nat.mul_zero, Nat.zero_add] at z; exact z z0
      · intro z; exact z z1
      · intro z; exact z z2
      · intro z; exact z z3
theorem hy_arr19 {post : Int32 → SY → Prop} (hK : K ≤ 300) (h1 : (∀ m, m < 4 → st m = 2) → ∃ n, wY_arrive_44 post (nI K) rd lr n 0 yw yh yv yr yk ys yp yo sc st yf ho ro le fe mo ra ac lo rq) (h0 : (¬ ∀ m, m < 4 → st m = 2) → post 0 (nI K, rd, lr, yw, yh, yv, yr, yk, ys, yp, yo, sc, st, yf, ho, ro, le, fe, mo, ra, ac, lo, rq)) : ∀ (n t : Nat), 4 < n + t → t ≤ 4 → (∀ m, m < t → st m = 2) →
    wY_arrive_19 post (nI K) rd lr yw yh yv yr yk ys yp yo sc st yf ho ro le fe mo ra ac lo rq n (nI t) := by
  intro n
  induction n with
  | zero => intro t h1 h2; omega
  | succ n ih =>
    intro t h2 h3 h4
    rw [wY_arrive_19]
    by_cases e : t = 4
    · subst e
      exact br_t (Int32.le_refl _) (h1 h4)
    · refine br_f (nI_ge (b := 4) (by omega) (by decide)) ⟨vp_in_nI (by omega) (by decide), ?_⟩
      rw [nI_clamp (by omega)]
      refine br_c (fun z => nm_r (nI_1 t) (ih (t + 1) (by omega) (by omega) ?_)) (fun z => h0 (fun q => z (q t (by omega))))
      intro m hm
      by_cases em : m = t
      · rw [em]; exact z
      · exact h4 m (by omega)
end YA
theorem i_vc_arrive {k : Nat} {u : SX} {v : SY} (I : i_Rel k u v) (hk : k + 4 ≤ 2048) (v1 : Int32) : wpX_arrive (fun r u' => wpY_arrive (fun r' v' => r' = r ∧ i_Rel (k + 4) u' v') v v1) u v1 := by
  refine hr_el (P := fun u v => wpX_arrive (fun r u' => wpY_arrive (fun r' v' => r' = r ∧ i_Rel (k + 4) u' v') v v1) u v1) ?_ I
  intro gt K kn gq ln gm gc gd gx gf gl gs gh go gr gw wo wh rd fb lr st ho va wt sc co fe mo ra ac lo rq yv yr yk ys yp yo yf hH hK hL hB hC hV hD hO hR
  unfold wpX_arrive
  rcases hz_run st v1 with hx | ⟨m, hm, rfl, h0⟩
  · refine hx_runs_n hx (br_t rfl ?_)
    unfold wpY_arrive
    exact hy_runs_n hx (br_t rfl ⟨rfl, hr_in hH hK hL hB hC hV hD hO hR⟩)
  · have hi : vp_in (nI m) 4 := vp_in_nI hm (by decide)
    have out : hz_out ln gq m := hr_L_out hL (by rw [h0]; decide) (by rw [h0]; decide)
    have L1 : hr_L 4 ln gq (upd st m 2) yf ho := hr_L_set hL out (Or.inr rfl) (by decide)
    have K1 := hr_K_arr hH.2.1 hK hm
    obtain ⟨b1, b2, b3⟩ := hB
    have b2' : hz_b2 (upd st m 2) = gt + 1 := by rw [hz_b2_y hm (by rw [h0]; decide), b1]
    have b3' : ∀ q, q < 4 → upd st m 2 q = 2 → hz_lrn kn 8 m (4 * 8 + q) = hz_lrn kn 8 m (5 * q) := by
      intro q hq hs
      rw [hz_lrn_own hK.2.1 (by omega) hq, hz_lrn_at _ _ _ _ _ hq, if_pos rfl]
      have k8 := hK.2.1 8 q (by omega) hq
      have km := hK.2.1 m q (by omega) hq
      by_cases e : q = m
      · rw [e] at k8 ⊢
        rw [show 4 * m + m = 5 * m from by omega]
        split <;> omega
      · rw [pk_un e] at hs
        have := b3 q hq hs
        split <;> omega
    refine hx_runs hm h0 (br_f (by decide) ⟨hi, nm_r (e' := upd st m 2) (by rw [nI_clamp (by omega), ha_vb2]) ?_⟩)
    refine hx_learn (t := 8) (by omega) (by omega) (by omega) hK.1 (nm_r (nI_1 gt) ?_)
    have Y : ∀ post : Int32 → SY → Prop, _ → wpY_arrive post ((nI K), rd, lr, (hz_n wo), (hz_n wh), yv, yr, yk, ys, yp, yo, sc, st, yf, ho, (hz_n gq), (hz_n ln), fe, mo, ra, ac, lo, rq) (nI m) := fun post h => by
      unfold wpY_arrive
      exact hy_runs hm h0 (br_f (by decide) ⟨hi, nm_r (e' := upd st m 2) (by rw [nI_clamp (by omega)]) h⟩)
    by_cases e : gt = 3
    · have all := hz_b2_4.mp (b2'.trans (by omega))
      have bar : ∀ q, q < 4 → hz_lrn kn 8 m (4 * 8 + q) = hz_lrn kn 8 m (5 * q) := fun q hq => b3' q hq (all q hq)
      have kle : ∀ x o, x < 4 → o < 4 → hz_lrn kn 8 m (4 * x + o) ≤ hz_lrn kn 8 m (4 * 8 + o) := by
        intro x o hx ho'
        rw [bar o ho']
        exact K1.2.1 x o (by omega) ho'
      have z4 : ∀ q, q < 4 → hz_z (upd st m 2) 4 q = 0 := by
        intro q hq
        unfold hz_z
        rw [if_pos hq]
      refine br_t ((ha_l4 (by omega)).mpr (by omega)) (nm_e (Exists.intro 5 ?_))
      have := hx_arr61 (th := 0) (rd := rd + 1) (fb := fb) (kp := nI K) (st := upd st m 2) (ho := ho) (ro := hz_n gq) (le := hz_n ln) (va := va) (sm := hz_n gm) (wc := hz_n gc) (wd := hz_n gd) (wt := wt) (nx := hz_n gx) (fi := hz_n gf) (la := hz_n gl) (sn := hz_n gs) (sc := sc) (co := co) (hv := hz_n gh) (ow := hz_n go) (rA := hz_n gr) (wA := hz_n gw) (fe := fe) (mo := mo) (ra := ra) (ac := ac) (lo := lo) (rq := rq) (post := fun r u' => wpY_arrive (fun r' v' => r' = r ∧ i_Rel (k + 4) u' v') ((nI K), rd, lr, (hz_n wo), (hz_n wh), yv, yr, yk, ys, yp, yo, sc, st, yf, ho, (hz_n gq), (hz_n ln), fe, mo, ra, ac, lo, rq) (nI m)) K1.1 kle ?_ 5 0 (by omega) (by omega)
      · rw [hz_z0, show hz_ba (hz_lrn kn 8 m) 0 = hz_lrn kn 8 m from by funext j; unfold hz_ba; rw [if_neg (by omega)]] at this
        exact this
      · refine Y _ (Exists.intro 5 (hy_arr19 hH.1 (fun _ => Exists.intro (K + 1) ?_) (fun q => absurd all q) 5 0 (by omega) (by omega) (fun m hm => by omega)))
        have A44 := hy_arr44 (rd := rd) (lr := lr) (yw := hz_n wo) (yh := hz_n wh) (yv := yv) (yr := yr) (yk := yk) (ys := ys) (yp := yp) (yo := yo) (sc := sc) (st := upd st m 2) (yf := yf) (ho := ho) (ro := hz_n gq) (le := hz_n ln) (fe := fe) (mo := mo) (ra := ra) (ac := ac) (lo := lo) (rq := rq) (K := K) (post := fun r' v' => r' = 1 ∧ i_Rel (k + 4) (0, rd + 1, fb, (nI K), hz_n (hz_ba (hz_lrn kn 8 m) 4), hz_z (upd st m 2) 4, ho, (hz_n gq), (hz_n ln), va, (hz_n gm), (hz_n gc), (hz_n gd), wt, (hz_n gx), (hz_n gf), (hz_n gl), (hz_n gs), sc, co, (hz_n gh), (hz_n go), (hz_n gr), (hz_n gw), fe, mo, ra, ac, lo, rq) v') hH.1 ?_ ?_ (K + 1) 0 (by omega) (by omega)
        · rw [hz_ya0] at A44
          exact A44
        · intro i hi'
          refine ⟨wo i, hH.2.1 i, ?_⟩
          rw [hz_B1 (hK.2.2.2.1 (wo i) i (hH.2.1 i) hi'), show 4 * wo i + wo i = 5 * wo i from by omega, hK.2.2.1 _ (hH.2.1 i)]
          exact hz_num_le hi'
        · refine ⟨rfl, ?_⟩
          have K2 : hr_K K wo (hz_ba (hz_lrn kn 8 m) 4) (hz_ya yk K 0) yp := by
            refine hr_K_bar hH.2.1 K1 bar ?_
            intro q i hq hi'
            have := hH.1
            unfold hz_ya
            rw [if_pos (by omega)]
          have B2 : hr_B 0 (hz_z (upd st m 2) 4) (hz_ba (hz_lrn kn 8 m) 4) := by
            refine ⟨?_, by omega, ?_⟩
            · unfold hz_b2
              rw [z4 0 (by omega), z4 1 (by omega), z4 2 (by omega), z4 3 (by omega)]
              rfl
            · intro q hq hs
              rw [z4 q hq] at hs
              exact absurd hs (by decide)
          exact hr_in (gt := 0) hH K2 (hr_L_bar L1 all z4) B2 hC hV hD hO hR
    · refine br_f (fun z => by have := (ha_l4 (by omega)).mp z; omega) ?_
      have nall : ¬ ∀ q, q < 4 → upd st m 2 q = 2 := by
        intro q
        have := hz_b2_4.mpr q
        omega
      refine Y _ (Exists.intro 5 (hy_arr19 hH.1 (fun q => absurd q nall) (fun _ => ⟨rfl, ?_⟩) 5 0 (by omega) (by omega) (fun m hm => by omega)))
      have B2 : hr_B (gt + 1) (upd st m 2) (hz_lrn kn 8 m) := ⟨b2'.symm, by omega, b3'⟩
      exact hr_in hH K1 L1 B2 hC hV hD hO hR
end
section
/-! W: rings of waiting machines -/
def hz_tab (a b c d : Nat) : Nat → Nat := fun m => if m = 0 then a else if m = 1 then b else if m = 2 then c else d
def hz_rx (F : Nat → Nat) (m0 : Nat) : Nat → Nat → Nat
  | 0, _ => 0
  | s + 1, m => if F m = 4 then 0 else if F m = m0 then 1 else hz_rx F m0 s (F m)
theorem hz_rx_s (F : Nat → Nat) (m0 s m : Nat) : hz_rx F m0 (s + 1) m = if F m = 4 then 0 else if F m = m0 then 1 else hz_rx F m0 s (F m) := rfl
theorem hz_ring0 : ∀ a b c d : Fin 5, ∀ m : Fin 4, hz_rx (hz_tab a.val b.val c.val d.val) m.val 4 m.val = hz_rx (hz_tab a.val b.val c.val d.val) m.val 5 m.val := by decide +kernel
theorem hz_ring {a b c d m : Nat} (ha : a < 5) (hb : b < 5) (hc : c < 5) (hd : d < 5) (hm : m < 4) : hz_rx (hz_tab a b c d) m 4 m = hz_rx (hz_tab a b c d) m 5 m :=
  hz_ring0 ⟨a, ha⟩ ⟨b, hb⟩ ⟨c, hc⟩ ⟨d, hd⟩ ⟨m, hm⟩
/-- where a machine's wait leads -/
def hz_to (ln gq : Nat → Nat) (st yf ho : Nat → Int32) (m f : Nat) : Prop := f < 5 ∧ ((¬ st m = 1 ∧ f = 4) ∨ (st m = 1 ∧ f < 4 ∧ ∃ r k, r < 4 ∧ k < ln r ∧ gq (4 * r + k) = m ∧ yf m = nI r ∧ ho r = nI f))
theorem hz_to_ex {ln gq : Nat → Nat} {st yf ho : Nat → Int32} (hL : hr_L 4 ln gq st yf ho) {m : Nat} (hm : m < 4) : ∃ f, hz_to ln gq st yf ho m f := by
  by_cases z : st m = 1
  · obtain ⟨r, k, hr, hk, e⟩ := hL.2.2.2.2.2.2.1 m hm (by omega) z
    obtain ⟨f, hf, e2⟩ := hL.2.2.2.2.2.1 r hr (by omega)
    refine ⟨f, by omega, Or.inr ⟨z, hf, r, k, hr, hk, e, ?_, e2⟩⟩
    have := hL.2.2.2.1 r k hr hk
    rw [e] at this
    exact this
  · exact ⟨4, by omega, Or.inl ⟨z, rfl⟩⟩
section XR
variable {th rd fb kp : Int32} {kX st ho ro le va sm wc wd wt nx fi la sn sc co hv ow rA wA fe mo ra ac lo rq : Nat → Int32}
variable {m r0 k0 : Nat} {ln gq : Nat → Nat} {yf : Nat → Int32}
theorem hx_lock9 {post : Int32 → Prop} {J2 : Int32 → Prop} {x : Nat} (hL : hr_L 4 ln gq st yf ho) (hm : m < 4) (hr : r0 < 4) (hk : k0 < ln r0) (he : gq (4 * r0 + k0) = m) (hx : x ≤ r0) (h : x = r0 → post (nI r0)) (hJ : x < r0 → J2 (nI (x + 1))) : ∀ (n k : Nat), ln x < n + k → k ≤ ln x → (x = r0 → k ≤ k0) →
    wX_lockOf_9 post J2 (nI m) (nI x) th rd fb kp kX st ho (hz_n gq) (hz_n ln) va sm wc wd wt nx fi la sn sc co hv ow rA wA fe mo ra ac lo rq n (nI k) := by
  have l4 := hL.2.1 x (by omega)
  intro n
  induction n with
  | zero => intro k h1 h2; omega
  | succ n ih =>
    intro k h1 h2 h3
    rw [wX_lockOf_9]
    refine ⟨vp_in_nI (by omega) (by decide), ?_⟩
    rw [nI_clamp (n := x) (by omega)]
    by_cases e : k = ln x
    · have hlt : x < r0 := by
        rcases Nat.lt_or_ge x r0 with z | z
        · exact z
        · have ex : x = r0 := by omega
          have := h3 ex
          rw [← ex] at hk
          omega
      exact br_t (nI_le (by omega) (by omega)) (nm_r (nI_1 x) (hJ hlt))
    · refine br_f (nI_ge (by omega) (by omega)) ?_
      have q4 := hL.1 (4 * x + k)
      rw [ha_m4, nI_add, nI_clamp (by omega)]
      refine ⟨vp_in_nI (by omega) (by decide), ?_⟩
      show (nI (gq (4 * x + k)) = nI m → _) ∧ (¬ nI (gq (4 * x + k)) = nI m → _)
      by_cases z : gq (4 * x + k) = m
      · have := hL.2.2.2.2.1 x k r0 k0 (by omega) (by omega) (by omega) hk (by rw [z, he])
        refine br_t (by rw [z]) ?_
        rw [this.1]
        exact h this.1
      · refine br_f (fun y => z ((nI_eq (by omega) (by omega)).mp y)) (nm_r (nI_1 k) (ih (k + 1) (by omega) (by omega) ?_))
        intro ex
        have := h3 ex
        rcases Nat.lt_or_ge k k0 with y | y
        · omega
        · exfalso
          have ek : k = k0 := by omega
          rw [ex, ek] at z
          exact z he
theorem hx_lock2 {post : Int32 → Prop} (hL : hr_L 4 ln gq st yf ho) (hm : m < 4) (hr : r0 < 4) (hk : k0 < ln r0) (he : gq (4 * r0 + k0) = m) (h : post (nI r0)) : ∀ (n x : Nat), r0 < n + x → x ≤ r0 →
    wX_lockOf_2 post (nI m) th rd fb kp kX st ho (hz_n gq) (hz_n ln) va sm wc wd wt nx fi la sn sc co hv ow rA wA fe mo ra ac lo rq n (nI x) := by
  intro n
  induction n with
  | zero => intro x h1 h2; omega
  | succ n ih =>
    intro x h1 h2
    rw [wX_lockOf_2]
    refine br_f (nI_ge (b := 4) (by omega) (by decide)) (Exists.intro (ln x + 1) ?_)
    exact hx_lock9 hL hm hr hk he h2 (fun _ => h) (fun z => ih (x + 1) (by omega) (by omega)) (ln x + 1) 0 (by omega) (by omega) (fun _ => Nat.zero_le _)
theorem hx_lock {post : Int32 → Prop} (hL : hr_L 4 ln gq st yf ho) (hm : m < 4) (hr : r0 < 4) (hk : k0 < ln r0) (he : gq (4 * r0 + k0) = m) (h : post (nI r0)) : wpX_lockOf post (th, rd, fb, kp, kX, st, ho, hz_n gq, hz_n ln, va, sm, wc, wd, wt, nx, fi, la, sn, sc, co, hv, ow, rA, wA, fe, mo, ra, ac, lo, rq) (nI m) := by
  unfold wpX_lockOf
  exact Exists.intro 5 (hx_lock2 hL hm hr hk he h 5 0 (by omega) (by omega))
theorem hx_ring {post : Int32 → Prop} {F : Nat → Nat} {m0 : Nat} (hL : hr_L 4 ln gq st yf ho) (hF : ∀ m, m < 4 → hz_to ln gq st yf ho m (F m)) (hm0 : m0 < 4) : ∀ (s n k m : Nat), k + s = 4 → s < n → m < 4 → post (nI (hz_rx F m0 s m)) →
    wX_ring_13 post (nI m0) th rd fb kp kX st ho (hz_n gq) (hz_n ln) va sm wc wd wt nx fi la sn sc co hv ow rA wA fe mo ra ac lo rq n (nI m) (nI k) := by
  intro s
  induction s with
  | zero =>
    intro n k m hk hn hm h
    obtain ⟨n, rfl⟩ : ∃ n', n = n' + 1 := ⟨n - 1, by omega⟩
    rw [wX_ring_13]
    exact br_t ((ha_l4 (by omega)).mpr (by omega)) h
  | succ s ih =>
    intro n k m hk hn hm h
    obtain ⟨n, rfl⟩ : ∃ n', n = n' + 1 := ⟨n - 1, by omega⟩
    rw [wX_ring_13]
    refine br_f (nI_ge (b := 4) (by omega) (by decide)) ⟨vp_in_nI hm (by decide), ?_⟩
    rw [nI_clamp (by omega)]
    rw [hz_rx_s] at h
    obtain ⟨f5, ⟨z, f4⟩ | ⟨z, f4, r, q, hr, hq, e, ey, eh⟩⟩ := hF m hm
    · rw [if_pos f4] at h
      refine br_f z ?_
      unfold wX_ring_37
      exact br_f (by decide) h
    · rw [if_neg (by omega)] at h
      refine br_t z (hx_lock hL hm hr hq e ?_)
      unfold wX_ring_37
      refine br_t (nI_pos' (by omega)) ⟨vp_in_nI hr (by decide), nm_r (e' := nI (F m)) (by rw [nI_clamp (by omega), eh]) ?_⟩
      by_cases y : F m = m0
      · rw [if_pos y] at h
        exact br_t (by rw [y]) h
      · rw [if_neg y] at h
        exact br_f (fun x => y ((nI_eq (by omega) (by omega)).mp x)) (nm_r (nI_1 k) (ih n (k + 1) (F m) (by omega) (by omega) f4 h))
end XR
section YR
variable {kp rd lr : Int32} {yw yh yv yr yk ys yp yo sc st yf ho ro le fe mo ra ac lo rq : Nat → Int32}
variable {ln gq : Nat → Nat}
theorem hy_ring {post : Int32 → Prop} {F : Nat → Nat} {m0 : Nat} (hF : ∀ m, m < 4 → hz_to ln gq st yf ho m (F m)) (hm0 : m0 < 4) : ∀ (s n k m : Nat), k + s = 5 → s < n → m < 4 → post (nI (hz_rx F m0 s m)) →
    wY_ring_14 post (nI m0) kp rd lr yw yh yv yr yk ys yp yo sc st yf ho ro le fe mo ra ac lo rq n (nI m) (nI k) := by
  intro s
  induction s with
  | zero =>
    intro n k m hk hn hm h
    obtain ⟨n, rfl⟩ : ∃ n', n = n' + 1 := ⟨n - 1, by omega⟩
    rw [wY_ring_14]
    exact br_t ((ha_l5 (by omega)).mpr (by omega)) h
  | succ s ih =>
    intro n k m hk hn hm h
    obtain ⟨n, rfl⟩ : ∃ n', n = n' + 1 := ⟨n - 1, by omega⟩
    rw [wY_ring_14]
    refine br_f (nI_ge (b := 5) (by omega) (by decide)) ⟨vp_in_nI hm (by decide), ?_⟩
    rw [nI_clamp (by omega)]
    rw [hz_rx_s] at h
    obtain ⟨f5, ⟨z, f4⟩ | ⟨z, f4, r, q, hr, hq, e, ey, eh⟩⟩ := hF m hm
    · rw [if_pos f4] at h
      exact br_f z h
    · rw [if_neg (by omega)] at h
      rw [ey]
      refine br_t z ⟨vp_in_nI hm (by decide), vp_in_nI hr (by decide), nm_r (e' := nI (F m)) (by rw [nI_clamp (by omega), eh]) ?_⟩
      by_cases y : F m = m0
      · rw [if_pos y] at h
        exact br_t (by rw [y]) h
      · rw [if_neg y] at h
        exact br_f (fun x => y ((nI_eq (by omega) (by omega)).mp x)) (nm_r (nI_1 k) (ih n (k + 1) (F m) (by omega) (by omega) f4 h))
end YR
theorem i_vc_ring {k : Nat} {u : SX} {v : SY} (I : i_Rel k u v) (hk : k + 4 ≤ 2048) (v1 : Int32) : wpX_ring (fun r => wpY_ring (fun r' => r' = r ∧ i_Rel (k + 4) u v) v v1) u v1 := by
  refine hr_el (P := fun u v => wpX_ring (fun r => wpY_ring (fun r' => r' = r ∧ i_Rel (k + 4) u v) v v1) u v1) ?_ I
  intro gt K kn gq ln gm gc gd gx gf gl gs gh go gr gw wo wh rd fb lr st ho va wt sc co fe mo ra ac lo rq yv yr yk ys yp yo yf hH hK hL hB hC hV hD hO hR
  have R : i_Rel (k + 4) ((nI gt), rd, fb, (nI K), (hz_n kn), st, ho, (hz_n gq), (hz_n ln), va, (hz_n gm), (hz_n gc), (hz_n gd), wt, (hz_n gx), (hz_n gf), (hz_n gl), (hz_n gs), sc, co, (hz_n gh), (hz_n go), (hz_n gr), (hz_n gw), fe, mo, ra, ac, lo, rq) ((nI K), rd, lr, (hz_n wo), (hz_n wh), yv, yr, yk, ys, yp, yo, sc, st, yf, ho, (hz_n gq), (hz_n ln), fe, mo, ra, ac, lo, rq) := hr_in hH hK hL hB hC hV hD hO hR
  unfold wpX_ring
  rcases hz_ix v1 4 (by decide) with hx | ⟨m, hm, rfl⟩
  · refine hx_four_n hx (br_t rfl ?_)
    unfold wpY_ring
    exact hy_in_n hx (br_t rfl ⟨rfl, R⟩)
  · obtain ⟨a, ha⟩ := hz_to_ex hL (m := 0) (by omega)
    obtain ⟨b, hb⟩ := hz_to_ex hL (m := 1) (by omega)
    obtain ⟨c, hc⟩ := hz_to_ex hL (m := 2) (by omega)
    obtain ⟨d, hd⟩ := hz_to_ex hL (m := 3) (by omega)
    have hF : ∀ m, m < 4 → hz_to ln gq st yf ho m (hz_tab a b c d m) := fun m hm => hz_4 (P := fun m => hz_to ln gq st yf ho m (hz_tab a b c d m)) ha hb hc hd hm
    refine hx_four hm (br_f (by decide) (Exists.intro 5 ?_))
    refine hx_ring hL hF hm 4 5 0 m rfl (by omega) hm ?_
    unfold wpY_ring
    refine hy_in4 hm (br_f (by decide) (Exists.intro 6 ?_))
    refine hy_ring hF hm 5 6 0 m rfl (by omega) hm ⟨?_, R⟩
    rw [hz_ring ha.1 hb.1 hc.1 hd.1 hm]
end
section
/-! X: nothing is kept: the beginning, and changes of mode -/
section Z0
variable {wo wh kn gc gd gx gf gl gs gm gh go gr gw : Nat → Nat} {yr sc yv yo wt va co yk yp : Nat → Int32} {S : Nat → Nat → Prop}
theorem hr_K0 (h : ∀ j, kn j = 0) : hr_K 0 wo kn yk yp := by
  refine ⟨fun j => by rw [h]; omega, fun x o _ _ => by rw [h, h]; omega, fun o _ => by rw [h]; rfl, fun m i _ hi => by omega, fun m i _ hi => by omega⟩
theorem hr_C0 (h1 : ∀ j, j < 32 → gf j = 0) (h2 : ∀ j, j < 32 → gl j = 0) (h3 : ∀ j, j < 128 → gs j = 0) : hr_C 0 wo wh yr sc yv gc gd wt gx gf gl gs S := by
  refine ⟨fun o p i _ _ hi => by omega, fun o p ho hp => ⟨?_, ?_⟩, fun m p o hm hp ho => Or.inl (h3 _ (by omega)), fun m p o i _ _ _ _ hi => by omega, fun m i _ hi => by omega⟩
  · rw [h1 _ (by omega)]; rfl
  · rw [h2 _ (by omega)]; rfl
theorem hr_V0 (h1 : ∀ j, j < 256 → gm j = 0) (h2 : ∀ m w, m < 4 → w < 64 → sc (w / 8) = 0 → va (64 * m + w) = yo w) : hr_V 0 wh yr sc yv yo gm va S := by
  refine ⟨fun m w hm hw => ?_, fun m w hm hw hs => ?_⟩
  · rw [h1 _ (by omega)]; rfl
  · rw [h1 _ (by omega), hz_val_0]
    exact h2 m w hm hw hs
theorem hr_D0 (h1 : ∀ p, sc p = 0 ∨ sc p = 1) (h2 : ∀ w, w < 64 → ¬ sc (w / 8) = 0 → co w = yo w) : hr_D 0 wh yr sc yv yo co := ⟨h1, fun w hw hs => h2 w hw hs⟩
theorem hr_O0 (h1 : ∀ p, p < 8 → gh p = 0 ∧ go p = 0) : hr_O 0 wo wh yr sc gh go := by
  intro p hp
  rw [(h1 p hp).1, (h1 p hp).2]
  refine ⟨by omega, by omega, fun m hm => ⟨?_, ?_⟩⟩
  · rw [Nat.zero_testBit]
    exact ⟨fun z => absurd z (by decide), fun z => absurd z (Nat.lt_irrefl 0)⟩
  · exact ⟨fun z => by omega, fun z => absurd z (Nat.lt_irrefl 0)⟩
theorem hr_R0 (h1 : ∀ j, j < 256 → gr j = 0 ∧ gw j = 0) : hr_R 0 wo wh yr gr gw := by
  intro w o hw ho
  rw [(h1 _ (by omega)).1, (h1 _ (by omega)).2]
  refine ⟨by omega, by omega, fun k => ⟨fun z => by omega, fun ⟨i, hi, _⟩ => by omega⟩, fun k => ⟨fun z => by omega, fun ⟨i, hi, _⟩ => by omega⟩⟩
theorem hr_C0' (h : hr_C 0 wo wh yr sc yv gc gd wt gx gf gl gs S) : (∀ j, j < 32 → gf j = 0) ∧ (∀ j, j < 32 → gl j = 0) ∧ (∀ j, j < 128 → gs j = 0) := by
  obtain ⟨h1, h2, h3, h4, h5⟩ := h
  refine ⟨fun j hj => ?_, fun j hj => ?_, fun j hj => ?_⟩
  · have := (h2 (j / 8) (j % 8) (by omega) (by omega)).1
    rw [show 8 * (j / 8) + j % 8 = j from by omega] at this
    rw [this]; rfl
  · have := (h2 (j / 8) (j % 8) (by omega) (by omega)).2
    rw [show 8 * (j / 8) + j % 8 = j from by omega] at this
    rw [this]; rfl
  · have := h3 (j / 32) (j % 32 / 4) (j % 4) (by omega) (by omega) (by omega)
    rw [show 32 * (j / 32) + 4 * (j % 32 / 4) + j % 4 = j from by omega] at this
    rcases this with z | ⟨i, hi, _⟩
    · exact z
    · omega
theorem hr_V0' (h : hr_V 0 wh yr sc yv yo gm va S) : (∀ j, j < 256 → gm j = 0) ∧ (∀ m w, m < 4 → w < 64 → sc (w / 8) = 0 → va (64 * m + w) = yo w) := by
  have g : ∀ m w, m < 4 → w < 64 → gm (64 * m + w) = 0 := fun m w hm hw => h.1 m w hm hw
  refine ⟨fun j hj => ?_, fun m w hm hw hs => ?_⟩
  · have := g (j / 64) (j % 64) (by omega) (by omega)
    rw [show 64 * (j / 64) + j % 64 = j from by omega] at this
    exact this
  · have := h.2 m w hm hw hs
    rw [g m w hm hw, hz_val_0] at this
    exact this
theorem hr_O0' (h : hr_O 0 wo wh yr sc gh go) : ∀ p, p < 8 → gh p = 0 ∧ go p = 0 := by
  intro p hp
  obtain ⟨h1, h2, h3⟩ := h p hp
  refine ⟨?_, ?_⟩
  · have t : ∀ m, m < 4 → (gh p).testBit m = false := by
      intro m hm
      cases e : (gh p).testBit m
      · rfl
      · exact absurd ((h3 m hm).1.mp e) (Nat.lt_irrefl 0)
    apply Nat.eq_of_testBit_eq
    intro i
    rw [Nat.zero_testBit]
    rcases Nat.lt_or_ge i 4 with q | q
    · exact t i q
    · exact Nat.testBit_lt_two_pow (Nat.lt_of_lt_of_le h1 (Nat.pow_le_pow_right (n := 2) (i := 4) (by omega) q))
  · rcases Nat.eq_zero_or_pos (go p) with z | z
    · exact z
    · exact absurd ((h3 (go p - 1) (by omega)).2.mp (by omega)) (Nat.lt_irrefl 0)
end Z0
theorem hy_init165 {post : SY → Prop} {ho : Nat → Int32} : ∀ (n k : Nat), 4 < n + k → k ≤ 4 → post (0, 0, 0, (fun _ => 0), (fun _ => 0), (fun _ => 0), (fun _ => 0), (fun _ => 0), (fun _ => 0), (fun _ => 0), (fun _ => 0), (fun _ => 0), (fun _ => 0), (fun _ => 0), (fun j => if j < 4 then -1 else 0), (fun _ => 0), (fun _ => 0), (fun _ => 0), (fun _ => 0), (fun _ => 0), (fun _ => 0), (fun _ => 0), (fun _ => 0)) → (∀ j, ho j = if j < k then -1 else 0) →
    wY_init_165 post 0 0 0 n (nI k) (fun _ => 0) (fun _ => 0) (fun _ => 0) (fun _ => 0) (fun _ => 0) (fun _ => 0) (fun _ => 0) (fun _ => 0) (fun _ => 0) (fun _ => 0) (fun _ => 0) ho (fun _ => 0) (fun _ => 0) (fun _ => 0) (fun _ => 0) (fun _ => 0) (fun _ => 0) (fun _ => 0) (fun _ => 0) := by
  intro n
  induction n generalizing ho with
  | zero => intro k h1 h2; omega
  | succ n ih =>
    intro k h1 h2 h he
    rw [wY_init_165]
    by_cases e : k = 4
    · subst e
      have : ho = fun j => if j < 4 then -1 else 0 := funext he
      rw [← this] at h
      exact br_t (Int32.le_refl _) h
    · refine br_f (nI_ge (b := 4) (by omega) (by decide)) ⟨vp_in_nI (by omega) (by decide), nm_e (nm_r (nI_1 k) ?_)⟩
      refine ih (k + 1) (by omega) (by omega) h ?_
      intro j
      rw [nI_clamp (by omega)]
      unfold upd
      by_cases z : j = k
      · rw [if_pos z, if_pos (by omega)]
      · rw [if_neg z, he j]
        by_cases y : j < k
        · rw [if_pos y, if_pos (by omega)]
        · rw [if_neg y, if_neg (by omega)]
theorem hx_init {ho : Nat → Int32} (e : ho = upd (upd (upd (upd (fun _ => 0) 0 (vp_nar .byte (-1))) 1 (vp_nar .byte (-1))) 2 (vp_nar .byte (-1))) 3 (vp_nar .byte (-1))) : ho = fun j => if j < 4 then -1 else 0 := by
  rw [e, ha_vbm]
  funext j
  unfold upd
  by_cases h3 : j = 3
  · rw [if_pos h3, if_pos (by omega)]
  · rw [if_neg h3]
    by_cases h2 : j = 2
    · rw [if_pos h2, if_pos (by omega)]
    · rw [if_neg h2]
      by_cases h1 : j = 1
      · rw [if_pos h1, if_pos (by omega)]
      · rw [if_neg h1]
        by_cases h0 : j = 0
        · rw [if_pos h0, if_pos (by omega)]
        · rw [if_neg h0, if_neg (by omega)]
theorem i_vc0 : wpX_init (fun u => wpY_init (fun v => i_Rel 0 u v)) := by
  unfold wpX_init
  intro a2 e2 a4 e4 a6 e6 a8 e8
  have e : a8 = fun j => if j < 4 then -1 else 0 := hx_init (by rw [e8, e6, e4, e2])
  rw [e]
  unfold wpY_init
  refine Exists.intro 5 (hy_init165 5 0 (by omega) (by omega) ?_ (fun j => by rw [if_neg (by omega)]))
  have H : hr_H 0 (fun _ => 0) (fun _ => 0) := ⟨by omega, fun _ => Nat.succ_pos 3, fun _ => Nat.succ_pos 63⟩
  have L : hr_L 4 (fun _ => 0) (fun _ => 0) (fun _ => 0) (fun _ => 0) (fun j => if j < 4 then -1 else 0) := by
    refine ⟨fun _ => Nat.succ_pos 3, fun _ _ => Nat.zero_le 4, fun r k _ hk => absurd hk (Nat.not_lt_zero _), fun r k _ hk => absurd hk (Nat.not_lt_zero _), fun r k _ _ _ hk => absurd hk (Nat.not_lt_zero _), fun r _ hk => absurd hk (Nat.not_lt_zero _), fun m _ _ h => absurd (show (0 : Int32) = 1 from h) (by decide), fun l hl => Or.inl (if_pos hl)⟩
  have B : hr_B 0 (fun _ => 0) (fun _ => 0) := ⟨rfl, by omega, fun _ _ _ => rfl⟩
  exact hr_in (gt := 0) (K := 0) (gm := fun _ => 0) (gc := fun _ => 0) (gd := fun _ => 0) (gx := fun _ => 0) (gf := fun _ => 0) (gl := fun _ => 0) (gs := fun _ => 0) (gh := fun _ => 0) (go := fun _ => 0) (gr := fun _ => 0) (gw := fun _ => 0) H (hr_K0 (fun _ => rfl)) L B (hr_C0 (fun _ _ => rfl) (fun _ _ => rfl) (fun _ _ => rfl)) (hr_V0 (fun _ _ => rfl) (fun _ _ _ _ _ => rfl)) (hr_D0 (fun _ => Or.inl rfl) (fun _ _ _ => rfl)) (hr_O0 (fun _ _ => ⟨rfl, rfl⟩)) (hr_R0 (fun _ _ => ⟨rfl, rfl⟩))
/-! modes -/
def hz_mc (co va : Nat → Int32) (p q : Nat) : Nat → Int32 := fun j => if 8 * p ≤ j ∧ j < 8 * p + q then va j else co j
theorem hz_mc_s {co va : Nat → Int32} {p q : Nat} : upd (hz_mc co va p q) (8 * p + q) (va (8 * p + q)) = hz_mc co va p (q + 1) := by
  funext j
  unfold upd hz_mc
  by_cases e : j = 8 * p + q
  · rw [if_pos e, if_pos (by omega), e]
  · rw [if_neg e]
    by_cases a : 8 * p ≤ j ∧ j < 8 * p + q
    · rw [if_pos a, if_pos (by omega)]
    · rw [if_neg a, if_neg (by omega)]
def hz_mv (va co : Nat → Int32) (p q t : Nat) : Nat → Int32 := fun j => if j < 256 ∧ 8 * p ≤ j % 64 ∧ (j % 64 < 8 * p + q ∨ (j % 64 = 8 * p + q ∧ j < 64 * t)) then co (j % 64) else va j
theorem hz_mv_s {va co : Nat → Int32} {p q t : Nat} (hp : p < 8) (hq : q < 8) (ht : t < 4) : upd (hz_mv va co p q t) (64 * t + (8 * p + q)) (co (8 * p + q)) = hz_mv va co p q (t + 1) := by
  funext j
  unfold upd hz_mv
  by_cases e : j = 64 * t + (8 * p + q)
  · rw [if_pos e, if_pos (by omega), show j % 64 = 8 * p + q from by omega]
  · rw [if_neg e]
    by_cases a : j < 256 ∧ 8 * p ≤ j % 64 ∧ (j % 64 < 8 * p + q ∨ (j % 64 = 8 * p + q ∧ j < 64 * t))
    · rw [if_pos a, if_pos (by omega)]
    · rw [if_neg a, if_neg (by omega)]
theorem hz_mv_4 {va co : Nat → Int32} {p q : Nat} : hz_mv va co p q 4 = hz_mv va co p (q + 1) 0 := by
  funext j
  unfold hz_mv
  by_cases a : j < 256 ∧ 8 * p ≤ j % 64 ∧ (j % 64 < 8 * p + q ∨ (j % 64 = 8 * p + q ∧ j < 64 * 4))
  · rw [if_pos a, if_pos (by omega)]
  · rw [if_neg a, if_neg (by omega)]
section XM
variable {th rd fb kp : Int32} {kX st ho ro le va sm wc wd wt nx fi la sn sc co hv ow rA wA fe mo ra ac lo rq : Nat → Int32}
variable {p : Nat}
theorem hx_mode1 {post : Int32 → SX → Prop} (hp : p < 8) (hs : ¬ 1 = sc p) (h : post 1 (th, rd, fb, kp, kX, st, ho, ro, le, va, sm, wc, wd, wt, nx, fi, la, sn, upd sc p 1, hz_mc co va p 8, hv, ow, rA, wA, fe, mo, ra, ac, lo, rq)) : ∀ (n q : Nat), 8 < n + q → q ≤ 8 →
    wX_mode_24 post (nI p) 1 th rd fb kp n (nI (8 * p + q)) kX st ho ro le va sm wc wd wt nx fi la sn sc (hz_mc co va p q) hv ow rA wA fe mo ra ac lo rq := by
  intro n
  induction n with
  | zero => intro q h1 h2; omega
  | succ n ih =>
    intro q h1 h2
    rw [wX_mode_24, ha_m8, ha_p8, nI_clamp (n := p) (by omega)]
    by_cases e : q = 8
    · subst e
      exact br_t (Int32.le_refl _) ⟨vp_in_nI hp (by decide), nm_r (e' := upd sc p 1) (by rw [ha_vz1]) h⟩
    · refine br_f (nI_ge (by omega) (by omega)) ⟨vp_in_nI hp (by decide), br_f hs (br_f (by decide) ⟨vp_in_nI (by omega) (by decide), vp_in_nI (by omega) (by decide), ?_⟩)⟩
      refine nm_r (e' := hz_mc co va p (q + 1)) (by rw [nI_clamp (by omega), hz_mc_s]) (nm_r (e' := nI (8 * p + (q + 1))) (by rw [nI_1, Nat.add_assoc]) ?_)
      exact ih (q + 1) (by omega) (by omega)
theorem hx_mode67 {post : Int32 → SX → Prop} {J24 : Int32 → (Nat → Int32) → (Nat → Int32) → (Nat → Int32) → (Nat → Int32) → (Nat → Int32) → (Nat → Int32) → (Nat → Int32) → (Nat → Int32) → (Nat → Int32) → (Nat → Int32) → (Nat → Int32) → (Nat → Int32) → (Nat → Int32) → (Nat → Int32) → (Nat → Int32) → (Nat → Int32) → (Nat → Int32) → (Nat → Int32) → (Nat → Int32) → (Nat → Int32) → (Nat → Int32) → (Nat → Int32) → (Nat → Int32) → (Nat → Int32) → (Nat → Int32) → (Nat → Int32) → Prop} {x1 x2 : Int32} {q : Nat} (hp : p < 8) (hq : q < 8)
    (h : J24 (nI (8 * p + (q + 1))) kX st ho ro le (hz_mv va co p (q + 1) 0) sm wc wd wt nx fi la sn sc co hv ow rA wA fe mo ra ac lo rq) : ∀ (n t : Nat), 4 < n + t → t ≤ 4 →
    wX_mode_67 post J24 x1 x2 (nI (8 * p + q)) th rd fb kp n (nI t) kX st ho ro le (hz_mv va co p q t) sm wc wd wt nx fi la sn sc co hv ow rA wA fe mo ra ac lo rq := by
  intro n
  induction n with
  | zero => intro t h1 h2; omega
  | succ n ih =>
    intro t h1 h2
    rw [wX_mode_67]
    by_cases e : t = 4
    · subst e
      rw [hz_mv_4]
      exact br_t (Int32.le_refl _) (nm_r (e' := nI (8 * p + (q + 1))) (by rw [nI_1, Nat.add_assoc]) h)
    · refine br_f (nI_ge (b := 4) (by omega) (by decide)) ?_
      rw [ha_m64, nI_add, nI_clamp (n := 8 * p + q) (by omega), nI_clamp (n := 64 * t + (8 * p + q)) (by omega)]
      refine ⟨vp_in_nI (by omega) (by decide), vp_in_nI (by omega) (by decide), nm_r (e' := hz_mv va co p q (t + 1)) (hz_mv_s hp hq (by omega)) (nm_r (nI_1 t) ?_)⟩
      exact ih (t + 1) (by omega) (by omega)
theorem hx_mode0 {post : Int32 → SX → Prop} (hp : p < 8) (hs : ¬ 0 = sc p) (h : post 1 (th, rd, fb, kp, kX, st, ho, ro, le, hz_mv va co p 8 0, sm, wc, wd, wt, nx, fi, la, sn, upd sc p 0, co, hv, ow, rA, wA, fe, mo, ra, ac, lo, rq)) : ∀ (n q : Nat), 8 < n + q → q ≤ 8 →
    wX_mode_24 post (nI p) 0 th rd fb kp n (nI (8 * p + q)) kX st ho ro le (hz_mv va co p q 0) sm wc wd wt nx fi la sn sc co hv ow rA wA fe mo ra ac lo rq := by
  intro n
  induction n with
  | zero => intro q h1 h2; omega
  | succ n ih =>
    intro q h1 h2
    rw [wX_mode_24, ha_m8, ha_p8, nI_clamp (n := p) (by omega)]
    by_cases e : q = 8
    · subst e
      exact br_t (Int32.le_refl _) ⟨vp_in_nI hp (by decide), nm_r (e' := upd sc p 0) (by rw [ha_vz0]) h⟩
    · refine br_f (nI_ge (by omega) (by omega)) ⟨vp_in_nI hp (by decide), br_f hs (br_t rfl (Exists.intro 5 ?_))⟩
      exact hx_mode67 hp (by omega) (ih (q + 1) (by omega) (by omega)) 5 0 (by omega) (by omega)
theorem hx_modes {post : Int32 → SX → Prop} {b : Int32} (hb : b = 0 ∨ b = 1) (hp : p < 8) (hs : b = sc p) (h : post 1 (th, rd, fb, kp, kX, st, ho, ro, le, va, sm, wc, wd, wt, nx, fi, la, sn, sc, co, hv, ow, rA, wA, fe, mo, ra, ac, lo, rq)) (n : Nat) : wX_mode_24 post (nI p) b th rd fb kp (n + 1) (nI (8 * p)) kX st ho ro le va sm wc wd wt nx fi la sn sc co hv ow rA wA fe mo ra ac lo rq := by
  rw [wX_mode_24, ha_m8, ha_p8, nI_clamp (n := p) (by omega)]
  refine br_f (nI_ge (by omega) (by omega)) ⟨vp_in_nI hp (by decide), br_t hs ⟨vp_in_nI hp (by decide), nm_r (e' := sc) ?_ h⟩⟩
  rw [hz_01n hb]
  exact ha_uid hs.symm
end XM
theorem i_vc_mode {k : Nat} {u : SX} {v : SY} (I : i_Rel k u v) (hk : k + 4 ≤ 2048) (v1 : Int32) (v2 : Int32) : wpX_mode (fun r u' => wpY_mode (fun r' v' => r' = r ∧ i_Rel (k + 4) u' v') v v1 (lw_bz v2)) u v1 (lw_bz v2) := by
  refine hr_el (P := fun u v => wpX_mode (fun r u' => wpY_mode (fun r' v' => r' = r ∧ i_Rel (k + 4) u' v') v v1 (lw_bz v2)) u v1 (lw_bz v2)) ?_ I
  intro gt K kn gq ln gm gc gd gx gf gl gs gh go gr gw wo wh rd fb lr st ho va wt sc co fe mo ra ac lo rq yv yr yk ys yp yo yf hH hK hL hB hC hV hD hO hR
  have R : i_Rel (k + 4) ((nI gt), rd, fb, (nI K), (hz_n kn), st, ho, (hz_n gq), (hz_n ln), va, (hz_n gm), (hz_n gc), (hz_n gd), wt, (hz_n gx), (hz_n gf), (hz_n gl), (hz_n gs), sc, co, (hz_n gh), (hz_n go), (hz_n gr), (hz_n gw), fe, mo, ra, ac, lo, rq) ((nI K), rd, lr, (hz_n wo), (hz_n wh), yv, yr, yk, ys, yp, yo, sc, st, yf, ho, (hz_n gq), (hz_n ln), fe, mo, ra, ac, lo, rq) := hr_in hH hK hL hB hC hV hD hO hR
  have K3 := hH.1
  have hb := lw_bz_01 v2
  generalize lw_bz v2 = b at hb
  unfold wpX_mode
  rcases hz_ix v1 8 (by decide) with hx | ⟨p, hp, rfl⟩
  · have q : wpY_mode (fun r' v' => r' = 0 ∧ i_Rel (k + 4) ((nI gt), rd, fb, (nI K), (hz_n kn), st, ho, (hz_n gq), (hz_n ln), va, (hz_n gm), (hz_n gc), (hz_n gd), wt, (hz_n gx), (hz_n gf), (hz_n gl), (hz_n gs), sc, co, (hz_n gh), (hz_n go), (hz_n gr), (hz_n gw), fe, mo, ra, ac, lo, rq) v') ((nI K), rd, lr, (hz_n wo), (hz_n wh), yv, yr, yk, ys, yp, yo, sc, st, yf, ho, (hz_n gq), (hz_n ln), fe, mo, ra, ac, lo, rq) v1 b := by
      unfold wpY_mode
      exact hy_in_n hx (br_t rfl ⟨rfl, R⟩)
    by_cases z : v1 < 0
    · exact br_t z q
    · refine br_f z (br_t ?_ q)
      have z8 := hx.resolve_left z
      rw [Int32.le_iff_toInt_le] at z8
      rw [Int32.lt_iff_toInt_lt]
      have e8 : (nI 8).toInt = 8 := by decide
      have e7 : (7 : Int32).toInt = 7 := by decide
      omega
  · refine br_f (nI_pos (by omega)) (br_f (fun z => by have := (ha_7lt (by omega)).mp z; omega) ?_)
    by_cases zK : K = 0
    · refine br_t ((ha_le0 (by omega)).mpr zK) ?_
      have Y : ∀ post : Int32 → SY → Prop, post 1 ((nI K), rd, lr, (hz_n wo), (hz_n wh), yv, yr, yk, ys, yp, yo, upd sc p b, st, yf, ho, (hz_n gq), (hz_n ln), fe, mo, ra, ac, lo, rq) → wpY_mode post ((nI K), rd, lr, (hz_n wo), (hz_n wh), yv, yr, yk, ys, yp, yo, sc, st, yf, ho, (hz_n gq), (hz_n ln), fe, mo, ra, ac, lo, rq) (nI p) b := fun post h => by
        unfold wpY_mode
        refine hy_in8 hp (br_f (by decide) (br_t ((ha_le0 (by omega)).mpr zK) ⟨vp_in_nI hp (by decide), nm_r (e' := upd sc p b) ?_ h⟩))
        rw [nI_clamp (by omega), hz_01n hb]
      rw [ha_m8]
      refine nm_e ?_
      obtain ⟨c1, c2, c3⟩ := hr_C0' (zK ▸ hC)
      obtain ⟨w1, w2⟩ := hr_V0' (zK ▸ hV)
      have o1 := hr_O0' (zK ▸ hO)
      have d1 := hD.1
      have d2 : ∀ w, w < 64 → ¬ sc (w / 8) = 0 → co w = yo w := (zK ▸ hD : hr_D 0 wh yr sc yv yo co).2
      by_cases hs : b = sc p
      · refine Exists.intro 1 (hx_modes hb hp hs (Y _ ⟨rfl, ?_⟩) 0)
        rw [ha_uid hs.symm]
        exact R
      · have rest : ∀ (va' co' : Nat → Int32), (∀ m w, m < 4 → w < 64 → upd sc p b (w / 8) = 0 → va' (64 * m + w) = yo w) → (∀ w, w < 64 → ¬ upd sc p b (w / 8) = 0 → co' w = yo w) → i_Rel (k + 4) ((nI gt), rd, fb, (nI K), (hz_n kn), st, ho, (hz_n gq), (hz_n ln), va', (hz_n gm), (hz_n gc), (hz_n gd), wt, (hz_n gx), (hz_n gf), (hz_n gl), (hz_n gs), upd sc p b, co', (hz_n gh), (hz_n go), (hz_n gr), (hz_n gw), fe, mo, ra, ac, lo, rq) ((nI K), rd, lr, (hz_n wo), (hz_n wh), yv, yr, yk, ys, yp, yo, upd sc p b, st, yf, ho, (hz_n gq), (hz_n ln), fe, mo, ra, ac, lo, rq) := by
          intro va' co' g1 g2
          subst zK
          have hsc : ∀ q, upd sc p b q = 0 ∨ upd sc p b q = 1 := by
            intro q
            unfold upd
            split
            · exact hb
            · exact d1 q
          exact hr_in hH hK hL hB (hr_C0 c1 c2 c3) (hr_V0 w1 g1) (hr_D0 hsc g2) (hr_O0 o1) (fun w o hw ho' => hR w o hw ho')
        rcases hb with e | e
        · subst e
          have := hx_mode0 (th := nI gt) (rd := rd) (fb := fb) (kp := nI K) (kX := hz_n kn) (st := st) (ho := ho) (ro := hz_n gq) (le := hz_n ln) (va := va) (sm := hz_n gm) (wc := hz_n gc) (wd := hz_n gd) (wt := wt) (nx := hz_n gx) (fi := hz_n gf) (la := hz_n gl) (sn := hz_n gs) (sc := sc) (co := co) (hv := hz_n gh) (ow := hz_n go) (rA := hz_n gr) (wA := hz_n gw) (fe := fe) (mo := mo) (ra := ra) (ac := ac) (lo := lo) (rq := rq) (post := fun r u' => wpY_mode (fun r' v' => r' = r ∧ i_Rel (k + 4) u' v') ((nI K), rd, lr, (hz_n wo), (hz_n wh), yv, yr, yk, ys, yp, yo, sc, st, yf, ho, (hz_n gq), (hz_n ln), fe, mo, ra, ac, lo, rq) (nI p) 0) hp hs (Y _ ⟨rfl, ?_⟩) 9 0 (by omega) (by omega)
          · rw [show hz_mv va co p 0 0 = va from by funext j; unfold hz_mv; rw [if_neg (by omega)]] at this
            exact Exists.intro 9 this
          · refine rest _ co ?_ ?_
            · intro m w hm hw hs'
              unfold hz_mv
              by_cases ew : w / 8 = p
              · rw [if_pos (by omega), show (64 * m + w) % 64 = w from by omega]
                exact d2 w hw (by rw [ew]; exact fun z => hs z.symm)
              · rw [if_neg (by omega)]
                rw [pk_un ew] at hs'
                exact w2 m w hm hw hs'
            · intro w hw hs'
              by_cases ew : w / 8 = p
              · rw [ew, pk_us] at hs'
                exact absurd rfl hs'
              · rw [pk_un ew] at hs'
                exact d2 w hw hs'
        · subst e
          have := hx_mode1 (th := nI gt) (rd := rd) (fb := fb) (kp := nI K) (kX := hz_n kn) (st := st) (ho := ho) (ro := hz_n gq) (le := hz_n ln) (va := va) (sm := hz_n gm) (wc := hz_n gc) (wd := hz_n gd) (wt := wt) (nx := hz_n gx) (fi := hz_n gf) (la := hz_n gl) (sn := hz_n gs) (sc := sc) (co := co) (hv := hz_n gh) (ow := hz_n go) (rA := hz_n gr) (wA := hz_n gw) (fe := fe) (mo := mo) (ra := ra) (ac := ac) (lo := lo) (rq := rq) (post := fun r u' => wpY_mode (fun r' v' => r' = r ∧ i_Rel (k + 4) u' v') ((nI K), rd, lr, (hz_n wo), (hz_n wh), yv, yr, yk, ys, yp, yo, sc, st, yf, ho, (hz_n gq), (hz_n ln), fe, mo, ra, ac, lo, rq) (nI p) 1) hp hs (Y _ ⟨rfl, ?_⟩) 9 0 (by omega) (by omega)
          · rw [show hz_mc co va p 0 = co from by funext j; unfold hz_mc; rw [if_neg (by omega)]] at this
            exact Exists.intro 9 this
          · refine rest va _ ?_ ?_
            · intro m w hm hw hs'
              by_cases ew : w / 8 = p
              · rw [ew, pk_us] at hs'
                exact absurd hs' (by decide)
              · rw [pk_un ew] at hs'
                exact w2 m w hm hw hs'
            · intro w hw hs'
              unfold hz_mc
              by_cases ew : w / 8 = p
              · rw [if_pos (by omega)]
                have s0 : sc (w / 8) = 0 := by
                  rw [ew]
                  rcases d1 p with z | z
                  · exact z
                  · exact absurd z.symm hs
                have := w2 0 w (by omega) hw s0
                rw [Nat.mul_zero, Nat.zero_add] at this
                exact this
              · rw [if_neg (by omega)]
                rw [pk_un ew] at hs'
                exact d2 w hw hs'
    · refine br_f (fun z => zK ((ha_le0 (by omega)).mp z)) ?_
      unfold wpY_mode
      exact hy_in8 hp (br_f (by decide) (br_f (fun z => zK ((ha_le0 (by omega)).mp z)) ⟨rfl, R⟩))
end
section
/-! Y: a page is fetched, on both sides; refresh -/
section FT
variable {gt K m p : Nat} {kn gq ln gm gc gd gx gf gl gs gh go gr gw wo wh : Nat → Nat} {rd fb lr : Int32} {st ho va wt sc co fe mo ra ac lo rq xa xq yv yr yk ys yp yo yf : Nat → Int32}
theorem hz_fetch (hH : hr_H K wo wh) (hK : hr_K K wo kn yk yp) (hC : hr_C K wo wh yr sc yv gc gd wt gx gf gl gs (hz_S ys)) (hV : hr_V K wh yr sc yv yo gm va (hz_S ys)) (hm : m < 4) (hp : p < 8) :
    (¬ ∃ i, i < K ∧ hz_F wo wh kn yr sc (hz_S ys) m p i) ∨ ((∃ i, i < K ∧ hz_F wo wh kn yr sc (hz_S ys) m p i) ∧
      ∃ (gs' gm' : Nat → Nat) (va' ys' : Nat → Int32) (fb' : Int32) (c : Nat), hr_C K wo wh yr sc yv gc gd wt gx gf gl gs' (hz_S ys') ∧ hr_V K wh yr sc yv yo gm' va' (hz_S ys') ∧
        (∀ post : SX → Prop, post ((nI gt), rd, fb', (nI K), (hz_n kn), st, ho, (hz_n gq), (hz_n ln), va', hz_n gm', (hz_n gc), (hz_n gd), wt, (hz_n gx), (hz_n gf), (hz_n gl), hz_n gs', sc, co, (hz_n gh), (hz_n go), (hz_n gr), (hz_n gw), upd fe m (fe m + 1), upd mo m (mo m + nI c), xa, ac, lo, xq) → wpX_fetch post ((nI gt), rd, fb, (nI K), (hz_n kn), st, ho, (hz_n gq), (hz_n ln), va, (hz_n gm), (hz_n gc), (hz_n gd), wt, (hz_n gx), (hz_n gf), (hz_n gl), (hz_n gs), sc, co, (hz_n gh), (hz_n go), (hz_n gr), (hz_n gw), fe, mo, xa, ac, lo, xq) (nI m) (nI p)) ∧
        (∀ post : SY → Prop, post ((nI K), rd, lr, (hz_n wo), (hz_n wh), yv, yr, yk, ys', yp, yo, sc, st, yf, ho, (hz_n gq), (hz_n ln), upd fe m (fe m + 1), upd mo m (mo m + nI c), ra, ac, lo, rq) → wpY_fetch post ((nI K), rd, lr, (hz_n wo), (hz_n wh), yv, yr, yk, ys, yp, yo, sc, st, yf, ho, (hz_n gq), (hz_n ln), fe, mo, ra, ac, lo, rq) (nI m) (nI p))) := by
  by_cases hF : ∃ i, i < K ∧ hz_F wo wh kn yr sc (hz_S ys) m p i
  · refine Or.inr ⟨hF, ?_⟩
    have hs : sc p = 0 := by
      obtain ⟨i, _, f⟩ := hF
      exact f.2.2.1
    have K3 := hH.1
    obtain ⟨gs', gm', va', g', S', r1, r2, r3, r4, r5, r6⟩ := hx_bring (th := nI gt) (rd := rd) (fb := fb) (kp := nI K) (st := st) (ho := ho) (ro := hz_n gq) (le := hz_n ln) (la := hz_n gl) (co := co) (hv := hz_n gh) (ow := hz_n go) (rA := hz_n gr) (wA := hz_n gw) (fe := fe) (mo := mo) (ra := xa) (ac := ac) (lo := lo) (rq := xq) hH.2.1 hH.2.2 hH.1 hK.1 hm hp hC hV
    have eS : ∀ m' j, m' < 4 → j < K → (hz_S (hz_set ys (hz_A K wh yr yk ys m p (8 * p + 8) 0)) m' j ↔ S' m' j) := by
      intro m' j hm' hj
      rw [r4 m' j hj]
      have hA : hz_A K wh yr yk ys m p (8 * p + 8) 0 (300 * m' + j) ↔ (m' = m ∧ hz_F wo wh kn yr sc (hz_S ys) m p j) := by
        constructor
        · rintro ⟨j', e1, e2, e3, e4, e5⟩
          have ej : j' = j := by omega
          have em : m' = m := by omega
          rw [ej] at e3 e4 e5
          exact ⟨em, (hz_F_fr hK hm hj).mpr ⟨by omega, hs, e3⟩⟩
        · rintro ⟨em, f⟩
          obtain ⟨f1, f2, f3⟩ := (hz_F_fr hK hm hj).mp f
          exact ⟨j, by rw [em], hj, f3, by omega, by omega⟩
      by_cases a : hz_A K wh yr yk ys m p (8 * p + 8) 0 (300 * m' + j)
      · constructor
        · intro _; exact Or.inr (hA.mp a)
        · intro _
          unfold hz_S
          rw [hz_set_y a]
          decide
      · constructor
        · intro z
          unfold hz_S at z
          rw [hz_set_n a] at z
          exact Or.inl z
        · rintro (z | z)
          · unfold hz_S
            rw [hz_set_n a]
            exact z
          · exact absurd (hA.mpr z) a
    have pc : hz_pc g' = hz_cp (hz_P K wh yr yk ys m p) 8 := by
      refine hz_pc_cp (fun q hq => ?_)
      rw [r5 q hq]
      constructor
      · rintro ⟨j, j1, j2, j3⟩
        exact ⟨j, j1, j3, ((hz_F_fr hK hm j1).mp j2).2.2⟩
      · rintro ⟨j, j1, j2, j3⟩
        exact ⟨j, j1, (hz_F_fr hK hm j1).mpr ⟨by omega, hs, j3⟩, j2⟩
    refine ⟨gs', gm', va', _, nI g', hz_cp (hz_P K wh yr yk ys m p) 8, hr_C_S eS r1, hr_V_S eS r2, ?_, ?_⟩
    · intro post h
      refine hx_fetch1 hH.2.1 hH.1 hK.1 hm hp hC hF r3 r6 ?_
      rw [pc]
      exact h
    · intro post h
      exact hy_fetch hH.2.2 hH.1 hm hp h
  · exact Or.inl hF
end FT
section RF
variable {gt K m : Nat} {kn gq ln gc gd gx gf gl gh go gr gw wo wh : Nat → Nat} {rd lr : Int32} {st ho wt sc co ra ac lo rq yv yr yk yp yo yf : Nat → Int32}
theorem hz_refresh (hH : hr_H K wo wh) (hK : hr_K K wo kn yk yp) (hm : m < 4) : ∀ (e p : Nat), p + e = 8 → ∀ (gs gm : Nat → Nat) (va ys fe mo : Nat → Int32) (fb : Int32),
    hr_C K wo wh yr sc yv gc gd wt gx gf gl gs (hz_S ys) → hr_V K wh yr sc yv yo gm va (hz_S ys) →
    ∃ (gs' gm' : Nat → Nat) (va' ys' fe' mo' : Nat → Int32) (fb' : Int32) (d : Nat), hr_C K wo wh yr sc yv gc gd wt gx gf gl gs' (hz_S ys') ∧ hr_V K wh yr sc yv yo gm' va' (hz_S ys') ∧ fe' m = fe m + nI d ∧
      (∀ (post : Int32 → SX → Prop) (n : Nat) (x : Int32), e < n → post (fe' m - x) ((nI gt), rd, fb', (nI K), (hz_n kn), st, ho, (hz_n gq), (hz_n ln), va', hz_n gm', (hz_n gc), (hz_n gd), wt, (hz_n gx), (hz_n gf), (hz_n gl), hz_n gs', sc, co, (hz_n gh), (hz_n go), (hz_n gr), (hz_n gw), fe', mo', ra, ac, lo, rq) → wX_refresh_19 post (nI m) x n (nI p) (nI gt) rd fb (nI K) (hz_n kn) st ho (hz_n gq) (hz_n ln) va (hz_n gm) (hz_n gc) (hz_n gd) wt (hz_n gx) (hz_n gf) (hz_n gl) (hz_n gs) sc co (hz_n gh) (hz_n go) (hz_n gr) (hz_n gw) fe mo ra ac lo rq) ∧
      (∀ (post : Int32 → SY → Prop) (n : Nat) (q : Int32), e < n → post (q + nI d) ((nI K), rd, lr, (hz_n wo), (hz_n wh), yv, yr, yk, ys', yp, yo, sc, st, yf, ho, (hz_n gq), (hz_n ln), fe', mo', ra, ac, lo, rq) → wY_refresh_14 post (nI m) n q (nI p) (nI K) rd lr (hz_n wo) (hz_n wh) yv yr yk ys yp yo sc st yf ho (hz_n gq) (hz_n ln) fe mo ra ac lo rq) := by
  intro e
  induction e with
  | zero =>
    intro p hp gs gm va ys fe mo fb hC hV
    have ep : p = 8 := by omega
    subst ep
    refine ⟨gs, gm, va, ys, fe, mo, fb, 0, hC, hV, by rw [nI_0, Int32.add_zero], ?_, ?_⟩
    · intro post n x hn h
      obtain ⟨n, rfl⟩ : ∃ n', n = n' + 1 := ⟨n - 1, by omega⟩
      rw [wX_refresh_19]
      refine br_t (Int32.le_refl _) ⟨vp_in_nI hm (by decide), ?_⟩
      rw [nI_clamp (by omega)]
      exact h
    · intro post n q hn h
      obtain ⟨n, rfl⟩ : ∃ n', n = n' + 1 := ⟨n - 1, by omega⟩
      rw [wY_refresh_14]
      rw [nI_0, Int32.add_zero] at h
      exact br_t (Int32.le_refl _) h
  | succ e ih =>
    intro p hp gs gm va ys fe mo fb hC hV
    have n8 : ¬ (8 : Int32) ≤ nI p := nI_ge (b := 8) (by omega) (by decide)
    rcases hz_fetch (gt := gt) (gq := gq) (ln := ln) (gh := gh) (go := go) (gr := gr) (gw := gw) (rd := rd) (fb := fb) (lr := lr) (st := st) (ho := ho) (co := co) (fe := fe) (mo := mo) (ra := ra) (ac := ac) (lo := lo) (rq := rq) (xa := ra) (xq := rq) (yf := yf) hH hK hC hV hm (show p < 8 from by omega) with hF | ⟨hF, gs1, gm1, va1, ys1, fb1, c, r1, r2, r3, r4⟩
    · obtain ⟨gs', gm', va', ys', fe', mo', fb', d, s1, s2, s3, s4, s5⟩ := ih (p + 1) (by omega) gs gm va ys fe mo fb hC hV
      refine ⟨gs', gm', va', ys', fe', mo', fb', d, s1, s2, s3, ?_, ?_⟩
      · intro post n x hn h
        obtain ⟨n, rfl⟩ : ∃ n', n = n' + 1 := ⟨n - 1, by omega⟩
        rw [wX_refresh_19]
        refine br_f n8 (hx_fetch0 hH.2.1 hH.1 hK.1 hm (by omega) hC hF (nm_r (nI_1 p) ?_))
        exact s4 post n x (by omega) h
      · intro post n q hn h
        obtain ⟨n, rfl⟩ : ∃ n', n = n' + 1 := ⟨n - 1, by omega⟩
        rw [wY_refresh_14]
        refine br_f n8 (hy_stale hH.2.2 hH.1 hK hm (by omega) (fun z => absurd z hF) (fun _ => br_t rfl (nm_r (nI_1 p) ?_)))
        exact s5 post n q (by omega) h
    · obtain ⟨gs', gm', va', ys', fe', mo', fb', d, s1, s2, s3, s4, s5⟩ := ih (p + 1) (by omega) gs1 gm1 va1 ys1 (upd fe m (fe m + 1)) (upd mo m (mo m + nI c)) fb1 r1 r2
      refine ⟨gs', gm', va', ys', fe', mo', fb', d + 1, s1, s2, ?_, ?_, ?_⟩
      · rw [s3, pk_us, Int32.add_assoc, Int32.add_comm 1, nI_1]
      · intro post n x hn h
        obtain ⟨n, rfl⟩ : ∃ n', n = n' + 1 := ⟨n - 1, by omega⟩
        rw [wX_refresh_19]
        refine br_f n8 (r3 _ (nm_r (nI_1 p) ?_))
        exact s4 post n x (by omega) h
      · intro post n q hn h
        obtain ⟨n, rfl⟩ : ∃ n', n = n' + 1 := ⟨n - 1, by omega⟩
        rw [wY_refresh_14]
        refine br_f n8 (hy_stale hH.2.2 hH.1 hK hm (by omega) (fun _ => br_f (by decide) (r4 _ (nm_e (nm_r (nI_1 p) ?_)))) (fun z => absurd hF z))
        refine s5 post n (q + 1) (by omega) ?_
        rw [Int32.add_assoc, Int32.add_comm 1, nI_1]
        exact h
end RF
theorem i_vc_refresh {k : Nat} {u : SX} {v : SY} (I : i_Rel k u v) (hk : k + 4 ≤ 2048) (v1 : Int32) : wpX_refresh (fun r u' => wpY_refresh (fun r' v' => r' = r ∧ i_Rel (k + 4) u' v') v v1) u v1 := by
  refine hr_el (P := fun u v => wpX_refresh (fun r u' => wpY_refresh (fun r' v' => r' = r ∧ i_Rel (k + 4) u' v') v v1) u v1) ?_ I
  intro gt K kn gq ln gm gc gd gx gf gl gs gh go gr gw wo wh rd fb lr st ho va wt sc co fe mo ra ac lo rq yv yr yk ys yp yo yf hH hK hL hB hC hV hD hO hR
  unfold wpX_refresh
  rcases hz_run st v1 with hx | ⟨m, hm, rfl, h0⟩
  · refine hx_runs_n hx (br_t rfl ?_)
    unfold wpY_refresh
    exact hy_runs_n hx (br_t rfl ⟨rfl, hr_in hH hK hL hB hC hV hD hO hR⟩)
  · obtain ⟨gs', gm', va', ys', fe', mo', fb', d, s1, s2, s3, s4, s5⟩ := hz_refresh (gt := gt) (gq := gq) (ln := ln) (gh := gh) (go := go) (gr := gr) (gw := gw) (rd := rd) (lr := lr) (st := st) (ho := ho) (co := co) (ra := ra) (ac := ac) (lo := lo) (rq := rq) (yf := yf) hH hK hm 8 0 rfl gs gm va ys fe mo fb hC hV
    refine hx_runs hm h0 (br_f (by decide) ⟨vp_in_nI hm (by decide), nm_r (e' := fe m) (by rw [nI_clamp (by omega)]) (Exists.intro 9 (s4 _ 9 (fe m) (by omega) ?_))⟩)
    unfold wpY_refresh
    refine hy_runs hm h0 (br_f (by decide) (Exists.intro 9 (s5 _ 9 0 (by omega) ⟨?_, ?_⟩)))
    · rw [s3]
      grind
    · exact hr_in hH hK hL hB s1 s2 hD hO hR
end
section
/-! Z: strict pages on both sides -/
noncomputable def hz_hp (K : Nat) (wo wh : Nat → Nat) (yr sc : Nat → Int32) (p m : Nat) : Nat :=
  if hz_la (hz_O3 wo wh sc p m) K < hz_la (hz_O2 wo wh yr sc p m) K then 2 else if hz_la (hz_O4 wo wh yr sc p m) K < hz_la (hz_O1 wo wh sc p m) K then 1 else 0
section ZW
variable {kp rd lr : Int32} {yw yh yv yr yk ys yp yo sc st yf ho ro le fe mo ra ac lo rq : Nat → Int32}
variable {K m p : Nat} {wo wh : Nat → Nat}
theorem hy_has14 {post : Int32 → Prop} (hwo : ∀ i, wo i < 4) (hwh : ∀ i, wh i < 64) (hK : K ≤ 300) (hm : m < 4) (hp : p < 8) (hs : ¬ sc p = 0) (h : post (nI (hz_hp K wo wh yr sc p m))) : ∀ (n i : Nat), K < n + i → i ≤ K →
    wY_hasPage_14 post (nI m) (nI p) (nI K) rd lr (hz_n wo) (hz_n wh) yv yr yk ys yp yo sc st yf ho ro le fe mo ra ac lo rq n (hz_e (hz_la (hz_O1 wo wh sc p m) i)) (hz_e (hz_la (hz_O2 wo wh yr sc p m) i)) (hz_e (hz_la (hz_O3 wo wh sc p m) i)) (hz_e (hz_la (hz_O4 wo wh yr sc p m) i)) (nI i) := by
  intro n
  induction n with
  | zero => intro i h1 h2; omega
  | succ n ih =>
    intro i h1 h2
    by_cases e : i = K
    · subst e
      have b1 := hz_la_le (hz_O1 wo wh sc p m) i
      have b2 := hz_la_le (hz_O2 wo wh yr sc p m) i
      have b3 := hz_la_le (hz_O3 wo wh sc p m) i
      have b4 := hz_la_le (hz_O4 wo wh yr sc p m) i
      rw [wY_hasPage_14]
      refine br_t (Int32.le_refl _) ?_
      unfold hz_hp at h
      have e31 : ¬ hz_la (hz_O3 wo wh sc p m) i < hz_la (hz_O2 wo wh yr sc p m) i → wY_hasPage_131 post (hz_e (hz_la (hz_O1 wo wh sc p m) i)) (hz_e (hz_la (hz_O4 wo wh yr sc p m) i)) (nI i) rd lr (hz_n wo) (hz_n wh) yv yr yk ys yp yo sc st yf ho ro le fe mo ra ac lo rq := by
        intro z
        rw [if_neg z] at h
        unfold wY_hasPage_131
        by_cases y : hz_la (hz_O4 wo wh yr sc p m) i < hz_la (hz_O1 wo wh sc p m) i
        · rw [if_pos y] at h
          exact br_f (fun x => by have := (hz_e_lt0 (by omega)).mp x; omega) (br_f (fun x => by have := (hz_e_le (by omega) (by omega)).mp x; omega) h)
        · rw [if_neg y] at h
          by_cases x : hz_la (hz_O1 wo wh sc p m) i = 0
          · exact br_t ((hz_e_lt0 (by omega)).mpr x) h
          · exact br_f (fun w => x ((hz_e_lt0 (by omega)).mp w)) (br_t ((hz_e_le (by omega) (by omega)).mpr (by omega)) h)
      by_cases z : hz_la (hz_O3 wo wh sc p m) i < hz_la (hz_O2 wo wh yr sc p m) i
      · rw [if_pos z] at h
        exact br_f (fun x => by have := (hz_e_lt0 (by omega)).mp x; omega) (br_f (fun x => by have := (hz_e_le (by omega) (by omega)).mp x; omega) h)
      · by_cases x : hz_la (hz_O2 wo wh yr sc p m) i = 0
        · exact br_t ((hz_e_lt0 (by omega)).mpr x) (e31 z)
        · exact br_f (fun w => x ((hz_e_lt0 (by omega)).mp w)) (br_t ((hz_e_le (by omega) (by omega)).mpr (by omega)) (e31 z))
    · have iK : ¬ K ≤ i := by omega
      have hwi := hwh i
      have hoi := hwo i
      have IH := ih (i + 1) (by omega) (by omega)
      by_cases a : wh i / 8 = p
      · by_cases b : wo i = m
        · rw [hz_la_y (P := hz_O1 wo wh sc p m) ⟨hs, a, b⟩, hz_es, hz_la_n (P := hz_O3 wo wh sc p m) (fun z => z.2.2 b), hz_la_n (P := hz_O4 wo wh yr sc p m) (fun z => z.2.2.1 b)] at IH
          by_cases c : yr i = 0
          · rw [hz_la_n (P := hz_O2 wo wh yr sc p m) (fun z => z.2.2.2 c)] at IH
            simp (disch := omega) only [wY_hasPage_14, wY_hasPage_61, wY_hasPage_86, iK, a, b, c, forall_eq, nI_leI, nI_ltI, nI_eq, vp_in_nI, nI_clamp, nI_add, nI_1, hz_na, hz_nup, true_implies, forall_const, not_true_eq_false, not_false_eq_true, false_implies, and_true, true_and, implies_true, and_self, if_true, if_false, ite_true, ite_false, reduceIte, ha_m4, ha_m8, ha_m5, ha_m32, ha_m64, ha_m300, ha_a4, ha_a16, ha_a300, ha_a600, ha_a900, ha_p8, ha_l4, ha_l5, ha_l8, ha_l32, ha_l36, ha_l64, ha_l128, ha_l256, ha_le7, ha_7lt, ha_e0, ha_e1, ha_e2, ha_e300, ha_le0, ha_lt0, ha_0le, ha_d8, ha_s1, ha_80, ha_10]
            exact IH
          · rw [hz_la_y (P := hz_O2 wo wh yr sc p m) ⟨hs, a, b, c⟩, hz_es] at IH
            simp (disch := omega) only [wY_hasPage_14, wY_hasPage_61, wY_hasPage_86, iK, a, b, c, forall_eq, nI_leI, nI_ltI, nI_eq, vp_in_nI, nI_clamp, nI_add, nI_1, hz_na, hz_nup, true_implies, forall_const, not_true_eq_false, not_false_eq_true, false_implies, and_true, true_and, implies_true, and_self, if_true, if_false, ite_true, ite_false, reduceIte, ha_m4, ha_m8, ha_m5, ha_m32, ha_m64, ha_m300, ha_a4, ha_a16, ha_a300, ha_a600, ha_a900, ha_p8, ha_l4, ha_l5, ha_l8, ha_l32, ha_l36, ha_l64, ha_l128, ha_l256, ha_le7, ha_7lt, ha_e0, ha_e1, ha_e2, ha_e300, ha_le0, ha_lt0, ha_0le, ha_d8, ha_s1, ha_80, ha_10]
            exact IH
        · rw [hz_la_n (P := hz_O1 wo wh sc p m) (fun z => b z.2.2), hz_la_n (P := hz_O2 wo wh yr sc p m) (fun z => b z.2.2.1), hz_la_y (P := hz_O3 wo wh sc p m) ⟨hs, a, b⟩, hz_es] at IH
          by_cases c : yr i = 0
          · rw [hz_la_n (P := hz_O4 wo wh yr sc p m) (fun z => z.2.2.2 c)] at IH
            simp (disch := omega) only [wY_hasPage_14, wY_hasPage_61, wY_hasPage_86, iK, a, b, c, forall_eq, nI_leI, nI_ltI, nI_eq, vp_in_nI, nI_clamp, nI_add, nI_1, hz_na, hz_nup, true_implies, forall_const, not_true_eq_false, not_false_eq_true, false_implies, and_true, true_and, implies_true, and_self, if_true, if_false, ite_true, ite_false, reduceIte, ha_m4, ha_m8, ha_m5, ha_m32, ha_m64, ha_m300, ha_a4, ha_a16, ha_a300, ha_a600, ha_a900, ha_p8, ha_l4, ha_l5, ha_l8, ha_l32, ha_l36, ha_l64, ha_l128, ha_l256, ha_le7, ha_7lt, ha_e0, ha_e1, ha_e2, ha_e300, ha_le0, ha_lt0, ha_0le, ha_d8, ha_s1, ha_80, ha_10]
            exact IH
          · rw [hz_la_y (P := hz_O4 wo wh yr sc p m) ⟨hs, a, b, c⟩, hz_es] at IH
            simp (disch := omega) only [wY_hasPage_14, wY_hasPage_61, wY_hasPage_86, iK, a, b, c, forall_eq, nI_leI, nI_ltI, nI_eq, vp_in_nI, nI_clamp, nI_add, nI_1, hz_na, hz_nup, true_implies, forall_const, not_true_eq_false, not_false_eq_true, false_implies, and_true, true_and, implies_true, and_self, if_true, if_false, ite_true, ite_false, reduceIte, ha_m4, ha_m8, ha_m5, ha_m32, ha_m64, ha_m300, ha_a4, ha_a16, ha_a300, ha_a600, ha_a900, ha_p8, ha_l4, ha_l5, ha_l8, ha_l32, ha_l36, ha_l64, ha_l128, ha_l256, ha_le7, ha_7lt, ha_e0, ha_e1, ha_e2, ha_e300, ha_le0, ha_lt0, ha_0le, ha_d8, ha_s1, ha_80, ha_10]
            exact IH
      · rw [hz_la_n (P := hz_O1 wo wh sc p m) (fun z => a z.2.1), hz_la_n (P := hz_O2 wo wh yr sc p m) (fun z => a z.2.1), hz_la_n (P := hz_O3 wo wh sc p m) (fun z => a z.2.1), hz_la_n (P := hz_O4 wo wh yr sc p m) (fun z => a z.2.1)] at IH
        simp (disch := omega) only [wY_hasPage_14, iK, a, forall_eq, nI_leI, nI_ltI, nI_eq, vp_in_nI, nI_clamp, nI_add, nI_1, hz_na, hz_nup, true_implies, forall_const, not_true_eq_false, not_false_eq_true, false_implies, and_true, true_and, implies_true, and_self, if_true, if_false, ite_true, ite_false, reduceIte, ha_m4, ha_m8, ha_m5, ha_m32, ha_m64, ha_m300, ha_a4, ha_a16, ha_a300, ha_a600, ha_a900, ha_p8, ha_l4, ha_l5, ha_l8, ha_l32, ha_l36, ha_l64, ha_l128, ha_l256, ha_le7, ha_7lt, ha_e0, ha_e1, ha_e2, ha_e300, ha_le0, ha_lt0, ha_0le, ha_d8, ha_s1, ha_80, ha_10]
        exact IH
theorem hy_has {post : Int32 → Prop} (hH : hr_H K wo wh) (hm : m < 4) (hp : p < 8) (hs : ¬ sc p = 0) (h : post (nI (hz_hp K wo wh yr sc p m))) : wpY_hasPage post (nI K, rd, lr, hz_n wo, hz_n wh, yv, yr, yk, ys, yp, yo, sc, st, yf, ho, ro, le, fe, mo, ra, ac, lo, rq) (nI m) (nI p) := by
  unfold wpY_hasPage
  exact Exists.intro (K + 1) (hy_has14 hH.2.1 hH.2.2 hH.1 hm hp hs h (K + 1) 0 (by omega) (by omega))
theorem hz_hp_x {gh go : Nat → Nat} (hO : hr_O K wo wh yr sc gh go) (hp : p < 8) (hm : m < 4) : hz_hp K wo wh yr sc p m = if go p = m + 1 then 2 else if (gh p).testBit m = true then 1 else 0 := by
  obtain ⟨h1, h2, h3⟩ := hO p hp
  obtain ⟨g1, g2⟩ := h3 m hm
  unfold hz_hp
  by_cases a : go p = m + 1
  · rw [if_pos a, if_pos (g2.mp a)]
  · rw [if_neg a, if_neg (fun z => a (g2.mpr z))]
    by_cases b : (gh p).testBit m = true
    · rw [if_pos b, if_pos (g1.mp b)]
    · rw [if_neg b, if_neg (fun z => b (g1.mpr z))]
theorem hz_hp_0 {gh go : Nat → Nat} (hO : hr_O K wo wh yr sc gh go) (hp : p < 8) (hm : m < 4) : hz_hp K wo wh yr sc p m = 0 ↔ ¬ (gh p).testBit m = true := by
  rw [hz_hp_x hO hp hm]
  by_cases a : go p = m + 1
  · rw [if_pos a]
    have := (hr_O_own hO hp hm a m hm).mpr rfl
    exact ⟨fun z => by omega, fun z => absurd this z⟩
  · rw [if_neg a]
    by_cases b : (gh p).testBit m = true
    · rw [if_pos b]
      exact ⟨fun z => by omega, fun z => absurd b z⟩
    · rw [if_neg b]
      exact ⟨fun _ => b, fun _ => rfl⟩
theorem hy_reach48 {post : SY → Prop} {gh go : Nat → Nat} (hH : hr_H K wo wh) (hO : hr_O K wo wh yr sc gh go) (hm : m < 4) (hp : p < 8) (hs : ¬ sc p = 0)
    (h : post (nI K, rd, lr, hz_n wo, hz_n wh, yv, yr, yk, ys, yp, yo, sc, st, yf, ho, ro, le, fe, mo, ra, ac, hz_inc lo (fun j => j < 4 ∧ j ≠ m ∧ (gh p).testBit j = true), rq)) : ∀ (n t : Nat), 4 < n + t → t ≤ 4 →
    wY_reach_48 post (nI m) (nI p) (nI K) rd lr n (nI t) (hz_n wo) (hz_n wh) yv yr yk ys yp yo sc st yf ho ro le fe mo ra ac (hz_inc lo (fun j => j < t ∧ j ≠ m ∧ (gh p).testBit j = true)) rq := by
  intro n
  induction n with
  | zero => intro t h1 h2; omega
  | succ n ih =>
    intro t h1 h2
    rw [wY_reach_48]
    by_cases e : t = 4
    · subst e
      exact br_t (Int32.le_refl _) h
    · refine br_f (nI_ge (b := 4) (by omega) (by decide)) ?_
      have IH := ih (t + 1) (by omega) (by omega)
      by_cases em : t = m
      · refine br_t (by rw [em]) ?_
        unfold wY_reach_71
        refine br_t (Int32.le_refl _) (nm_r (nI_1 t) ?_)
        rw [hz_inc_c (A := fun j => j < t + 1 ∧ j ≠ m ∧ (gh p).testBit j = true) (B := fun j => j < t ∧ j ≠ m ∧ (gh p).testBit j = true) ?_] at IH
        · exact IH
        · intro j
          constructor
          · rintro ⟨a, b⟩; exact ⟨by omega, b⟩
          · rintro ⟨a, b⟩; exact ⟨by omega, b⟩
      · refine br_f (fun z => em ((nI_eq (by omega) (by omega)).mp z)) ?_
        refine hy_has hH (by omega) hp hs ?_
        have hz := hz_hp_0 hO hp (m := t) (by omega)
        unfold wY_reach_71
        by_cases b : (gh p).testBit t = true
        · have hv : vp_in (nI t) 4 := vp_in_nI (by omega) (by decide)
          have pos : ¬ nI (hz_hp K wo wh yr sc p t) ≤ 0 := by
            have : hz_hp K wo wh yr sc p t ≤ 2 := by
              unfold hz_hp
              split
              · omega
              · split <;> omega
            exact nI_nle (Nat.pos_of_ne_zero (fun z => hz.mp z b)) (by omega)
          refine br_f pos ⟨hv, hv, nm_r (e' := hz_inc lo (fun j => j < t + 1 ∧ j ≠ m ∧ (gh p).testBit j = true)) ?_ (nm_r (nI_1 t) IH)⟩
          rw [nI_clamp (by omega), hz_inc_u (fun z => by omega)]
          refine hz_inc_c (fun j => ?_)
          constructor
          · rintro (⟨a1, a2, a3⟩ | a1)
            · exact ⟨by omega, a2, a3⟩
            · rw [a1]; exact ⟨by omega, em, b⟩
          · rintro ⟨a1, a2, a3⟩
            by_cases y : j = t
            · exact Or.inr y
            · exact Or.inl ⟨by omega, a2, a3⟩
        · refine br_t ?_ (nm_r (nI_1 t) ?_)
          · rw [hz.mpr b]; exact Int32.le_refl _
          · rw [hz_inc_c (A := fun j => j < t + 1 ∧ j ≠ m ∧ (gh p).testBit j = true) (B := fun j => j < t ∧ j ≠ m ∧ (gh p).testBit j = true) ?_] at IH
            · exact IH
            · intro j
              constructor
              · rintro ⟨a1, a2, a3⟩
                by_cases y : j = t
                · rw [y] at a3; exact absurd a3 b
                · exact ⟨by omega, a2, a3⟩
              · rintro ⟨a1, a2⟩; exact ⟨by omega, a2⟩
end ZW
theorem ha_bit0 {n m : Nat} (hn : n < 16) (hm : m < 4) : nI n &&& nI (2 ^ m) = 0 ↔ ¬ n.testBit m = true := by
  have h : ∀ (n : Nat), n < 16 → ∀ (m : Nat), m < 4 → ((n &&& 2 ^ m = 0 ↔ ¬ n.testBit m = true) ∧ (n &&& 2 ^ m) < 16) := by decide +kernel
  have ⟨h1, h2⟩ := h n hn m hm
  rw [nx_and, ha_e0 (by omega)]
  exact h1
section ZX
variable {th rd fb kp : Int32} {kX st ho ro le va sm wc wd wt nx fi la sn sc co hv ow rA wA fe mo ra ac lo rq : Nat → Int32}
variable {m p : Nat} {gh go : Nat → Nat}
theorem hx_get90 {post : SX → Prop} (hm : m < 4) (hp : p < 8) (hg : gh p < 16)
    (h : post (th, rd, fb, kp, kX, st, ho, ro, le, va, sm, wc, wd, wt, nx, fi, la, sn, sc, co, hz_n (hz_u gh p (2 ^ m)), hz_n (hz_u go p (m + 1)), rA, wA, fe, mo, ra, ac, hz_inc lo (fun j => j < 4 ∧ j ≠ m ∧ (gh p).testBit j = true), rq)) : ∀ (n t : Nat), 4 < n + t → t ≤ 4 →
    wX_get_90 post (nI m) (nI p) (nI (2 ^ m)) th rd fb kp n (nI t) kX st ho ro le va sm wc wd wt nx fi la sn sc co (hz_n gh) (hz_n go) rA wA fe mo ra ac (hz_inc lo (fun j => j < t ∧ j ≠ m ∧ (gh p).testBit j = true)) rq := by
  have p16 := hz_p4 hm
  intro n
  induction n with
  | zero => intro t h1 h2; omega
  | succ n ih =>
    intro t h1 h2
    rw [wX_get_90]
    by_cases e : t = 4
    · subst e
      refine br_t (Int32.le_refl _) ⟨vp_in_nI hp (by decide), nm_r (e' := hz_n (hz_u gh p (2 ^ m))) ?_ ⟨vp_in_nI hp (by decide), nm_r (e' := hz_n (hz_u go p (m + 1))) ?_ h⟩⟩
      · rw [nI_clamp (by omega), ha_nb (by omega), ha_vb (by omega), hz_nup]
      · rw [nI_clamp (by omega), nI_1, ha_nb (by omega), ha_vb (by omega), hz_nup]
    · refine br_f (nI_ge (b := 4) (by omega) (by decide)) ?_
      have IH := ih (t + 1) (by omega) (by omega)
      by_cases em : t = m
      · refine br_t (by rw [em]) (nm_r (nI_1 t) ?_)
        rw [hz_inc_c (A := fun j => j < t + 1 ∧ j ≠ m ∧ (gh p).testBit j = true) (B := fun j => j < t ∧ j ≠ m ∧ (gh p).testBit j = true) ?_] at IH
        · exact IH
        · intro j
          constructor
          · rintro ⟨a, b⟩; exact ⟨by omega, b⟩
          · rintro ⟨a, b⟩; exact ⟨by omega, b⟩
      · refine br_f (fun z => em ((nI_eq (by omega) (by omega)).mp z)) ⟨vp_in_nI hp (by decide), ?_⟩
        rw [nI_clamp (n := p) (by omega), hz_na, ha_bit (by omega) (by omega), ha_e0 (by omega), ha_tb]
        by_cases b : (gh p).testBit t = true
        · have hv : vp_in (nI t) 4 := vp_in_nI (by omega) (by decide)
          refine br_f (by rw [b]; decide) ⟨hv, hv, nm_r (e' := hz_inc lo (fun j => j < t + 1 ∧ j ≠ m ∧ (gh p).testBit j = true)) ?_ (nm_r (nI_1 t) IH)⟩
          rw [nI_clamp (by omega), hz_inc_u (fun z => by omega)]
          refine hz_inc_c (fun j => ?_)
          constructor
          · rintro (⟨a1, a2, a3⟩ | a1)
            · exact ⟨by omega, a2, a3⟩
            · rw [a1]; exact ⟨by omega, em, b⟩
          · rintro ⟨a1, a2, a3⟩
            by_cases y : j = t
            · exact Or.inr y
            · exact Or.inl ⟨by omega, a2, a3⟩
        · refine br_t (by cases q : (gh p).testBit t; rfl; exact absurd q b) (nm_r (nI_1 t) ?_)
          rw [hz_inc_c (A := fun j => j < t + 1 ∧ j ≠ m ∧ (gh p).testBit j = true) (B := fun j => j < t ∧ j ≠ m ∧ (gh p).testBit j = true) ?_] at IH
          · exact IH
          · intro j
            constructor
            · rintro ⟨a1, a2, a3⟩
              by_cases y : j = t
              · rw [y] at a3; exact absurd a3 b
              · exact ⟨by omega, a2, a3⟩
            · rintro ⟨a1, a2⟩; exact ⟨by omega, a2⟩
end ZX
section ZB
variable {gt K m p : Nat} {kn gq ln gm gc gd gx gf gl gs gh go gr gw wo wh : Nat → Nat} {rd fb lr b : Int32} {st ho va wt sc co fe mo ra ac lo rq xa xq yv yr yk ys yp yo yf : Nat → Int32}
theorem hz_get (hH : hr_H K wo wh) (hO : hr_O K wo wh yr sc gh go) (hm : m < 4) (hp : p < 8) (hs : ¬ sc p = 0) :
    ∃ (fe' mo' lo' : Nat → Int32) (gh' go' : Nat → Nat),
      ((b = 0 ∧ gh' = hz_u gh p (gh p ||| 2 ^ m) ∧ ((go p = m + 1 ∧ go' = go) ∨ (¬ go p = m + 1 ∧ go' = hz_u go p 0))) ∨ (¬ b = 0 ∧ ((go p = m + 1 ∧ gh' = gh ∧ go' = go) ∨ (¬ go p = m + 1 ∧ gh' = hz_u gh p (2 ^ m) ∧ go' = hz_u go p (m + 1))))) ∧
      (∀ post : SX → Prop, post ((nI gt), rd, fb, (nI K), (hz_n kn), st, ho, (hz_n gq), (hz_n ln), va, (hz_n gm), (hz_n gc), (hz_n gd), wt, (hz_n gx), (hz_n gf), (hz_n gl), (hz_n gs), sc, co, hz_n gh', hz_n go', (hz_n gr), (hz_n gw), fe', mo', xa, ac, lo', xq) → wpX_get post ((nI gt), rd, fb, (nI K), (hz_n kn), st, ho, (hz_n gq), (hz_n ln), va, (hz_n gm), (hz_n gc), (hz_n gd), wt, (hz_n gx), (hz_n gf), (hz_n gl), (hz_n gs), sc, co, (hz_n gh), (hz_n go), (hz_n gr), (hz_n gw), fe, mo, xa, ac, lo, xq) (nI m) (nI p) b) ∧
      (∀ post : SY → Prop, post ((nI K), rd, lr, (hz_n wo), (hz_n wh), yv, yr, yk, ys, yp, yo, sc, st, yf, ho, (hz_n gq), (hz_n ln), fe', mo', ra, ac, lo', rq) → wpY_reach post ((nI K), rd, lr, (hz_n wo), (hz_n wh), yv, yr, yk, ys, yp, yo, sc, st, yf, ho, (hz_n gq), (hz_n ln), fe, mo, ra, ac, lo, rq) (nI m) (nI p) b) := by
  obtain ⟨g16, go4, g3⟩ := hO p hp
  have p16 := hz_p4 hm
  have hv : vp_in (nI m) 4 := vp_in_nI hm (by decide)
  have hw : vp_in (nI p) 8 := vp_in_nI hp (by decide)
  have orl : (gh p ||| 2 ^ m) < 16 := Nat.or_lt_two_pow (n := 4) g16 p16
  obtain ⟨lo', gh', go', hc, X38, Y34⟩ : ∃ (lo' : Nat → Int32) (gh' go' : Nat → Nat),
      ((b = 0 ∧ gh' = hz_u gh p (gh p ||| 2 ^ m) ∧ ((go p = m + 1 ∧ go' = go) ∨ (¬ go p = m + 1 ∧ go' = hz_u go p 0))) ∨ (¬ b = 0 ∧ ((go p = m + 1 ∧ gh' = gh ∧ go' = go) ∨ (¬ go p = m + 1 ∧ gh' = hz_u gh p (2 ^ m) ∧ go' = hz_u go p (m + 1))))) ∧
      (∀ (post : SX → Prop) (fe mo : Nat → Int32), post ((nI gt), rd, fb, (nI K), (hz_n kn), st, ho, (hz_n gq), (hz_n ln), va, (hz_n gm), (hz_n gc), (hz_n gd), wt, (hz_n gx), (hz_n gf), (hz_n gl), (hz_n gs), sc, co, hz_n gh', hz_n go', (hz_n gr), (hz_n gw), fe, mo, xa, ac, lo', xq) → wX_get_38 post (nI m) (nI p) b (nI (2 ^ m)) (nI gt) rd fb (nI K) (hz_n kn) st ho (hz_n gq) (hz_n ln) va (hz_n gm) (hz_n gc) (hz_n gd) wt (hz_n gx) (hz_n gf) (hz_n gl) (hz_n gs) sc co (hz_n gh) (hz_n go) (hz_n gr) (hz_n gw) fe mo xa ac lo xq) ∧
      (∀ (post : SY → Prop) (fe mo : Nat → Int32), post ((nI K), rd, lr, (hz_n wo), (hz_n wh), yv, yr, yk, ys, yp, yo, sc, st, yf, ho, (hz_n gq), (hz_n ln), fe, mo, ra, ac, lo', rq) → wY_reach_34 post (nI m) (nI p) b (nI (hz_hp K wo wh yr sc p m)) (nI K) rd lr (hz_n wo) (hz_n wh) yv yr yk ys yp yo sc st yf ho (hz_n gq) (hz_n ln) fe mo ra ac lo rq) := by
    by_cases hb : b = 0
    · have Y : ∀ (post : SY → Prop) (fe mo : Nat → Int32), post ((nI K), rd, lr, (hz_n wo), (hz_n wh), yv, yr, yk, ys, yp, yo, sc, st, yf, ho, (hz_n gq), (hz_n ln), fe, mo, ra, ac, lo, rq) → wY_reach_34 post (nI m) (nI p) b (nI (hz_hp K wo wh yr sc p m)) (nI K) rd lr (hz_n wo) (hz_n wh) yv yr yk ys yp yo sc st yf ho (hz_n gq) (hz_n ln) fe mo ra ac lo rq := by
        intro post fe mo h
        unfold wY_reach_34
        exact br_t hb h
      have e1 : upd (hz_n gh) p (vp_nar .byte ((nI (gh p) ||| nI (2 ^ m)).toInt8.toInt32)) = hz_n (hz_u gh p (gh p ||| 2 ^ m)) := by
        rw [ha_or, ha_nb (by omega), ha_vb (by omega), hz_nup]
      by_cases a : go p = m + 1
      · refine ⟨lo, _, go, Or.inl ⟨hb, rfl, Or.inl ⟨a, rfl⟩⟩, ?_, Y⟩
        intro post fe mo h
        unfold wX_get_38
        rw [nI_clamp (by omega), hz_na, hz_na, nI_1]
        exact br_t hb ⟨hw, hw, nm_r e1 ⟨hw, br_t (by rw [a]) h⟩⟩
      · refine ⟨lo, _, _, Or.inl ⟨hb, rfl, Or.inr ⟨a, rfl⟩⟩, ?_, Y⟩
        intro post fe mo h
        unfold wX_get_38
        rw [nI_clamp (by omega), hz_na, hz_na, nI_1]
        refine br_t hb ⟨hw, hw, nm_r e1 ⟨hw, br_f (fun z => a ((nI_eq (by omega) (by omega)).mp z)) ⟨hw, nm_r (e' := hz_n (hz_u go p 0)) ?_ h⟩⟩⟩
        rw [ha_vb0]
        exact hz_nup go p 0
    · by_cases a : go p = m + 1
      · have h2 : hz_hp K wo wh yr sc p m = 2 := by rw [hz_hp_x hO hp hm, if_pos a]
        refine ⟨lo, gh, go, Or.inr ⟨hb, Or.inl ⟨a, rfl, rfl⟩⟩, ?_, ?_⟩
        · intro post fe mo h
          unfold wX_get_38
          rw [nI_clamp (by omega), hz_na, nI_1]
          exact br_f hb ⟨hw, br_t (by show nI (go p) = _; rw [a]) h⟩
        · intro post fe mo h
          unfold wY_reach_34
          exact br_f hb (br_t (by rw [h2]; rfl) h)
      · have h2 : ¬ nI (hz_hp K wo wh yr sc p m) = 2 := by
          rw [hz_hp_x hO hp hm, if_neg a]
          split <;> decide
        refine ⟨hz_inc lo (fun j => j < 4 ∧ j ≠ m ∧ (gh p).testBit j = true), _, _, Or.inr ⟨hb, Or.inr ⟨a, rfl, rfl⟩⟩, ?_, ?_⟩
        · intro post fe mo h
          unfold wX_get_38
          rw [nI_clamp (by omega), hz_na, nI_1]
          refine br_f hb ⟨hw, br_f (fun z => a ((nI_eq (by omega) (by omega)).mp z)) (Exists.intro 5 ?_)⟩
          have := hx_get90 (th := nI gt) (rd := rd) (fb := fb) (kp := nI K) (kX := hz_n kn) (st := st) (ho := ho) (ro := hz_n gq) (le := hz_n ln) (va := va) (sm := hz_n gm) (wc := hz_n gc) (wd := hz_n gd) (wt := wt) (nx := hz_n gx) (fi := hz_n gf) (la := hz_n gl) (sn := hz_n gs) (sc := sc) (co := co) (rA := hz_n gr) (wA := hz_n gw) (fe := fe) (mo := mo) (ra := xa) (ac := ac) (lo := lo) (rq := xq) (post := post) hm hp g16 h 5 0 (by omega) (by omega)
          rw [hz_inc_0 (A := fun j => j < 0 ∧ j ≠ m ∧ (gh p).testBit j = true) (fun j z => Nat.not_lt_zero _ z.1)] at this
          exact this
        · intro post fe mo h
          unfold wY_reach_34
          refine br_f hb (br_f h2 (Exists.intro 5 ?_))
          have := hy_reach48 (rd := rd) (lr := lr) (yv := yv) (yr := yr) (yk := yk) (ys := ys) (yp := yp) (yo := yo) (sc := sc) (st := st) (yf := yf) (ho := ho) (ro := hz_n gq) (le := hz_n ln) (fe := fe) (mo := mo) (ra := ra) (ac := ac) (lo := lo) (rq := rq) (post := post) hH hO hm hp hs h 5 0 (by omega) (by omega)
          rw [hz_inc_0 (A := fun j => j < 0 ∧ j ≠ m ∧ (gh p).testBit j = true) (fun j z => Nat.not_lt_zero _ z.1)] at this
          exact this
  have h0 := hz_hp_0 hO hp hm
  by_cases t : (gh p).testBit m = true
  · have n0 : ¬ nI (hz_hp K wo wh yr sc p m) = 0 := by
      have : hz_hp K wo wh yr sc p m ≤ 2 := by
        unfold hz_hp
        split
        · omega
        · split <;> omega
      rw [ha_e0 (by omega)]
      exact fun z => h0.mp z t
    refine ⟨fe, mo, lo', gh', go', hc, ?_, ?_⟩
    · intro post h
      unfold wpX_get
      rw [ha_sh1 (by omega)]
      refine nm_e ⟨hw, ?_⟩
      rw [nI_clamp (n := p) (by omega), hz_na, ha_bit0 g16 hm]
      exact br_f (fun z => z t) (X38 post fe mo h)
    · intro post h
      unfold wpY_reach
      exact hy_has hH hm hp hs (br_f n0 (Y34 post fe mo h))
  · refine ⟨upd fe m (fe m + 1), upd mo m (mo m + 8), lo', gh', go', hc, ?_, ?_⟩
    · intro post h
      unfold wpX_get
      rw [ha_sh1 (by omega)]
      refine nm_e ⟨hw, ?_⟩
      rw [nI_clamp (n := p) (by omega), nI_clamp (n := m) (by omega), hz_na, ha_bit0 g16 hm]
      exact br_t t ⟨hv, hv, nm_e ⟨hv, hv, nm_e (X38 post _ _ h)⟩⟩
    · intro post h
      unfold wpY_reach
      refine hy_has hH hm hp hs (br_t (by rw [h0.mpr t]; exact nI_0) ?_)
      rw [nI_clamp (n := m) (by omega)]
      exact ⟨hv, hv, nm_e ⟨hv, hv, nm_e (Y34 post _ _ h)⟩⟩
end ZB
theorem i_vc_has {k : Nat} {u : SX} {v : SY} (I : i_Rel k u v) (hk : k + 4 ≤ 2048) (v1 : Int32) (v2 : Int32) : wpX_has (fun r => wpY_has (fun r' => r' = r ∧ i_Rel (k + 4) u v) v v1 v2) u v1 v2 := by
  refine hr_el (P := fun u v => wpX_has (fun r => wpY_has (fun r' => r' = r ∧ i_Rel (k + 4) u v) v v1 v2) u v1 v2) ?_ I
  intro gt K kn gq ln gm gc gd gx gf gl gs gh go gr gw wo wh rd fb lr st ho va wt sc co fe mo ra ac lo rq yv yr yk ys yp yo yf hH hK hL hB hC hV hD hO hR
  have R : i_Rel (k + 4) ((nI gt), rd, fb, (nI K), (hz_n kn), st, ho, (hz_n gq), (hz_n ln), va, (hz_n gm), (hz_n gc), (hz_n gd), wt, (hz_n gx), (hz_n gf), (hz_n gl), (hz_n gs), sc, co, (hz_n gh), (hz_n go), (hz_n gr), (hz_n gw), fe, mo, ra, ac, lo, rq) ((nI K), rd, lr, (hz_n wo), (hz_n wh), yv, yr, yk, ys, yp, yo, sc, st, yf, ho, (hz_n gq), (hz_n ln), fe, mo, ra, ac, lo, rq) := hr_in hH hK hL hB hC hV hD hO hR
  unfold wpX_has
  rcases hz_ix v1 4 (by decide) with hx | ⟨m, hm, rfl⟩
  · refine hx_four_n hx (br_t rfl ?_)
    unfold wpY_has
    exact hy_in_n hx (br_t rfl ⟨rfl, R⟩)
  · refine hx_four hm (br_f (by decide) ?_)
    rcases hz_ix v2 8 (by decide) with hx | ⟨p, hp, rfl⟩
    · have q : wpY_has (fun r' => r' = -1 ∧ i_Rel (k + 4) ((nI gt), rd, fb, (nI K), (hz_n kn), st, ho, (hz_n gq), (hz_n ln), va, (hz_n gm), (hz_n gc), (hz_n gd), wt, (hz_n gx), (hz_n gf), (hz_n gl), (hz_n gs), sc, co, (hz_n gh), (hz_n go), (hz_n gr), (hz_n gw), fe, mo, ra, ac, lo, rq) ((nI K), rd, lr, (hz_n wo), (hz_n wh), yv, yr, yk, ys, yp, yo, sc, st, yf, ho, (hz_n gq), (hz_n ln), fe, mo, ra, ac, lo, rq)) ((nI K), rd, lr, (hz_n wo), (hz_n wh), yv, yr, yk, ys, yp, yo, sc, st, yf, ho, (hz_n gq), (hz_n ln), fe, mo, ra, ac, lo, rq) (nI m) v2 := by
        unfold wpY_has
        exact hy_in4 hm (br_f (by decide) (hy_in_n hx (br_t rfl ⟨rfl, R⟩)))
      by_cases z : v2 < 0
      · exact br_t z q
      · refine br_f z (br_f ?_ q)
        have z8 := hx.resolve_left z
        rw [Int32.le_iff_toInt_le] at z8 ⊢
        have e8 : (nI 8).toInt = 8 := by decide
        have e7 : (7 : Int32).toInt = 7 := by decide
        omega
    · have hw : vp_in (nI p) 8 := vp_in_nI hp (by decide)
      obtain ⟨g16, go4, g3⟩ := hO p hp
      have Y : ∀ post : Int32 → Prop, _ → wpY_has post ((nI K), rd, lr, (hz_n wo), (hz_n wh), yv, yr, yk, ys, yp, yo, sc, st, yf, ho, (hz_n gq), (hz_n ln), fe, mo, ra, ac, lo, rq) (nI m) (nI p) := fun post h => by
        unfold wpY_has
        exact hy_in4 hm (br_f (by decide) (hy_in8 hp (br_f (by decide) ⟨hw, h⟩)))
      rw [nI_clamp (n := p) (by omega)] at Y ⊢
      refine br_f (nI_pos (by omega)) (br_t ((ha_le7 (by omega)).mpr (by omega)) ⟨hw, ?_⟩)
      by_cases s0 : sc p = 0
      · exact br_t s0 (Y _ (br_t s0 ⟨rfl, R⟩))
      · refine br_f s0 ⟨hw, ?_⟩
        rw [hz_na, hz_na, nI_1, ha_bit (by omega) (by omega), ha_tb1]
        by_cases a : go p = m + 1
        · refine br_t (by rw [a]) (Y _ (br_f s0 (hy_has hH hm hp s0 ⟨?_, R⟩)))
          rw [hz_hp_x hO hp hm, if_pos a]
          rfl
        · refine br_f (fun z => a ((nI_eq (by omega) (by omega)).mp z)) ⟨hw, Y _ (br_f s0 (hy_has hH hm hp s0 ⟨?_, R⟩))⟩
          rw [hz_hp_x hO hp hm, if_neg a]
end
section
/-! AA: the component's walks: an access -/
section BX
variable {th rd fb kp : Int32} {kX st ho ro le va sm wc wd wt nx fi la sn sc co hv ow rA wA fe mo ra ac lo rq : Nat → Int32}
variable {K c w : Nat} {kn gm gc gd gx gf gl gr gw : Nat → Nat} {x3 b x5 v : Int32}
/-- machine o's latest accesses race -/
def hz_rc (kn gr gw : Nat → Nat) (b : Int32) (c w o : Nat) : Prop := kn (4 * c + o) < gw (4 * w + o) ∨ (¬ b = 0 ∧ kn (4 * c + o) < gr (4 * w + o))
theorem hx_begin6 {post : Int32 → SX → Prop} (hc : c < 4) (hw : w < 64) (hb : ∀ j, kn j ≤ 300) (hr : ∀ o, o < 4 → gr (4 * w + o) ≤ 300 ∧ gw (4 * w + o) ≤ 300)
    (h0 : (¬ ∃ o, o < 4 ∧ o ≠ c ∧ hz_rc kn gr gw b c w o) → wX_begin_112 post (nI c) (nI w) x3 b 0 th rd fb kp (hz_n kn) st ho ro le va sm wc wd wt nx fi la sn sc co hv ow (hz_n gr) (hz_n gw) fe mo ra ac lo rq)
    (h1 : (∃ o, o < 4 ∧ o ≠ c ∧ hz_rc kn gr gw b c w o) → wX_begin_112 post (nI c) (nI w) x3 b 1 th rd fb kp (hz_n kn) st ho ro le va sm wc wd wt nx fi la sn sc co hv ow (hz_n gr) (hz_n gw) fe mo (upd ra c (ra c + 1)) ac lo (upd rq w (rq w + 1))) : ∀ (n o : Nat) (x : Int32), 4 < n + o → o ≤ 4 →
    ((x = 0 ∧ ¬ ∃ o', o' < o ∧ o' ≠ c ∧ hz_rc kn gr gw b c w o') ∨ (x = 1 ∧ ∃ o', o' < o ∧ o' ≠ c ∧ hz_rc kn gr gw b c w o')) →
    wX_begin_6 post (nI c) (nI w) x3 b th rd fb kp (hz_n kn) st ho ro le va sm wc wd wt nx fi la sn sc co hv ow (hz_n gr) (hz_n gw) fe mo ra ac lo rq n x (nI o) := by
  intro n
  induction n with
  | zero => intro o x h1 h2; omega
  | succ n ih =>
    intro o x n1 n2 hx
    rw [wX_begin_6]
    by_cases e : o = 4
    · subst e
      refine br_t (Int32.le_refl _) ?_
      rcases hx with ⟨x0, xn⟩ | ⟨x1, xy⟩
      · rw [x0]
        exact br_t rfl (h0 xn)
      · rw [x1, nI_clamp (n := c) (by omega), nI_clamp (n := w) (by omega)]
        have hv : vp_in (nI c) 4 := vp_in_nI hc (by decide)
        have hv2 : vp_in (nI w) 64 := vp_in_nI hw (by decide)
        exact br_f (by decide) ⟨hv, hv, nm_e ⟨hv2, hv2, nm_e (h1 xy)⟩⟩
    · refine br_f (nI_ge (b := 4) (by omega) (by decide)) ?_
      have x01 : x = 0 ∨ x = 1 := hx.elim (fun z => Or.inl z.1) (fun z => Or.inr z.1)
      have no : ¬ (o ≠ c ∧ hz_rc kn gr gw b c w o) → wX_begin_6 post (nI c) (nI w) x3 b th rd fb kp (hz_n kn) st ho ro le va sm wc wd wt nx fi la sn sc co hv ow (hz_n gr) (hz_n gw) fe mo ra ac lo rq n x (nI (o + 1)) := by
        intro z
        refine ih (o + 1) x (by omega) (by omega) ?_
        rcases hx with ⟨x0, xn⟩ | ⟨x1, o', y1, y2⟩
        · refine Or.inl ⟨x0, ?_⟩
          rintro ⟨o', y1, y2, y3⟩
          by_cases eo : o' = o
          · rw [eo] at y2 y3; exact z ⟨y2, y3⟩
          · exact xn ⟨o', by omega, y2, y3⟩
        · exact Or.inr ⟨x1, o', by omega, y2⟩
      have yes : o ≠ c ∧ hz_rc kn gr gw b c w o → wX_begin_6 post (nI c) (nI w) x3 b th rd fb kp (hz_n kn) st ho ro le va sm wc wd wt nx fi la sn sc co hv ow (hz_n gr) (hz_n gw) fe mo ra ac lo rq n 1 (nI (o + 1)) := by
        intro z
        exact ih (o + 1) 1 (by omega) (by omega) (Or.inr ⟨rfl, o, by omega, z.1, z.2⟩)
      have o1 : x ||| 1 = 1 := by rcases x01 with q | q <;> rw [q] <;> rfl
      have o0 : x ||| 0 = x := by rcases x01 with q | q <;> rw [q] <;> rfl
      by_cases em : o = c
      · exact br_t (by rw [em]) (nm_r (nI_1 o) (no (fun z => z.1 em)))
      · refine br_f (fun z => em ((nI_eq (by omega) (by omega)).mp z)) ?_
        have b1 := hb (4 * c + o)
        obtain ⟨b2, b3⟩ := hr o (by omega)
        rw [ha_m4, ha_m4, nI_add, nI_add, nI_clamp (n := 4 * c + o) (by omega), nI_clamp (n := 4 * w + o) (by omega), hz_na, hz_na, hz_na]
        refine ⟨vp_in_nI (by omega) (by decide), nm_e ⟨vp_in_nI (by omega) (by decide), ?_⟩⟩
        by_cases a : kn (4 * c + o) < gw (4 * w + o)
        · exact br_t (nI_lt a (by omega)) (nm_r o1 (nm_r (nI_1 o) (yes ⟨em, Or.inl a⟩)))
        · refine br_f (nI_nlt (by omega) (by omega)) ?_
          by_cases z : b = 0
          · refine br_t z (nm_r o0 (nm_r (nI_1 o) (no ?_)))
            rintro ⟨_, q | q⟩
            · exact a q
            · exact q.1 z
          · refine br_f z ⟨vp_in_nI (by omega) (by decide), ?_⟩
            by_cases y : gr (4 * w + o) ≤ kn (4 * c + o)
            · refine br_t (nI_le y (by omega)) (nm_r o0 (nm_r (nI_1 o) (no ?_)))
              rintro ⟨_, q | q⟩
              · exact a q
              · omega
            · exact br_f (nI_ge (by omega) (by omega)) (nm_r o1 (nm_r (nI_1 o) (yes ⟨em, Or.inr ⟨z, by omega⟩⟩)))
theorem hx_begin {post : Int32 → SX → Prop} (hc : c < 4) (hw : w < 64) (hb : ∀ j, kn j ≤ 300) (hr : ∀ o, o < 4 → gr (4 * w + o) ≤ 300 ∧ gw (4 * w + o) ≤ 300)
    (h0 : (¬ ∃ o, o < 4 ∧ o ≠ c ∧ hz_rc kn gr gw b c w o) → wX_begin_112 post (nI c) (nI w) x3 b 0 th rd fb kp (hz_n kn) st ho ro le va sm wc wd wt nx fi la sn sc co hv ow (hz_n gr) (hz_n gw) fe mo ra ac lo rq)
    (h1 : (∃ o, o < 4 ∧ o ≠ c ∧ hz_rc kn gr gw b c w o) → wX_begin_112 post (nI c) (nI w) x3 b 1 th rd fb kp (hz_n kn) st ho ro le va sm wc wd wt nx fi la sn sc co hv ow (hz_n gr) (hz_n gw) fe mo (upd ra c (ra c + 1)) ac lo (upd rq w (rq w + 1))) : wpX_begin post (th, rd, fb, kp, hz_n kn, st, ho, ro, le, va, sm, wc, wd, wt, nx, fi, la, sn, sc, co, hv, ow, hz_n gr, hz_n gw, fe, mo, ra, ac, lo, rq) (nI c) (nI w) x3 b := by
  unfold wpX_begin
  exact Exists.intro 5 (hx_begin6 hc hw hb hr h0 h1 5 0 0 (by omega) (by omega) (Or.inl ⟨rfl, fun ⟨o, z, _⟩ => by omega⟩))
theorem hx_b147 {post : Int32 → SX → Prop} (h01 : x5 = 0 ∨ x5 = 1) (hc : c < 4) (hw : w < 64) (hb : ∀ j, kn j ≤ 300)
    (h : post x5 (th, rd, fb, nI (K + 1), hz_n (hz_u kn (5 * c) (kn (5 * c) + 1)), st, ho, ro, le, va, sm, wc, wd, wt, nx, fi, la, sn, sc, co, hv, ow, hz_n (if x3 = 0 then gr else hz_u gr (4 * w + c) (kn (5 * c) + 1)), hz_n (if b = 0 then gw else hz_u gw (4 * w + c) (kn (5 * c) + 1)), fe, mo, ra, upd ac c (ac c + 1), lo, rq)) :
    wX_begin_147 post (nI c) (nI w) x3 b x5 th rd fb (nI K) (hz_n kn) st ho ro le va sm wc wd wt nx fi la sn sc co hv ow (hz_n gr) (hz_n gw) fe mo ra ac lo rq := by
  have bc := hb (5 * c)
  have nx5 : narrow .boolean (.int x5) = .int x5 := by rcases h01 with q | q <;> rw [q] <;> rfl
  have e5 : hz_u kn (5 * c) (kn (5 * c) + 1) (5 * c) = kn (5 * c) + 1 := hz_us
  by_cases r : x3 = 0
  · rw [if_pos r] at h
    by_cases z : b = 0
    · rw [if_pos z] at h
      simp (disch := omega) only [wX_begin_147, wX_begin_202, r, z, nx5, e5, ha_ns, ha_vs, forall_eq, nI_leI, nI_ltI, nI_eq, vp_in_nI, nI_clamp, nI_add, nI_1, hz_na, hz_nup, true_implies, forall_const, not_true_eq_false, not_false_eq_true, false_implies, and_true, true_and, implies_true, and_self, if_true, if_false, ite_true, ite_false, reduceIte, ha_m4, ha_m8, ha_m5, ha_m32, ha_m64, ha_m300, ha_a4, ha_a16, ha_a300, ha_a600, ha_a900, ha_p8, ha_l4, ha_l5, ha_l8, ha_l32, ha_l36, ha_l64, ha_l128, ha_l256, ha_le7, ha_7lt, ha_e0, ha_e1, ha_e2, ha_e300, ha_le0, ha_lt0, ha_0le, ha_d8, ha_s1, ha_80, ha_10]
      exact h
    · rw [if_neg z] at h
      simp (disch := omega) only [wX_begin_147, wX_begin_202, r, z, nx5, e5, ha_ns, ha_vs, forall_eq, nI_leI, nI_ltI, nI_eq, vp_in_nI, nI_clamp, nI_add, nI_1, hz_na, hz_nup, true_implies, forall_const, not_true_eq_false, not_false_eq_true, false_implies, and_true, true_and, implies_true, and_self, if_true, if_false, ite_true, ite_false, reduceIte, ha_m4, ha_m8, ha_m5, ha_m32, ha_m64, ha_m300, ha_a4, ha_a16, ha_a300, ha_a600, ha_a900, ha_p8, ha_l4, ha_l5, ha_l8, ha_l32, ha_l36, ha_l64, ha_l128, ha_l256, ha_le7, ha_7lt, ha_e0, ha_e1, ha_e2, ha_e300, ha_le0, ha_lt0, ha_0le, ha_d8, ha_s1, ha_80, ha_10]
      exact h
  · rw [if_neg r] at h
    by_cases z : b = 0
    · rw [if_pos z] at h
      simp (disch := omega) only [wX_begin_147, wX_begin_202, r, z, nx5, e5, ha_ns, ha_vs, forall_eq, nI_leI, nI_ltI, nI_eq, vp_in_nI, nI_clamp, nI_add, nI_1, hz_na, hz_nup, true_implies, forall_const, not_true_eq_false, not_false_eq_true, false_implies, and_true, true_and, implies_true, and_self, if_true, if_false, ite_true, ite_false, reduceIte, ha_m4, ha_m8, ha_m5, ha_m32, ha_m64, ha_m300, ha_a4, ha_a16, ha_a300, ha_a600, ha_a900, ha_p8, ha_l4, ha_l5, ha_l8, ha_l32, ha_l36, ha_l64, ha_l128, ha_l256, ha_le7, ha_7lt, ha_e0, ha_e1, ha_e2, ha_e300, ha_le0, ha_lt0, ha_0le, ha_d8, ha_s1, ha_80, ha_10]
      exact h
    · rw [if_neg z] at h
      simp (disch := omega) only [wX_begin_147, wX_begin_202, r, z, nx5, e5, ha_ns, ha_vs, forall_eq, nI_leI, nI_ltI, nI_eq, vp_in_nI, nI_clamp, nI_add, nI_1, hz_na, hz_nup, true_implies, forall_const, not_true_eq_false, not_false_eq_true, false_implies, and_true, true_and, implies_true, and_self, if_true, if_false, ite_true, ite_false, reduceIte, ha_m4, ha_m8, ha_m5, ha_m32, ha_m64, ha_m300, ha_a4, ha_a16, ha_a300, ha_a600, ha_a900, ha_p8, ha_l4, ha_l5, ha_l8, ha_l32, ha_l36, ha_l64, ha_l128, ha_l256, ha_le7, ha_7lt, ha_e0, ha_e1, ha_e2, ha_e300, ha_le0, ha_lt0, ha_0le, ha_d8, ha_s1, ha_80, ha_10]
      exact h
theorem hx_may {post : Int32 → Prop} (hc : c < 4) (hw : w < 64) (h0 : st c = 0) (h : post 1) : wpX_may post (th, rd, fb, kp, kX, st, ho, ro, le, va, sm, wc, wd, wt, nx, fi, la, sn, sc, co, hv, ow, rA, wA, fe, mo, ra, ac, lo, rq) (nI c) (nI w) := by
  unfold wpX_may
  exact hx_runs hc h0 (br_f (by decide) (br_f (nI_pos (by omega)) (br_f (nI_ge (b := 64) hw (by decide)) h)))
/-- no access may be made -/
def hz_nm (st : Nat → Int32) (x y : Int32) : Prop := hz_bad st x ∨ ∃ m : Nat, m < 4 ∧ x = nI m ∧ st m = 0 ∧ (y < 0 ∨ 64 ≤ y)
theorem hz_may (st : Nat → Int32) (x y : Int32) : hz_nm st x y ∨ ∃ m w : Nat, m < 4 ∧ w < 64 ∧ x = nI m ∧ y = nI w ∧ st m = 0 := by
  rcases hz_run st x with h | ⟨m, hm, e, z⟩
  · exact Or.inl (Or.inl h)
  · rcases hz_ix y 64 (by decide) with h | ⟨l, hl, e2⟩
    · exact Or.inl (Or.inr ⟨m, hm, e, z, h⟩)
    · exact Or.inr ⟨m, l, hm, hl, e, e2, z⟩
theorem hx_may_n {post : Int32 → Prop} {x y : Int32} (hx : hz_nm st x y) (h : post 0) : wpX_may post (th, rd, fb, kp, kX, st, ho, ro, le, va, sm, wc, wd, wt, nx, fi, la, sn, sc, co, hv, ow, rA, wA, fe, mo, ra, ac, lo, rq) x y := by
  unfold wpX_may
  rcases hx with z | ⟨m, hm, e, h0, z⟩
  · exact hx_runs_n z (br_t rfl h)
  · rw [e]
    refine hx_runs hm h0 (br_f (by decide) ?_)
    by_cases q : y < 0
    · exact br_t q h
    · exact br_f q (br_t (z.resolve_left q) h)
theorem hx_val1 {post : Int32 → Prop} (hc : c < 4) (hw : w < 64) (hs : ¬ sc (w / 8) = 0) (h : post (co w)) : wpX_valueOf post (th, rd, fb, kp, kX, st, ho, ro, le, va, sm, wc, wd, wt, nx, fi, la, sn, sc, co, hv, ow, rA, wA, fe, mo, ra, ac, lo, rq) (nI c) (nI w) := by
  simp (disch := omega) only [wpX_valueOf, hs, forall_eq, nI_leI, nI_ltI, nI_eq, vp_in_nI, nI_clamp, nI_add, nI_1, hz_na, hz_nup, true_implies, forall_const, not_true_eq_false, not_false_eq_true, false_implies, and_true, true_and, implies_true, and_self, if_true, if_false, ite_true, ite_false, reduceIte, ha_m4, ha_m8, ha_m5, ha_m32, ha_m64, ha_m300, ha_a4, ha_a16, ha_a300, ha_a600, ha_a900, ha_p8, ha_l4, ha_l5, ha_l8, ha_l32, ha_l36, ha_l64, ha_l128, ha_l256, ha_le7, ha_7lt, ha_e0, ha_e1, ha_e2, ha_e300, ha_le0, ha_lt0, ha_0le, ha_d8, ha_s1, ha_80, ha_10]
  exact h
theorem hx_val0 {post : Int32 → Prop} (hc : c < 4) (hw : w < 64) (hs : sc (w / 8) = 0) (h : post (va (64 * c + w))) : wpX_valueOf post (th, rd, fb, kp, kX, st, ho, ro, le, va, sm, wc, wd, wt, nx, fi, la, sn, sc, co, hv, ow, rA, wA, fe, mo, ra, ac, lo, rq) (nI c) (nI w) := by
  simp (disch := omega) only [wpX_valueOf, hs, forall_eq, nI_leI, nI_ltI, nI_eq, vp_in_nI, nI_clamp, nI_add, nI_1, hz_na, hz_nup, true_implies, forall_const, not_true_eq_false, not_false_eq_true, false_implies, and_true, true_and, implies_true, and_self, if_true, if_false, ite_true, ite_false, reduceIte, ha_m4, ha_m8, ha_m5, ha_m32, ha_m64, ha_m300, ha_a4, ha_a16, ha_a300, ha_a600, ha_a900, ha_p8, ha_l4, ha_l5, ha_l8, ha_l32, ha_l36, ha_l64, ha_l128, ha_l256, ha_le7, ha_7lt, ha_e0, ha_e1, ha_e2, ha_e300, ha_le0, ha_lt0, ha_0le, ha_d8, ha_s1, ha_80, ha_10]
  exact h
theorem hx_store0 {post : SX → Prop} (hc : c < 4) (hw : w < 64) (hs : ¬ sc (w / 8) = 0) (h : post (th, rd, fb, kp, kX, st, ho, ro, le, va, sm, wc, wd, wt, nx, fi, la, sn, sc, upd co w v, hv, ow, rA, wA, fe, mo, ra, ac, lo, rq)) : wpX_store post (th, rd, fb, kp, kX, st, ho, ro, le, va, sm, wc, wd, wt, nx, fi, la, sn, sc, co, hv, ow, rA, wA, fe, mo, ra, ac, lo, rq) (nI c) (nI w) v := by
  simp (disch := omega) only [wpX_store, hs, forall_eq, nI_leI, nI_ltI, nI_eq, vp_in_nI, nI_clamp, nI_add, nI_1, hz_na, hz_nup, true_implies, forall_const, not_true_eq_false, not_false_eq_true, false_implies, and_true, true_and, implies_true, and_self, if_true, if_false, ite_true, ite_false, reduceIte, ha_m4, ha_m8, ha_m5, ha_m32, ha_m64, ha_m300, ha_a4, ha_a16, ha_a300, ha_a600, ha_a900, ha_p8, ha_l4, ha_l5, ha_l8, ha_l32, ha_l36, ha_l64, ha_l128, ha_l256, ha_le7, ha_7lt, ha_e0, ha_e1, ha_e2, ha_e300, ha_le0, ha_lt0, ha_0le, ha_d8, ha_s1, ha_80, ha_10]
  exact h
theorem hx_store1 {post : SX → Prop} (hc : c < 4) (hw : w < 64) (hK : K < 300) (hb : kn (5 * c) < 32768) (hg : gl (8 * c + w / 8) ≤ 300) (hs : sc (w / 8) = 0)
    (h : ∀ gx' gf' : Nat → Nat, ((gl (8 * c + w / 8) = 0 ∧ gx' = hz_u gx K 0 ∧ gf' = hz_u gf (8 * c + w / 8) (K + 1)) ∨ (¬ gl (8 * c + w / 8) = 0 ∧ gx' = hz_u (hz_u gx K 0) (gl (8 * c + w / 8) - 1) (K + 1) ∧ gf' = gf)) →
      post (th, rd, fb, nI (K + 1), hz_n kn, st, ho, ro, le, upd va (64 * c + w) v, hz_n (hz_u gm (64 * c + w) (K + 1)), hz_n (hz_u gc K (kn (5 * c))), hz_n (hz_u gd K w), upd wt K v, hz_n gx', hz_n gf', hz_n (hz_u gl (8 * c + w / 8) (K + 1)), sn, sc, co, hv, ow, rA, wA, fe, mo, ra, ac, lo, rq)) :
    wpX_store post (th, rd, fb, nI (K + 1), hz_n kn, st, ho, ro, le, va, hz_n gm, hz_n gc, hz_n gd, wt, hz_n gx, hz_n gf, hz_n gl, sn, sc, co, hv, ow, rA, wA, fe, mo, ra, ac, lo, rq) (nI c) (nI w) v := by
  have x0 : upd (hz_n gx) K (vp_nar .short 0) = hz_n (hz_u gx K 0) := by
    rw [ha_vs0]
    exact hz_nup gx K 0
  by_cases z : gl (8 * c + w / 8) = 0
  · have := h _ _ (Or.inl ⟨z, rfl, rfl⟩)
    simp (disch := omega) only [wpX_store, wX_store_125, hs, z, x0, Nat.add_sub_cancel, ha_ns, ha_nb, ha_vs, ha_vb, forall_eq, nI_leI, nI_ltI, nI_eq, vp_in_nI, nI_clamp, nI_add, nI_1, hz_na, hz_nup, true_implies, forall_const, not_true_eq_false, not_false_eq_true, false_implies, and_true, true_and, implies_true, and_self, if_true, if_false, ite_true, ite_false, reduceIte, ha_m4, ha_m8, ha_m5, ha_m32, ha_m64, ha_m300, ha_a4, ha_a16, ha_a300, ha_a600, ha_a900, ha_p8, ha_l4, ha_l5, ha_l8, ha_l32, ha_l36, ha_l64, ha_l128, ha_l256, ha_le7, ha_7lt, ha_e0, ha_e1, ha_e2, ha_e300, ha_le0, ha_lt0, ha_0le, ha_d8, ha_s1, ha_80, ha_10]
    exact this
  · have := h _ _ (Or.inr ⟨z, rfl, rfl⟩)
    simp (disch := omega) only [wpX_store, wX_store_125, hs, z, x0, Nat.add_sub_cancel, ha_ns, ha_nb, ha_vs, ha_vb, forall_eq, nI_leI, nI_ltI, nI_eq, vp_in_nI, nI_clamp, nI_add, nI_1, hz_na, hz_nup, true_implies, forall_const, not_true_eq_false, not_false_eq_true, false_implies, and_true, true_and, implies_true, and_self, if_true, if_false, ite_true, ite_false, reduceIte, ha_m4, ha_m8, ha_m5, ha_m32, ha_m64, ha_m300, ha_a4, ha_a16, ha_a300, ha_a600, ha_a900, ha_p8, ha_l4, ha_l5, ha_l8, ha_l32, ha_l36, ha_l64, ha_l128, ha_l256, ha_le7, ha_7lt, ha_e0, ha_e1, ha_e2, ha_e300, ha_le0, ha_lt0, ha_0le, ha_d8, ha_s1, ha_80, ha_10]
    exact this
end BX
end
section
/-! AB: the reference's walks: an access -/
def hz_rY (wo wh : Nat → Nat) (yr yk : Nat → Int32) (b : Int32) (c w i : Nat) : Prop := wh i = w ∧ ¬ wo i = c ∧ (¬ b = 0 ∨ ¬ yr i = 0) ∧ yk (300 * c + i) = 0
def hz_pL (wh : Nat → Nat) (yr ys sc : Nat → Int32) (c w i : Nat) : Prop := wh i = w ∧ ¬ yr i = 0 ∧ (¬ sc (w / 8) = 0 ∨ ¬ ys (300 * c + i) = 0)
/-- the new access, written for machines below t -/
def hz_nk (yk : Nat → Int32) (K c t : Nat) : Nat → Int32 := fun j => if j % 300 = K ∧ j < 300 * t then (if j / 300 = c then 1 else 0) else yk j
def hz_n0' (yk : Nat → Int32) (K t : Nat) : Nat → Int32 := fun j => if j % 300 = K ∧ j < 300 * t then 0 else yk j
theorem hz_nk_y {yk : Nat → Int32} {K c t : Nat} (hK : K < 300) (h : t = c) : upd (hz_nk yk K c t) (300 * t + K) 1 = hz_nk yk K c (t + 1) := by
  funext j
  unfold upd hz_nk
  by_cases e : j = 300 * t + K
  · rw [if_pos e, if_pos (by omega), if_pos (by omega)]
  · rw [if_neg e]
    by_cases a : j % 300 = K ∧ j < 300 * t
    · rw [if_pos a, if_pos (⟨a.1, by omega⟩ : j % 300 = K ∧ j < 300 * (t + 1))]
    · rw [if_neg a, if_neg (by omega)]
theorem hz_nk_n {yk : Nat → Int32} {K c t : Nat} (hK : K < 300) (h : ¬ t = c) : upd (hz_nk yk K c t) (300 * t + K) 0 = hz_nk yk K c (t + 1) := by
  funext j
  unfold upd hz_nk
  by_cases e : j = 300 * t + K
  · rw [if_pos e, if_pos (by omega), if_neg (by omega)]
  · rw [if_neg e]
    by_cases a : j % 300 = K ∧ j < 300 * t
    · rw [if_pos a, if_pos (⟨a.1, by omega⟩ : j % 300 = K ∧ j < 300 * (t + 1))]
    · rw [if_neg a, if_neg (by omega)]
theorem hz_n0'_s {yk : Nat → Int32} {K t : Nat} (hK : K < 300) : upd (hz_n0' yk K t) (300 * t + K) 0 = hz_n0' yk K (t + 1) := by
  funext j
  unfold upd hz_n0'
  by_cases e : j = 300 * t + K
  · rw [if_pos e, if_pos (by omega)]
  · rw [if_neg e]
    by_cases a : j % 300 = K ∧ j < 300 * t
    · rw [if_pos a, if_pos (⟨a.1, by omega⟩ : j % 300 = K ∧ j < 300 * (t + 1))]
    · rw [if_neg a, if_neg (by omega)]
theorem hz_nk_0 (yk : Nat → Int32) (K c : Nat) : hz_nk yk K c 0 = yk := by
  funext j
  unfold hz_nk
  rw [if_neg (by omega)]
theorem hz_n0'_0 (yk : Nat → Int32) (K : Nat) : hz_n0' yk K 0 = yk := by
  funext j
  unfold hz_n0'
  rw [if_neg (by omega)]
theorem hz_nk_i {yk : Nat → Int32} {K c m i : Nat} (hm : m < 4) (hi : i < K) (hK : K < 300) : hz_nk yk K c 4 (300 * m + i) = yk (300 * m + i) := by
  unfold hz_nk
  rw [if_neg (by omega)]
theorem hz_nk_K {yk : Nat → Int32} {K c m : Nat} (hm : m < 4) (hK : K < 300) : hz_nk yk K c 4 (300 * m + K) = if m = c then 1 else 0 := by
  unfold hz_nk
  rw [if_pos (by omega), show (300 * m + K) / 300 = m from by omega]
theorem hz_n0'_i {yk : Nat → Int32} {K m i : Nat} (hm : m < 4) (hi : i < K) (hK : K < 300) : hz_n0' yk K 4 (300 * m + i) = yk (300 * m + i) := by
  unfold hz_n0'
  rw [if_neg (by omega)]
theorem hz_n0'_K {yk : Nat → Int32} {K m : Nat} (hm : m < 4) (hK : K < 300) : hz_n0' yk K 4 (300 * m + K) = 0 := by
  unfold hz_n0'
  rw [if_pos (by omega)]
/-- what is seen of the new access: by the machine itself, if it is a write -/
def hz_ns (ys : Nat → Int32) (b : Int32) (K c t : Nat) : Nat → Int32 := if b = 0 then hz_n0' ys K t else hz_nk ys K c t
section YX
variable {kp rd lr : Int32} {yw yh yv yr yk ys yp yo sc st yf ho ro le fe mo ra ac lo rq : Nat → Int32}
variable {K c w : Nat} {wo wh : Nat → Nat} {b x5 : Int32}
theorem hy_acc53 {post : Int32 → SY → Prop} (hwo : ∀ i, wo i < 4) (hwh : ∀ i, wh i < 64) (hK : K ≤ 300) (hc : c < 4) (hw : w < 64)
    (h0 : (¬ ∃ i, i < K ∧ hz_rY wo wh yr yk b c w i) → wY_access_191 post (nI c) (nI w) b 0 (hz_e (hz_la (hz_pL wh yr ys sc c w) K)) (nI K) rd lr (hz_n wo) (hz_n wh) yv yr yk ys yp yo sc st yf ho ro le fe mo ra ac lo rq)
    (h1 : (∃ i, i < K ∧ hz_rY wo wh yr yk b c w i) → wY_access_191 post (nI c) (nI w) b 1 (hz_e (hz_la (hz_pL wh yr ys sc c w) K)) (nI K) rd lr (hz_n wo) (hz_n wh) yv yr yk ys yp yo sc st yf ho ro le fe mo (upd ra c (ra c + 1)) ac lo (upd rq w (rq w + 1))) : ∀ (n i : Nat) (x : Int32), K < n + i → i ≤ K →
    ((x = 0 ∧ ¬ ∃ j, j < i ∧ hz_rY wo wh yr yk b c w j) ∨ (x = 1 ∧ ∃ j, j < i ∧ hz_rY wo wh yr yk b c w j)) →
    wY_access_53 post (nI c) (nI w) b (nI (w / 8)) (nI K) rd lr (hz_n wo) (hz_n wh) yv yr yk ys yp yo sc st yf ho ro le fe mo ra ac lo rq n x (hz_e (hz_la (hz_pL wh yr ys sc c w) i)) (nI i) := by
  intro n
  induction n with
  | zero => intro i x h1 h2; omega
  | succ n ih =>
    intro i x n1 n2 hx
    by_cases e : i = K
    · subst e
      rw [wY_access_53]
      refine br_t (Int32.le_refl _) ?_
      rcases hx with ⟨x0, xn⟩ | ⟨x1, xy⟩
      · rw [x0]
        exact br_t rfl (h0 xn)
      · rw [x1, nI_clamp (n := c) (by omega), nI_clamp (n := w) (by omega)]
        have hv : vp_in (nI c) 4 := vp_in_nI hc (by decide)
        have hv2 : vp_in (nI w) 64 := vp_in_nI hw (by decide)
        exact br_f (by decide) ⟨hv, hv, nm_e ⟨hv2, hv2, nm_e (h1 xy)⟩⟩
    · have iK : ¬ K ≤ i := by omega
      have hwi := hwh i
      have hoi := hwo i
      -- what the loop asks behind the race's test
      have no : ¬ hz_rY wo wh yr yk b c w i → wY_access_53 post (nI c) (nI w) b (nI (w / 8)) (nI K) rd lr (hz_n wo) (hz_n wh) yv yr yk ys yp yo sc st yf ho ro le fe mo ra ac lo rq n x (hz_e (hz_la (hz_pL wh yr ys sc c w) (i + 1))) (nI (i + 1)) := by
        intro z
        refine ih (i + 1) x (by omega) (by omega) ?_
        rcases hx with ⟨x0, xn⟩ | ⟨x1, o', y1, y2⟩
        · refine Or.inl ⟨x0, ?_⟩
          rintro ⟨o', y1, y2⟩
          by_cases eo : o' = i
          · rw [eo] at y2; exact z y2
          · exact xn ⟨o', by omega, y2⟩
        · exact Or.inr ⟨x1, o', by omega, y2⟩
      have yes : hz_rY wo wh yr yk b c w i → wY_access_53 post (nI c) (nI w) b (nI (w / 8)) (nI K) rd lr (hz_n wo) (hz_n wh) yv yr yk ys yp yo sc st yf ho ro le fe mo ra ac lo rq n 1 (hz_e (hz_la (hz_pL wh yr ys sc c w) (i + 1))) (nI (i + 1)) := by
        intro z
        exact ih (i + 1) 1 (by omega) (by omega) (Or.inr ⟨rfl, i, by omega, z⟩)
      by_cases a : wh i = w
      · have t120 : ∀ y : Int32, wY_access_53 post (nI c) (nI w) b (nI (w / 8)) (nI K) rd lr (hz_n wo) (hz_n wh) yv yr yk ys yp yo sc st yf ho ro le fe mo ra ac lo rq n y (hz_e (hz_la (hz_pL wh yr ys sc c w) (i + 1))) (nI (i + 1)) →
            wY_access_120 post (wY_access_53 post (nI c) (nI w) b (nI (w / 8)) (nI K) rd lr (hz_n wo) (hz_n wh) yv yr yk ys yp yo sc st yf ho ro le fe mo ra ac lo rq n) (nI c) (nI w) b (nI (w / 8)) y (hz_e (hz_la (hz_pL wh yr ys sc c w) i)) (nI i) (nI K) rd lr (hz_n wo) (hz_n wh) yv yr yk ys yp yo sc st yf ho ro le fe mo ra ac lo rq := by
          intro y h
          by_cases d : yr i = 0
          · rw [hz_la_n (P := hz_pL wh yr ys sc c w) (fun z => z.2.1 d)] at h
            simp (disch := omega) only [wY_access_120, d, forall_eq, nI_leI, nI_ltI, nI_eq, vp_in_nI, nI_clamp, nI_add, nI_1, hz_na, hz_nup, true_implies, forall_const, not_true_eq_false, not_false_eq_true, false_implies, and_true, true_and, implies_true, and_self, if_true, if_false, ite_true, ite_false, reduceIte, ha_m4, ha_m8, ha_m5, ha_m32, ha_m64, ha_m300, ha_a4, ha_a16, ha_a300, ha_a600, ha_a900, ha_p8, ha_l4, ha_l5, ha_l8, ha_l32, ha_l36, ha_l64, ha_l128, ha_l256, ha_le7, ha_7lt, ha_e0, ha_e1, ha_e2, ha_e300, ha_le0, ha_lt0, ha_0le, ha_d8, ha_s1, ha_80, ha_10]
            exact h
          · by_cases s : sc (w / 8) = 0
            · by_cases q : ys (300 * c + i) = 0
              · rw [hz_la_n (P := hz_pL wh yr ys sc c w) (fun z => z.2.2.elim (fun z => z s) (fun z => z q))] at h
                simp (disch := omega) only [wY_access_120, d, s, q, forall_eq, nI_leI, nI_ltI, nI_eq, vp_in_nI, nI_clamp, nI_add, nI_1, hz_na, hz_nup, true_implies, forall_const, not_true_eq_false, not_false_eq_true, false_implies, and_true, true_and, implies_true, and_self, if_true, if_false, ite_true, ite_false, reduceIte, ha_m4, ha_m8, ha_m5, ha_m32, ha_m64, ha_m300, ha_a4, ha_a16, ha_a300, ha_a600, ha_a900, ha_p8, ha_l4, ha_l5, ha_l8, ha_l32, ha_l36, ha_l64, ha_l128, ha_l256, ha_le7, ha_7lt, ha_e0, ha_e1, ha_e2, ha_e300, ha_le0, ha_lt0, ha_0le, ha_d8, ha_s1, ha_80, ha_10]
                exact h
              · rw [hz_la_y (P := hz_pL wh yr ys sc c w) ⟨a, d, Or.inr q⟩, hz_es] at h
                simp (disch := omega) only [wY_access_120, d, s, q, forall_eq, nI_leI, nI_ltI, nI_eq, vp_in_nI, nI_clamp, nI_add, nI_1, hz_na, hz_nup, true_implies, forall_const, not_true_eq_false, not_false_eq_true, false_implies, and_true, true_and, implies_true, and_self, if_true, if_false, ite_true, ite_false, reduceIte, ha_m4, ha_m8, ha_m5, ha_m32, ha_m64, ha_m300, ha_a4, ha_a16, ha_a300, ha_a600, ha_a900, ha_p8, ha_l4, ha_l5, ha_l8, ha_l32, ha_l36, ha_l64, ha_l128, ha_l256, ha_le7, ha_7lt, ha_e0, ha_e1, ha_e2, ha_e300, ha_le0, ha_lt0, ha_0le, ha_d8, ha_s1, ha_80, ha_10]
                exact h
            · rw [hz_la_y (P := hz_pL wh yr ys sc c w) ⟨a, d, Or.inl s⟩, hz_es] at h
              simp (disch := omega) only [wY_access_120, d, s, forall_eq, nI_leI, nI_ltI, nI_eq, vp_in_nI, nI_clamp, nI_add, nI_1, hz_na, hz_nup, true_implies, forall_const, not_true_eq_false, not_false_eq_true, false_implies, and_true, true_and, implies_true, and_self, if_true, if_false, ite_true, ite_false, reduceIte, ha_m4, ha_m8, ha_m5, ha_m32, ha_m64, ha_m300, ha_a4, ha_a16, ha_a300, ha_a600, ha_a900, ha_p8, ha_l4, ha_l5, ha_l8, ha_l32, ha_l36, ha_l64, ha_l128, ha_l256, ha_le7, ha_7lt, ha_e0, ha_e1, ha_e2, ha_e300, ha_le0, ha_lt0, ha_0le, ha_d8, ha_s1, ha_80, ha_10]
              exact h
        have t101 : (¬ wo i = c) → (¬ b = 0 ∨ ¬ yr i = 0) →
            wY_access_101 post (wY_access_53 post (nI c) (nI w) b (nI (w / 8)) (nI K) rd lr (hz_n wo) (hz_n wh) yv yr yk ys yp yo sc st yf ho ro le fe mo ra ac lo rq n) (nI c) (nI w) b (nI (w / 8)) x (hz_e (hz_la (hz_pL wh yr ys sc c w) i)) (nI i) (nI K) rd lr (hz_n wo) (hz_n wh) yv yr yk ys yp yo sc st yf ho ro le fe mo ra ac lo rq := by
          intro g1 g2
          unfold wY_access_101
          rw [ha_m300, nI_add, nI_clamp (n := 300 * c + i) (by omega)]
          refine ⟨vp_in_nI (by omega) (by decide), ?_⟩
          by_cases q : yk (300 * c + i) = 0
          · exact br_t q (t120 1 (yes ⟨a, g1, g2, q⟩))
          · exact br_f q (t120 x (no (fun z => q z.2.2.2)))
        by_cases m : wo i = c
        · have := t120 x (no (fun z => z.2.1 m))
          simp (disch := omega) only [wY_access_53, iK, a, m, forall_eq, nI_leI, nI_ltI, nI_eq, vp_in_nI, nI_clamp, nI_add, nI_1, hz_na, hz_nup, true_implies, forall_const, not_true_eq_false, not_false_eq_true, false_implies, and_true, true_and, implies_true, and_self, if_true, if_false, ite_true, ite_false, reduceIte, ha_m4, ha_m8, ha_m5, ha_m32, ha_m64, ha_m300, ha_a4, ha_a16, ha_a300, ha_a600, ha_a900, ha_p8, ha_l4, ha_l5, ha_l8, ha_l32, ha_l36, ha_l64, ha_l128, ha_l256, ha_le7, ha_7lt, ha_e0, ha_e1, ha_e2, ha_e300, ha_le0, ha_lt0, ha_0le, ha_d8, ha_s1, ha_80, ha_10]
          exact this
        · by_cases d : b = 0
          · by_cases q : yr i = 0
            · have := t120 x (no (fun z => z.2.2.1.elim (fun z => z d) (fun z => z q)))
              subst d
              simp (disch := omega) only [wY_access_53, iK, a, m, q, forall_eq, nI_leI, nI_ltI, nI_eq, vp_in_nI, nI_clamp, nI_add, nI_1, hz_na, hz_nup, true_implies, forall_const, not_true_eq_false, not_false_eq_true, false_implies, and_true, true_and, implies_true, and_self, if_true, if_false, ite_true, ite_false, reduceIte, ha_m4, ha_m8, ha_m5, ha_m32, ha_m64, ha_m300, ha_a4, ha_a16, ha_a300, ha_a600, ha_a900, ha_p8, ha_l4, ha_l5, ha_l8, ha_l32, ha_l36, ha_l64, ha_l128, ha_l256, ha_le7, ha_7lt, ha_e0, ha_e1, ha_e2, ha_e300, ha_le0, ha_lt0, ha_0le, ha_d8, ha_s1, ha_80, ha_10]
              exact this
            · have := t101 m (Or.inr q)
              subst d
              simp (disch := omega) only [wY_access_53, iK, a, m, q, forall_eq, nI_leI, nI_ltI, nI_eq, vp_in_nI, nI_clamp, nI_add, nI_1, hz_na, hz_nup, true_implies, forall_const, not_true_eq_false, not_false_eq_true, false_implies, and_true, true_and, implies_true, and_self, if_true, if_false, ite_true, ite_false, reduceIte, ha_m4, ha_m8, ha_m5, ha_m32, ha_m64, ha_m300, ha_a4, ha_a16, ha_a300, ha_a600, ha_a900, ha_p8, ha_l4, ha_l5, ha_l8, ha_l32, ha_l36, ha_l64, ha_l128, ha_l256, ha_le7, ha_7lt, ha_e0, ha_e1, ha_e2, ha_e300, ha_le0, ha_lt0, ha_0le, ha_d8, ha_s1, ha_80, ha_10]
              exact this
          · have := t101 m (Or.inl d)
            simp (disch := omega) only [wY_access_53, iK, a, m, d, forall_eq, nI_leI, nI_ltI, nI_eq, vp_in_nI, nI_clamp, nI_add, nI_1, hz_na, hz_nup, true_implies, forall_const, not_true_eq_false, not_false_eq_true, false_implies, and_true, true_and, implies_true, and_self, if_true, if_false, ite_true, ite_false, reduceIte, ha_m4, ha_m8, ha_m5, ha_m32, ha_m64, ha_m300, ha_a4, ha_a16, ha_a300, ha_a600, ha_a900, ha_p8, ha_l4, ha_l5, ha_l8, ha_l32, ha_l36, ha_l64, ha_l128, ha_l256, ha_le7, ha_7lt, ha_e0, ha_e1, ha_e2, ha_e300, ha_le0, ha_lt0, ha_0le, ha_d8, ha_s1, ha_80, ha_10]
            exact this
      · have h := no (fun z => a z.1)
        rw [hz_la_n (P := hz_pL wh yr ys sc c w) (fun z => a z.1)] at h
        simp (disch := omega) only [wY_access_53, iK, a, forall_eq, nI_leI, nI_ltI, nI_eq, vp_in_nI, nI_clamp, nI_add, nI_1, hz_na, hz_nup, true_implies, forall_const, not_true_eq_false, not_false_eq_true, false_implies, and_true, true_and, implies_true, and_self, if_true, if_false, ite_true, ite_false, reduceIte, ha_m4, ha_m8, ha_m5, ha_m32, ha_m64, ha_m300, ha_a4, ha_a16, ha_a300, ha_a600, ha_a900, ha_p8, ha_l4, ha_l5, ha_l8, ha_l32, ha_l36, ha_l64, ha_l128, ha_l256, ha_le7, ha_7lt, ha_e0, ha_e1, ha_e2, ha_e300, ha_le0, ha_lt0, ha_0le, ha_d8, ha_s1, ha_80, ha_10]
        exact h
theorem hy_acc240 {post : Int32 → SY → Prop} {l : Nat} (hK : K < 300) (hc : c < 4) (hw : w < 64) (hl : l ≤ K) (hb : b = 0 ∨ b = 1)
    (h : post (hz_val yo yv w l) (nI K, rd, lr, yw, yh, yv, yr, hz_nk yk K c 4, hz_ns ys b K c 4, hz_n0' yp K 4, yo, sc, st, yf, ho, ro, le, fe, mo, ra, ac, lo, rq)) : ∀ (n t : Nat), 4 < n + t → t ≤ 4 →
    wY_access_240 post (nI c) (nI w) b (hz_e l) (nI K) rd lr n (nI t) yw yh yv yr (hz_nk yk K c t) (hz_ns ys b K c t) (hz_n0' yp K t) yo sc st yf ho ro le fe mo ra ac lo rq := by
  intro n
  induction n with
  | zero => intro t h1 h2; omega
  | succ n ih =>
    intro t h1 h2
    rw [wY_access_240]
    by_cases e : t = 4
    · subst e
      refine br_t (Int32.le_refl _) ?_
      cases l with
      | zero =>
        refine br_f (by decide) ⟨vp_in_nI hw (by decide), ?_⟩
        rw [nI_clamp (by omega)]
        exact h
      | succ l =>
        rw [hz_es]
        refine br_t (nI_pos' (by omega)) ⟨vp_in_nI (by omega) (by decide), ?_⟩
        rw [nI_clamp (by omega)]
        exact h
    · refine br_f (nI_ge (b := 4) (by omega) (by decide)) ?_
      have IH := ih (t + 1) (by omega) (by omega)
      have hi : vp_in (nI (300 * t + K)) 1200 := vp_in_nI (by omega) (by decide)
      rw [← hz_n0'_s hK] at IH
      rw [ha_m300, nI_add]
      by_cases em : t = c
      · rw [← hz_nk_y hK em] at IH
        refine br_t (by rw [em]) ?_
        rcases hb with z | z
        · have e1 : hz_ns ys b K c t = hz_n0' ys K t := if_pos z
          have e2 : hz_ns ys b K c (t + 1) = upd (hz_n0' ys K t) (300 * t + K) 0 := (if_pos z).trans (hz_n0'_s hK).symm
          have et : nI t = nI c := by rw [em]
          rw [e2] at IH
          rw [e1]
          unfold wY_access_272
          refine ⟨hi, nm_r (e' := upd (hz_nk yk K c t) (300 * t + K) 1) (by rw [nI_clamp (by omega), ha_vz1]) (br_t et (br_t z ?_))⟩
          unfold wY_access_302 wY_access_303
          rw [ha_m300, nI_add]
          refine ⟨hi, nm_r (e' := upd (hz_n0' ys K t) (300 * t + K) 0) (by rw [nI_clamp (by omega), ha_vz0]) ⟨hi, nm_r (e' := upd (hz_n0' yp K t) (300 * t + K) 0) (by rw [nI_clamp (by omega), ha_vz0]) (nm_r (nI_1 t) IH)⟩⟩
        · have nz : ¬ b = 0 := by rw [z]; decide
          have e1 : hz_ns ys b K c t = hz_nk ys K c t := if_neg nz
          have e2 : hz_ns ys b K c (t + 1) = upd (hz_nk ys K c t) (300 * t + K) 1 := (if_neg nz).trans (hz_nk_y hK em).symm
          have et : nI t = nI c := by rw [em]
          rw [e2] at IH
          rw [e1]
          unfold wY_access_272
          refine ⟨hi, nm_r (e' := upd (hz_nk yk K c t) (300 * t + K) 1) (by rw [nI_clamp (by omega), ha_vz1]) (br_t et (br_f nz ?_))⟩
          unfold wY_access_303
          rw [ha_m300, nI_add]
          refine ⟨hi, nm_r (e' := upd (hz_nk ys K c t) (300 * t + K) 1) (by rw [nI_clamp (by omega), ha_vz1]) ⟨hi, nm_r (e' := upd (hz_n0' yp K t) (300 * t + K) 0) (by rw [nI_clamp (by omega), ha_vz0]) (nm_r (nI_1 t) IH)⟩⟩
      · rw [← hz_nk_n hK em] at IH
        have et : ¬ nI t = nI c := fun z => em ((nI_eq (by omega) (by omega)).mp z)
        refine br_f et ?_
        have e2 : hz_ns ys b K c (t + 1) = upd (hz_ns ys b K c t) (300 * t + K) 0 := by
          unfold hz_ns
          rcases hb with z | z
          · rw [if_pos z, if_pos z]
            exact (hz_n0'_s hK).symm
          · have nz : ¬ b = 0 := by rw [z]; decide
            rw [if_neg nz, if_neg nz]
            exact (hz_nk_n hK em).symm
        rw [e2] at IH
        unfold wY_access_272
        refine ⟨hi, nm_r (e' := upd (hz_nk yk K c t) (300 * t + K) 0) (by rw [nI_clamp (by omega), ha_vz0]) (br_f et ?_)⟩
        unfold wY_access_302 wY_access_303
        rw [ha_m300, nI_add]
        refine ⟨hi, nm_r (e' := upd (hz_ns ys b K c t) (300 * t + K) 0) (by rw [nI_clamp (by omega), ha_vz0]) ⟨hi, nm_r (e' := upd (hz_n0' yp K t) (300 * t + K) 0) (by rw [nI_clamp (by omega), ha_vz0]) (nm_r (nI_1 t) IH)⟩⟩
theorem hy_acc191 {post : Int32 → SY → Prop} {l : Nat} (hK : K < 300) (hc : c < 4) (hw : w < 64) (hl : l ≤ K) (hb : b = 0 ∨ b = 1) (h01 : x5 = 0 ∨ x5 = 1)
    (h : post (hz_val yo yv w l) (nI K, rd, x5, hz_n (hz_u wo K c), hz_n (hz_u wh K w), yv, upd yr K b, hz_nk yk K c 4, hz_ns ys b K c 4, hz_n0' yp K 4, yo, sc, st, yf, ho, ro, le, fe, mo, ra, upd ac c (ac c + 1), lo, rq)) :
    wY_access_191 post (nI c) (nI w) b x5 (hz_e l) (nI K) rd lr (hz_n wo) (hz_n wh) yv yr yk ys yp yo sc st yf ho ro le fe mo ra ac lo rq := by
  have nx5 : narrow .boolean (.int x5) = .int x5 ∧ fits .boolean (.int x5) = true := by rcases h01 with q | q <;> rw [q] <;> exact ⟨rfl, rfl⟩
  have hv : vp_in (nI c) 4 := vp_in_nI hc (by decide)
  have hv2 : vp_in (nI K) 300 := vp_in_nI hK (by decide)
  unfold wY_access_191
  refine ⟨hv, hv, nm_r (e' := upd ac c (ac c + 1)) (by rw [nI_clamp (by omega)]) ⟨nx5.1, nx5.2, hv2, nm_r (e' := hz_n (hz_u wo K c)) (by rw [nI_clamp (by omega), hz_nup]) ⟨hv2, nm_r (e' := hz_n (hz_u wh K w)) (by rw [nI_clamp (by omega), hz_nup]) ⟨hv2, nm_r (e' := upd yr K b) (by rw [nI_clamp (by omega), hz_01n hb]) (Exists.intro 5 ?_)⟩⟩⟩⟩
  have := hy_acc240 (rd := rd) (lr := x5) (yw := hz_n (hz_u wo K c)) (yh := hz_n (hz_u wh K w)) (yv := yv) (yr := upd yr K b) (yk := yk) (ys := ys) (yp := yp) (yo := yo) (sc := sc) (st := st) (yf := yf) (ho := ho) (ro := ro) (le := le) (fe := fe) (mo := mo) (ra := ra) (ac := upd ac c (ac c + 1)) (lo := lo) (rq := rq) (post := post) hK hc hw hl hb h 5 0 (by omega) (by omega)
  rw [hz_nk_0, hz_n0'_0, show hz_ns ys b K c 0 = ys from by unfold hz_ns; split; exact hz_n0'_0 _ _; exact hz_nk_0 _ _ _] at this
  exact this
end YX
end
section
/-! AC: accesses on both sides -/
section AC0
variable {K c w : Nat} {wo wh kn gr gw : Nat → Nat} {yr yk yp : Nat → Int32} {b : Int32}
theorem hz_race (hK : hr_K K wo kn yk yp) (hR : hr_R K wo wh yr gr gw) (hwo : ∀ i, wo i < 4) (hc : c < 4) (hw : w < 64) : (∃ o, o < 4 ∧ o ≠ c ∧ hz_rc kn gr gw b c w o) ↔ ∃ i, i < K ∧ hz_rY wo wh yr yk b c w i := by
  constructor
  · rintro ⟨o, ho, hne, q | ⟨q1, q2⟩⟩
    · obtain ⟨i, i1, i2, i3, i4, i5⟩ := ((hR w o hw ho).2.2.1 _).mp q
      refine ⟨i, i1, i3, by rw [i2]; exact hne, Or.inr i4, ?_⟩
      rw [hz_B0 (hK.2.2.2.1 c i hc i1), i2]
      omega
    · obtain ⟨i, i1, i2, i3, i5⟩ := ((hR w o hw ho).2.2.2 _).mp (Or.inr q2)
      refine ⟨i, i1, i3, by rw [i2]; exact hne, Or.inl q1, ?_⟩
      rw [hz_B0 (hK.2.2.2.1 c i hc i1), i2]
      omega
  · rintro ⟨i, i1, i3, i2, i4, i5⟩
    rw [hz_B0 (hK.2.2.2.1 c i hc i1)] at i5
    refine ⟨wo i, hwo i, i2, ?_⟩
    by_cases y : yr i = 0
    · have hb : ¬ b = 0 := i4.resolve_right (fun z => z y)
      rcases ((hR w (wo i) hw (hwo i)).2.2.2 (kn (4 * c + wo i))).mpr ⟨i, i1, rfl, i3, by omega⟩ with z | z
      · exact Or.inl z
      · exact Or.inr ⟨hb, z⟩
    · exact Or.inl (((hR w (wo i) hw (hwo i)).2.2.1 (kn (4 * c + wo i))).mpr ⟨i, i1, rfl, i3, y, by omega⟩)
end AC0
section AC1
variable {gt K c w : Nat} {kn gq ln gm gc gd gx gf gl gs gh go gr gw wo wh : Nat → Nat} {rd fb lr b x3 : Int32} {st ho va wt sc co fe mo ra ac lo rq xa xq yv yr yk ys yp yo yf : Nat → Int32}
/-- the page is fetched or got -/
theorem hz_page (hH : hr_H K wo wh) (hK : hr_K K wo kn yk yp) (hC : hr_C K wo wh yr sc yv gc gd wt gx gf gl gs (hz_S ys)) (hV : hr_V K wh yr sc yv yo gm va (hz_S ys)) (hO : hr_O K wo wh yr sc gh go) (hc : c < 4) (hw : w < 64) :
    ∃ (gs' gm' gh' go' : Nat → Nat) (va' ys' fe' mo' lo' : Nat → Int32) (fb' : Int32), hr_C K wo wh yr sc yv gc gd wt gx gf gl gs' (hz_S ys') ∧ hr_V K wh yr sc yv yo gm' va' (hz_S ys') ∧ hr_O (K + 1) (hz_u wo K c) (hz_u wh K w) (upd yr K b) sc gh' go' ∧
      (∀ (post : SX → Prop), post ((nI gt), rd, fb', (nI K), (hz_n kn), st, ho, (hz_n gq), (hz_n ln), va', hz_n gm', (hz_n gc), (hz_n gd), wt, (hz_n gx), (hz_n gf), (hz_n gl), hz_n gs', sc, co, hz_n gh', hz_n go', (hz_n gr), (hz_n gw), fe', mo', xa, ac, lo', xq) → (sc (w / 8) = 0 → wpX_fetch post ((nI gt), rd, fb, (nI K), (hz_n kn), st, ho, (hz_n gq), (hz_n ln), va, (hz_n gm), (hz_n gc), (hz_n gd), wt, (hz_n gx), (hz_n gf), (hz_n gl), (hz_n gs), sc, co, (hz_n gh), (hz_n go), (hz_n gr), (hz_n gw), fe, mo, xa, ac, lo, xq) (nI c) (nI (w / 8))) ∧ (¬ sc (w / 8) = 0 → wpX_get post ((nI gt), rd, fb, (nI K), (hz_n kn), st, ho, (hz_n gq), (hz_n ln), va, (hz_n gm), (hz_n gc), (hz_n gd), wt, (hz_n gx), (hz_n gf), (hz_n gl), (hz_n gs), sc, co, (hz_n gh), (hz_n go), (hz_n gr), (hz_n gw), fe, mo, xa, ac, lo, xq) (nI c) (nI (w / 8)) b)) ∧
      (∀ (post : SY → Prop), post ((nI K), rd, lr, (hz_n wo), (hz_n wh), yv, yr, yk, ys', yp, yo, sc, st, yf, ho, (hz_n gq), (hz_n ln), fe', mo', ra, ac, lo', rq) → (sc (w / 8) = 0 → wpY_isStale (fun r => (r = 0 → post ((nI K), rd, lr, (hz_n wo), (hz_n wh), yv, yr, yk, ys, yp, yo, sc, st, yf, ho, (hz_n gq), (hz_n ln), fe, mo, ra, ac, lo, rq)) ∧ (¬ r = 0 → wpY_fetch post ((nI K), rd, lr, (hz_n wo), (hz_n wh), yv, yr, yk, ys, yp, yo, sc, st, yf, ho, (hz_n gq), (hz_n ln), fe, mo, ra, ac, lo, rq) (nI c) (nI (w / 8)))) ((nI K), rd, lr, (hz_n wo), (hz_n wh), yv, yr, yk, ys, yp, yo, sc, st, yf, ho, (hz_n gq), (hz_n ln), fe, mo, ra, ac, lo, rq) (nI c) (nI (w / 8))) ∧ (¬ sc (w / 8) = 0 → wpY_reach post ((nI K), rd, lr, (hz_n wo), (hz_n wh), yv, yr, yk, ys, yp, yo, sc, st, yf, ho, (hz_n gq), (hz_n ln), fe, mo, ra, ac, lo, rq) (nI c) (nI (w / 8)) b)) := by
  have hp : w / 8 < 8 := by omega
  by_cases hs : sc (w / 8) = 0
  · rcases hz_fetch (gt := gt) (gq := gq) (ln := ln) (gh := gh) (go := go) (gr := gr) (gw := gw) (rd := rd) (fb := fb) (lr := lr) (st := st) (ho := ho) (co := co) (fe := fe) (mo := mo) (ra := ra) (ac := ac) (lo := lo) (rq := rq) (xa := xa) (xq := xq) (yf := yf) hH hK hC hV hc hp with hF | ⟨hF, gs1, gm1, va1, ys1, fb1, d, r1, r2, r3, r4⟩
    · refine ⟨gs, gm, gh, go, va, ys, fe, mo, lo, fb, hC, hV, hr_O_acc0 hO hs, ?_, ?_⟩
      · intro post h
        exact br_t hs (hx_fetch0 hH.2.1 hH.1 hK.1 hc hp hC hF h)
      · intro post h
        exact br_t hs (hy_stale hH.2.2 hH.1 hK hc hp (fun z => absurd z hF) (fun _ => br_t rfl h))
    · refine ⟨gs1, gm1, gh, go, va1, ys1, upd fe c (fe c + 1), upd mo c (mo c + nI d), lo, fb1, r1, r2, hr_O_acc0 hO hs, ?_, ?_⟩
      · intro post h
        exact br_t hs (r3 post h)
      · intro post h
        exact br_t hs (hy_stale hH.2.2 hH.1 hK hc hp (fun _ => br_f (by decide) (r4 post h)) (fun z => absurd hF z))
  · obtain ⟨fe', mo', lo', gh', go', h1, h2, h3⟩ := hz_get (gt := gt) (kn := kn) (gq := gq) (ln := ln) (gm := gm) (gc := gc) (gd := gd) (gx := gx) (gf := gf) (gl := gl) (gs := gs) (gr := gr) (gw := gw) (rd := rd) (fb := fb) (lr := lr) (b := b) (st := st) (ho := ho) (va := va) (wt := wt) (co := co) (fe := fe) (mo := mo) (ra := ra) (ac := ac) (lo := lo) (rq := rq) (xa := xa) (xq := xq) (yv := yv) (yk := yk) (ys := ys) (yp := yp) (yo := yo) (yf := yf) hH hO hc hp hs
    refine ⟨gs, gm, gh', go', va, ys, fe', mo', lo', fb, hC, hV, ?_, ?_, ?_⟩
    · rcases h1 with ⟨z1, z2, z3⟩ | ⟨z1, z2⟩
      · rw [z2]
        exact hr_O_accr hO hs z1 hc z3
      · exact hr_O_accw hO hs z1 hc z2
    · intro post h
      exact br_f hs (h2 post h)
    · intro post h
      exact br_f hs (h3 post h)
/-- an access begins -/
theorem hz_acc (hH : hr_H K wo wh) (hK : hr_K K wo kn yk yp) (hC : hr_C K wo wh yr sc yv gc gd wt gx gf gl gs (hz_S ys)) (hV : hr_V K wh yr sc yv yo gm va (hz_S ys)) (hO : hr_O K wo wh yr sc gh go) (hR : hr_R K wo wh yr gr gw) (hc : c < 4) (hw : w < 64) (hK3 : K < 300) (hb : b = 0 ∨ b = 1) :
    ∃ (gs' gm' gh' go' : Nat → Nat) (va' ys' fe' mo' lo' ra' rq' : Nat → Int32) (fb' x5 : Int32), hr_C K wo wh yr sc yv gc gd wt gx gf gl gs' (hz_S ys') ∧ hr_V K wh yr sc yv yo gm' va' (hz_S ys') ∧ hr_O (K + 1) (hz_u wo K c) (hz_u wh K w) (upd yr K b) sc gh' go' ∧
      (∀ (post : Int32 → SX → Prop), post x5 ((nI gt), rd, fb', nI (K + 1), hz_n (hz_u kn (5 * c) (kn (5 * c) + 1)), st, ho, (hz_n gq), (hz_n ln), va', hz_n gm', (hz_n gc), (hz_n gd), wt, (hz_n gx), (hz_n gf), (hz_n gl), hz_n gs', sc, co, hz_n gh', hz_n go', hz_n (if x3 = 0 then gr else hz_u gr (4 * w + c) (kn (5 * c) + 1)), hz_n (if b = 0 then gw else hz_u gw (4 * w + c) (kn (5 * c) + 1)), fe', mo', ra', upd ac c (ac c + 1), lo', rq') → wpX_begin post ((nI gt), rd, fb, (nI K), (hz_n kn), st, ho, (hz_n gq), (hz_n ln), va, (hz_n gm), (hz_n gc), (hz_n gd), wt, (hz_n gx), (hz_n gf), (hz_n gl), (hz_n gs), sc, co, (hz_n gh), (hz_n go), (hz_n gr), (hz_n gw), fe, mo, ra, ac, lo, rq) (nI c) (nI w) x3 b) ∧
      (∀ (post : Int32 → SY → Prop), post (hz_val yo yv w (hz_la (hz_pL wh yr ys' sc c w) K)) ((nI K), rd, x5, hz_n (hz_u wo K c), hz_n (hz_u wh K w), yv, upd yr K b, hz_nk yk K c 4, hz_ns ys' b K c 4, hz_n0' yp K 4, yo, sc, st, yf, ho, (hz_n gq), (hz_n ln), fe', mo', ra', upd ac c (ac c + 1), lo', rq') → wpY_access post ((nI K), rd, lr, (hz_n wo), (hz_n wh), yv, yr, yk, ys, yp, yo, sc, st, yf, ho, (hz_n gq), (hz_n ln), fe, mo, ra, ac, lo, rq) (nI c) (nI w) b) := by
  have hr : ∀ o, o < 4 → gr (4 * w + o) ≤ 300 ∧ gw (4 * w + o) ≤ 300 := fun o ho => ⟨(hR w o hw ho).1, (hR w o hw ho).2.1⟩
  have race := hz_race (b := b) hK hR hH.2.1 hc hw
  obtain ⟨xa, xq, x5, hx, x01⟩ : ∃ (xa xq : Nat → Int32) (x5 : Int32), (((¬ ∃ i, i < K ∧ hz_rY wo wh yr yk b c w i) ∧ xa = ra ∧ xq = rq ∧ x5 = 0) ∨ ((∃ i, i < K ∧ hz_rY wo wh yr yk b c w i) ∧ xa = upd ra c (ra c + 1) ∧ xq = upd rq w (rq w + 1) ∧ x5 = 1)) ∧ (x5 = 0 ∨ x5 = 1) := by
    by_cases z : ∃ i, i < K ∧ hz_rY wo wh yr yk b c w i
    · exact ⟨_, _, _, Or.inr ⟨z, rfl, rfl, rfl⟩, Or.inr rfl⟩
    · exact ⟨_, _, _, Or.inl ⟨z, rfl, rfl, rfl⟩, Or.inl rfl⟩
  obtain ⟨gs', gm', gh', go', va', ys', fe', mo', lo', fb', r1, r2, r3, rX, rY⟩ := hz_page (gt := gt) (gq := gq) (ln := ln) (gr := gr) (gw := gw) (rd := rd) (fb := fb) (lr := lr) (b := b) (st := st) (ho := ho) (co := co) (fe := fe) (mo := mo) (ra := ra) (ac := ac) (lo := lo) (rq := rq) (xa := xa) (xq := xq) (yf := yf) hH hK hC hV hO hc hw
  refine ⟨gs', gm', gh', go', va', ys', fe', mo', lo', xa, xq, fb', x5, r1, r2, r3, ?_, ?_⟩
  · intro post h
    have B : wX_begin_112 post (nI c) (nI w) x3 b x5 (nI gt) rd fb (nI K) (hz_n kn) st ho (hz_n gq) (hz_n ln) va (hz_n gm) (hz_n gc) (hz_n gd) wt (hz_n gx) (hz_n gf) (hz_n gl) (hz_n gs) sc co (hz_n gh) (hz_n go) (hz_n gr) (hz_n gw) fe mo xa ac lo xq := by
      unfold wX_begin_112
      rw [ha_d8 (by omega), nI_clamp (n := w / 8) (by omega)]
      have e8 : ¬ (8 : Int32) = 0 := by decide
      have R := rX (fun u => match u with | (th, rd, fb, kp, kX, st, ho, ro, le, va, sm, wc, wd, wt, nx, fi, la, sn, sc, co, hv, ow, rA, wA, fe, mo, ra, ac, lo, rq) => wX_begin_147 post (nI c) (nI w) x3 b x5 th rd fb kp kX st ho ro le va sm wc wd wt nx fi la sn sc co hv ow rA wA fe mo ra ac lo rq) (hx_b147 x01 hc hw hK.1 h)
      exact ⟨e8, vp_in_nI (by omega) (by decide), fun z => ⟨e8, R.1 z⟩, fun z => ⟨e8, R.2 z⟩⟩
    rcases hx with ⟨z, q1, q2, q3⟩ | ⟨z, q1, q2, q3⟩
    · rw [q1, q2, q3] at B
      exact hx_begin hc hw hK.1 hr (fun _ => B) (fun y => absurd (race.mp y) z)
    · rw [q1, q2, q3] at B
      exact hx_begin hc hw hK.1 hr (fun y => absurd (race.mpr z) y) (fun _ => B)
  · intro post h
    have lK := hz_la_le (hz_pL wh yr ys' sc c w) K
    have A : ∃ n53 : Nat, wY_access_53 post (nI c) (nI w) b (nI (w / 8)) (nI K) rd lr (hz_n wo) (hz_n wh) yv yr yk ys' yp yo sc st yf ho (hz_n gq) (hz_n ln) fe' mo' ra ac lo' rq n53 0 (-1) 0 := by
      refine ⟨K + 1, ?_⟩
      refine hy_acc53 hH.2.1 hH.2.2 hH.1 hc hw ?_ ?_ (K + 1) 0 0 (by omega) (by omega) (Or.inl ⟨rfl, fun ⟨j, j1, _⟩ => by omega⟩)
      · intro z
        rcases hx with ⟨_, q1, q2, q3⟩ | ⟨y, _⟩
        · rw [q1, q2, q3] at h
          exact hy_acc191 hK3 hc hw lK hb (Or.inl rfl) h
        · exact absurd y z
      · intro z
        rcases hx with ⟨y, _⟩ | ⟨_, q1, q2, q3⟩
        · exact absurd z y
        · rw [q1, q2, q3] at h
          exact hy_acc191 hK3 hc hw lK hb (Or.inr rfl) h
    unfold wpY_access
    have e8 : ¬ (8 : Int32) = 0 := by decide
    rw [ha_d8 (by omega)]
    refine ⟨e8, nm_e ⟨vp_in_nI (by omega) (by decide), ?_⟩⟩
    rw [nI_clamp (n := w / 8) (by omega)]
    exact rY (fun u => match u with | (kp, rd, lr, yw, yh, yv, yr, yk, ys, yp, yo, sc, st, yf, ho, ro, le, fe, mo, ra, ac, lo, rq) => ∃ n53 : Nat, wY_access_53 post (nI c) (nI w) b (nI (w / 8)) kp rd lr yw yh yv yr yk ys yp yo sc st yf ho ro le fe mo ra ac lo rq n53 0 (-1) 0) A
/-- the value that is read -/
theorem hz_read (hV : hr_V K wh yr sc yv yo gm va (hz_S ys)) (hD : hr_D K wh yr sc yv yo co) (hc : c < 4) (hw : w < 64) :
    (sc (w / 8) = 0 → va (64 * c + w) = hz_val yo yv w (hz_la (hz_pL wh yr ys sc c w) K)) ∧ (¬ sc (w / 8) = 0 → co w = hz_val yo yv w (hz_la (hz_pL wh yr ys sc c w) K)) := by
  refine ⟨fun hs => ?_, fun hs => ?_⟩
  · rw [hV.2 c w hc hw hs, hV.1 c w hc hw]
    refine congrArg _ (hz_la_congr (fun i hi => ?_))
    unfold hz_Q hz_pL hz_S
    constructor
    · rintro ⟨a1, a2, a3, a4⟩
      exact ⟨a1, a2, Or.inr a4⟩
    · rintro ⟨a1, a2, a3⟩
      exact ⟨a1, a2, hs, a3.resolve_left (fun z => z hs)⟩
  · rw [hD.2 w hw hs]
    refine congrArg _ (hz_la_congr (fun i hi => ?_))
    unfold hz_W hz_pL
    constructor
    · rintro ⟨a1, a2⟩
      exact ⟨a1, a2, Or.inl hs⟩
    · rintro ⟨a1, a2, a3⟩
      exact ⟨a1, a2⟩
/-- what is seen behind an access -/
theorem hz_ns_i (hb : b = 0 ∨ b = 1) (hK3 : K < 300) (hc : c < 4) : (∀ m i, m < 4 → i < K → (hz_S (hz_ns ys b K c 4) m i ↔ hz_S ys m i)) ∧ (∀ m, m < 4 → (hz_S (hz_ns ys b K c 4) m K ↔ (m = c ∧ ¬ b = 0))) := by
  unfold hz_S hz_ns
  rcases hb with z | z
  · rw [if_pos z]
    refine ⟨fun m i hm hi => by rw [hz_n0'_i hm hi hK3], fun m hm => ?_⟩
    rw [hz_n0'_K hm hK3]
    exact ⟨fun y => absurd rfl y, fun y => absurd z y.2⟩
  · have nz : ¬ b = 0 := by rw [z]; decide
    rw [if_neg nz]
    refine ⟨fun m i hm hi => by rw [hz_nk_i hm hi hK3], fun m hm => ?_⟩
    rw [hz_nk_K hm hK3]
    by_cases e : m = c
    · rw [if_pos e]
      exact ⟨fun _ => ⟨e, nz⟩, fun _ => by decide⟩
    · rw [if_neg e]
      exact ⟨fun y => absurd rfl y, fun y => absurd y.1 e⟩
end AC1
section AC2
variable {gt K c w : Nat} {kn gq ln gm gc gd gx gf gl gs gh go gr gw wo wh : Nat → Nat} {rd fb lr b x3 v : Int32} {st ho va wt sc co fe mo ra ac lo rq yv yr yk ys yp yo yf : Nat → Int32}
/-- what all accesses keep -/
theorem hr_acc (hH : hr_H K wo wh) (hK : hr_K K wo kn yk yp) (hB : hr_B gt st kn) (hR : hr_R K wo wh yr gr gw) (hc : c < 4) (hw : w < 64) (hK3 : K < 300) (h0 : st c = 0) (h3 : b = 0 → ¬ x3 = 0) :
    hr_H (K + 1) (hz_u wo K c) (hz_u wh K w) ∧ hr_K (K + 1) (hz_u wo K c) (hz_u kn (5 * c) (kn (5 * c) + 1)) (hz_nk yk K c 4) (hz_n0' yp K 4) ∧ hr_B gt st (hz_u kn (5 * c) (kn (5 * c) + 1)) ∧
    hr_R (K + 1) (hz_u wo K c) (hz_u wh K w) (upd yr K b) (if x3 = 0 then gr else hz_u gr (4 * w + c) (kn (5 * c) + 1)) (if b = 0 then gw else hz_u gw (4 * w + c) (kn (5 * c) + 1)) := by
  have kc := hK.2.2.1 c hc
  refine ⟨⟨by omega, ?_, ?_⟩, ?_, ?_, ?_⟩
  · intro i
    have := hH.2.1 i
    unfold hz_u
    split <;> omega
  · intro i
    have := hH.2.2 i
    unfold hz_u
    split <;> omega
  · exact hr_K_acc hH.2.1 hK3 hK hc (fun m i hm hi => hz_nk_i hm hi hK3) (fun l i hl hi => hz_n0'_i hl hi hK3) (fun m hm => hz_nk_K hm hK3) (fun l hl => hz_n0'_K hl hK3)
  · refine hr_B_k (m := c) hB (by rw [h0]; decide) ?_
    intro q hq hne
    exact ⟨hz_un (by omega), hz_un (by omega)⟩
  · rw [kc]
    refine hr_R_acc hR hK3 hc hw ?_ ?_ ?_ ?_
    · intro j hj
      split
      · rfl
      · exact hz_un hj
    · intro j hj
      split
      · rfl
      · exact hz_un hj
    · by_cases z : b = 0
      · exact Or.inl ⟨z, by rw [if_pos z]⟩
      · exact Or.inr ⟨z, by rw [if_neg z, hz_us]⟩
    · by_cases z : x3 = 0
      · exact Or.inl ⟨fun y => h3 y z, by rw [if_pos z]⟩
      · exact Or.inr (by rw [if_neg z, hz_us])
end AC2
end
section
/-! AD: read, write, add -/
section AD0
variable {th rd fb kp : Int32} {kX st ho ro le va sm wc wd wt nx fi la sn sc co hv ow rA wA fe mo ra ac lo rq : Nat → Int32}
theorem hx_val {post : Int32 → Prop} {c w : Nat} {x : Int32} (hc : c < 4) (hw : w < 64) (hx : (sc (w / 8) = 0 → va (64 * c + w) = x) ∧ (¬ sc (w / 8) = 0 → co w = x)) (h : post x) : wpX_valueOf post (th, rd, fb, kp, kX, st, ho, ro, le, va, sm, wc, wd, wt, nx, fi, la, sn, sc, co, hv, ow, rA, wA, fe, mo, ra, ac, lo, rq) (nI c) (nI w) := by
  by_cases hs : sc (w / 8) = 0
  · exact hx_val0 hc hw hs (by rw [hx.1 hs]; exact h)
  · exact hx_val1 hc hw hs (by rw [hx.2 hs]; exact h)
end AD0
section AD1
variable {gt K c w : Nat} {kn gq ln gm gc gd gx gf gl gs gh go gr gw wo wh : Nat → Nat} {rd fb lr v : Int32} {st ho va wt sc co fe mo ra ac lo rq yv yr yk ys yp yo yf : Nat → Int32}
theorem hz_store {k : Nat} (hC : hr_C K wo wh yr sc yv gc gd wt gx gf gl gs (hz_S ys)) (hV : hr_V K wh yr sc yv yo gm va (hz_S ys)) (hD : hr_D K wh yr sc yv yo co)
    (a1 : hr_H (K + 1) (hz_u wo K c) (hz_u wh K w)) (a2 : hr_K (K + 1) (hz_u wo K c) kn yk yp) (hL : hr_L 4 ln gq st yf ho) (a3 : hr_B gt st kn) (a5 : hr_O (K + 1) (hz_u wo K c) (hz_u wh K w) (upd yr K 1) sc gh go) (a4 : hr_R (K + 1) (hz_u wo K c) (hz_u wh K w) (upd yr K 1) gr gw)
    (kc : kn (5 * c) = hz_ct wo c K + 1) (hK3 : K < 300) (hc : c < 4) (hw : w < 64) :
    ∃ u' : SX, i_Rel k u' (nI (K + 1), rd, lr, hz_n (hz_u wo K c), hz_n (hz_u wh K w), upd yv K v, upd yr K 1, yk, hz_ns ys 1 K c 4, yp, yo, sc, st, yf, ho, (hz_n gq), (hz_n ln), fe, mo, ra, ac, lo, rq) ∧ ∀ post : SX → Prop, post u' → wpX_store post ((nI gt), rd, fb, nI (K + 1), (hz_n kn), st, ho, (hz_n gq), (hz_n ln), va, (hz_n gm), (hz_n gc), (hz_n gd), wt, (hz_n gx), (hz_n gf), (hz_n gl), (hz_n gs), sc, co, (hz_n gh), (hz_n go), (hz_n gr), (hz_n gw), fe, mo, ra, ac, lo, rq) (nI c) (nI w) v := by
  have one : ¬ (1 : Int32) = 0 := by decide
  obtain ⟨n1, n2⟩ := hz_ns_i (ys := ys) (b := 1) (Or.inr rfl) hK3 hc
  by_cases hs : sc (w / 8) = 0
  · have lK := hz_la_le (hz_C wo wh yr sc c (w / 8)) K
    have g2 := (hC.2.1 c (w / 8) hc (by omega)).2
    have ctl := hz_ct_le wo c K
    obtain ⟨gx', gf', hx⟩ : ∃ gx' gf' : Nat → Nat, (gl (8 * c + w / 8) = 0 ∧ gx' = hz_u gx K 0 ∧ gf' = hz_u gf (8 * c + w / 8) (K + 1)) ∨ (¬ gl (8 * c + w / 8) = 0 ∧ gx' = hz_u (hz_u gx K 0) (gl (8 * c + w / 8) - 1) (K + 1) ∧ gf' = gf) := by
      by_cases z : gl (8 * c + w / 8) = 0
      · exact ⟨_, _, Or.inl ⟨z, rfl, rfl⟩⟩
      · exact ⟨_, _, Or.inr ⟨z, rfl, rfl⟩⟩
    have C' := hr_C_acc1 (v := v) hC one hs hc hw n1 n2 hx
    have V' := hr_V_acc1 (v := v) hV one hs hc hw n1 n2
    have D' := hr_D_acc0 (v := v) (b := 1) hD (Or.inr hs)
    rw [← kc] at C'
    refine ⟨_, hr_in (fb := fb) a1 a2 hL a3 C' V' D' a5 a4, ?_⟩
    intro post h
    refine hx_store1 hc hw hK3 (by omega) (by omega) hs ?_
    intro gx2 gf2 hx2
    have eq : gx2 = gx' ∧ gf2 = gf' := by
      rcases hx with ⟨p1, p2, p3⟩ | ⟨p1, p2, p3⟩ <;> rcases hx2 with ⟨b1, b2, b3⟩ | ⟨b1, b2, b3⟩
      · exact ⟨b2.trans p2.symm, b3.trans p3.symm⟩
      · exact absurd p1 b1
      · exact absurd b1 p1
      · exact ⟨b2.trans p2.symm, b3.trans p3.symm⟩
    rw [eq.1, eq.2]
    exact h
  · have C' := hr_C_acc0 (v := v) (b := 1) hC (Or.inr hs) n1 n2
    have V' := hr_V_acc0 (v := v) (b := 1) hV (Or.inr hs) n1
    have D' := hr_D_acc1 (v := v) (w := w) hD one
    refine ⟨_, hr_in (fb := fb) a1 a2 hL a3 C' V' D' a5 a4, ?_⟩
    intro post h
    exact hx_store0 hc hw hs h
end AD1
theorem i_vc_read {k : Nat} {u : SX} {v : SY} (I : i_Rel k u v) (hk : k + 4 ≤ 2048) (v1 : Int32) (v2 : Int32) : wpX_read (fun r u' => wpY_read (fun r' v' => r' = r ∧ i_Rel (k + 4) u' v') v v1 v2) u v1 v2 := by
  refine hr_el (P := fun u v => wpX_read (fun r u' => wpY_read (fun r' v' => r' = r ∧ i_Rel (k + 4) u' v') v v1 v2) u v1 v2) ?_ I
  intro gt K kn gq ln gm gc gd gx gf gl gs gh go gr gw wo wh rd fb lr st ho va wt sc co fe mo ra ac lo rq yv yr yk ys yp yo yf hH hK hL hB hC hV hD hO hR
  have R : i_Rel (k + 4) ((nI gt), rd, fb, (nI K), (hz_n kn), st, ho, (hz_n gq), (hz_n ln), va, (hz_n gm), (hz_n gc), (hz_n gd), wt, (hz_n gx), (hz_n gf), (hz_n gl), (hz_n gs), sc, co, (hz_n gh), (hz_n go), (hz_n gr), (hz_n gw), fe, mo, ra, ac, lo, rq) ((nI K), rd, lr, (hz_n wo), (hz_n wh), yv, yr, yk, ys, yp, yo, sc, st, yf, ho, (hz_n gq), (hz_n ln), fe, mo, ra, ac, lo, rq) := hr_in hH hK hL hB hC hV hD hO hR
  unfold wpX_read
  rcases hz_may st v1 v2 with hx | ⟨c, w, hc, hw, rfl, rfl, h0⟩
  · refine hx_may_n hx (br_t rfl ?_)
    unfold wpY_read
    rcases hx with z | ⟨m, hm, e, h0, z⟩
    · exact hy_runs_n z (br_t rfl ⟨rfl, R⟩)
    · rw [e]
      exact hy_runs hm h0 (br_f (by decide) (hy_in_n z (br_t rfl ⟨rfl, R⟩)))
  · refine hx_may hc hw h0 (br_f (by decide) ?_)
    have K3 := hH.1
    have Y : ∀ post : Int64 → SY → Prop, _ → wpY_read post ((nI K), rd, lr, (hz_n wo), (hz_n wh), yv, yr, yk, ys, yp, yo, sc, st, yf, ho, (hz_n gq), (hz_n ln), fe, mo, ra, ac, lo, rq) (nI c) (nI w) := fun post h => by
      unfold wpY_read
      exact hy_runs hc h0 (br_f (by decide) (hy_in64 hw (br_f (by decide) h)))
    by_cases e : K = 300
    · have e' : nI K = 300 := (ha_e300 (by omega)).mpr e
      exact br_t e' (Y _ (br_t e' ⟨rfl, R⟩))
    · have e' : ¬ nI K = 300 := fun z => e ((ha_e300 (by omega)).mp z)
      have hK3 : K < 300 := by omega
      refine br_f e' ?_
      obtain ⟨gs', gm', gh', go', va', ys', fe', mo', lo', ra', rq', fb', x5, r1, r2, r3, rX, rY⟩ := hz_acc (gt := gt) (gq := gq) (ln := ln) (rd := rd) (fb := fb) (lr := lr) (b := 0) (x3 := 1) (st := st) (ho := ho) (co := co) (fe := fe) (mo := mo) (ra := ra) (ac := ac) (lo := lo) (rq := rq) (yf := yf) hH hK hC hV hO hR hc hw hK3 (Or.inl rfl)
      refine rX _ ?_
      refine hx_val hc hw (hz_read r2 hD hc hw) ?_
      refine Y _ (br_f e' (rY _ (nm_r (nI_1 K) ⟨vp_in_nI hK3 (by decide), nm_r (e' := upd yv K (hz_val yo yv w (hz_la (hz_pL wh yr ys' sc c w) K))) (by rw [nI_clamp (by omega)]) ⟨rfl, ?_⟩⟩)))
      obtain ⟨a1, a2, a3, a4⟩ := hr_acc (b := 0) (x3 := 1) hH hK hB hR hc hw hK3 h0 (fun _ => by decide)
      obtain ⟨n1, n2⟩ := hz_ns_i (ys := ys') (b := 0) (Or.inl rfl) hK3 hc
      exact hr_in a1 a2 hL a3 (hr_C_acc0 r1 (Or.inl rfl) n1 n2) (hr_V_acc0 r2 (Or.inl rfl) n1) (hr_D_acc0 hD (Or.inl rfl)) r3 a4
theorem i_vc_write {k : Nat} {u : SX} {v : SY} (I : i_Rel k u v) (hk : k + 4 ≤ 2048) (v1 : Int32) (v2 : Int32) (v3 : Int32) : wpX_write (fun r u' => wpY_write (fun r' v' => r' = r ∧ i_Rel (k + 4) u' v') v v1 v2 v3) u v1 v2 v3 := by
  refine hr_el (P := fun u v => wpX_write (fun r u' => wpY_write (fun r' v' => r' = r ∧ i_Rel (k + 4) u' v') v v1 v2 v3) u v1 v2 v3) ?_ I
  intro gt K kn gq ln gm gc gd gx gf gl gs gh go gr gw wo wh rd fb lr st ho va wt sc co fe mo ra ac lo rq yv yr yk ys yp yo yf hH hK hL hB hC hV hD hO hR
  have R : i_Rel (k + 4) ((nI gt), rd, fb, (nI K), (hz_n kn), st, ho, (hz_n gq), (hz_n ln), va, (hz_n gm), (hz_n gc), (hz_n gd), wt, (hz_n gx), (hz_n gf), (hz_n gl), (hz_n gs), sc, co, (hz_n gh), (hz_n go), (hz_n gr), (hz_n gw), fe, mo, ra, ac, lo, rq) ((nI K), rd, lr, (hz_n wo), (hz_n wh), yv, yr, yk, ys, yp, yo, sc, st, yf, ho, (hz_n gq), (hz_n ln), fe, mo, ra, ac, lo, rq) := hr_in hH hK hL hB hC hV hD hO hR
  unfold wpX_write
  rcases hz_may st v1 v2 with hx | ⟨c, w, hc, hw, rfl, rfl, h0⟩
  · refine hx_may_n hx (br_t rfl ?_)
    unfold wpY_write
    rcases hx with z | ⟨m, hm, e, h0, z⟩
    · exact hy_runs_n z (br_t rfl ⟨rfl, R⟩)
    · rw [e]
      exact hy_runs hm h0 (br_f (by decide) (hy_in_n z (br_t rfl ⟨rfl, R⟩)))
  · refine hx_may hc hw h0 (br_f (by decide) ?_)
    have K3 := hH.1
    have Y : ∀ post : Int32 → SY → Prop, _ → wpY_write post ((nI K), rd, lr, (hz_n wo), (hz_n wh), yv, yr, yk, ys, yp, yo, sc, st, yf, ho, (hz_n gq), (hz_n ln), fe, mo, ra, ac, lo, rq) (nI c) (nI w) v3 := fun post h => by
      unfold wpY_write
      exact hy_runs hc h0 (br_f (by decide) (hy_in64 hw (br_f (by decide) h)))
    by_cases e : K = 300
    · have e' : nI K = 300 := (ha_e300 (by omega)).mpr e
      exact br_t e' (Y _ (br_t e' ⟨rfl, R⟩))
    · have e' : ¬ nI K = 300 := fun z => e ((ha_e300 (by omega)).mp z)
      have hK3 : K < 300 := by omega
      refine br_f e' ?_
      obtain ⟨gs', gm', gh', go', va', ys', fe', mo', lo', ra', rq', fb', x5, r1, r2, r3, rX, rY⟩ := hz_acc (gt := gt) (gq := gq) (ln := ln) (rd := rd) (fb := fb) (lr := lr) (b := 1) (x3 := 0) (st := st) (ho := ho) (co := co) (fe := fe) (mo := mo) (ra := ra) (ac := ac) (lo := lo) (rq := rq) (yf := yf) hH hK hC hV hO hR hc hw hK3 (Or.inr rfl)
      obtain ⟨a1, a2, a3, a4⟩ := hr_acc (b := 1) (x3 := 0) hH hK hB hR hc hw hK3 h0 (fun z => absurd z (by decide))
      obtain ⟨u', RR, W⟩ := hz_store (k := k + 4) (rd := rd) (fb := fb') (lr := x5) (v := v3) (fe := fe') (mo := mo') (ra := ra') (ac := upd ac c (ac c + 1)) (lo := lo') (rq := rq') r1 r2 hD a1 a2 hL a3 r3 a4 (by rw [hz_us, hK.2.2.1 c hc]) hK3 hc hw
      refine rX _ (W _ ?_)
      have hy : ∀ r : Int32, (x5 = 0 → r = 0) → (¬ x5 = 0 → r = 1) → wpY_write (fun r' v' => r' = r ∧ i_Rel (k + 4) u' v') ((nI K), rd, lr, (hz_n wo), (hz_n wh), yv, yr, yk, ys, yp, yo, sc, st, yf, ho, (hz_n gq), (hz_n ln), fe, mo, ra, ac, lo, rq) (nI c) (nI w) v3 := by
        intro r q0 q1
        refine Y _ (br_f e' (rY _ (nm_r (nI_1 K) ⟨vp_in_nI hK3 (by decide), nm_r (e' := upd yv K v3) (by rw [nI_clamp (by omega)]) (br_c (fun z => ⟨(q0 z).symm, RR⟩) (fun z => ⟨(q1 z).symm, RR⟩))⟩)))
      exact br_c (fun z => hy 0 (fun _ => rfl) (fun y => absurd z y)) (fun z => hy 1 (fun y => absurd y z) (fun _ => rfl))
theorem i_vc_add {k : Nat} {u : SX} {v : SY} (I : i_Rel k u v) (hk : k + 4 ≤ 2048) (v1 : Int32) (v2 : Int32) (v3 : Int32) : wpX_add (fun r u' => wpY_add (fun r' v' => r' = r ∧ i_Rel (k + 4) u' v') v v1 v2 v3) u v1 v2 v3 := by
  refine hr_el (P := fun u v => wpX_add (fun r u' => wpY_add (fun r' v' => r' = r ∧ i_Rel (k + 4) u' v') v v1 v2 v3) u v1 v2 v3) ?_ I
  intro gt K kn gq ln gm gc gd gx gf gl gs gh go gr gw wo wh rd fb lr st ho va wt sc co fe mo ra ac lo rq yv yr yk ys yp yo yf hH hK hL hB hC hV hD hO hR
  have R : i_Rel (k + 4) ((nI gt), rd, fb, (nI K), (hz_n kn), st, ho, (hz_n gq), (hz_n ln), va, (hz_n gm), (hz_n gc), (hz_n gd), wt, (hz_n gx), (hz_n gf), (hz_n gl), (hz_n gs), sc, co, (hz_n gh), (hz_n go), (hz_n gr), (hz_n gw), fe, mo, ra, ac, lo, rq) ((nI K), rd, lr, (hz_n wo), (hz_n wh), yv, yr, yk, ys, yp, yo, sc, st, yf, ho, (hz_n gq), (hz_n ln), fe, mo, ra, ac, lo, rq) := hr_in hH hK hL hB hC hV hD hO hR
  unfold wpX_add
  rcases hz_may st v1 v2 with hx | ⟨c, w, hc, hw, rfl, rfl, h0⟩
  · refine hx_may_n hx (br_t rfl ?_)
    unfold wpY_add
    rcases hx with z | ⟨m, hm, e, h0, z⟩
    · exact hy_runs_n z (br_t rfl ⟨rfl, R⟩)
    · rw [e]
      exact hy_runs hm h0 (br_f (by decide) (hy_in_n z (br_t rfl ⟨rfl, R⟩)))
  · refine hx_may hc hw h0 (br_f (by decide) ?_)
    have K3 := hH.1
    have Y : ∀ post : Int64 → SY → Prop, _ → wpY_add post ((nI K), rd, lr, (hz_n wo), (hz_n wh), yv, yr, yk, ys, yp, yo, sc, st, yf, ho, (hz_n gq), (hz_n ln), fe, mo, ra, ac, lo, rq) (nI c) (nI w) v3 := fun post h => by
      unfold wpY_add
      exact hy_runs hc h0 (br_f (by decide) (hy_in64 hw (br_f (by decide) h)))
    by_cases e : K = 300
    · have e' : nI K = 300 := (ha_e300 (by omega)).mpr e
      exact br_t e' (Y _ (br_t e' ⟨rfl, R⟩))
    · have e' : ¬ nI K = 300 := fun z => e ((ha_e300 (by omega)).mp z)
      have hK3 : K < 300 := by omega
      refine br_f e' ?_
      obtain ⟨gs', gm', gh', go', va', ys', fe', mo', lo', ra', rq', fb', x5, r1, r2, r3, rX, rY⟩ := hz_acc (gt := gt) (gq := gq) (ln := ln) (rd := rd) (fb := fb) (lr := lr) (b := 1) (x3 := 1) (st := st) (ho := ho) (co := co) (fe := fe) (mo := mo) (ra := ra) (ac := ac) (lo := lo) (rq := rq) (yf := yf) hH hK hC hV hO hR hc hw hK3 (Or.inr rfl)
      obtain ⟨a1, a2, a3, a4⟩ := hr_acc (b := 1) (x3 := 1) hH hK hB hR hc hw hK3 h0 (fun z => absurd z (by decide))
      obtain ⟨u', RR, W⟩ := hz_store (k := k + 4) (rd := rd) (fb := fb') (lr := x5) (v := hz_val yo yv w (hz_la (hz_pL wh yr ys' sc c w) K) + v3) (fe := fe') (mo := mo') (ra := ra') (ac := upd ac c (ac c + 1)) (lo := lo') (rq := rq') r1 r2 hD a1 a2 hL a3 r3 a4 (by rw [hz_us, hK.2.2.1 c hc]) hK3 hc hw
      refine rX _ ?_
      refine hx_val hc hw (hz_read r2 hD hc hw) (W _ ?_)
      exact Y _ (br_f e' (rY _ (nm_r (nI_1 K) ⟨vp_in_nI hK3 (by decide), nm_r (e' := upd yv K (hz_val yo yv w (hz_la (hz_pL wh yr ys' sc c w) K) + v3)) (by rw [nI_clamp (by omega)]) ⟨rfl, RR⟩⟩)))
end
section
/-! AE: tidying -/
def hz_zr (f : Nat → Nat) (t : Nat) : Nat → Nat := fun j => if j < t then 0 else f j
theorem hz_zr0 (f : Nat → Nat) : hz_zr f 0 = f := by
  funext j
  unfold hz_zr
  rw [if_neg (by omega)]
theorem hz_zrs (f : Nat → Nat) (t : Nat) : upd (hz_n (hz_zr f t)) t 0 = hz_n (hz_zr f (t + 1)) := by
  have e : upd (hz_n (hz_zr f t)) t 0 = hz_n (hz_u (hz_zr f t) t 0) := hz_nup _ t 0
  rw [e]
  refine congrArg hz_n ?_
  funext j
  unfold hz_u hz_zr
  by_cases a : j = t
  · rw [if_pos a, if_pos (by omega)]
  · rw [if_neg a]
    by_cases b : j < t
    · rw [if_pos b, if_pos (by omega)]
    · rw [if_neg b, if_neg (by omega)]
theorem hz_zr_y {f : Nat → Nat} {t j : Nat} (h : j < t) : hz_zr f t j = 0 := if_pos h
section XT
variable {th rd fb kp : Int32} {kX st ho ro le va sm wc wd wt nx fi la sn sc co hv ow rA wA fe mo ra ac lo rq : Nat → Int32}
variable {x1 : Int32} {gm gr gw gh go gs gf gl kn : Nat → Nat}
theorem hx_t153 {post : Int32 → SX → Prop} (h : post x1 (th, rd, fb, kp, kX, st, ho, ro, le, va, hz_n (hz_zr gm 256), wc, wd, wt, nx, fi, la, sn, sc, co, hv, ow, hz_n (hz_zr gr 256), hz_n (hz_zr gw 256), fe, mo, ra, ac, lo, rq)) : ∀ (n t : Nat), 256 < n + t → t ≤ 256 →
    wX_tidy_153 post x1 th rd fb kp n (nI t) kX st ho ro le va (hz_n (hz_zr gm t)) wc wd wt nx fi la sn sc co hv ow (hz_n (hz_zr gr t)) (hz_n (hz_zr gw t)) fe mo ra ac lo rq := by
  intro n
  induction n with
  | zero => intro t h1 h2; omega
  | succ n ih =>
    intro t h1 h2
    rw [wX_tidy_153]
    by_cases e : t = 256
    · subst e
      exact br_t (Int32.le_refl _) h
    · have hv : vp_in (nI t) 256 := vp_in_nI (by omega) (by decide)
      refine br_f (nI_ge (b := 256) (by omega) (by decide)) ?_
      rw [nI_clamp (by omega), ha_vs0]
      exact ⟨hv, nm_r (hz_zrs gm t) ⟨hv, nm_r (hz_zrs gr t) ⟨hv, nm_r (hz_zrs gw t) (nm_r (nI_1 t) (ih (t + 1) (by omega) (by omega)))⟩⟩⟩
theorem hx_t125 {post : Int32 → SX → Prop} (h : ∃ n, wX_tidy_153 post x1 th rd fb kp n 0 kX st ho ro le va sm wc wd wt nx fi la sn sc co (hz_n (hz_zr gh 8)) (hz_n (hz_zr go 8)) rA wA fe mo ra ac lo rq) : ∀ (n t : Nat), 8 < n + t → t ≤ 8 →
    wX_tidy_125 post x1 th rd fb kp n (nI t) kX st ho ro le va sm wc wd wt nx fi la sn sc co (hz_n (hz_zr gh t)) (hz_n (hz_zr go t)) rA wA fe mo ra ac lo rq := by
  intro n
  induction n with
  | zero => intro t h1 h2; omega
  | succ n ih =>
    intro t h1 h2
    rw [wX_tidy_125]
    by_cases e : t = 8
    · subst e
      exact br_t (Int32.le_refl _) h
    · have hv : vp_in (nI t) 8 := vp_in_nI (by omega) (by decide)
      refine br_f (nI_ge (b := 8) (by omega) (by decide)) ?_
      rw [nI_clamp (by omega), ha_vb0]
      exact ⟨hv, nm_r (hz_zrs gh t) ⟨hv, nm_r (hz_zrs go t) (nm_r (nI_1 t) (ih (t + 1) (by omega) (by omega)))⟩⟩
theorem hx_t103 {post : Int32 → SX → Prop} (h : ∃ n, wX_tidy_125 post x1 th rd fb kp n 0 kX st ho ro le va sm wc wd wt nx fi la (hz_n (hz_zr gs 128)) sc co hv ow rA wA fe mo ra ac lo rq) : ∀ (n t : Nat), 128 < n + t → t ≤ 128 →
    wX_tidy_103 post x1 th rd fb kp n (nI t) kX st ho ro le va sm wc wd wt nx fi la (hz_n (hz_zr gs t)) sc co hv ow rA wA fe mo ra ac lo rq := by
  intro n
  induction n with
  | zero => intro t h1 h2; omega
  | succ n ih =>
    intro t h1 h2
    rw [wX_tidy_103]
    by_cases e : t = 128
    · subst e
      exact br_t (Int32.le_refl _) h
    · have hv : vp_in (nI t) 128 := vp_in_nI (by omega) (by decide)
      refine br_f (nI_ge (b := 128) (by omega) (by decide)) ?_
      rw [nI_clamp (by omega), ha_vs0]
      exact ⟨hv, nm_r (hz_zrs gs t) (nm_r (nI_1 t) (ih (t + 1) (by omega) (by omega)))⟩
theorem hx_t75 {post : Int32 → SX → Prop} (h : ∃ n, wX_tidy_103 post x1 th rd fb kp n 0 kX st ho ro le va sm wc wd wt nx (hz_n (hz_zr gf 32)) (hz_n (hz_zr gl 32)) sn sc co hv ow rA wA fe mo ra ac lo rq) : ∀ (n t : Nat), 32 < n + t → t ≤ 32 →
    wX_tidy_75 post x1 th rd fb kp n (nI t) kX st ho ro le va sm wc wd wt nx (hz_n (hz_zr gf t)) (hz_n (hz_zr gl t)) sn sc co hv ow rA wA fe mo ra ac lo rq := by
  intro n
  induction n with
  | zero => intro t h1 h2; omega
  | succ n ih =>
    intro t h1 h2
    rw [wX_tidy_75]
    by_cases e : t = 32
    · subst e
      exact br_t (Int32.le_refl _) h
    · have hv : vp_in (nI t) 32 := vp_in_nI (by omega) (by decide)
      refine br_f (nI_ge (b := 32) (by omega) (by decide)) ?_
      rw [nI_clamp (by omega), ha_vs0]
      exact ⟨hv, nm_r (hz_zrs gf t) ⟨hv, nm_r (hz_zrs gl t) (nm_r (nI_1 t) (ih (t + 1) (by omega) (by omega)))⟩⟩
theorem hx_t54 {post : Int32 → SX → Prop} (h : ∃ n, wX_tidy_75 post x1 th rd fb kp n 0 (hz_n (hz_zr kn 36)) st ho ro le va sm wc wd wt nx fi la sn sc co hv ow rA wA fe mo ra ac lo rq) : ∀ (n t : Nat), 36 < n + t → t ≤ 36 →
    wX_tidy_54 post x1 th rd fb kp n (nI t) (hz_n (hz_zr kn t)) st ho ro le va sm wc wd wt nx fi la sn sc co hv ow rA wA fe mo ra ac lo rq := by
  intro n
  induction n with
  | zero => intro t h1 h2; omega
  | succ n ih =>
    intro t h1 h2
    rw [wX_tidy_54]
    by_cases e : t = 36
    · subst e
      exact br_t (Int32.le_refl _) h
    · have hv : vp_in (nI t) 36 := vp_in_nI (by omega) (by decide)
      refine br_f (nI_ge (b := 36) (by omega) (by decide)) ?_
      rw [nI_clamp (by omega), ha_vs0]
      exact ⟨hv, nm_r (hz_zrs kn t) (nm_r (nI_1 t) (ih (t + 1) (by omega) (by omega)))⟩
/-- all that is kept of accesses is put to nothing -/
theorem hx_reset {post : Int32 → SX → Prop} (h : post x1 (th, rd, fb, kp, hz_n (hz_zr kn 36), st, ho, ro, le, va, hz_n (hz_zr gm 256), wc, wd, wt, nx, hz_n (hz_zr gf 32), hz_n (hz_zr gl 32), hz_n (hz_zr gs 128), sc, co, hz_n (hz_zr gh 8), hz_n (hz_zr go 8), hz_n (hz_zr gr 256), hz_n (hz_zr gw 256), fe, mo, ra, ac, lo, rq)) :
    ∃ n, wX_tidy_54 post x1 th rd fb kp n 0 (hz_n kn) st ho ro le va (hz_n gm) wc wd wt nx (hz_n gf) (hz_n gl) (hz_n gs) sc co (hz_n gh) (hz_n go) (hz_n gr) (hz_n gw) fe mo ra ac lo rq := by
  have H153 := hx_t153 h 257 0 (by omega) (by omega)
  rw [hz_zr0, hz_zr0, hz_zr0] at H153
  have H125 := hx_t125 ⟨257, H153⟩ 9 0 (by omega) (by omega)
  rw [hz_zr0, hz_zr0] at H125
  have H103 := hx_t103 ⟨9, H125⟩ 129 0 (by omega) (by omega)
  rw [hz_zr0] at H103
  have H75 := hx_t75 ⟨129, H103⟩ 33 0 (by omega) (by omega)
  rw [hz_zr0, hz_zr0] at H75
  have H54 := hx_t54 ⟨33, H75⟩ 37 0 (by omega) (by omega)
  rw [hz_zr0] at H54
  exact ⟨37, H54⟩
theorem hx_all9 {post : Int32 → Prop} {J2 : Int32 → Prop} {m : Nat} (hm : m < 4) (hb : ∀ j, kn j ≤ 300) (h0 : (¬ ∀ o, o < 4 → kn (4 * m + o) = kn (5 * o)) → post 0) (h1 : (∀ o, o < 4 → kn (4 * m + o) = kn (5 * o)) → J2 (nI (m + 1))) : ∀ (n o : Nat), 4 < n + o → o ≤ 4 → (∀ q, q < o → kn (4 * m + q) = kn (5 * q)) →
    wX_isAllKnown_9 post J2 (nI m) th rd fb kp (hz_n kn) st ho ro le va sm wc wd wt nx fi la sn sc co hv ow rA wA fe mo ra ac lo rq n (nI o) := by
  intro n
  induction n with
  | zero => intro t h1 h2; omega
  | succ n ih =>
    intro o n1 n2 hq
    rw [wX_isAllKnown_9]
    by_cases e : o = 4
    · subst e
      exact br_t (Int32.le_refl _) (nm_r (nI_1 m) (h1 hq))
    · have b1 := hb (4 * m + o)
      have b2 := hb (5 * o)
      refine br_f (nI_ge (b := 4) (by omega) (by decide)) ?_
      rw [ha_m4, ha_m5, nI_add, nI_clamp (by omega), nI_clamp (by omega), hz_na, hz_na]
      refine ⟨vp_in_nI (by omega) (by decide), vp_in_nI (by omega) (by decide), ?_⟩
      by_cases z : kn (4 * m + o) = kn (5 * o)
      · refine br_t (by rw [z]) (nm_r (nI_1 o) (ih (o + 1) (by omega) (by omega) ?_))
        intro q hq'
        by_cases eq : q = o
        · rw [eq]; exact z
        · exact hq q (by omega)
      · exact br_f (fun y => z ((nI_eq (by omega) (by omega)).mp y)) (h0 (fun y => z (y o (by omega))))
theorem hx_all2 {post : Int32 → Prop} (hb : ∀ j, kn j ≤ 300) (h0 : (¬ ∀ m o, m < 4 → o < 4 → kn (4 * m + o) = kn (5 * o)) → post 0) (h1 : (∀ m o, m < 4 → o < 4 → kn (4 * m + o) = kn (5 * o)) → post 1) : ∀ (n m : Nat), 4 < n + m → m ≤ 4 → (∀ q o, q < m → o < 4 → kn (4 * q + o) = kn (5 * o)) →
    wX_isAllKnown_2 post th rd fb kp (hz_n kn) st ho ro le va sm wc wd wt nx fi la sn sc co hv ow rA wA fe mo ra ac lo rq n (nI m) := by
  intro n
  induction n with
  | zero => intro t h1 h2; omega
  | succ n ih =>
    intro m n1 n2 hq
    rw [wX_isAllKnown_2]
    by_cases e : m = 4
    · subst e
      exact br_t (Int32.le_refl _) (h1 hq)
    · refine br_f (nI_ge (b := 4) (by omega) (by decide)) (Exists.intro 5 ?_)
      refine hx_all9 (by omega) hb (fun z => h0 (fun y => z (fun o ho => y m o (by omega) ho))) ?_ 5 0 (by omega) (by omega) (fun q hq => by omega)
      intro z
      refine ih (m + 1) (by omega) (by omega) ?_
      intro q o h1' h2'
      by_cases eq : q = m
      · rw [eq]; exact z o h2'
      · exact hq q o (by omega) h2'
theorem hx_all {post : Int32 → Prop} (hb : ∀ j, kn j ≤ 300) (h0 : (¬ ∀ m o, m < 4 → o < 4 → kn (4 * m + o) = kn (5 * o)) → post 0) (h1 : (∀ m o, m < 4 → o < 4 → kn (4 * m + o) = kn (5 * o)) → post 1) : wpX_isAllKnown post (th, rd, fb, kp, hz_n kn, st, ho, ro, le, va, sm, wc, wd, wt, nx, fi, la, sn, sc, co, hv, ow, rA, wA, fe, mo, ra, ac, lo, rq) := by
  unfold wpX_isAllKnown
  exact Exists.intro 5 (hx_all2 hb h0 h1 5 0 (by omega) (by omega) (fun q o hq => by omega))
end XT
section XT2
variable {th rd kp : Int32} {st ho ro le wt la sc co hv ow rA wA fe mo ra ac lo rq : Nat → Int32}
variable {K : Nat} {wo wh kn gc gd gx gf gl : Nat → Nat} {yr yv yo : Nat → Int32}
theorem hx_t18 {m : Nat} (hwo : ∀ i, wo i < 4) (hwh : ∀ i, wh i < 64) (hK : K ≤ 300) (hb : ∀ j, kn j ≤ 300) (hm : m < 4) : ∀ (e p : Nat), p + e = 8 → ∀ (gs gm : Nat → Nat) (va : Nat → Int32) (fb : Int32) (S : Nat → Nat → Prop),
    hr_C K wo wh yr sc yv gc gd wt gx gf gl gs S → hr_V K wh yr sc yv yo gm va S →
    ∃ (gs' gm' : Nat → Nat) (va' : Nat → Int32) (fb' : Int32) (S' : Nat → Nat → Prop), hr_C K wo wh yr sc yv gc gd wt gx gf gl gs' S' ∧ hr_V K wh yr sc yv yo gm' va' S' ∧
      (∀ m' j, j < K → S m' j → S' m' j) ∧ (∀ j, j < K → p ≤ wh j / 8 → ¬ yr j = 0 → sc (wh j / 8) = 0 → hz_kw kn wo m j → S' m j) ∧
      ∀ (post : Int32 → SX → Prop) (J11 : Int32 → Int32 → Int32 → Int32 → Int32 → (Nat → Int32) → (Nat → Int32) → (Nat → Int32) → (Nat → Int32) → (Nat → Int32) → (Nat → Int32) → (Nat → Int32) → (Nat → Int32) → (Nat → Int32) → (Nat → Int32) → (Nat → Int32) → (Nat → Int32) → (Nat → Int32) → (Nat → Int32) → (Nat → Int32) → (Nat → Int32) → (Nat → Int32) → (Nat → Int32) → (Nat → Int32) → (Nat → Int32) → (Nat → Int32) → (Nat → Int32) → (Nat → Int32) → (Nat → Int32) → (Nat → Int32) → (Nat → Int32) → Prop) (n : Nat), e < n →
        J11 (nI (m + 1)) th rd fb' kp (hz_n kn) st ho ro le va' (hz_n gm') (hz_n gc) (hz_n gd) wt (hz_n gx) (hz_n gf) la (hz_n gs') sc co hv ow rA wA fe mo ra ac lo rq →
        wX_tidy_18 post J11 (nI m) n (nI p) th rd fb kp (hz_n kn) st ho ro le va (hz_n gm) (hz_n gc) (hz_n gd) wt (hz_n gx) (hz_n gf) la (hz_n gs) sc co hv ow rA wA fe mo ra ac lo rq := by
  intro e
  induction e with
  | zero =>
    intro p hp gs gm va fb S hC hV
    have ep : p = 8 := by omega
    subst ep
    refine ⟨gs, gm, va, fb, S, hC, hV, fun _ _ _ z => z, ?_, ?_⟩
    · intro j hj h8
      have := hwh j
      omega
    · intro post J11 n hn h
      obtain ⟨n, rfl⟩ : ∃ n', n = n' + 1 := ⟨n - 1, by omega⟩
      rw [wX_tidy_18]
      exact br_t (Int32.le_refl _) (nm_r (nI_1 m) h)
  | succ e ih =>
    intro p hp gs gm va fb S hC hV
    obtain ⟨gs1, gm1, va1, g1, S1, s1, s2, s3, s4, s5, s6⟩ := hx_bring (th := th) (rd := rd) (fb := fb) (kp := kp) (st := st) (ho := ho) (ro := ro) (le := le) (la := la) (co := co) (hv := hv) (ow := ow) (rA := rA) (wA := wA) (fe := fe) (mo := mo) (ra := ra) (ac := ac) (lo := lo) (rq := rq) hwo hwh hK hb hm (show p < 8 from by omega) hC hV
    obtain ⟨gs', gm', va', fb', S', r1, r2, r3, r4, r5⟩ := ih (p + 1) (by omega) gs1 gm1 va1 (nI g1) S1 s1 s2
    refine ⟨gs', gm', va', fb', S', r1, r2, ?_, ?_, ?_⟩
    · intro m' j hj z
      exact r3 m' j hj ((s4 m' j hj).mpr (Or.inl z))
    · intro j hj h8 hy hs hkw
      by_cases ep : wh j / 8 = p
      · refine r3 m j hj ((s4 m j hj).mpr ?_)
        rcases Classical.em (S m j) with z | z
        · exact Or.inl z
        · rw [ep] at hs
          exact Or.inr ⟨rfl, ep, hy, hs, hkw, z⟩
      · exact r4 j hj (by omega) hy hs hkw
    · intro post J11 n hn h
      obtain ⟨n, rfl⟩ : ∃ n', n = n' + 1 := ⟨n - 1, by omega⟩
      rw [wX_tidy_18]
      exact br_f (nI_ge (b := 8) (by omega) (by decide)) (s6 _ (nm_r (nI_1 p) (r5 post J11 n (by omega) h)))
theorem hx_t11 (hwo : ∀ i, wo i < 4) (hwh : ∀ i, wh i < 64) (hK : K ≤ 300) (hb : ∀ j, kn j ≤ 300) : ∀ (e m : Nat), m + e = 4 → ∀ (gs gm : Nat → Nat) (va : Nat → Int32) (fb : Int32) (S : Nat → Nat → Prop),
    hr_C K wo wh yr sc yv gc gd wt gx gf gl gs S → hr_V K wh yr sc yv yo gm va S →
    ∃ (gs' gm' : Nat → Nat) (va' : Nat → Int32) (fb' : Int32) (S' : Nat → Nat → Prop), hr_C K wo wh yr sc yv gc gd wt gx gf gl gs' S' ∧ hr_V K wh yr sc yv yo gm' va' S' ∧
      (∀ m' j, j < K → S m' j → S' m' j) ∧ (∀ m' j, m' < 4 → m ≤ m' → j < K → ¬ yr j = 0 → sc (wh j / 8) = 0 → hz_kw kn wo m' j → S' m' j) ∧
      ∀ (post : Int32 → SX → Prop) (n : Nat), e < n →
        (∃ n54, wX_tidy_54 post kp th rd fb' 0 n54 0 (hz_n kn) st ho ro le va' (hz_n gm') (hz_n gc) (hz_n gd) wt (hz_n gx) (hz_n gf) la (hz_n gs') sc co hv ow rA wA fe mo ra ac lo rq) →
        wX_tidy_11 post n (nI m) th rd fb kp (hz_n kn) st ho ro le va (hz_n gm) (hz_n gc) (hz_n gd) wt (hz_n gx) (hz_n gf) la (hz_n gs) sc co hv ow rA wA fe mo ra ac lo rq := by
  intro e
  induction e with
  | zero =>
    intro m hm gs gm va fb S hC hV
    have em : m = 4 := by omega
    subst em
    refine ⟨gs, gm, va, fb, S, hC, hV, fun _ _ _ z => z, ?_, ?_⟩
    · intro m' j h1 h2
      omega
    · intro post n hn h
      obtain ⟨n, rfl⟩ : ∃ n', n = n' + 1 := ⟨n - 1, by omega⟩
      rw [wX_tidy_11]
      exact br_t (Int32.le_refl _) h
  | succ e ih =>
    intro m hm gs gm va fb S hC hV
    obtain ⟨gs1, gm1, va1, fb1, S1, s1, s2, s3, s4, s5⟩ := hx_t18 (th := th) (rd := rd) (kp := kp) (st := st) (ho := ho) (ro := ro) (le := le) (la := la) (co := co) (hv := hv) (ow := ow) (rA := rA) (wA := wA) (fe := fe) (mo := mo) (ra := ra) (ac := ac) (lo := lo) (rq := rq) (m := m) hwo hwh hK hb (by omega) 8 0 rfl gs gm va fb S hC hV
    obtain ⟨gs', gm', va', fb', S', r1, r2, r3, r4, r5⟩ := ih (m + 1) (by omega) gs1 gm1 va1 fb1 S1 s1 s2
    refine ⟨gs', gm', va', fb', S', r1, r2, ?_, ?_, ?_⟩
    · intro m' j hj z
      exact r3 m' j hj (s3 m' j hj z)
    · intro m' j h1 h2 hj hy hs hkw
      by_cases em : m' = m
      · rw [em] at hkw ⊢
        exact r3 m j hj (s4 j hj (Nat.zero_le _) hy hs hkw)
      · exact r4 m' j h1 (by omega) hj hy hs hkw
    · intro post n hn h
      obtain ⟨n, rfl⟩ : ∃ n', n = n' + 1 := ⟨n - 1, by omega⟩
      rw [wX_tidy_11]
      exact br_f (nI_ge (b := 4) (by omega) (by decide)) (Exists.intro 9 (s5 post _ 9 (by omega) (r5 post n (by omega) h)))
end XT2
noncomputable def hz_yo (yo yv : Nat → Int32) (wh : Nat → Nat) (yr : Nat → Int32) (i : Nat) : Nat → Int32 := fun w => hz_val yo yv w (hz_la (hz_W wh yr w) i)
theorem hz_yo_0 (yo yv : Nat → Int32) (wh : Nat → Nat) (yr : Nat → Int32) : hz_yo yo yv wh yr 0 = yo := rfl
theorem hz_yo_n {yo yv yr : Nat → Int32} {wh : Nat → Nat} {i : Nat} (h : yr i = 0) : hz_yo yo yv wh yr i = hz_yo yo yv wh yr (i + 1) := by
  funext w
  unfold hz_yo
  rw [hz_la_n (P := hz_W wh yr w) (fun z => z.2 h)]
theorem hz_yo_y {yo yv yr : Nat → Int32} {wh : Nat → Nat} {i : Nat} (h : ¬ yr i = 0) : upd (hz_yo yo yv wh yr i) (wh i) (yv i) = hz_yo yo yv wh yr (i + 1) := by
  funext w
  by_cases e : w = wh i
  · rw [e, pk_us]
    unfold hz_yo
    rw [hz_la_y (P := hz_W wh yr (wh i)) ⟨rfl, h⟩, hz_val_s]
  · rw [pk_un e]
    unfold hz_yo
    rw [hz_la_n (P := hz_W wh yr w) (fun z => e z.1.symm)]
section YT
variable {kp rd lr : Int32} {yw yh yv yr yk ys yp yo sc st yf ho ro le fe mo ra ac lo rq : Nat → Int32}
variable {K : Nat} {wh : Nat → Nat}
theorem hy_t48 {post : Int32 → SY → Prop} (hwh : ∀ i, wh i < 64) (hK : K ≤ 300) (h : post (nI K) (0, rd, lr, yw, hz_n wh, yv, yr, yk, ys, yp, hz_yo yo yv wh yr K, sc, st, yf, ho, ro, le, fe, mo, ra, ac, lo, rq)) : ∀ (n i : Nat), K < n + i → i ≤ K →
    wY_tidy_48 post (nI K) rd lr n (nI i) yw (hz_n wh) yv yr yk ys yp (hz_yo yo yv wh yr i) sc st yf ho ro le fe mo ra ac lo rq := by
  intro n
  induction n with
  | zero => intro t h1 h2; omega
  | succ n ih =>
    intro i h1 h2
    by_cases e : i = K
    · subst e
      rw [wY_tidy_48]
      exact br_t (Int32.le_refl _) h
    · have iK : ¬ K ≤ i := by omega
      have hwi := hwh i
      have IH := ih (i + 1) (by omega) (by omega)
      by_cases z : yr i = 0
      · rw [← hz_yo_n z] at IH
        simp (disch := omega) only [wY_tidy_48, iK, z, forall_eq, nI_leI, nI_ltI, nI_eq, vp_in_nI, nI_clamp, nI_add, nI_1, hz_na, hz_nup, true_implies, forall_const, not_true_eq_false, not_false_eq_true, false_implies, and_true, true_and, implies_true, and_self, if_true, if_false, ite_true, ite_false, reduceIte, ha_m4, ha_m8, ha_m5, ha_m32, ha_m64, ha_m300, ha_a4, ha_a16, ha_a300, ha_a600, ha_a900, ha_p8, ha_l4, ha_l5, ha_l8, ha_l32, ha_l36, ha_l64, ha_l128, ha_l256, ha_le7, ha_7lt, ha_e0, ha_e1, ha_e2, ha_e300, ha_le0, ha_lt0, ha_0le, ha_d8, ha_s1, ha_80, ha_10]
        exact IH
      · rw [← hz_yo_y z] at IH
        simp (disch := omega) only [wY_tidy_48, iK, z, forall_eq, nI_leI, nI_ltI, nI_eq, vp_in_nI, nI_clamp, nI_add, nI_1, hz_na, hz_nup, true_implies, forall_const, not_true_eq_false, not_false_eq_true, false_implies, and_true, true_and, implies_true, and_self, if_true, if_false, ite_true, ite_false, reduceIte, ha_m4, ha_m8, ha_m5, ha_m32, ha_m64, ha_m300, ha_a4, ha_a16, ha_a300, ha_a600, ha_a900, ha_p8, ha_l4, ha_l5, ha_l8, ha_l32, ha_l36, ha_l64, ha_l128, ha_l256, ha_le7, ha_7lt, ha_e0, ha_e1, ha_e2, ha_e300, ha_le0, ha_lt0, ha_0le, ha_d8, ha_s1, ha_80, ha_10]
        exact IH
theorem hy_t9 {post : Int32 → SY → Prop} {J2 : Int32 → Prop} {m : Nat} (hm : m < 4) (hK : K ≤ 300) (h0 : (¬ ∀ i, i < K → ¬ yk (300 * m + i) = 0) → post (-1) (nI K, rd, lr, yw, yh, yv, yr, yk, ys, yp, yo, sc, st, yf, ho, ro, le, fe, mo, ra, ac, lo, rq)) (h1 : (∀ i, i < K → ¬ yk (300 * m + i) = 0) → J2 (nI (m + 1))) : ∀ (n i : Nat), K < n + i → i ≤ K → (∀ q, q < i → ¬ yk (300 * m + q) = 0) →
    wY_tidy_9 post J2 (nI m) (nI K) rd lr yw yh yv yr yk ys yp yo sc st yf ho ro le fe mo ra ac lo rq n (nI i) := by
  intro n
  induction n with
  | zero => intro t h1 h2; omega
  | succ n ih =>
    intro i n1 n2 hq
    rw [wY_tidy_9]
    by_cases e : i = K
    · subst e
      exact br_t (Int32.le_refl _) (nm_r (nI_1 m) (h1 hq))
    · refine br_f (nI_ge (by omega) (by omega)) ?_
      rw [ha_m300, nI_add, nI_clamp (by omega)]
      refine ⟨vp_in_nI (by omega) (by decide), br_c (fun z => h0 (fun y => y i (by omega) z)) (fun z => nm_r (nI_1 i) (ih (i + 1) (by omega) (by omega) ?_))⟩
      intro q hq'
      by_cases eq : q = i
      · rw [eq]; exact z
      · exact hq q (by omega)
theorem hy_t2 {post : Int32 → SY → Prop} (hK : K ≤ 300) (h0 : (¬ ∀ m i, m < 4 → i < K → ¬ yk (300 * m + i) = 0) → post (-1) (nI K, rd, lr, yw, yh, yv, yr, yk, ys, yp, yo, sc, st, yf, ho, ro, le, fe, mo, ra, ac, lo, rq)) (h1 : (∀ m i, m < 4 → i < K → ¬ yk (300 * m + i) = 0) → ∃ n, wY_tidy_48 post (nI K) rd lr n 0 yw yh yv yr yk ys yp yo sc st yf ho ro le fe mo ra ac lo rq) : ∀ (n m : Nat), 4 < n + m → m ≤ 4 → (∀ q i, q < m → i < K → ¬ yk (300 * q + i) = 0) →
    wY_tidy_2 post (nI K) rd lr yw yh yv yr yk ys yp yo sc st yf ho ro le fe mo ra ac lo rq n (nI m) := by
  intro n
  induction n with
  | zero => intro t h1 h2; omega
  | succ n ih =>
    intro m n1 n2 hq
    rw [wY_tidy_2]
    by_cases e : m = 4
    · subst e
      exact br_t (Int32.le_refl _) (h1 hq)
    · refine br_f (nI_ge (b := 4) (by omega) (by decide)) (Exists.intro (K + 1) ?_)
      refine hy_t9 (by omega) hK (fun z => h0 (fun y => z (fun i hi => y m i (by omega) hi))) ?_ (K + 1) 0 (by omega) (by omega) (fun q hq => by omega)
      intro z
      refine ih (m + 1) (by omega) (by omega) ?_
      intro q i h1' h2'
      by_cases eq : q = m
      · rw [eq]; exact z i h2'
      · exact hq q i (by omega) h2'
end YT
theorem hr_K0b {wo kn : Nat → Nat} {yk yp : Nat → Int32} (h : ∀ j, j < 36 → kn j = 0) (hb : ∀ j, kn j ≤ 300) : hr_K 0 wo kn yk yp := by
  refine ⟨hb, fun x o hx ho => by rw [h _ (by omega)]; omega, fun o ho => by rw [h _ (by omega)]; rfl, fun m i _ hi => by omega, fun m i _ hi => by omega⟩
theorem i_vc_tidy {k : Nat} {u : SX} {v : SY} (I : i_Rel k u v) (hk : k + 4 ≤ 2048) : wpX_tidy (fun r u' => wpY_tidy (fun r' v' => r' = r ∧ i_Rel (k + 4) u' v') v) u := by
  refine hr_el (P := fun u v => wpX_tidy (fun r u' => wpY_tidy (fun r' v' => r' = r ∧ i_Rel (k + 4) u' v') v) u) ?_ I
  intro gt K kn gq ln gm gc gd gx gf gl gs gh go gr gw wo wh rd fb lr st ho va wt sc co fe mo ra ac lo rq yv yr yk ys yp yo yf hH hK hL hB hC hV hD hO hR
  have all := hr_K_all hH.2.1 hK
  unfold wpX_tidy
  refine hx_all hK.1 ?_ ?_
  · intro z
    refine br_t rfl ?_
    unfold wpY_tidy
    refine Exists.intro 5 (hy_t2 hH.1 (fun _ => ⟨rfl, hr_in hH hK hL hB hC hV hD hO hR⟩) (fun y => absurd (all.mpr y) z) 5 0 (by omega) (by omega) (fun q i hq => by omega))
  · intro z
    have zy := all.mp z
    refine br_f (by decide) ?_
    obtain ⟨gs', gm', va', fb', S', r1, r2, r3, r4, r5⟩ := hx_t11 (th := nI gt) (rd := rd) (kp := nI K) (st := st) (ho := ho) (ro := hz_n gq) (le := hz_n ln) (la := hz_n gl) (co := co) (hv := hz_n gh) (ow := hz_n go) (rA := hz_n gr) (wA := hz_n gw) (fe := fe) (mo := mo) (ra := ra) (ac := ac) (lo := lo) (rq := rq) hH.2.1 hH.2.2 hH.1 hK.1 4 0 rfl gs gm va fb _ hC hV
    refine Exists.intro 5 (r5 _ 5 (by omega) (hx_reset ?_))
    unfold wpY_tidy
    refine Exists.intro 5 (hy_t2 hH.1 (fun y => absurd zy y) (fun _ => Exists.intro (K + 1) ?_) 5 0 (by omega) (by omega) (fun q i hq => by omega))
    refine hy_t48 hH.2.2 hH.1 ⟨rfl, ?_⟩ (K + 1) 0 (by omega) (by omega)
    have H' : hr_H 0 wo wh := ⟨by omega, hH.2.1, hH.2.2⟩
    have K' : hr_K 0 wo (hz_zr kn 36) yk yp := hr_K0b (fun j hj => hz_zr_y hj) (fun j => by
      have := hK.1 j
      unfold hz_zr
      split <;> omega)
    have B' : hr_B gt st (hz_zr kn 36) := ⟨hB.1, hB.2.1, fun m hm _ => by rw [hz_zr_y (by omega), hz_zr_y (by omega)]⟩
    have C' : hr_C 0 wo wh yr sc yv gc gd wt gx (hz_zr gf 32) (hz_zr gl 32) (hz_zr gs' 128) (hz_S ys) := hr_C0 (fun j hj => hz_zr_y hj) (fun j hj => hz_zr_y hj) (fun j hj => hz_zr_y hj)
    have V' : hr_V 0 wh yr sc yv (hz_yo yo yv wh yr K) (hz_zr gm' 256) va' (hz_S ys) := by
      refine hr_V0 (fun j hj => hz_zr_y hj) ?_
      intro m w hm hw hs
      rw [r2.2 m w hm hw hs, r2.1 m w hm hw]
      unfold hz_yo
      refine congrArg _ (hz_la_congr (fun i hi => ?_))
      unfold hz_Q hz_W
      constructor
      · rintro ⟨a1, a2, a3, a4⟩
        exact ⟨a1, a2⟩
      · rintro ⟨a1, a2⟩
        refine ⟨a1, a2, hs, r4 m i hm (Nat.zero_le _) hi a2 (by rw [a1]; exact hs) ?_⟩
        exact (hz_B1 (hK.2.2.2.1 m i hm hi)).mp (zy m i hm hi)
    have D' : hr_D 0 wh yr sc yv (hz_yo yo yv wh yr K) co := hr_D0 hD.1 (fun w hw hs => hD.2 w hw hs)
    exact hr_in (K := 0) H' K' hL B' C' V' D' (hr_O0 (fun p hp => ⟨hz_zr_y hp, hz_zr_y hp⟩)) (hr_R0 (fun j hj => ⟨hz_zr_y hj, hz_zr_y hj⟩))
end
