section
/-! rows pasted from kit/rows (PURE-ROWS, BITS) -/
theorem pk_us {f : Nat → Int32} {k : Nat} {x : Int32} : upd f k x k = x := if_pos rfl
theorem pk_un {f : Nat → Int32} {k j : Nat} {x : Int32} (h : j ≠ k) : upd f k x j = f j := if_neg h
theorem pk_uLs {f : Nat → Int64} {k : Nat} {x : Int64} : vp_updL f k x k = x := if_pos rfl
theorem pk_uLn {f : Nat → Int64} {k j : Nat} {x : Int64} (h : j ≠ k) : vp_updL f k x j = f j := if_neg h
theorem pk_sub {a b : Nat} (h : b ≤ a) : nI a - nI b = nI (a - b) := by
  obtain ⟨c, rfl⟩ : ∃ c, a = c + b := ⟨a - b, by omega⟩
  rw [← nI_add, Int32.add_sub_cancel, Nat.add_sub_cancel]
theorem pk_sub_toInt {a b : Nat} (ha : a < 2 ^ 30) (hb : b < 2 ^ 30) : (nI a - nI b).toInt = (a : Int) - b := by
  rw [Int32.toInt_sub, nI_toInt (by omega), nI_toInt (by omega)]
  exact Int.bmod_eq_of_le (by omega) (by omega)
theorem pk_sneg {a b : Nat} (hb : b < 2 ^ 30) (h : a < b) : nI a - nI b < 0 := by
  rw [Int32.lt_iff_toInt_lt, pk_sub_toInt (by omega) hb, show (0 : Int32).toInt = 0 from by decide]
  omega
theorem pk_mul (a b : Nat) : nI a * nI b = nI (a * b) := (Int32.ofNat_mul a b).symm
theorem pk_in {x : Int32} (n N : Nat) (h : n < N) (hx : x = nI n := by rfl) (hN : N < 2 ^ 31 := by omega) : vp_in x N := by
  subst hx
  exact vp_in_nI h hN
theorem pk_cl {x : Int32} (n : Nat) (hx : x = nI n := by rfl) (h : n < 2 ^ 31 := by omega) : x.toNatClampNeg = n := by
  subst hx
  exact nI_clamp h
theorem pk_tn {n : Nat} (h : n < 2 ^ 32) : (nI n).toBitVec.toNat = n := Nat.mod_eq_of_lt h
theorem pk_and (x : Int32) {m : Int32} (k : Nat) (hm : m.toBitVec.toNat = 2 ^ k - 1) : x &&& m = nI (x.toBitVec.toNat % 2 ^ k) := by
  apply Int32.toBitVec_inj.mp
  apply BitVec.eq_of_toNat_eq
  rw [Int32.toBitVec_and, BitVec.toNat_and, hm, Nat.and_two_pow_sub_one_eq_mod]
  show _ = (BitVec.ofNat 32 _).toNat
  rw [BitVec.toNat_ofNat]
  exact (Nat.mod_eq_of_lt (Nat.lt_of_le_of_lt (Nat.mod_le _ _) x.toBitVec.isLt)).symm
theorem pk_andN {n : Nat} (h : n < 2 ^ 32) {m : Int32} (k : Nat) (hm : m.toBitVec.toNat = 2 ^ k - 1) : nI n &&& m = nI (n % 2 ^ k) := by
  rw [pk_and _ k hm, pk_tn h]
theorem pk_andE (x : Int32) {m : Int32} (k : Nat) (hm : m.toBitVec.toNat = 2 ^ k - 1) : ∃ j : Nat, j < 2 ^ k ∧ x &&& m = nI j := ⟨_, Nat.mod_lt _ (Nat.two_pow_pos k), pk_and x k hm⟩
theorem pk_shl (a s : Int32) (k : Nat) (hs : (s.toBitVec.smod 32).toNat = k) : (a <<< s).toBitVec.toNat = a.toBitVec.toNat * 2 ^ k % 2 ^ 32 := by
  show (a.toBitVec <<< (s.toBitVec.smod 32).toNat).toNat = _
  rw [hs, BitVec.toNat_shiftLeft, Nat.shiftLeft_eq]
theorem pk_shlN {n : Nat} (s : Int32) (k : Nat) (hs : (s.toBitVec.smod 32).toNat = k) (h : n * 2 ^ k < 2 ^ 32) : nI n <<< s = nI (n * 2 ^ k) := by
  apply Int32.toBitVec_inj.mp
  apply BitVec.eq_of_toNat_eq
  have hn : n < 2 ^ 32 := Nat.lt_of_le_of_lt (Nat.le_mul_of_pos_right n (Nat.two_pow_pos k)) h
  rw [pk_shl _ _ k hs, pk_tn hn, pk_tn h, Nat.mod_eq_of_lt h]
theorem pk_shr (a s : Int32) (k : Nat) (hs : (s.toBitVec.smod 32).toNat = k) : (a >>> s).toInt = a.toInt >>> k := by
  show (a.toBitVec.sshiftRight (s.toBitVec.smod 32).toNat).toInt = _
  rw [hs, BitVec.toInt_sshiftRight]
  rfl
theorem pk_shrN {n : Nat} (h : n < 2 ^ 31) (s : Int32) (k : Nat) (hs : (s.toBitVec.smod 32).toNat = k) : nI n >>> s = nI (n / 2 ^ k) := by
  apply Int32.toInt_inj.mp
  have h2 : n / 2 ^ k ≤ n := Nat.div_le_self _ _
  rw [pk_shr _ _ k hs, nI_toInt h, nI_toInt (by omega), Int.shiftRight_eq_div_pow]
  rfl
theorem pk_charN {q : Nat} (hq : q < 65536) : narrow .char (.int (nI q)) = .int (nI q) ∧ fits .char (.int (nI q)) = true := by
  constructor
  · have e : (nI q).toUInt32.toUInt16.toUInt32.toInt32 = nI q := by
      apply Int32.toBitVec_inj.mp
      apply BitVec.eq_of_toNat_eq
      show (nI q).toUInt32.toUInt16.toUInt32.toNat = q % 2 ^ 32
      rw [UInt16.toNat_toUInt32, UInt32.toNat_toUInt16, show (nI q).toUInt32.toNat = q % 2 ^ 32 from rfl]
      omega
    exact congrArg Value.int e
  · have a : (0 : Int32) ≤ nI q := nI_pos' (by omega)
    have b : nI q ≤ 65535 := nI_le (b := 65535) (by omega) (by decide)
    show (decide ((0 : Int32) ≤ nI q) && decide (nI q ≤ 65535)) = true
    rw [decide_eq_true a, decide_eq_true b]
    rfl
theorem pk_char (x : Int32) : (x.toUInt32 % 65536).toInt32 = nI (x.toBitVec.toNat % 65536) := by
  apply Int32.toBitVec_inj.mp
  apply BitVec.eq_of_toNat_eq
  rw [pk_tn (by omega)]
  show (x.toUInt32 % 65536).toNat = _
  rw [UInt32.toNat_mod]
  rfl
theorem pk_nc (x : Int32) : narrow .char (.int (x.toUInt32 % 65536).toInt32) = .int (x.toUInt32 % 65536).toInt32 := by
  rw [pk_char]
  exact (pk_charN (Nat.mod_lt _ (by decide))).1
theorem pk_vb (z : Int32) : vp_nar .byte z.toInt8.toInt32 = z.toInt8.toInt32 := by rw [vp_nar_byte]; simp
theorem pk_vs (z : Int32) : vp_nar .short z.toInt16.toInt32 = z.toInt16.toInt32 := by rw [vp_nar_short]; simp
theorem pk_vc (z : Int32) : vp_nar .char (z.toUInt32 % 65536).toInt32 = (z.toUInt32 % 65536).toInt32 := Value.int.inj (pk_nc z)
theorem bp_b (x : Int32) : x.toInt8.toInt32 &&& 255 = x &&& 255 := by
  apply Int32.toBitVec_inj.mp
  rw [Int32.toBitVec_and, Int32.toBitVec_and, Int8.toBitVec_toInt32, Int32.toBitVec_toInt8]
  apply BitVec.eq_of_getLsbD_eq
  intro i hi
  rw [BitVec.getLsbD_and, BitVec.getLsbD_and]
  have hm : ∀ i < 32, 8 ≤ i → (255 : Int32).toBitVec.getLsbD i = false := by decide
  rcases Nat.lt_or_ge i 8 with z | z
  · rw [BitVec.getLsbD_signExtend, BitVec.getLsbD_signExtend, if_pos z, if_pos hi]
    simp only [z, hi, decide_true, Bool.true_and]
  · rw [hm i hi z]; simp
theorem ts_nf {x : Bool} (h : ¬ x = false) : x = true := by cases x <;> first | rfl | exact absurd rfl h
theorem ts_nt {x : Bool} (h : ¬ x = true) : x = false := by cases x <;> first | rfl | exact absurd rfl h
end
section
/-! bits of a long, bytes of an int -/
def qb_t (m : Int64) (p : Nat) : Bool := m.toBitVec.getLsbD p
theorem qb_ext {m n : Int64} (h : ∀ p, p < 64 → qb_t m p = qb_t n p) : m = n :=
  Int64.toBitVec_inj.mp (BitVec.eq_of_getLsbD_eq (fun i hi => h i hi))
theorem qb_or (m n : Int64) (p : Nat) : qb_t (m ||| n) p = (qb_t m p || qb_t n p) := by
  unfold qb_t; rw [Int64.toBitVec_or, BitVec.getLsbD_or]
theorem qb_and (m n : Int64) (p : Nat) : qb_t (m &&& n) p = (qb_t m p && qb_t n p) := by
  unfold qb_t; rw [Int64.toBitVec_and, BitVec.getLsbD_and]
theorem qb_0 (p : Nat) : qb_t 0 p = false := BitVec.getLsbD_zero
theorem qb_one : ∀ p, p < 64 → ((1 : Int64) <<< ((nI p).toInt64 &&& 63)).toBitVec = BitVec.twoPow 64 p := by decide +kernel
theorem qb_1 {p : Nat} (hp : p < 64) (i : Nat) : qb_t ((1 : Int64) <<< ((nI p).toInt64 &&& 63)) i = decide (i = p) := by
  unfold qb_t
  rw [qb_one p hp, BitVec.getLsbD_twoPow]
  by_cases e : p = i
  · subst e; simp [hp]
  · have e' : ¬ i = p := fun z => e z.symm
    simp [e, e']
theorem qb_az (m n : Int64) : (m &&& n) = 0 ↔ ∀ p, p < 64 → qb_t m p = true → qb_t n p = true → False := by
  constructor
  · intro h p _ hm hn
    have t : qb_t (m &&& n) p = qb_t 0 p := by rw [h]
    rw [qb_and, hm, hn, qb_0] at t
    exact absurd t (by decide)
  · intro h
    apply qb_ext
    intro p hp
    rw [qb_and, qb_0]
    cases em : qb_t m p
    · rfl
    · cases en : qb_t n p
      · rfl
      · exact (h p hp em en).elim
theorem qb_z (m : Int64) {p : Nat} (hp : p < 64) : (m &&& ((1 : Int64) <<< ((nI p).toInt64 &&& 63))) = 0 ↔ ¬ qb_t m p = true := by
  rw [qb_az]
  constructor
  · intro h hm
    exact h p hp hm (by rw [qb_1 hp]; exact decide_eq_true rfl)
  · intro h i hi hm hn
    rw [qb_1 hp] at hn
    have e : i = p := of_decide_eq_true hn
    subst e
    exact h hm
theorem qc_2 (b : Nat) : nI b + 2 = nI (b + 2) := nI_add b 2
theorem qc_B (x : Int32) : ∃ j : Nat, j < 256 ∧ x &&& 255 = nI j := pk_andE x 8 (by decide)
theorem qc_or (a b : Nat) : nI a ||| nI b = nI (a ||| b) := by
  apply Int32.toBitVec_inj.1
  show BitVec.ofNat 32 a ||| BitVec.ofNat 32 b = BitVec.ofNat 32 (a ||| b)
  apply BitVec.eq_of_getLsbD_eq
  intro i hi
  simp [hi]
theorem qc_256 : (256 : Int32) = nI 256 := rfl
theorem qc_shl8 {i : Nat} (hi : i < 256) : nI i <<< ((8 : Int32) &&& 31) = nI (i * 256) := by
  have h := pk_shlN (n := i) ((8 : Int32) &&& 31) 8 (by decide) (by omega)
  rw [h]
theorem qc_cp {i j : Nat} (hi : i < 256) (hj : j < 256) : (nI i <<< ((8 : Int32) &&& 31)) ||| nI j = nI (i * 256 + j) := by
  rw [qc_shl8 hi, qc_or]
  have h1 : i * 2 ^ 8 ||| j = i * 2 ^ 8 + j := by rw [← Nat.shiftLeft_eq, Nat.shiftLeft_add_eq_or_of_lt (show j < 2 ^ 8 from hj)]
  exact congrArg nI h1
theorem qc_ix {i j : Nat} : nI i * 256 + nI j = nI (i * 256 + j) := by
  rw [qc_256, pk_mul, nI_add]
theorem qc_m16 {n : Nat} (h : n < 65536) : nI n &&& 65535 = nI n := by
  rw [pk_andN (by omega) 16 (by decide)]
  exact congrArg nI (Nat.mod_eq_of_lt h)
theorem qc_char {n : Nat} (h : n < 65536) : vp_nar .char ((nI n).toUInt32 % 65536).toInt32 = nI n := by
  rw [pk_vc, pk_char, pk_tn (by omega), Nat.mod_eq_of_lt h]
/-- the constant pool index that X stores, read back, is Y's -/
theorem qc_index (x y : Int32) : vp_nar .char (((((x &&& 255) * 256) + (y &&& 255)).toUInt32 % 65536).toInt32) &&& 65535 = ((x &&& 255) <<< ((8 : Int32) &&& 31)) ||| (y &&& 255) := by
  obtain ⟨i, hi, ei⟩ := qc_B x
  obtain ⟨j, hj, ej⟩ := qc_B y
  rw [ei, ej, qc_ix, qc_char (by omega), qc_m16 (by omega), qc_cp hi hj]
theorem qc_index1 (x : Int32) : vp_nar .char ((x &&& 255).toUInt32 % 65536).toInt32 &&& 65535 = x &&& 255 := by
  obtain ⟨i, hi, ei⟩ := qc_B x
  rw [ei, qc_char (by omega), qc_m16 (by omega)]
theorem qc_b8 : ∀ j, j < 256 → (nI j).toInt8.toInt32 &&& 255 = nI j ∧ (nI j).toInt16.toInt32 = nI j := by decide +kernel
theorem qc_byte {j : Nat} (h : j < 256) : vp_nar .byte (nI j).toInt8.toInt32 &&& 255 = nI j := by rw [pk_vb]; exact (qc_b8 j h).1
theorem qc_short {j : Nat} (h : j < 256) : vp_nar .short (nI j).toInt16.toInt32 = nI j := by rw [pk_vs]; exact (qc_b8 j h).2
theorem qc_op (x : Int32) : vp_nar .short (x &&& 255).toInt16.toInt32 &&& 65535 = x &&& 255 := by
  obtain ⟨i, hi, ei⟩ := qc_B x
  rw [ei, qc_short hi, qc_m16 (by omega)]
/-- node numbers 0 to 3: as they are written, and as they are read -/
theorem qc_k : ∀ k, k < 4 → (nI k >>> ((8 : Int32) &&& 31)) = 0 ∧ nI k &&& 255 = nI k ∧ nI k &&& 3 = nI k ∧ (0 : Int32) * 256 + nI k = nI k := by decide +kernel
theorem qc_n63 : ∀ p, p < 64 → nI p &&& 63 = nI p := by decide +kernel
end
section
/-! the opcode tables: size, form, needs-init (written by gen03.py) -/
def qz_63 (op : Int32) : Nat := if op = 187 then 3 else if op = 189 then 3 else if op = 192 then 3 else if op = 193 then 3 else 0
def qz_n (op : Int32) : Nat := if op = 18 then 2 else if op = 185 then 5 else if op = 186 then 5 else if op = 197 then 4 else if op = 19 then 3 else if op = 20 then 3 else if op < 178 then qz_63 op else if 184 < op then qz_63 op else 3
def qq_f (op fl : Int32) : Int32 := if op = 18 then 203 else if op = 19 then 204 else if op = 20 then 205 else if op = 178 then (if (fl &&& 8) = 0 then 210 else 212) else if op = 179 then (if (fl &&& 8) = 0 then 211 else 213) else if op = 180 then (if (fl &&& 8) = 0 then 206 else 208) else if op = 181 then (if (fl &&& 8) = 0 then 207 else 209) else if op = 182 then (if (fl &&& 1) = 0 then 214 else 215) else if op = 183 then (if (fl &&& 4) = 0 then 215 else 216) else if op = 184 then 217 else if op = 185 then 218 else if op = 186 then 220 else if op = 187 then 221 else if op = 189 then 222 else if op = 192 then 224 else if op = 193 then 225 else if op = 197 then 223 else (-1)
def qi_n (op : Int32) : Int32 := if op = 178 then 1 else if op = 179 then 1 else if op = 184 then 1 else if op = 187 then 1 else 0
theorem qz_c18 : qz_n 18 = 2 := by decide
theorem qq_c18 (fl : Int32) : qq_f 18 fl = 203 := rfl
theorem qi_c18 : qi_n 18 = 0 := by decide
theorem qz_c19 : qz_n 19 = 3 := by decide
theorem qq_c19 (fl : Int32) : qq_f 19 fl = 204 := rfl
theorem qi_c19 : qi_n 19 = 0 := by decide
theorem qz_c20 : qz_n 20 = 3 := by decide
theorem qq_c20 (fl : Int32) : qq_f 20 fl = 205 := rfl
theorem qi_c20 : qi_n 20 = 0 := by decide
theorem qz_c178 : qz_n 178 = 3 := by decide
theorem qq_c178 (fl : Int32) : qq_f 178 fl = if (fl &&& 8) = 0 then 210 else 212 := rfl
theorem qi_c178 : qi_n 178 = 1 := by decide
theorem qz_c179 : qz_n 179 = 3 := by decide
theorem qq_c179 (fl : Int32) : qq_f 179 fl = if (fl &&& 8) = 0 then 211 else 213 := rfl
theorem qi_c179 : qi_n 179 = 1 := by decide
theorem qz_c180 : qz_n 180 = 3 := by decide
theorem qq_c180 (fl : Int32) : qq_f 180 fl = if (fl &&& 8) = 0 then 206 else 208 := rfl
theorem qi_c180 : qi_n 180 = 0 := by decide
theorem qz_c181 : qz_n 181 = 3 := by decide
theorem qq_c181 (fl : Int32) : qq_f 181 fl = if (fl &&& 8) = 0 then 207 else 209 := rfl
theorem qi_c181 : qi_n 181 = 0 := by decide
theorem qz_c182 : qz_n 182 = 3 := by decide
theorem qq_c182 (fl : Int32) : qq_f 182 fl = if (fl &&& 1) = 0 then 214 else 215 := rfl
theorem qi_c182 : qi_n 182 = 0 := by decide
theorem qz_c183 : qz_n 183 = 3 := by decide
theorem qq_c183 (fl : Int32) : qq_f 183 fl = if (fl &&& 4) = 0 then 215 else 216 := rfl
theorem qi_c183 : qi_n 183 = 0 := by decide
theorem qz_c184 : qz_n 184 = 3 := by decide
theorem qq_c184 (fl : Int32) : qq_f 184 fl = 217 := rfl
theorem qi_c184 : qi_n 184 = 1 := by decide
theorem qz_c185 : qz_n 185 = 5 := by decide
theorem qq_c185 (fl : Int32) : qq_f 185 fl = 218 := rfl
theorem qi_c185 : qi_n 185 = 0 := by decide
theorem qz_c186 : qz_n 186 = 5 := by decide
theorem qq_c186 (fl : Int32) : qq_f 186 fl = 220 := rfl
theorem qi_c186 : qi_n 186 = 0 := by decide
theorem qz_c187 : qz_n 187 = 3 := by decide
theorem qq_c187 (fl : Int32) : qq_f 187 fl = 221 := rfl
theorem qi_c187 : qi_n 187 = 1 := by decide
theorem qz_c189 : qz_n 189 = 3 := by decide
theorem qq_c189 (fl : Int32) : qq_f 189 fl = 222 := rfl
theorem qi_c189 : qi_n 189 = 0 := by decide
theorem qz_c192 : qz_n 192 = 3 := by decide
theorem qq_c192 (fl : Int32) : qq_f 192 fl = 224 := rfl
theorem qi_c192 : qi_n 192 = 0 := by decide
theorem qz_c193 : qz_n 193 = 3 := by decide
theorem qq_c193 (fl : Int32) : qq_f 193 fl = 225 := rfl
theorem qi_c193 : qi_n 193 = 0 := by decide
theorem qz_c197 : qz_n 197 = 4 := by decide
theorem qq_c197 (fl : Int32) : qq_f 197 fl = 223 := rfl
theorem qi_c197 : qi_n 197 = 0 := by decide
theorem qz_Y63 {post : Int32 → Prop} {op : Int32} (h : post (nI (qz_63 op))) : wY_size_63 post op := by
  unfold qz_63 at h
  by_cases e187 : op = 187
  · rw [if_pos e187] at h; exact br_t e187 h
  rw [if_neg e187] at h
  refine br_f e187 ?_
  by_cases e189 : op = 189
  · rw [if_pos e189] at h; exact br_t e189 h
  rw [if_neg e189] at h
  refine br_f e189 ?_
  by_cases e192 : op = 192
  · rw [if_pos e192] at h; exact br_t e192 h
  rw [if_neg e192] at h
  refine br_f e192 ?_
  by_cases e193 : op = 193
  · rw [if_pos e193] at h; exact br_t e193 h
  rw [if_neg e193] at h
  refine br_f e193 ?_
  exact h
theorem qz_Y {post : Int32 → Prop} {op : Int32} (h : post (nI (qz_n op))) : wpY_size post op := by
  unfold qz_n at h
  by_cases e18 : op = 18
  · rw [if_pos e18] at h; exact br_t e18 h
  rw [if_neg e18] at h
  refine br_f e18 ?_
  by_cases e185 : op = 185
  · rw [if_pos e185] at h; exact br_t e185 h
  rw [if_neg e185] at h
  refine br_f e185 ?_
  by_cases e186 : op = 186
  · rw [if_pos e186] at h; exact br_t e186 h
  rw [if_neg e186] at h
  refine br_f e186 ?_
  by_cases e197 : op = 197
  · rw [if_pos e197] at h; exact br_t e197 h
  rw [if_neg e197] at h
  refine br_f e197 ?_
  by_cases e19 : op = 19
  · rw [if_pos e19] at h; exact br_t e19 h
  rw [if_neg e19] at h
  refine br_f e19 ?_
  by_cases e20 : op = 20
  · rw [if_pos e20] at h; exact br_t e20 h
  rw [if_neg e20] at h
  refine br_f e20 ?_
  by_cases e1 : op < 178
  · rw [if_pos e1] at h; exact br_t e1 (qz_Y63 h)
  rw [if_neg e1] at h
  refine br_f e1 ?_
  by_cases e2 : 184 < op
  · rw [if_pos e2] at h; exact br_t e2 (qz_Y63 h)
  rw [if_neg e2] at h
  exact br_f e2 h
theorem qz_rng {op : Int32} (h1 : ¬ op < 178) (h2 : ¬ 184 < op) : op = 178 ∨ op = 179 ∨ op = 180 ∨ op = 181 ∨ op = 182 ∨ op = 183 ∨ op = 184 := by
  rw [Int32.lt_iff_toInt_lt, show (178 : Int32).toInt = 178 from by decide] at h1
  rw [Int32.lt_iff_toInt_lt, show (184 : Int32).toInt = 184 from by decide] at h2
  simp only [← Int32.toInt_inj, show (178 : Int32).toInt = 178 from by decide, show (179 : Int32).toInt = 179 from by decide, show (180 : Int32).toInt = 180 from by decide, show (181 : Int32).toInt = 181 from by decide, show (182 : Int32).toInt = 182 from by decide, show (183 : Int32).toInt = 183 from by decide, show (184 : Int32).toInt = 184 from by decide]
  omega
theorem qz_no {op : Int32} (e18 : ¬ op = 18) (e19 : ¬ op = 19) (e20 : ¬ op = 20) (e178 : ¬ op = 178) (e179 : ¬ op = 179) (e180 : ¬ op = 180) (e181 : ¬ op = 181) (e182 : ¬ op = 182) (e183 : ¬ op = 183) (e184 : ¬ op = 184) (e185 : ¬ op = 185) (e186 : ¬ op = 186) (e187 : ¬ op = 187) (e189 : ¬ op = 189) (e192 : ¬ op = 192) (e193 : ¬ op = 193) (e197 : ¬ op = 197) : qz_n op = 0 := by
  have h63 : qz_63 op = 0 := by unfold qz_63; rw [if_neg e187, if_neg e189, if_neg e192, if_neg e193]
  unfold qz_n
  rw [if_neg e18, if_neg e185, if_neg e186, if_neg e197, if_neg e19, if_neg e20]
  by_cases e1 : op < 178
  · rw [if_pos e1, h63]
  rw [if_neg e1]
  by_cases e2 : 184 < op
  · rw [if_pos e2, h63]
  rcases qz_rng e1 e2 with z | z | z | z | z | z | z
  · exact absurd z e178
  · exact absurd z e179
  · exact absurd z e180
  · exact absurd z e181
  · exact absurd z e182
  · exact absurd z e183
  · exact absurd z e184
/-- a property of all 17 quickenable opcodes holds where the size is not 0 -/
theorem qz_all {P : Int32 → Prop} (h18 : P 18) (h19 : P 19) (h20 : P 20) (h178 : P 178) (h179 : P 179) (h180 : P 180) (h181 : P 181) (h182 : P 182) (h183 : P 183) (h184 : P 184) (h185 : P 185) (h186 : P 186) (h187 : P 187) (h189 : P 189) (h192 : P 192) (h193 : P 193) (h197 : P 197) {op : Int32} (h : qz_n op ≠ 0) : P op := by
  by_cases e18 : op = 18
  · rw [e18]; exact h18
  by_cases e19 : op = 19
  · rw [e19]; exact h19
  by_cases e20 : op = 20
  · rw [e20]; exact h20
  by_cases e178 : op = 178
  · rw [e178]; exact h178
  by_cases e179 : op = 179
  · rw [e179]; exact h179
  by_cases e180 : op = 180
  · rw [e180]; exact h180
  by_cases e181 : op = 181
  · rw [e181]; exact h181
  by_cases e182 : op = 182
  · rw [e182]; exact h182
  by_cases e183 : op = 183
  · rw [e183]; exact h183
  by_cases e184 : op = 184
  · rw [e184]; exact h184
  by_cases e185 : op = 185
  · rw [e185]; exact h185
  by_cases e186 : op = 186
  · rw [e186]; exact h186
  by_cases e187 : op = 187
  · rw [e187]; exact h187
  by_cases e189 : op = 189
  · rw [e189]; exact h189
  by_cases e192 : op = 192
  · rw [e192]; exact h192
  by_cases e193 : op = 193
  · rw [e193]; exact h193
  by_cases e197 : op = 197
  · rw [e197]; exact h197
  exact absurd (qz_no e18 e19 e20 e178 e179 e180 e181 e182 e183 e184 e185 e186 e187 e189 e192 e193 e197) h
theorem qz_sz {op : Int32} (h : qz_n op ≠ 0) : 2 ≤ qz_n op ∧ qz_n op ≤ 5 ∧ (op ≠ 18 → 3 ≤ qz_n op) :=
  qz_all (P := fun op => 2 ≤ qz_n op ∧ qz_n op ≤ 5 ∧ (op ≠ 18 → 3 ≤ qz_n op)) (by decide) (by decide) (by decide) (by decide) (by decide) (by decide) (by decide) (by decide) (by decide) (by decide) (by decide) (by decide) (by decide) (by decide) (by decide) (by decide) (by decide) h
theorem qz_5 (op : Int32) : qz_n op ≤ 5 := by
  by_cases h : qz_n op = 0
  · omega
  · exact (qz_sz h).2.1
theorem qq_val {op : Int32} (fl : Int32) (h : qz_n op ≠ 0) : ∃ j : Nat, 203 ≤ j ∧ j ≤ 225 ∧ qq_f op fl = nI j ∧ (j = 203 ↔ op = 18) := by
  refine qz_all (P := fun op => ∃ j : Nat, 203 ≤ j ∧ j ≤ 225 ∧ qq_f op fl = nI j ∧ (j = 203 ↔ op = 18)) ?_ ?_ ?_ ?_ ?_ ?_ ?_ ?_ ?_ ?_ ?_ ?_ ?_ ?_ ?_ ?_ ?_ h
  · exact ⟨203, by decide, by decide, qq_c18 fl, by decide⟩
  · exact ⟨204, by decide, by decide, qq_c19 fl, by decide⟩
  · exact ⟨205, by decide, by decide, qq_c20 fl, by decide⟩
  · by_cases z : (fl &&& 8) = 0
    · exact ⟨210, by decide, by decide, (qq_c178 fl).trans (if_pos z), by decide⟩
    · exact ⟨212, by decide, by decide, (qq_c178 fl).trans (if_neg z), by decide⟩
  · by_cases z : (fl &&& 8) = 0
    · exact ⟨211, by decide, by decide, (qq_c179 fl).trans (if_pos z), by decide⟩
    · exact ⟨213, by decide, by decide, (qq_c179 fl).trans (if_neg z), by decide⟩
  · by_cases z : (fl &&& 8) = 0
    · exact ⟨206, by decide, by decide, (qq_c180 fl).trans (if_pos z), by decide⟩
    · exact ⟨208, by decide, by decide, (qq_c180 fl).trans (if_neg z), by decide⟩
  · by_cases z : (fl &&& 8) = 0
    · exact ⟨207, by decide, by decide, (qq_c181 fl).trans (if_pos z), by decide⟩
    · exact ⟨209, by decide, by decide, (qq_c181 fl).trans (if_neg z), by decide⟩
  · by_cases z : (fl &&& 1) = 0
    · exact ⟨214, by decide, by decide, (qq_c182 fl).trans (if_pos z), by decide⟩
    · exact ⟨215, by decide, by decide, (qq_c182 fl).trans (if_neg z), by decide⟩
  · by_cases z : (fl &&& 4) = 0
    · exact ⟨215, by decide, by decide, (qq_c183 fl).trans (if_pos z), by decide⟩
    · exact ⟨216, by decide, by decide, (qq_c183 fl).trans (if_neg z), by decide⟩
  · exact ⟨217, by decide, by decide, qq_c184 fl, by decide⟩
  · exact ⟨218, by decide, by decide, qq_c185 fl, by decide⟩
  · exact ⟨220, by decide, by decide, qq_c186 fl, by decide⟩
  · exact ⟨221, by decide, by decide, qq_c187 fl, by decide⟩
  · exact ⟨222, by decide, by decide, qq_c189 fl, by decide⟩
  · exact ⟨224, by decide, by decide, qq_c192 fl, by decide⟩
  · exact ⟨225, by decide, by decide, qq_c193 fl, by decide⟩
  · exact ⟨223, by decide, by decide, qq_c197 fl, by decide⟩
/-! Y: form -/
theorem qy_f18 {post : Int32 → Prop} {fl : Int32} (h : post (qq_f 18 fl)) : wpY_form post 18 fl := by
  rw [qq_c18] at h
  refine br_f (by decide) ?_
  rw [show (18 : Int32) + 185 = 203 from by decide]; exact h
theorem qy_f19 {post : Int32 → Prop} {fl : Int32} (h : post (qq_f 19 fl)) : wpY_form post 19 fl := by
  rw [qq_c19] at h
  refine br_f (by decide) ?_
  rw [show (19 : Int32) + 185 = 204 from by decide]; exact h
theorem qy_f20 {post : Int32 → Prop} {fl : Int32} (h : post (qq_f 20 fl)) : wpY_form post 20 fl := by
  rw [qq_c20] at h
  refine br_f (by decide) ?_
  rw [show (20 : Int32) + 185 = 205 from by decide]; exact h
theorem qy_f178 {post : Int32 → Prop} {fl : Int32} (h : post (qq_f 178 fl)) : wpY_form post 178 fl := by
  rw [qq_c178] at h
  refine br_t (by decide) (br_f (by decide) (br_f (by decide) (br_t (by decide) ?_)))
  refine br_c (fun z => ?_) (fun z => ?_)
  · rw [if_pos z] at h; rw [show (178 : Int32) + 32 = 210 from by decide]; exact h
  · rw [if_neg z] at h; rw [show (178 : Int32) + 32 + 2 = 212 from by decide]; exact h
theorem qy_f179 {post : Int32 → Prop} {fl : Int32} (h : post (qq_f 179 fl)) : wpY_form post 179 fl := by
  rw [qq_c179] at h
  refine br_t (by decide) (br_f (by decide) (br_f (by decide) (br_t (by decide) ?_)))
  refine br_c (fun z => ?_) (fun z => ?_)
  · rw [if_pos z] at h; rw [show (179 : Int32) + 32 = 211 from by decide]; exact h
  · rw [if_neg z] at h; rw [show (179 : Int32) + 32 + 2 = 213 from by decide]; exact h
theorem qy_f180 {post : Int32 → Prop} {fl : Int32} (h : post (qq_f 180 fl)) : wpY_form post 180 fl := by
  rw [qq_c180] at h
  refine br_t (by decide) (br_f (by decide) (br_f (by decide) (br_f (by decide) ?_)))
  refine br_c (fun z => ?_) (fun z => ?_)
  · rw [if_pos z] at h; rw [show (180 : Int32) + 26 = 206 from by decide]; exact h
  · rw [if_neg z] at h; rw [show (180 : Int32) + 26 + 2 = 208 from by decide]; exact h
theorem qy_f181 {post : Int32 → Prop} {fl : Int32} (h : post (qq_f 181 fl)) : wpY_form post 181 fl := by
  rw [qq_c181] at h
  refine br_t (by decide) (br_f (by decide) (br_f (by decide) (br_f (by decide) ?_)))
  refine br_c (fun z => ?_) (fun z => ?_)
  · rw [if_pos z] at h; rw [show (181 : Int32) + 26 = 207 from by decide]; exact h
  · rw [if_neg z] at h; rw [show (181 : Int32) + 26 + 2 = 209 from by decide]; exact h
theorem qy_f182 {post : Int32 → Prop} {fl : Int32} (h : post (qq_f 182 fl)) : wpY_form post 182 fl := by
  rw [qq_c182] at h
  refine br_t (by decide) (br_f (by decide) (br_t (by decide) ?_))
  show wY_form_60 post 182 fl
  unfold wY_form_60
  refine br_f (by decide) (br_f (by decide) (br_t (by decide) ?_))
  refine br_c (fun z => ?_) (fun z => ?_)
  · rw [if_pos z] at h; exact h
  · rw [if_neg z] at h; exact h
theorem qy_f183 {post : Int32 → Prop} {fl : Int32} (h : post (qq_f 183 fl)) : wpY_form post 183 fl := by
  rw [qq_c183] at h
  refine br_t (by decide) (br_f (by decide) (br_t (by decide) ?_))
  show wY_form_60 post 183 fl
  unfold wY_form_60
  refine br_f (by decide) (br_f (by decide) (br_f (by decide) (br_t (by decide) ?_)))
  refine br_c (fun z => ?_) (fun z => ?_)
  · rw [if_pos z] at h; exact h
  · rw [if_neg z] at h; exact h
theorem qy_f184 {post : Int32 → Prop} {fl : Int32} (h : post (qq_f 184 fl)) : wpY_form post 184 fl := by
  rw [qq_c184] at h
  refine br_t (by decide) (br_f (by decide) (br_t (by decide) ?_))
  show wY_form_60 post 184 fl
  unfold wY_form_60
  refine br_f (by decide) (br_f (by decide) (br_f (by decide) (br_f (by decide) (br_t (by decide) ?_))))
  exact h
theorem qy_f185 {post : Int32 → Prop} {fl : Int32} (h : post (qq_f 185 fl)) : wpY_form post 185 fl := by
  rw [qq_c185] at h
  refine br_t (by decide) (br_f (by decide) (br_t (by decide) ?_))
  show wY_form_60 post 185 fl
  unfold wY_form_60
  refine br_f (by decide) (br_f (by decide) (br_f (by decide) (br_f (by decide) (br_f (by decide) (br_t (by decide) ?_)))))
  exact h
theorem qy_f186 {post : Int32 → Prop} {fl : Int32} (h : post (qq_f 186 fl)) : wpY_form post 186 fl := by
  rw [qq_c186] at h
  refine br_t (by decide) (br_f (by decide) (br_t (by decide) ?_))
  show wY_form_60 post 186 fl
  unfold wY_form_60
  refine br_f (by decide) (br_f (by decide) (br_f (by decide) (br_f (by decide) (br_f (by decide) (br_f (by decide) (br_t (by decide) ?_))))))
  exact h
theorem qy_f187 {post : Int32 → Prop} {fl : Int32} (h : post (qq_f 187 fl)) : wpY_form post 187 fl := by
  rw [qq_c187] at h
  refine br_t (by decide) (br_f (by decide) (br_t (by decide) ?_))
  show wY_form_60 post 187 fl
  unfold wY_form_60
  refine br_f (by decide) (br_f (by decide) (br_f (by decide) (br_f (by decide) (br_f (by decide) (br_f (by decide) (br_f (by decide) (br_t (by decide) ?_)))))))
  exact h
theorem qy_f189 {post : Int32 → Prop} {fl : Int32} (h : post (qq_f 189 fl)) : wpY_form post 189 fl := by
  rw [qq_c189] at h
  refine br_t (by decide) (br_f (by decide) (br_t (by decide) ?_))
  show wY_form_60 post 189 fl
  unfold wY_form_60
  refine br_f (by decide) (br_f (by decide) (br_f (by decide) (br_f (by decide) (br_f (by decide) (br_f (by decide) (br_f (by decide) (br_f (by decide) (br_t (by decide) ?_))))))))
  exact h
theorem qy_f192 {post : Int32 → Prop} {fl : Int32} (h : post (qq_f 192 fl)) : wpY_form post 192 fl := by
  rw [qq_c192] at h
  refine br_t (by decide) (br_f (by decide) (br_t (by decide) ?_))
  show wY_form_60 post 192 fl
  unfold wY_form_60
  refine br_t (by decide) ?_
  rw [show (192 : Int32) + 32 = 224 from by decide]; exact h
theorem qy_f193 {post : Int32 → Prop} {fl : Int32} (h : post (qq_f 193 fl)) : wpY_form post 193 fl := by
  rw [qq_c193] at h
  refine br_t (by decide) (br_f (by decide) (br_t (by decide) ?_))
  show wY_form_60 post 193 fl
  unfold wY_form_60
  refine br_f (by decide) (br_t (by decide) ?_)
  rw [show (193 : Int32) + 32 = 225 from by decide]; exact h
theorem qy_f197 {post : Int32 → Prop} {fl : Int32} (h : post (qq_f 197 fl)) : wpY_form post 197 fl := by
  rw [qq_c197] at h
  refine br_t (by decide) (br_f (by decide) (br_t (by decide) ?_))
  show wY_form_60 post 197 fl
  unfold wY_form_60
  refine br_f (by decide) (br_f (by decide) (br_f (by decide) (br_f (by decide) (br_f (by decide) (br_f (by decide) (br_f (by decide) (br_f (by decide) (br_f (by decide) ?_))))))))
  exact h
theorem qy_form {post : Int32 → Prop} {op fl : Int32} (hz : qz_n op ≠ 0) (h : post (qq_f op fl)) : wpY_form post op fl :=
  qz_all (P := fun op => post (qq_f op fl) → wpY_form post op fl) qy_f18 qy_f19 qy_f20 qy_f178 qy_f179 qy_f180 qy_f181 qy_f182 qy_f183 qy_f184 qy_f185 qy_f186 qy_f187 qy_f189 qy_f192 qy_f193 qy_f197 hz h
/-! X: the chain of opcodes -/
theorem qx_tab {post : Int32 → SX → Prop} {fL fm : Int32} {sm cl : Int64} {c no nc : Nat → Int32} {nr : Nat → Int64} {b : Nat} {id : Int64} {fl : Int32} (hb : b < 64) (hL : nI b < fL) (hs : (sm &&& ((1 : Int64) <<< ((nI b).toInt64 &&& 63))) = 0) (hc : (cl &&& ((1 : Int64) <<< ((nI b).toInt64 &&& 63))) = 0)
    (hz : qz_n (c b &&& 255) = 0 → post (-1) (fL, fm, sm, cl, c, no, nc, nr))
    (hn : qz_n (c b &&& 255) ≠ 0 → wX_quicken_451 post (nI b) id fl ((1 : Int64) <<< ((nI b).toInt64 &&& 63)) (c b &&& 255) (nI (qz_n (c b &&& 255))) (qq_f (c b &&& 255) fl) (qi_n (c b &&& 255)) fL fm sm cl c no nc nr) :
    wpX_quicken post (fL, fm, sm, cl, c, no, nc, nr) (nI b) id fl := by
  unfold wpX_quicken
  dsimp only
  refine br_f (nI_pos (by omega)) (br_t hL (nm_e (br_t hs (br_t hc ⟨vp_in_nI hb (by decide), ?_⟩))))
  rw [nI_clamp (by omega)]
  intro op eop
  rw [← eop] at hz hn
  clear eop
  by_cases e18 : op = 18
  · refine br_t e18 ?_
    subst e18
    have h := hn (by decide)
    rw [qz_c18, qq_c18, qi_c18] at h
    exact h
  refine br_f e18 ?_
  by_cases e19 : op = 19
  · refine br_t e19 ?_
    subst e19
    have h := hn (by decide)
    rw [qz_c19, qq_c19, qi_c19] at h
    exact h
  refine br_f e19 ?_
  by_cases e20 : op = 20
  · refine br_t e20 ?_
    subst e20
    have h := hn (by decide)
    rw [qz_c20, qq_c20, qi_c20] at h
    exact h
  refine br_f e20 ?_
  by_cases e178 : op = 178
  · refine br_t e178 ?_
    subst e178
    have h := hn (by decide)
    rw [qz_c178, qq_c178, qi_c178] at h
    refine br_c (fun z => ?_) (fun z => ?_)
    · rw [if_pos z] at h; exact h
    · rw [if_neg z] at h; exact h
  refine br_f e178 ?_
  by_cases e179 : op = 179
  · refine br_t e179 ?_
    subst e179
    have h := hn (by decide)
    rw [qz_c179, qq_c179, qi_c179] at h
    refine br_c (fun z => ?_) (fun z => ?_)
    · rw [if_pos z] at h; exact h
    · rw [if_neg z] at h; exact h
  refine br_f e179 ?_
  by_cases e180 : op = 180
  · refine br_t e180 ?_
    subst e180
    have h := hn (by decide)
    rw [qz_c180, qq_c180, qi_c180] at h
    refine br_c (fun z => ?_) (fun z => ?_)
    · rw [if_pos z] at h; exact h
    · rw [if_neg z] at h; exact h
  refine br_f e180 ?_
  by_cases e181 : op = 181
  · refine br_t e181 ?_
    subst e181
    have h := hn (by decide)
    rw [qz_c181, qq_c181, qi_c181] at h
    refine br_c (fun z => ?_) (fun z => ?_)
    · rw [if_pos z] at h; exact h
    · rw [if_neg z] at h; exact h
  refine br_f e181 ?_
  by_cases e182 : op = 182
  · refine br_t e182 ?_
    subst e182
    have h := hn (by decide)
    rw [qz_c182, qq_c182, qi_c182] at h
    refine br_c (fun z => ?_) (fun z => ?_)
    · rw [if_pos z] at h; exact h
    · rw [if_neg z] at h; exact h
  refine br_f e182 ?_
  by_cases e183 : op = 183
  · refine br_t e183 ?_
    subst e183
    have h := hn (by decide)
    rw [qz_c183, qq_c183, qi_c183] at h
    refine br_c (fun z => ?_) (fun z => ?_)
    · rw [if_pos z] at h; exact h
    · rw [if_neg z] at h; exact h
  refine br_f e183 ?_
  by_cases e184 : op = 184
  · refine br_t e184 ?_
    subst e184
    have h := hn (by decide)
    rw [qz_c184, qq_c184, qi_c184] at h
    exact h
  refine br_f e184 ?_
  by_cases e185 : op = 185
  · refine br_t e185 ?_
    subst e185
    have h := hn (by decide)
    rw [qz_c185, qq_c185, qi_c185] at h
    exact h
  refine br_f e185 ?_
  by_cases e186 : op = 186
  · refine br_t e186 ?_
    subst e186
    have h := hn (by decide)
    rw [qz_c186, qq_c186, qi_c186] at h
    exact h
  refine br_f e186 ?_
  by_cases e187 : op = 187
  · refine br_t e187 ?_
    subst e187
    have h := hn (by decide)
    rw [qz_c187, qq_c187, qi_c187] at h
    exact h
  refine br_f e187 ?_
  by_cases e189 : op = 189
  · refine br_t e189 ?_
    subst e189
    have h := hn (by decide)
    rw [qz_c189, qq_c189, qi_c189] at h
    exact h
  refine br_f e189 ?_
  by_cases e192 : op = 192
  · refine br_t e192 ?_
    subst e192
    have h := hn (by decide)
    rw [qz_c192, qq_c192, qi_c192] at h
    exact h
  refine br_f e192 ?_
  by_cases e193 : op = 193
  · refine br_t e193 ?_
    subst e193
    have h := hn (by decide)
    rw [qz_c193, qq_c193, qi_c193] at h
    exact h
  refine br_f e193 ?_
  by_cases e197 : op = 197
  · refine br_t e197 ?_
    subst e197
    have h := hn (by decide)
    rw [qz_c197, qq_c197, qi_c197] at h
    exact h
  refine br_f e197 ?_
  exact br_f (by decide) (hz (qz_no e18 e19 e20 e178 e179 e180 e181 e182 e183 e184 e185 e186 e187 e189 e192 e193 e197))
end
section
/-! the site that owns a position; Y's search for it -/
/-- s owns p -/
def qw_o (o q : Nat → Int32) (p s : Nat) : Prop := s ≤ p ∧ p < s + qz_n (o s &&& 255) ∧ q s ≠ 0
section
variable {post : Int32 → Prop} {fL fm : Int32} {o q nd : Nat → Int32} {ids : Nat → Int64} {p : Nat}
theorem qo_loop (hp : p < 64) (hO : ∀ s, qw_o o q p s → post (nI s)) (hN : (¬ ∃ s, qw_o o q p s) → post (-1)) :
    ∀ d j : Nat, j + d = 5 → (∀ s, qw_o o q p s → s + j ≤ p) → wY_owner_2 post (nI p) fL fm o q nd ids (d + 1) (nI j) := by
  intro d
  induction d with
  | zero =>
    intro j hj hI
    have e : j = 5 := hj
    subst e
    refine br_t (by decide) (hN ?_)
    rintro ⟨s, h⟩
    have h1 := hI s h
    have h2 := qz_5 (o s &&& 255)
    have h3 := h.2.1
    omega
  | succ d ih =>
    intro j hj hI
    have nx : (∀ s, qw_o o q p s → s + (j + 1) ≤ p) → wY_owner_2 post (nI p) fL fm o q nd ids (d + 1) (nI j + 1) := fun h => by
      rw [nI_1]; exact ih (j + 1) (by omega) h
    refine br_f (lt5' j (by omega)) (nm_e ?_)
    by_cases e : p < j
    · exact br_t (pk_sneg (by omega) e) (nm_e (nx fun s h => by have := hI s h; omega))
    rw [pk_sub (show j ≤ p by omega), nI_clamp (show p - j < 2 ^ 31 by omega)]
    have hv : vp_in (nI (p - j)) 64 := vp_in_nI (by omega) (by decide)
    refine br_f (nI_pos (by omega)) (br_f (nI_ge (b := 64) (by omega) (by decide)) ⟨hv, ?_⟩)
    by_cases z : q (p - j) = 0
    · refine br_t z (nm_e (nx fun s h => ?_))
      have h1 := hI s h
      by_cases es : s = p - j
      · subst es; exact absurd z h.2.2
      · omega
    refine br_f z ⟨hv, qz_Y ?_⟩
    have h5 := qz_5 (o (p - j) &&& 255)
    by_cases le : qz_n (o (p - j) &&& 255) ≤ j
    · refine br_t (nI_le le (by omega)) (nm_e (nx fun s h => ?_))
      have h1 := hI s h
      by_cases es : s = p - j
      · subst es
        have h3 := h.2.1
        omega
      · omega
    · exact br_f (nI_ge (by omega) (by omega)) (hO (p - j) ⟨by omega, by omega, z⟩)
theorem qo_own (hp : p < 64) (hO : ∀ s, qw_o o q p s → post (nI s)) (hN : (¬ ∃ s, qw_o o q p s) → post (-1)) :
    wpY_owner post (fL, fm, o, q, nd, ids) (nI p) := by
  unfold wpY_owner
  dsimp only
  exact ⟨6, qo_loop hp hO hN 5 0 rfl (fun _ h => h.1)⟩
theorem qo_some (hp : p < 64) (w : ∃ s, qw_o o q p s) (hO : ∀ s, qw_o o q p s → post (nI s)) :
    wpY_owner post (fL, fm, o, q, nd, ids) (nI p) :=
  qo_own hp hO (fun n => absurd w n)
theorem qo_none (hp : p < 64) (w : ¬ ∃ s, qw_o o q p s) (hN : post (-1)) :
    wpY_owner post (fL, fm, o, q, nd, ids) (nI p) :=
  qo_own hp (fun s h => absurd ⟨s, h⟩ w) (fun _ => hN)
end
end
section
/-! the relation -/
/-- what is known of the site that starts at s -/
def qS_s (L m : Nat) (c no nc : Nat → Int32) (nr : Nat → Int64) (o q nd : Nat → Int32) (ids : Nat → Int64) (s : Nat) : Prop :=
  qz_n (o s &&& 255) ≠ 0 ∧ s + qz_n (o s &&& 255) ≤ L ∧ c s &&& 255 = q s ∧ (q s = 203 ↔ o s &&& 255 = 18) ∧
  ∃ k : Nat, k < m ∧ nd s = nI k ∧ no k &&& 65535 = o s &&& 255 ∧ nr k = ids s ∧
    (o s &&& 255 = 18 → c (s + 1) &&& 255 = nI k ∧ nc k &&& 65535 = o (s + 1) &&& 255) ∧
    (¬ o s &&& 255 = 18 → c (s + 1) &&& 255 = 0 ∧ c (s + 2) &&& 255 = nI k ∧
      nc k &&& 65535 = ((o (s + 1) &&& 255) <<< ((8 : Int32) &&& 31)) ||| (o (s + 2) &&& 255)) ∧
    (∀ d, 3 ≤ d → d < qz_n (o s &&& 255) → c (s + d) = o (s + d))
def qR_r (L m : Nat) (sm cl : Int64) (c no nc : Nat → Int32) (nr : Nat → Int64) (o q nd : Nat → Int32) (ids : Nat → Int64) : Prop :=
  L ≤ 64 ∧ m ≤ 4 ∧ (∀ p, p < 64 → (qb_t sm p = true ↔ ¬ q p = 0)) ∧ (∀ p, p < 64 → (qb_t cl p = true ↔ ∃ s, qw_o o q p s)) ∧
  (∀ p, p < 64 → (¬ ∃ s, qw_o o q p s) → c p = o p) ∧ (∀ s, s < 64 → ¬ q s = 0 → qS_s L m c no nc nr o q nd ids s)
/-- the relation between the two states: one code length and one count of nodes; the masks are the sites and what they own;
    outside the sites the codes agree, each site is as qS_s says -/
def i_Rel (_ : Nat) (u : SX) (v : SY) : Prop :=
  ∃ (L m : Nat) (sm cl : Int64) (c no nc : Nat → Int32) (nr : Nat → Int64) (o q nd : Nat → Int32) (ids : Nat → Int64),
    u = (nI L, nI m, sm, cl, c, no, nc, nr) ∧ v = (nI L, nI m, o, q, nd, ids) ∧ qR_r L m sm cl c no nc nr o q nd ids
theorem qr_in {k L m : Nat} {sm cl : Int64} {c no nc : Nat → Int32} {nr : Nat → Int64} {o q nd : Nat → Int32} {ids : Nat → Int64}
    (h : qR_r L m sm cl c no nc nr o q nd ids) : i_Rel k (nI L, nI m, sm, cl, c, no, nc, nr) (nI L, nI m, o, q, nd, ids) :=
  ⟨L, m, sm, cl, c, no, nc, nr, o, q, nd, ids, rfl, rfl, h⟩
theorem qr_el {P : SX → SY → Prop} {k : Nat} {u : SX} {v : SY} (I : i_Rel k u v)
    (h : ∀ (L m : Nat) (sm cl : Int64) (c no nc : Nat → Int32) (nr : Nat → Int64) (o q nd : Nat → Int32) (ids : Nat → Int64),
      qR_r L m sm cl c no nc nr o q nd ids → P (nI L, nI m, sm, cl, c, no, nc, nr) (nI L, nI m, o, q, nd, ids)) : P u v := by
  obtain ⟨L, m, sm, cl, c, no, nc, nr, o, q, nd, ids, rfl, rfl, H⟩ := I
  exact h L m sm cl c no nc nr o q nd ids H
/-- a site keeps its facts if its own bytes, its notes and its node are kept -/
theorem qS_keep {L m m' : Nat} {c no nc c' no' nc' : Nat → Int32} {nr nr' : Nat → Int64} {o q nd o' q' nd' : Nat → Int32} {ids ids' : Nat → Int64} {s : Nat}
    (h : qS_s L m c no nc nr o q nd ids s) (hm : m ≤ m')
    (hc : ∀ d, d < qz_n (o s &&& 255) → c' (s + d) = c (s + d) ∧ o' (s + d) = o (s + d))
    (hk : ∀ k, k < m → no' k = no k ∧ nc' k = nc k ∧ nr' k = nr k)
    (hq : q' s = q s) (hn : nd' s = nd s) (hi : ids' s = ids s) : qS_s L m' c' no' nc' nr' o' q' nd' ids' s := by
  obtain ⟨hz, hL, hcq, h203, k, hkm, hnd, hno, hnr, h18, hn18, hd⟩ := h
  have z := qz_sz hz
  have c0 : c' s = c s ∧ o' s = o s := hc 0 (by omega)
  have c1 := hc 1 (by omega)
  have kk := hk k hkm
  unfold qS_s
  rw [c0.1, c0.2, hq, hn, hi]
  refine ⟨hz, hL, hcq, h203, k, by omega, hnd, ?_, ?_, ?_, ?_, ?_⟩
  · rw [kk.1]; exact hno
  · rw [kk.2.2]; exact hnr
  · intro e
    rw [c1.1, c1.2, kk.2.1]
    exact h18 e
  · intro e
    have c2 := hc 2 (by have := z.2.2 e; omega)
    rw [c1.1, c1.2, c2.1, c2.2, kk.2.1]
    exact hn18 e
  · intro d h3 h4
    have cd := hc d h4
    rw [cd.1, cd.2]
    exact hd d h3 h4
section
variable {L m : Nat} {sm cl : Int64} {c no nc : Nat → Int32} {nr : Nat → Int64} {o q nd : Nat → Int32} {ids : Nat → Int64}
/-- a site owns its own bytes -/
theorem qw_self (H : qR_r L m sm cl c no nc nr o q nd ids) {s d : Nat} (hs : s < 64) (hq : ¬ q s = 0) (hd : d < qz_n (o s &&& 255)) : qw_o o q (s + d) s :=
  ⟨by omega, by omega, hq⟩
theorem qw_ne (H : qR_r L m sm cl c no nc nr o q nd ids) {s d b : Nat} (hs : s < 64) (hq : ¬ q s = 0) (hd : d < qz_n (o s &&& 255)) (hb : ¬ ∃ t, qw_o o q b t) : s + d ≠ b := by
  intro e
  subst e
  exact hb ⟨s, qw_self H hs hq hd⟩
/-- put, at a position that no site owns -/
theorem qr_put (H : qR_r L m sm cl c no nc nr o q nd ids) {b : Nat} (hb : ¬ ∃ t, qw_o o q b t) (x : Int32) :
    qR_r L m sm cl (upd c b x) no nc nr (upd o b x) q nd ids := by
  obtain ⟨hL, hm, hS, hC, hU, hN⟩ := id H
  have he : ∀ s, s < 64 → ¬ q s = 0 → upd o b x s = o s := fun s hs hq =>
    pk_un (qw_ne H (d := 0) hs hq (by have := (qz_sz (hN s hs hq).1).1; omega) hb)
  have hw : ∀ p s, p < 64 → (qw_o (upd o b x) q p s ↔ qw_o o q p s) := by
    intro p s hp
    by_cases hq : q s = 0
    · exact ⟨fun h => absurd hq h.2.2, fun h => absurd hq h.2.2⟩
    by_cases hs : s < 64
    · unfold qw_o
      rw [he s hs hq]
    · exact ⟨fun h => absurd h.1 (by omega), fun h => absurd h.1 (by omega)⟩
  have hx : ∀ p, p < 64 → ((∃ s, qw_o (upd o b x) q p s) ↔ ∃ s, qw_o o q p s) := fun p hp =>
    ⟨fun ⟨s, h⟩ => ⟨s, (hw p s hp).mp h⟩, fun ⟨s, h⟩ => ⟨s, (hw p s hp).mpr h⟩⟩
  refine ⟨hL, hm, hS, fun p hp => (hC p hp).trans (hx p hp).symm, fun p hp hn => ?_, fun s hs hq => ?_⟩
  · by_cases e : p = b
    · subst e
      rw [pk_us, pk_us]
    · rw [pk_un e, pk_un e]
      exact hU p hp (fun h => hn ((hx p hp).mpr h))
  · exact qS_keep (hN s hs hq) (Nat.le_refl m) (fun d hd => ⟨pk_un (qw_ne H hs hq hd hb), pk_un (qw_ne H hs hq hd hb)⟩)
      (fun k _ => ⟨rfl, rfl, rfl⟩) rfl rfl rfl
/-- quicken, at b: a new site over bytes that no site owns -/
theorem qr_new (H : qR_r L m sm cl c no nc nr o q nd ids) {b : Nat} {Q : Int32} {iv : Int64} {sp : Int64} {c' no' nc' : Nat → Int32} {nr' : Nat → Int64}
    (hm : m < 4) (hz : qz_n (o b &&& 255) ≠ 0) (hbL : b + qz_n (o b &&& 255) ≤ L)
    (hun : ∀ p, b ≤ p → p < b + qz_n (o b &&& 255) → ¬ ∃ s, qw_o o q p s)
    (hsp : ∀ p, p < 64 → (qb_t sp p = true ↔ b ≤ p ∧ p < b + qz_n (o b &&& 255)))
    (hQ0 : ¬ Q = 0) (hQ : Q = 203 ↔ o b &&& 255 = 18)
    (hc0 : c' b &&& 255 = Q) (hcd : ∀ p, p ≠ b → p ≠ b + 1 → (¬ o b &&& 255 = 18 → p ≠ b + 2) → c' p = c p)
    (h18 : o b &&& 255 = 18 → c' (b + 1) &&& 255 = nI m ∧ nc' m &&& 65535 = o (b + 1) &&& 255)
    (hn18 : ¬ o b &&& 255 = 18 → c' (b + 1) &&& 255 = 0 ∧ c' (b + 2) &&& 255 = nI m ∧
      nc' m &&& 65535 = ((o (b + 1) &&& 255) <<< ((8 : Int32) &&& 31)) ||| (o (b + 2) &&& 255))
    (hno : no' m &&& 65535 = o b &&& 255) (hnr : nr' m = iv)
    (hk : ∀ k, k < m → no' k = no k ∧ nc' k = nc k ∧ nr' k = nr k) :
    qR_r L (m + 1) (sm ||| ((1 : Int64) <<< ((nI b).toInt64 &&& 63))) (cl ||| sp) c' no' nc' nr' o (upd q b Q) (upd nd b (nI m)) (vp_updL ids b iv) := by
  obtain ⟨hL, _, hS, hC, hU, hN⟩ := id H
  have z := qz_sz hz
  have hb : b < 64 := by omega
  have hw : ∀ p s, qw_o o (upd q b Q) p s ↔ (qw_o o q p s ∨ (s = b ∧ b ≤ p ∧ p < b + qz_n (o b &&& 255))) := by
    intro p s
    by_cases e : s = b
    · subst e
      unfold qw_o
      rw [pk_us]
      constructor
      · intro h; exact Or.inr ⟨rfl, h.1, h.2.1⟩
      · rintro (h | h)
        · exact ⟨h.1, h.2.1, hQ0⟩
        · exact ⟨h.2.1, h.2.2, hQ0⟩
    · unfold qw_o
      rw [pk_un e]
      constructor
      · intro h; exact Or.inl h
      · rintro (h | h)
        · exact h
        · exact absurd h.1 e
  have hx : ∀ p, (∃ s, qw_o o (upd q b Q) p s) ↔ ((∃ s, qw_o o q p s) ∨ (b ≤ p ∧ p < b + qz_n (o b &&& 255))) := by
    intro p
    constructor
    · rintro ⟨s, h⟩
      rcases (hw p s).mp h with h | h
      · exact Or.inl ⟨s, h⟩
      · exact Or.inr h.2
    · rintro (⟨s, h⟩ | h)
      · exact ⟨s, (hw p s).mpr (Or.inl h)⟩
      · exact ⟨b, (hw p b).mpr (Or.inr ⟨rfl, h⟩)⟩
  refine ⟨hL, by omega, fun p hp => ?_, fun p hp => ?_, fun p hp hn => ?_, fun s hs hq => ?_⟩
  · rw [qb_or, qb_1 hb, Bool.or_eq_true, hS p hp, decide_eq_true_eq]
    by_cases e : p = b
    · subst e
      rw [pk_us]
      exact ⟨fun _ => hQ0, fun _ => Or.inr rfl⟩
    · rw [pk_un e]
      exact ⟨fun h => h.elim (fun h => h) (fun h => absurd h e), Or.inl⟩
  · rw [qb_or, Bool.or_eq_true, hC p hp, hsp p hp, hx p]
  · have n1 : ¬ ∃ s, qw_o o q p s := fun h => hn ((hx p).mpr (Or.inl h))
    have n2 : ¬ (b ≤ p ∧ p < b + qz_n (o b &&& 255)) := fun h => hn ((hx p).mpr (Or.inr h))
    rw [hcd p (by omega) (by omega) (fun h => by have := z.2.2 h; omega)]
    exact hU p hp n1
  · by_cases e : s = b
    · subst e
      refine ⟨hz, hbL, ?_, ?_, m, by omega, pk_us, hno, ?_, h18, hn18, fun d h3 hd => ?_⟩
      · rw [pk_us]; exact hc0
      · rw [pk_us]; exact hQ
      · rw [pk_uLs]; exact hnr
      · rw [hcd (s + d) (by omega) (by omega) (fun _ => by omega)]
        exact hU (s + d) (by omega) (hun (s + d) (by omega) (by omega))
    · rw [pk_un e] at hq
      have ne : ∀ d, d < qz_n (o s &&& 255) → c' (s + d) = c (s + d) := fun d hd =>
        hcd (s + d) (qw_ne H hs hq hd (hun b (by omega) (by omega))) (qw_ne H hs hq hd (hun (b + 1) (by omega) (by omega)))
          (fun h => qw_ne H hs hq hd (hun (b + 2) (by omega) (by have := z.2.2 h; omega)))
      exact qS_keep (hN s hs hq) (by omega) (fun d hd => ⟨ne d hd, rfl⟩) hk (pk_un e) (pk_un e) (pk_uLn e)
end
end
section
/-! quicken: X's walk -/
section
variable {post : Int32 → SX → Prop} {L m : Nat} {fL fm : Int32} {sm cl : Int64} {c no nc : Nat → Int32} {nr : Nat → Int64} {b : Nat} {iv : Int64} {fl : Int32}
/-- what X asks behind its loop, at the span x11 -/
def qx_E (post : Int32 → SX → Prop) (x1 : Int32) (x2 : Int64) (x4 : Int32) (x5 : Int64) (x7 : Int32) (x9 : Int32) (x10 : Int32) (fL fm : Int32) (sm cl : Int64) (c no nc : Nat → Int32) (nr : Nat → Int64) (x11 : Int64) : Prop :=
  (((cl &&& x11) = 0 → (((x10 = 0 → (wX_quicken_532 post x1 x2 x5 x7 x9 x11 fL fm sm cl c no nc nr)) ∧ (¬ x10 = 0 → ((((x4 &&& 2) = 0 → (post (-5) (fL, fm, sm, cl, c, no, nc, nr))) ∧ (¬ (x4 &&& 2) = 0 → (wX_quicken_532 post x1 x2 x5 x7 x9 x11 fL fm sm cl c no nc nr)))))))) ∧ (¬ (cl &&& x11) = 0 → (post (-4) (fL, fm, sm, cl, c, no, nc, nr))))
theorem qx_loop {n : Nat} (hn : b + n ≤ 64) {x5 : Int64} {x7 x9 x10 : Int32}
    (h : ∀ sp : Int64, (∀ p, p < 64 → (qb_t sp p = true ↔ b ≤ p ∧ p < b + n)) → qx_E post (nI b) iv fl x5 x7 x9 x10 fL fm sm cl c no nc nr sp) :
    ∀ (d j : Nat) (sp : Int64), j + d = b + n → b ≤ j → (∀ p, p < 64 → (qb_t sp p = true ↔ b ≤ p ∧ p < j)) →
      wX_quicken_478 post (nI b) iv fl x5 x7 (nI n) x9 x10 fL fm sm cl c no nc nr (d + 1) sp (nI j) := by
  intro d
  induction d with
  | zero =>
    intro j sp hj hbj hsp
    have e : j = b + n := hj
    subst e
    exact br_t (by rw [nI_add]; exact nI_le (Nat.le_refl _) (by omega)) (h sp hsp)
  | succ d ih =>
    intro j sp hj hbj hsp
    refine br_f (by rw [nI_add]; exact nI_ge (by omega) (by omega)) (nm_e (nm_r (nI_1 j) (ih (j + 1) _ (by omega) (by omega) ?_)))
    intro p hp
    rw [qb_or, qb_1 (by omega), Bool.or_eq_true, hsp p hp, decide_eq_true_eq]
    omega
theorem qx_604a (hm : m < 4) (hb : b + 1 < 64) {x5 x11 : Int64} {x7 x9 x14 : Int32} (e : x7 = 18)
    (h : post x9 (fL, nI (m + 1), sm ||| x5, cl ||| x11, upd (upd c b (vp_nar .byte x9.toInt8.toInt32)) (b + 1) (vp_nar .byte (nI m).toInt8.toInt32), upd no m (vp_nar .short x7.toInt16.toInt32), upd nc m (vp_nar .char ((x14.toUInt32 % 65536).toInt32)), vp_updL nr m iv)) :
    wX_quicken_604 post (nI b) iv x5 x7 x9 x11 (nI m) x14 fL fm sm cl c no nc nr := by
  unfold wX_quicken_604 wX_quicken_699
  rw [nI_1 b, nI_clamp (show b < 2 ^ 31 by omega), nI_clamp (show m < 2 ^ 31 by omega), nI_clamp (show b + 1 < 2 ^ 31 by omega)]
  have v1 : vp_in (nI m) 4 := vp_in_nI hm (by decide)
  exact ⟨v1, nm_e ⟨v1, nm_e ⟨v1, nm_e (nm_r (nI_1 m) ⟨vp_in_nI (by omega) (by decide), nm_e (br_t e ⟨vp_in_nI hb (by decide), nm_e (nm_e (nm_e h))⟩)⟩)⟩⟩⟩
theorem qx_604b (hm : m < 4) (hb : b + 2 < 64) {x5 x11 : Int64} {x7 x9 x14 : Int32} (e : ¬ x7 = 18)
    (h : post x9 (fL, nI (m + 1), sm ||| x5, cl ||| x11, upd (upd (upd c b (vp_nar .byte x9.toInt8.toInt32)) (b + 1) (vp_nar .byte ((nI m >>> ((8 : Int32) &&& 31)).toInt8.toInt32))) (b + 2) (vp_nar .byte ((nI m &&& 255).toInt8.toInt32)), upd no m (vp_nar .short x7.toInt16.toInt32), upd nc m (vp_nar .char ((x14.toUInt32 % 65536).toInt32)), vp_updL nr m iv)) :
    wX_quicken_604 post (nI b) iv x5 x7 x9 x11 (nI m) x14 fL fm sm cl c no nc nr := by
  unfold wX_quicken_604 wX_quicken_699
  rw [nI_1 b, qc_2 b, nI_clamp (show b < 2 ^ 31 by omega), nI_clamp (show m < 2 ^ 31 by omega), nI_clamp (show b + 1 < 2 ^ 31 by omega), nI_clamp (show b + 2 < 2 ^ 31 by omega)]
  have v1 : vp_in (nI m) 4 := vp_in_nI hm (by decide)
  exact ⟨v1, nm_e ⟨v1, nm_e ⟨v1, nm_e (nm_r (nI_1 m) ⟨vp_in_nI (by omega) (by decide), nm_e (br_f e ⟨vp_in_nI (by omega) (by decide), nm_e ⟨vp_in_nI hb (by decide), nm_e (nm_e (nm_e h))⟩⟩)⟩)⟩⟩⟩
theorem qx_532a (hm : m < 4) (hb : b + 1 < 64) {x5 x11 : Int64} {x7 x9 : Int32} (e : x7 = 18)
    (h : post x9 (fL, nI (m + 1), sm ||| x5, cl ||| x11, upd (upd c b (vp_nar .byte x9.toInt8.toInt32)) (b + 1) (vp_nar .byte (nI m).toInt8.toInt32), upd no m (vp_nar .short x7.toInt16.toInt32), upd nc m (vp_nar .char (((c (b + 1) &&& 255).toUInt32 % 65536).toInt32)), vp_updL nr m iv)) :
    wX_quicken_532 post (nI b) iv x5 x7 x9 x11 fL (nI m) sm cl c no nc nr := by
  unfold wX_quicken_532
  rw [nI_1 b, nI_clamp (show b + 1 < 2 ^ 31 by omega)]
  exact br_t (nI_lt (b := 4) hm (by decide)) (br_t e ⟨vp_in_nI hb (by decide), nm_e (qx_604a hm hb e h)⟩)
theorem qx_532b (hm : m < 4) (hb : b + 2 < 64) {x5 x11 : Int64} {x7 x9 : Int32} (e : ¬ x7 = 18)
    (h : post x9 (fL, nI (m + 1), sm ||| x5, cl ||| x11, upd (upd (upd c b (vp_nar .byte x9.toInt8.toInt32)) (b + 1) (vp_nar .byte ((nI m >>> ((8 : Int32) &&& 31)).toInt8.toInt32))) (b + 2) (vp_nar .byte ((nI m &&& 255).toInt8.toInt32)), upd no m (vp_nar .short x7.toInt16.toInt32), upd nc m (vp_nar .char (((((c (b + 1) &&& 255) * 256) + (c (b + 2) &&& 255)).toUInt32 % 65536).toInt32)), vp_updL nr m iv)) :
    wX_quicken_532 post (nI b) iv x5 x7 x9 x11 fL (nI m) sm cl c no nc nr := by
  unfold wX_quicken_532
  rw [nI_1 b, qc_2 b, nI_clamp (show b + 1 < 2 ^ 31 by omega), nI_clamp (show b + 2 < 2 ^ 31 by omega)]
  exact br_t (nI_lt (b := 4) hm (by decide)) (br_f e ⟨vp_in_nI (by omega) (by decide), ⟨vp_in_nI hb (by decide), nm_e (qx_604b hm hb e h)⟩⟩)
theorem qx_532c (hm : ¬ m < 4) (hm4 : m ≤ 4) {x1 : Int32} {x5 x11 : Int64} {x7 x9 : Int32}
    (h : post (-6) (fL, nI m, sm, cl, c, no, nc, nr)) : wX_quicken_532 post x1 iv x5 x7 x9 x11 fL (nI m) sm cl c no nc nr := by
  unfold wX_quicken_532
  exact br_f (nI_nlt (b := 4) (by omega) (by omega)) h
/-- b is a site -/
theorem qx_a (hb : b < 64) (hL : nI b < fL) (hs : qb_t sm b = true) (h : post (c b &&& 255) (fL, fm, sm, cl, c, no, nc, nr)) :
    wpX_quicken post (fL, fm, sm, cl, c, no, nc, nr) (nI b) iv fl := by
  unfold wpX_quicken
  dsimp only
  refine br_f (nI_pos (by omega)) (br_t hL (nm_e (br_f (fun z => (qb_z sm hb).mp z hs) ⟨vp_in_nI hb (by decide), ?_⟩)))
  rw [nI_clamp (by omega)]
  exact h
/-- b is owned -/
theorem qx_b (hb : b < 64) (hL : nI b < fL) (hs : ¬ qb_t sm b = true) (hc : qb_t cl b = true) (h : post (-4) (fL, fm, sm, cl, c, no, nc, nr)) :
    wpX_quicken post (fL, fm, sm, cl, c, no, nc, nr) (nI b) iv fl := by
  unfold wpX_quicken
  dsimp only
  exact br_f (nI_pos (by omega)) (br_t hL (nm_e (br_t ((qb_z sm hb).mpr hs) (br_f (fun z => (qb_z cl hb).mp z hc) h))))
/-- not quickenable -/
theorem qx_c {op : Int32} (hop : c b &&& 255 = op) (hb : b < 64) (hL : nI b < fL) (hs : ¬ qb_t sm b = true) (hc : ¬ qb_t cl b = true) (hz : qz_n op = 0)
    (h : post (-1) (fL, fm, sm, cl, c, no, nc, nr)) : wpX_quicken post (fL, fm, sm, cl, c, no, nc, nr) (nI b) iv fl := by
  subst hop
  exact qx_tab hb hL ((qb_z sm hb).mpr hs) ((qb_z cl hb).mpr hc) (fun _ => h) (fun n => absurd hz n)
/-- truncated -/
theorem qx_d {op : Int32} (hop : c b &&& 255 = op) (hb : b < 64) (hL : b < L) (hL64 : L ≤ 64) (hs : ¬ qb_t sm b = true) (hc : ¬ qb_t cl b = true) (hz : qz_n op ≠ 0) (hle : ¬ b + qz_n op ≤ L)
    (h : post (-3) (nI L, fm, sm, cl, c, no, nc, nr)) : wpX_quicken post (nI L, fm, sm, cl, c, no, nc, nr) (nI b) iv fl := by
  subst hop
  refine qx_tab hb (nI_lt hL (by omega)) ((qb_z sm hb).mpr hs) ((qb_z cl hb).mpr hc) (fun n => absurd n hz) (fun _ => ?_)
  obtain ⟨j, _, _, ej, _⟩ := qq_val fl hz
  have h5 := qz_5 (c b &&& 255)
  exact br_t (by rw [ej]; exact nI_pos' (by omega)) (br_f (by rw [nI_add]; exact nI_ge (by omega) (by omega)) h)
/-- up to the loop's end -/
theorem qx_e {op : Int32} (hop : c b &&& 255 = op) (hb : b < 64) (hL : b < L) (hL64 : L ≤ 64) (hs : ¬ qb_t sm b = true) (hc : ¬ qb_t cl b = true) (hz : qz_n op ≠ 0) (hle : b + qz_n op ≤ L)
    (h : ∀ sp : Int64, (∀ p, p < 64 → (qb_t sp p = true ↔ b ≤ p ∧ p < b + qz_n op)) → qx_E post (nI b) iv fl ((1 : Int64) <<< ((nI b).toInt64 &&& 63)) op (qq_f op fl) (qi_n op) (nI L) fm sm cl c no nc nr sp) :
    wpX_quicken post (nI L, fm, sm, cl, c, no, nc, nr) (nI b) iv fl := by
  subst hop
  refine qx_tab hb (nI_lt hL (by omega)) ((qb_z sm hb).mpr hs) ((qb_z cl hb).mpr hc) (fun n => absurd n hz) (fun _ => ?_)
  obtain ⟨j, _, _, ej, _⟩ := qq_val fl hz
  refine br_t (by rw [ej]; exact nI_pos' (by omega)) (br_t (by rw [nI_add]; exact nI_le hle (by omega)) ⟨qz_n (c b &&& 255) + 1, ?_⟩)
  refine qx_loop (by omega) h (qz_n (c b &&& 255)) b 0 rfl (Nat.le_refl b) (fun p _ => ?_)
  rw [qb_0]
  constructor
  · intro z; exact absurd z (by decide)
  · intro z; omega
end
/-! quicken: Y's walk -/
section
variable {post : Int32 → SY → Prop} {L m : Nat} {fL fm : Int32} {o q nd : Nat → Int32} {ids : Nat → Int64} {b : Nat} {iv : Int64} {fl : Int32}
theorem qy_154 {op : Int32} (hm : m < 4) (hb : b < 64) (hz : qz_n op ≠ 0)
    (h : post (qq_f op fl) (fL, nI (m + 1), o, upd q b (qq_f op fl), upd nd b (nI m), vp_updL ids b iv)) :
    wY_quicken_154 post (nI b) iv fl op fL (nI m) o q nd ids := by
  unfold wY_quicken_154
  rw [nI_clamp (show b < 2 ^ 31 by omega), qc_char (show m < 65536 by omega)]
  have v : vp_in (nI b) 64 := vp_in_nI hb (by decide)
  refine br_t (nI_lt (b := 4) hm (by decide)) (nm_r (nI_1 m) ⟨v, nm_e ⟨v, nm_e (qy_form hz ?_)⟩⟩)
  obtain ⟨j, _, _, ej, _⟩ := qq_val fl hz
  rw [ej] at h
  try dsimp only
  rw [ej, qc_short (by omega), (qc_b8 j (by omega)).2]
  exact ⟨v, nm_e h⟩
theorem qy_154c {op : Int32} (hm : ¬ m < 4) (hm4 : m ≤ 4) (h : post (-6) (fL, nI m, o, q, nd, ids)) :
    wY_quicken_154 post (nI b) iv fl op fL (nI m) o q nd ids := by
  unfold wY_quicken_154
  exact br_f (nI_nlt (b := 4) (by omega) (by omega)) h
/-- the loop over the further bytes: none is owned -/
theorem qy_85n {op : Int32} {n : Nat} (hn : b + n ≤ 64) (hun : ∀ p, b ≤ p → p < b + n → ¬ ∃ s, qw_o o q p s)
    (hA : qi_n op = 0 → wY_quicken_154 post (nI b) iv fl op fL fm o q nd ids)
    (hB : ¬ qi_n op = 0 → wY_quicken_144 post (nI b) iv fl op fL fm o q nd ids) :
    ∀ d j : Nat, j + d = n → wY_quicken_85 post (nI b) iv fl op (nI n) fL fm o q nd ids (d + 1) (nI j) := by
  intro d
  induction d with
  | zero =>
    intro j hj
    have e : j = n := hj
    subst e
    refine br_t (nI_le (Nat.le_refl _) (by omega)) ?_
    by_cases e1 : op = 178
    · exact br_t e1 (hB (by rw [e1]; decide))
    refine br_f e1 ?_
    by_cases e2 : op = 179
    · exact br_t e2 (hB (by rw [e2]; decide))
    refine br_f e2 ?_
    by_cases e3 : op = 184
    · exact br_t e3 (hB (by rw [e3]; decide))
    refine br_f e3 ?_
    by_cases e4 : op = 187
    · exact br_t e4 (hB (by rw [e4]; decide))
    exact br_f e4 (hA (by unfold qi_n; rw [if_neg e1, if_neg e2, if_neg e3, if_neg e4]))
  | succ d ih =>
    intro j hj
    refine br_f (nI_ge (by omega) (by omega)) ?_
    rw [nI_add]
    refine qo_none (by omega) (hun (b + j) (by omega) (by omega)) (br_t (by decide) (nm_r (nI_1 j) (ih (j + 1) (by omega))))
/-- the loop over the further bytes: one is owned -/
theorem qy_85o {op : Int32} {n : Nat} (hn : b + n ≤ 64) (h : post (-4) (fL, fm, o, q, nd, ids)) :
    ∀ d j : Nat, j + d = n → (∃ p, b + j ≤ p ∧ p < b + n ∧ ∃ s, qw_o o q p s) → wY_quicken_85 post (nI b) iv fl op (nI n) fL fm o q nd ids (d + 1) (nI j) := by
  intro d
  induction d with
  | zero =>
    rintro j hj ⟨p, h1, h2, _⟩
    omega
  | succ d ih =>
    rintro j hj ⟨p, h1, h2, hp⟩
    refine br_f (nI_ge (by omega) (by omega)) ?_
    rw [nI_add]
    by_cases w : ∃ s, qw_o o q (b + j) s
    · refine qo_some (by omega) w (fun s hs => br_f (nI_pos ?_) h)
      have := hs.1
      omega
    · have ne : p ≠ b + j := fun e => w (e ▸ hp)
      exact qo_none (by omega) w (br_t (by decide) (nm_r (nI_1 j) (ih (j + 1) (by omega) ⟨p, by omega, h2, hp⟩)))
/-- b is a site -/
theorem qy_a (hb : b < 64) (hL : nI b < fL) (hs : ¬ q b = 0) (h : post (q b) (fL, fm, o, q, nd, ids)) :
    wpY_quicken post (fL, fm, o, q, nd, ids) (nI b) iv fl := by
  unfold wpY_quicken
  dsimp only
  rw [nI_clamp (by omega)]
  have v : vp_in (nI b) 64 := vp_in_nI hb (by decide)
  exact br_f (nI_pos (by omega)) (br_t hL ⟨v, br_f hs ⟨v, h⟩⟩)
/-- b is owned -/
theorem qy_b (hb : b < 64) (hL : nI b < fL) (hs : q b = 0) (w : ∃ s, qw_o o q b s) (h : post (-4) (fL, fm, o, q, nd, ids)) :
    wpY_quicken post (fL, fm, o, q, nd, ids) (nI b) iv fl := by
  unfold wpY_quicken
  dsimp only
  rw [nI_clamp (by omega)]
  have v : vp_in (nI b) 64 := vp_in_nI hb (by decide)
  refine br_f (nI_pos (by omega)) (br_t hL ⟨v, br_t hs (qo_some hb w (fun s hw => br_f (nI_pos ?_) h))⟩)
  have := hw.1
  omega
/-- up to the size -/
theorem qy_c {op : Int32} (hop : o b &&& 255 = op) (hb : b < 64) (hL : nI b < nI L) (hs : q b = 0) (w : ¬ ∃ s, qw_o o q b s)
    (hz : qz_n op = 0 → post (-1) (nI L, fm, o, q, nd, ids))
    (ht : qz_n op ≠ 0 → ¬ b + qz_n op ≤ L → post (-3) (nI L, fm, o, q, nd, ids))
    (hn : qz_n op ≠ 0 → b + qz_n op ≤ L → ∃ n : Nat, wY_quicken_85 post (nI b) iv fl op (nI (qz_n op)) (nI L) fm o q nd ids n 1) (hL64 : L ≤ 64) :
    wpY_quicken post (nI L, fm, o, q, nd, ids) (nI b) iv fl := by
  subst hop
  unfold wpY_quicken
  dsimp only
  rw [nI_clamp (by omega)]
  have v : vp_in (nI b) 64 := vp_in_nI hb (by decide)
  refine br_f (nI_pos (by omega)) (br_t hL ⟨v, br_t hs (qo_none hb w (br_t (by decide) ⟨v, nm_e (qz_Y ?_)⟩))⟩)
  have h5 := qz_5 (o b &&& 255)
  by_cases z : qz_n (o b &&& 255) = 0
  · exact br_t (by rw [z]; rfl) (hz z)
  refine br_f (nI_ne0 (by omega) (by omega)) ?_
  by_cases le : b + qz_n (o b &&& 255) ≤ L
  · exact br_t (by rw [nI_add]; exact nI_le le (by omega)) (hn z le)
  · exact br_f (by rw [nI_add]; exact nI_ge (by omega) (by omega)) (ht z le)
end
end
section
/-! X's nodeAt; Y's claimedMask -/
section
variable {L m : Nat} {sm cl : Int64} {c no nc : Nat → Int32} {nr : Nat → Int64} {o q nd : Nat → Int32} {ids : Nat → Int64} {b : Nat}
theorem qn_no {post : Int32 → Prop} {fL fm : Int32} (hb : b < 64) (hL : nI b < fL) (hs : ¬ qb_t sm b = true) (h : post (-1)) :
    wpX_nodeAt post (fL, fm, sm, cl, c, no, nc, nr) (nI b) := by
  unfold wpX_nodeAt
  dsimp only
  exact br_f (nI_pos (by omega)) (br_t hL (br_t ((qb_z sm hb).mpr hs) h))
theorem qn_site {post : Int32 → Prop} {fm : Int32} {k : Nat} (hk : k < 4) (hb : b + qz_n (o b &&& 255) ≤ L) (hL : L ≤ 64) (hz : qz_n (o b &&& 255) ≠ 0)
    (hs : qb_t sm b = true) (hcq : c b &&& 255 = q b) (h203 : q b = 203 ↔ o b &&& 255 = 18)
    (h18 : o b &&& 255 = 18 → c (b + 1) &&& 255 = nI k) (hn18 : ¬ o b &&& 255 = 18 → c (b + 1) &&& 255 = 0 ∧ c (b + 2) &&& 255 = nI k)
    (h : post (nI k)) : wpX_nodeAt post (nI L, fm, sm, cl, c, no, nc, nr) (nI b) := by
  have z := qz_sz hz
  have hb64 : b < 64 := by omega
  unfold wpX_nodeAt
  dsimp only
  rw [nI_1 b, qc_2 b, nI_clamp (show b < 2 ^ 31 by omega), nI_clamp (show b + 1 < 2 ^ 31 by omega), nI_clamp (show b + 2 < 2 ^ 31 by omega), hcq]
  refine br_f (nI_pos (by omega)) (br_t (nI_lt (by omega) (by omega)) (br_f (fun e => (qb_z sm hb64).mp e hs) ⟨vp_in_nI hb64 (by decide), ?_⟩))
  have kk := qc_k k hk
  by_cases e : o b &&& 255 = 18
  · rw [h18 e]
    refine br_t (h203.mpr e) ⟨vp_in_nI (by omega) (by decide), nm_e ?_⟩
    rw [kk.2.2.1]
    exact h
  · have h3 := z.2.2 e
    rw [(hn18 e).1, (hn18 e).2]
    refine br_f (fun w => e (h203.mp w)) ⟨vp_in_nI (by omega) (by decide), ⟨vp_in_nI (by omega) (by decide), nm_e ?_⟩⟩
    rw [kk.2.2.2, kk.2.2.1]
    exact h
theorem qm_loop {post : Int64 → Prop} {fL fm : Int32} (hC : ∀ p, p < 64 → (qb_t cl p = true ↔ ∃ s, qw_o o q p s)) (h : post cl) :
    ∀ (d j : Nat) (x : Int64), j + d = 64 → (∀ p, p < 64 → (qb_t x p = true ↔ p < j ∧ ∃ s, qw_o o q p s)) →
      wY_claimedMask_4 post fL fm o q nd ids (d + 1) x (nI j) := by
  intro d
  induction d with
  | zero =>
    intro j x hj hx
    have e : j = 64 := hj
    subst e
    refine br_t (by decide) ?_
    have ex : x = cl := by
      apply qb_ext
      intro p hp
      have h1 := hx p hp
      have h2 := hC p hp
      by_cases w : ∃ s, qw_o o q p s
      · rw [h1.mpr ⟨hp, w⟩, h2.mpr w]
      · rw [ts_nt (fun z => w (h1.mp z).2), ts_nt (fun z => w (h2.mp z))]
    rw [ex]
    exact h
  | succ d ih =>
    intro j x hj hx
    refine br_f (nI_ge (b := 64) (by omega) (by decide)) ?_
    by_cases w : ∃ s, qw_o o q j s
    · refine qo_some (by omega) w (fun s hs => br_f (nI_pos ?_) (nm_e (nm_r (nI_1 j) (ih (j + 1) _ (by omega) ?_))))
      · have := hs.1
        omega
      · intro p hp
        rw [qb_or, qb_1 (by omega), Bool.or_eq_true, hx p hp, decide_eq_true_eq]
        constructor
        · rintro (z | z)
          · exact ⟨by omega, z.2⟩
          · subst z; exact ⟨by omega, w⟩
        · rintro ⟨z1, z2⟩
          by_cases e : p = j
          · exact Or.inr e
          · exact Or.inl ⟨by omega, z2⟩
    · refine qo_none (by omega) w (br_t (by decide) (nm_r (nI_1 j) (ih (j + 1) _ (by omega) ?_)))
      intro p hp
      rw [hx p hp]
      constructor
      · rintro ⟨z1, z2⟩
        exact ⟨by omega, z2⟩
      · rintro ⟨z1, z2⟩
        have e : p ≠ j := fun e => w (e ▸ z2)
        exact ⟨by omega, z2⟩
end
end
section
/-! what is owed -/
theorem i_up {k : Nat} {u : SX} {v : SY} (h : i_Rel k u v) : i_Rel (k + 5) u v := h
theorem qr_0 {L : Nat} (hL : L ≤ 64) : qR_r L 0 0 0 (fun _ => 0) (fun _ => 0) (fun _ => 0) (fun _ => 0) (fun _ => 0) (fun _ => 0) (fun _ => 0) (fun _ => 0) := by
  refine ⟨hL, by decide, fun p _ => ?_, fun p _ => ?_, fun p _ _ => rfl, fun s _ h => absurd rfl h⟩
  · rw [qb_0]
    exact ⟨fun h => absurd h (by decide), fun h => absurd rfl h⟩
  · rw [qb_0]
    exact ⟨fun h => absurd h (by decide), fun ⟨s, h⟩ => absurd rfl h.2.2⟩
theorem i_vc0 (k0 : Int32) : wpX_init (fun u => wpY_init (fun v => i_Rel 1 u v) k0) k0 := by
  by_cases h0 : 0 ≤ k0
  · by_cases h64 : k0 ≤ 64
    · obtain ⟨j, hj, rfl⟩ := nI_of2 (x := k0) (M := 64) (n := 64) (by decide) (Int32.not_lt.mpr h0) h64
      exact br_t h0 (br_t h64 (br_t h0 (br_t h64 (qr_in (m := 0) (qr_0 hj)))))
    · exact br_t h0 (br_f h64 (br_t h0 (br_f h64 (qr_in (L := 64) (m := 0) (qr_0 (by decide))))))
  · exact br_f h0 (br_t (by decide) (br_f h0 (qr_in (L := 0) (m := 0) (qr_0 (by decide)))))
theorem i_vc_put {k : Nat} {u : SX} {v : SY} (I : i_Rel k u v) (hk : k + 5 ≤ 2561) (v1 : Int32) (v2 : Int32) : wpX_put (fun r u' => wpY_put (fun r' v' => r' = r ∧ i_Rel (k + 5) u' v') v v1 v2) u v1 v2 := by
  refine qr_el (P := fun u v => wpX_put (fun r u' => wpY_put (fun r' v' => r' = r ∧ i_Rel (k + 5) u' v') v v1 v2) u v1 v2) I ?_
  intro L m sm cl c no nc nr o q nd ids H
  have J : i_Rel (k + 5) (nI L, nI m, sm, cl, c, no, nc, nr) (nI L, nI m, o, q, nd, ids) := qr_in H
  obtain ⟨hL, hm, hS, hC, hU, hN⟩ := id H
  by_cases h0 : v1 < 0
  · exact br_t h0 (br_t h0 ⟨rfl, J⟩)
  obtain ⟨b, hb, rfl⟩ := nI_of h0
  by_cases hbL : b < L
  · have hl : nI b < nI L := nI_lt hbL (by omega)
    have hb64 : b < 64 := by omega
    have vi : vp_in (nI b) 64 := vp_in_nI hb64 (by decide)
    by_cases w : ∃ s, qw_o o q b s
    · refine br_f h0 (br_t hl (br_f (fun z => (qb_z cl hb64).mp z ((hC b hb64).mpr w)) ?_))
      refine br_f h0 (br_t hl (qo_some hb64 w (fun s hs => br_f (nI_pos ?_) ⟨rfl, J⟩)))
      have := hs.1
      omega
    · refine br_f h0 (br_t hl (br_t ((qb_z cl hb64).mpr (fun z => w ((hC b hb64).mp z))) ⟨vi, nm_e ⟨vi, ?_⟩⟩))
      rw [nI_clamp hb, pk_us, pk_vb]
      refine br_f h0 (br_t hl (qo_none hb64 w (br_t (by decide) ⟨vi, nm_e ⟨rfl, ?_⟩⟩)))
      rw [nI_clamp hb, pk_vb]
      exact qr_in (qr_put H w _)
  · have hl : ¬ nI b < nI L := nI_nlt (by omega) hb
    exact br_f h0 (br_f hl (br_f h0 (br_f hl ⟨rfl, J⟩)))
theorem i_vc_quicken {k : Nat} {u : SX} {v : SY} (I : i_Rel k u v) (hk : k + 5 ≤ 2561) (v1 : Int32) (a1 : Int64) (v4 : Int32) : wpX_quicken (fun r u' => wpY_quicken (fun r' v' => r' = r ∧ i_Rel (k + 5) u' v') v v1 a1 v4) u v1 a1 v4 := by
  refine qr_el (P := fun u v => wpX_quicken (fun r u' => wpY_quicken (fun r' v' => r' = r ∧ i_Rel (k + 5) u' v') v v1 a1 v4) u v1 a1 v4) I ?_
  intro L m sm cl c no nc nr o q nd ids H
  have J : i_Rel (k + 5) (nI L, nI m, sm, cl, c, no, nc, nr) (nI L, nI m, o, q, nd, ids) := qr_in H
  obtain ⟨hL, hm, hS, hC, hU, hN⟩ := id H
  by_cases h0 : v1 < 0
  · exact br_t h0 (br_t h0 ⟨rfl, J⟩)
  obtain ⟨b, hb, rfl⟩ := nI_of h0
  by_cases hbL : b < L
  rotate_left
  · have hl : ¬ nI b < nI L := nI_nlt (by omega) hb
    exact br_f h0 (br_f hl (br_f h0 (br_f hl ⟨rfl, J⟩)))
  have hl : nI b < nI L := nI_lt hbL (by omega)
  have hb64 : b < 64 := by omega
  by_cases hq : q b = 0
  rotate_left
  · exact qx_a hb64 hl ((hS b hb64).mpr hq) (qy_a hb64 hl hq ⟨(hN b hb64 hq).2.2.1.symm, J⟩)
  have hsb : ¬ qb_t sm b = true := fun z => (hS b hb64).mp z hq
  by_cases w : ∃ s, qw_o o q b s
  · exact qx_b hb64 hl hsb ((hC b hb64).mpr w) (qy_b hb64 hl hq w ⟨rfl, J⟩)
  have hcb : ¬ qb_t cl b = true := fun z => w ((hC b hb64).mp z)
  have hop : c b &&& 255 = o b &&& 255 := by rw [hU b hb64 w]
  by_cases hz : qz_n (o b &&& 255) = 0
  · exact qx_c hop hb64 hl hsb hcb hz (qy_c rfl hb64 hl hq w (fun _ => ⟨rfl, J⟩) (fun n => absurd hz n) (fun n => absurd hz n) hL)
  by_cases hle : b + qz_n (o b &&& 255) ≤ L
  rotate_left
  · exact qx_d hop hb64 hbL hL hsb hcb hz hle (qy_c rfl hb64 hl hq w (fun n => absurd n hz) (fun _ _ => ⟨rfl, J⟩) (fun _ n => absurd n hle) hL)
  have z := qz_sz hz
  by_cases hov : ∃ p, b + 1 ≤ p ∧ p < b + qz_n (o b &&& 255) ∧ ∃ s, qw_o o q p s
  · refine qx_e hop hb64 hbL hL hsb hcb hz hle (fun sp hsp => br_f ?_ ?_)
    · obtain ⟨p, h1, h2, h3⟩ := hov
      intro e
      exact (qb_az cl sp).mp e p (by omega) ((hC p (by omega)).mpr h3) ((hsp p (by omega)).mpr ⟨by omega, h2⟩)
    · exact qy_c rfl hb64 hl hq w (fun n => absurd n hz) (fun _ n => absurd hle n)
        (fun _ _ => ⟨_, qy_85o (by omega) ⟨rfl, J⟩ (qz_n (o b &&& 255) - 1) 1 (by omega) hov⟩) hL
  have hun : ∀ p, b ≤ p → p < b + qz_n (o b &&& 255) → ¬ ∃ s, qw_o o q p s := by
    intro p h1 h2 h3
    by_cases e : p = b
    · subst e; exact w h3
    · exact hov ⟨p, by omega, h2, h3⟩
  refine qx_e hop hb64 hbL hL hsb hcb hz hle (fun sp hsp => br_t ?_ ?_)
  · rw [qb_az]
    intro p hp h1 h2
    have h3 := (hsp p hp).mp h2
    exact hun p h3.1 h3.2 ((hC p hp).mp h1)
  have fin : (∀ post : Int32 → SY → Prop, wY_quicken_154 post (nI b) a1 v4 (o b &&& 255) (nI L) (nI m) o q nd ids → wpY_quicken post (nI L, nI m, o, q, nd, ids) (nI b) a1 v4) →
      wX_quicken_532 (fun r u' => wpY_quicken (fun r' v' => r' = r ∧ i_Rel (k + 5) u' v') (nI L, nI m, o, q, nd, ids) (nI b) a1 v4) (nI b) a1 ((1 : Int64) <<< ((nI b).toInt64 &&& 63)) (o b &&& 255) (qq_f (o b &&& 255) v4) sp (nI L) (nI m) sm cl c no nc nr := by
    intro hY
    by_cases h4 : m < 4
    rotate_left
    · exact qx_532c h4 hm (hY _ (qy_154c h4 hm ⟨rfl, J⟩))
    obtain ⟨j, j1, j2, ej, j3⟩ := qq_val v4 hz
    have hQ0 : ¬ qq_f (o b &&& 255) v4 = 0 := by rw [ej]; exact nI_ne0 (by omega) (by omega)
    have hQ : qq_f (o b &&& 255) v4 = 203 ↔ o b &&& 255 = 18 := by
      rw [ej, ← j3]; exact nI_eq (b := 203) (by omega) (by decide)
    have hQb : vp_nar .byte (qq_f (o b &&& 255) v4).toInt8.toInt32 &&& 255 = qq_f (o b &&& 255) v4 := by rw [ej]; exact qc_byte (by omega)
    have kk := qc_k m h4
    have u1 : c (b + 1) = o (b + 1) := hU (b + 1) (by omega) (hun (b + 1) (by omega) (by omega))
    by_cases e18 : o b &&& 255 = 18
    · refine qx_532a h4 (by omega) e18 (hY _ (qy_154 h4 hb64 hz ⟨rfl, qr_in (qr_new H h4 hz hle hun hsp hQ0 hQ ?_ ?_ ?_ ?_ ?_ ?_ ?_)⟩))
      · rw [pk_un (by omega), pk_us]; exact hQb
      · intro p p1 p2 _
        rw [pk_un p2, pk_un p1]
      · intro _
        rw [pk_us, pk_us, u1]
        exact ⟨qc_byte (by omega), qc_index1 _⟩
      · exact fun n => absurd e18 n
      · rw [pk_us]; exact qc_op _
      · exact pk_uLs
      · exact fun i hi => ⟨pk_un (by omega), pk_un (by omega), pk_uLn (by omega)⟩
    · have z3 := z.2.2 e18
      have u2 : c (b + 2) = o (b + 2) := hU (b + 2) (by omega) (hun (b + 2) (by omega) (by omega))
      refine qx_532b h4 (by omega) e18 (hY _ (qy_154 h4 hb64 hz ⟨rfl, qr_in (qr_new H h4 hz hle hun hsp hQ0 hQ ?_ ?_ ?_ ?_ ?_ ?_ ?_)⟩))
      · rw [pk_un (by omega), pk_un (by omega), pk_us]; exact hQb
      · intro p p1 p2 p3
        rw [pk_un (p3 e18), pk_un p2, pk_un p1]
      · exact fun n => absurd n e18
      · intro _
        rw [pk_un (show b + 1 ≠ b + 2 by omega), pk_us, pk_us, pk_us, u1, u2, kk.1, kk.2.1]
        exact ⟨qc_byte (j := 0) (by decide), qc_byte (by omega), qc_index _ _⟩
      · rw [pk_us]; exact qc_op _
      · exact pk_uLs
      · exact fun i hi => ⟨pk_un (by omega), pk_un (by omega), pk_uLn (by omega)⟩
  have go : ∀ post : Int32 → SY → Prop, (qi_n (o b &&& 255) = 0 → wY_quicken_154 post (nI b) a1 v4 (o b &&& 255) (nI L) (nI m) o q nd ids) →
      (¬ qi_n (o b &&& 255) = 0 → wY_quicken_144 post (nI b) a1 v4 (o b &&& 255) (nI L) (nI m) o q nd ids) → wpY_quicken post (nI L, nI m, o, q, nd, ids) (nI b) a1 v4 := fun post hA hB =>
    qy_c rfl hb64 hl hq w (fun n => absurd n hz) (fun _ n => absurd hle n)
      (fun _ _ => ⟨_, qy_85n (by omega) hun hA hB (qz_n (o b &&& 255) - 1) 1 (by omega)⟩) hL
  by_cases hi : qi_n (o b &&& 255) = 0
  · exact br_t hi (fin (fun post h => go post (fun _ => h) (fun n => absurd hi n)))
  by_cases hf : (v4 &&& 2) = 0
  · exact br_f hi (br_t hf (go _ (fun n => absurd n hi) (fun _ => br_t hf ⟨rfl, J⟩)))
  · exact br_f hi (br_f hf (fin (fun post h => go post (fun n => absurd n hi) (fun _ => br_f hf h))))
theorem i_vc_opcodeAt {k : Nat} {u : SX} {v : SY} (I : i_Rel k u v) (hk : k + 5 ≤ 2561) (v1 : Int32) : wpX_opcodeAt (fun r => wpY_opcodeAt (fun r' => r' = r ∧ i_Rel (k + 5) u v) v v1) u v1 := by
  refine qr_el (P := fun u v => wpX_opcodeAt (fun r => wpY_opcodeAt (fun r' => r' = r ∧ i_Rel (k + 5) u v) v v1) u v1) I ?_
  intro L m sm cl c no nc nr o q nd ids H
  have J : i_Rel (k + 5) (nI L, nI m, sm, cl, c, no, nc, nr) (nI L, nI m, o, q, nd, ids) := qr_in H
  obtain ⟨hL, hm, hS, hC, hU, hN⟩ := id H
  by_cases h0 : v1 < 0
  · exact br_t h0 (br_t h0 ⟨rfl, J⟩)
  obtain ⟨b, hb, rfl⟩ := nI_of h0
  by_cases hbL : b < L
  rotate_left
  · have hl : ¬ nI b < nI L := nI_nlt (by omega) hb
    exact br_f h0 (br_f hl (br_f h0 (br_f hl ⟨rfl, J⟩)))
  have hl : nI b < nI L := nI_lt hbL (by omega)
  have hb64 : b < 64 := by omega
  have vb : vp_in (nI b) 64 := vp_in_nI hb64 (by decide)
  refine br_f h0 (br_t hl ⟨vb, br_f h0 (br_t hl ?_)⟩)
  rw [nI_clamp hb]
  by_cases w : ∃ s, qw_o o q b s
  rotate_left
  · exact qo_none hb64 w (br_f (by decide) ⟨vb, by rw [hU b hb64 w], J⟩)
  refine qo_some hb64 w (fun s hs => ?_)
  obtain ⟨s1, s2, s3⟩ := hs
  have hs64 : s < 64 := by omega
  have vs : vp_in (nI s) 64 := vp_in_nI hs64 (by decide)
  obtain ⟨hz, hsL, hcq, h203, kn, hkm, hnd, hno, hnr, h18, hn18, hd⟩ := hN s hs64 s3
  have kk := qc_k kn (by omega)
  refine br_t (nI_pos' (by omega)) ?_
  by_cases e : s = b
  · subst e
    refine br_t rfl ⟨vs, ?_⟩
    rw [nI_clamp hb]
    exact ⟨hcq.symm, J⟩
  refine br_f (fun z => e ((nI_eq (by omega) (by omega)).mp z)) ⟨vs, ?_⟩
  rw [nI_clamp (show s < 2 ^ 31 by omega)]
  by_cases e18 : o s &&& 255 = 18
  · have hz2 : qz_n (o s &&& 255) = 2 := by rw [e18]; decide
    have eb : b = s + 1 := by omega
    subst eb
    refine br_t e18 ?_
    unfold wY_opcodeAt_67
    have ed : nI (s + 1) - nI s = nI 1 := by
      rw [pk_sub (by omega)]
      exact congrArg nI (show s + 1 - s = 1 by omega)
    refine nm_r ed ?_
    refine br_t (by decide) (br_t rfl ⟨vs, ?_⟩)
    rw [nI_clamp (show s < 2 ^ 31 by omega), hnd, kk.2.1]
    exact ⟨(h18 e18).1.symm, J⟩
  · refine br_f e18 ?_
    unfold wY_opcodeAt_67
    refine nm_r (e' := nI (b - s)) (pk_sub s1) ?_
    rw [nI_clamp (show s < 2 ^ 31 by omega), hnd, kk.2.1, kk.1]
    by_cases d3 : 3 ≤ b - s
    · refine br_f (nI_ge (a := 2) (by omega) (by omega)) ⟨vb, ?_⟩
      have hd' := hd (b - s) d3 (by omega)
      rw [show s + (b - s) = b by omega] at hd'
      rw [nI_clamp hb, hd']
      exact ⟨rfl, J⟩
    refine br_t (nI_le (b := 2) (by omega) (by decide)) ?_
    by_cases d2 : b = s + 2
    · subst d2
      refine br_t (congrArg nI (show s + 2 - s = 2 by omega)) ⟨vs, ?_⟩
      exact ⟨(hn18 e18).2.1.symm, J⟩
    · have eb : b = s + 1 := by omega
      subst eb
      refine br_f (fun x => ?_) ⟨vs, (hn18 e18).1.symm, J⟩
      have := (nI_eq (b := 2) (by omega) (by decide)).mp x
      omega
theorem i_vc_decode {k : Nat} {u : SX} {v : SY} (I : i_Rel k u v) (hk : k + 5 ≤ 2561) (v1 : Int32) : wpX_decode (fun r => wpY_decode (fun r' => r' = r ∧ i_Rel (k + 5) u v) v v1) u v1 := by
  refine qr_el (P := fun u v => wpX_decode (fun r => wpY_decode (fun r' => r' = r ∧ i_Rel (k + 5) u v) v v1) u v1) I ?_
  intro L m sm cl c no nc nr o q nd ids H
  have J : i_Rel (k + 5) (nI L, nI m, sm, cl, c, no, nc, nr) (nI L, nI m, o, q, nd, ids) := qr_in H
  obtain ⟨hL, hm, hS, hC, hU, hN⟩ := id H
  unfold wpX_decode
  dsimp only
  by_cases h0 : v1 < 0
  · exact br_t h0 (br_f (by decide) (br_t h0 ⟨rfl, J⟩))
  obtain ⟨b, hb, rfl⟩ := nI_of h0
  by_cases hbL : b < L
  rotate_left
  · have hl : ¬ nI b < nI L := nI_nlt (by omega) hb
    have hl' : nI L ≤ nI b := nI_le (by omega) hb
    exact br_f h0 (br_f hl (br_f (by decide) (br_f h0 (br_t hl' ⟨rfl, J⟩))))
  have hl : nI b < nI L := nI_lt hbL (by omega)
  have hl' : ¬ nI L ≤ nI b := nI_ge hbL (by omega)
  have hb64 : b < 64 := by omega
  have vb : vp_in (nI b) 64 := vp_in_nI hb64 (by decide)
  by_cases hq : q b = 0
  · refine qn_no hb64 hl (fun z => (hS b hb64).mp z hq) (br_f (by decide) (br_f h0 (br_f hl' ⟨vb, ?_⟩)))
    rw [nI_clamp hb]
    exact br_t hq ⟨rfl, J⟩
  obtain ⟨hz, hsL, hcq, h203, kn, hkm, hnd, hno, hnr, h18, hn18, hd⟩ := hN b hb64 hq
  have z := qz_sz hz
  refine qn_site (k := kn) (by omega) hsL hL hz ((hS b hb64).mpr hq) hcq h203 (fun e => (h18 e).1) (fun e => ⟨(hn18 e).1, (hn18 e).2.1⟩) ?_
  have vk : vp_in (nI kn) 4 := vp_in_nI (by omega) (by decide)
  refine br_t (nI_pos' (by omega)) ⟨vk, vk, ?_⟩
  rw [nI_clamp (show kn < 2 ^ 31 by omega), hno]
  unfold wpY_decode
  dsimp only
  rw [nI_1 b, qc_2 b, qc_n63 (b + 1) (by omega), nI_clamp hb, nI_clamp (show b + 1 < 2 ^ 31 by omega)]
  refine br_f h0 (br_f hl' ⟨vb, br_f hq ⟨vb, nm_e ⟨vp_in_nI (by omega) (by decide), nm_e ?_⟩⟩⟩)
  by_cases e18 : o b &&& 255 = 18
  · refine br_t e18 ⟨?_, J⟩
    rw [(h18 e18).2]
  · have z3 := z.2.2 e18
    rw [qc_n63 (b + 2) (by omega), nI_clamp (show b + 2 < 2 ^ 31 by omega)]
    refine br_f e18 ⟨vp_in_nI (by omega) (by decide), nm_e ⟨?_, J⟩⟩
    rw [(hn18 e18).2.2]
theorem i_vc_resolvedAt {k : Nat} {u : SX} {v : SY} (I : i_Rel k u v) (hk : k + 5 ≤ 2561) (v1 : Int32) : wpX_resolvedAt (fun r => wpY_resolvedAt (fun r' => r' = r ∧ i_Rel (k + 5) u v) v v1) u v1 := by
  refine qr_el (P := fun u v => wpX_resolvedAt (fun r => wpY_resolvedAt (fun r' => r' = r ∧ i_Rel (k + 5) u v) v v1) u v1) I ?_
  intro L m sm cl c no nc nr o q nd ids H
  have J : i_Rel (k + 5) (nI L, nI m, sm, cl, c, no, nc, nr) (nI L, nI m, o, q, nd, ids) := qr_in H
  obtain ⟨hL, hm, hS, hC, hU, hN⟩ := id H
  unfold wpX_resolvedAt
  dsimp only
  by_cases h0 : v1 < 0
  · exact br_t h0 (br_f (by decide) (br_t h0 ⟨rfl, J⟩))
  obtain ⟨b, hb, rfl⟩ := nI_of h0
  by_cases hbL : b < L
  rotate_left
  · have hl : ¬ nI b < nI L := nI_nlt (by omega) hb
    have hl' : nI L ≤ nI b := nI_le (by omega) hb
    exact br_f h0 (br_f hl (br_f (by decide) (br_f h0 (br_t hl' ⟨rfl, J⟩))))
  have hl : nI b < nI L := nI_lt hbL (by omega)
  have hl' : ¬ nI L ≤ nI b := nI_ge hbL (by omega)
  have hb64 : b < 64 := by omega
  have vb : vp_in (nI b) 64 := vp_in_nI hb64 (by decide)
  by_cases hq : q b = 0
  · refine qn_no hb64 hl (fun z => (hS b hb64).mp z hq) (br_f (by decide) (br_f h0 (br_f hl' ⟨vb, ?_⟩)))
    rw [nI_clamp hb]
    exact br_t hq ⟨rfl, J⟩
  obtain ⟨hz, hsL, hcq, h203, kn, hkm, hnd, hno, hnr, h18, hn18, hd⟩ := hN b hb64 hq
  refine qn_site (k := kn) (by omega) hsL hL hz ((hS b hb64).mpr hq) hcq h203 (fun e => (h18 e).1) (fun e => ⟨(hn18 e).1, (hn18 e).2.1⟩) ?_
  have vk : vp_in (nI kn) 4 := vp_in_nI (by omega) (by decide)
  refine br_t (nI_pos' (by omega)) ⟨vk, ?_⟩
  rw [nI_clamp (show kn < 2 ^ 31 by omega), hnr]
  refine br_f h0 (br_f hl' ⟨vb, ?_⟩)
  rw [nI_clamp hb]
  exact br_f hq ⟨vb, rfl, J⟩
theorem i_vc_claimedMask {k : Nat} {u : SX} {v : SY} (I : i_Rel k u v) (hk : k + 5 ≤ 2561) : wpX_claimedMask (fun r => wpY_claimedMask (fun r' => r' = r ∧ i_Rel (k + 5) u v) v) u := by
  refine qr_el (P := fun u v => wpX_claimedMask (fun r => wpY_claimedMask (fun r' => r' = r ∧ i_Rel (k + 5) u v) v) u) I ?_
  intro L m sm cl c no nc nr o q nd ids H
  have J : i_Rel (k + 5) (nI L, nI m, sm, cl, c, no, nc, nr) (nI L, nI m, o, q, nd, ids) := qr_in H
  obtain ⟨hL, hm, hS, hC, hU, hN⟩ := id H
  unfold wpX_claimedMask wpY_claimedMask
  dsimp only
  refine ⟨65, qm_loop hC ⟨rfl, J⟩ 64 0 0 rfl (fun p _ => ?_)⟩
  rw [qb_0]
  constructor
  · intro z; exact absurd z (by decide)
  · intro z; exact absurd z.1 (by omega)
end
