section
/-! rows pasted from the kit's rows (starting text) -/
theorem pk_us {f : Nat → Int32} {k : Nat} {x : Int32} : upd f k x k = x := if_pos rfl
theorem pk_un {f : Nat → Int32} {k j : Nat} {x : Int32} (h : j ≠ k) : upd f k x j = f j := if_neg h
theorem pk_sub {a b : Nat} (h : b ≤ a) : nI a - nI b = nI (a - b) := by
  obtain ⟨c, rfl⟩ : ∃ c, a = c + b := ⟨a - b, by omega⟩
  rw [← nI_add, Int32.add_sub_cancel, Nat.add_sub_cancel]
theorem pk_mul (a b : Nat) : nI a * nI b = nI (a * b) := (Int32.ofNat_mul a b).symm
theorem pk_ix (x : Int32) {n : Nat} (hn : n < 2 ^ 31) : x < 0 ∨ nI n ≤ x ∨ ∃ j : Nat, j < n ∧ x = nI j := by
  by_cases h : x < 0
  · exact Or.inl h
  · obtain ⟨j, hj, rfl⟩ := nI_of h
    by_cases h2 : j < n
    · exact Or.inr (Or.inr ⟨j, h2, rfl⟩)
    · exact Or.inr (Or.inl (nI_le (by omega) hj))
theorem pk_in {x : Int32} (n N : Nat) (h : n < N) (hx : x = nI n := by rfl) (hN : N < 2 ^ 31 := by omega) : vp_in x N := by
  subst hx
  exact vp_in_nI h hN
theorem pk_cl {x : Int32} (n : Nat) (hx : x = nI n := by rfl) (h : n < 2 ^ 31 := by omega) : x.toNatClampNeg = n := by
  subst hx
  exact nI_clamp h
theorem pk_tn {n : Nat} (h : n < 2 ^ 32) : (nI n).toBitVec.toNat = n := Nat.mod_eq_of_lt h
theorem pk_and (x : Int32) {m : Int32} (k : Nat) (hm : m.toBitVec.toNat = 2 ^ k - 1) : x &&& m = nI (x.toBitVec.toNat % 2 ^ k) := by
  apply Int32.toBitVec_inj.mp
  apply BitVec.eq_of_toNat_eq
  rw [Int32.toBitVec_and, BitVec.toNat_and, hm, Nat.and_two_pow_sub_one_eq_mod]
  show _ = (BitVec.ofNat 32 _).toNat
  rw [BitVec.toNat_ofNat]
  exact (Nat.mod_eq_of_lt (Nat.lt_of_le_of_lt (Nat.mod_le _ _) x.toBitVec.isLt)).symm
theorem pk_andN {n : Nat} (h : n < 2 ^ 32) {m : Int32} (k : Nat) (hm : m.toBitVec.toNat = 2 ^ k - 1) : nI n &&& m = nI (n % 2 ^ k) := by
  rw [pk_and _ k hm, pk_tn h]
theorem pk_andE (x : Int32) {m : Int32} (k : Nat) (hm : m.toBitVec.toNat = 2 ^ k - 1) : ∃ j : Nat, j < 2 ^ k ∧ x &&& m = nI j := ⟨_, Nat.mod_lt _ (Nat.two_pow_pos k), pk_and x k hm⟩
theorem pk_andIn (x : Int32) {m : Int32} (k : Nat) (hm : m.toBitVec.toNat = 2 ^ k - 1) (hk : k ≤ 30) : vp_in (x &&& m) (2 ^ k) := by
  obtain ⟨j, hj, e⟩ := pk_andE x k hm
  rw [e]
  exact vp_in_nI hj (Nat.lt_of_le_of_lt (Nat.pow_le_pow_right (by decide) hk) (by decide))
theorem pk_shl (a s : Int32) (k : Nat) (hs : (s.toBitVec.smod 32).toNat = k) : (a <<< s).toBitVec.toNat = a.toBitVec.toNat * 2 ^ k % 2 ^ 32 := by
  show (a.toBitVec <<< (s.toBitVec.smod 32).toNat).toNat = _
  rw [hs, BitVec.toNat_shiftLeft, Nat.shiftLeft_eq]
theorem pk_shlN {n : Nat} (s : Int32) (k : Nat) (hs : (s.toBitVec.smod 32).toNat = k) (h : n * 2 ^ k < 2 ^ 32) : nI n <<< s = nI (n * 2 ^ k) := by
  apply Int32.toBitVec_inj.mp
  apply BitVec.eq_of_toNat_eq
  have hn : n < 2 ^ 32 := Nat.lt_of_le_of_lt (Nat.le_mul_of_pos_right n (Nat.two_pow_pos k)) h
  rw [pk_shl _ _ k hs, pk_tn hn, pk_tn h, Nat.mod_eq_of_lt h]
theorem pk_shr (a s : Int32) (k : Nat) (hs : (s.toBitVec.smod 32).toNat = k) : (a >>> s).toInt = a.toInt >>> k := by
  show (a.toBitVec.sshiftRight (s.toBitVec.smod 32).toNat).toInt = _
  rw [hs, BitVec.toInt_sshiftRight]
  rfl
theorem pk_shrN {n : Nat} (h : n < 2 ^ 31) (s : Int32) (k : Nat) (hs : (s.toBitVec.smod 32).toNat = k) : nI n >>> s = nI (n / 2 ^ k) := by
  apply Int32.toInt_inj.mp
  have h2 : n / 2 ^ k ≤ n := Nat.div_le_self _ _
  rw [pk_shr _ _ k hs, nI_toInt h, nI_toInt (by omega), Int.shiftRight_eq_div_pow]
  rfl
def bt (x : Int32) (i : Nat) : Bool := x.toBitVec.getLsbD i
theorem b_ext {x y : Int32} (h : ∀ i, i < 32 → bt x i = bt y i) : x = y := Int32.toBitVec_inj.mp (BitVec.eq_of_getLsbD_eq (fun i hi => h i hi))
theorem b_or (x y : Int32) (i : Nat) : bt (x ||| y) i = (bt x i || bt y i) := by unfold bt; rw [Int32.toBitVec_or, BitVec.getLsbD_or]
theorem b_and (x y : Int32) (i : Nat) : bt (x &&& y) i = (bt x i && bt y i) := by unfold bt; rw [Int32.toBitVec_and, BitVec.getLsbD_and]
theorem b_xor (x y : Int32) (i : Nat) : bt (x ^^^ y) i = (bt x i ^^ bt y i) := by unfold bt; rw [Int32.toBitVec_xor, BitVec.getLsbD_xor]
theorem b_big {x : Int32} {i : Nat} (h : 32 ≤ i) : bt x i = false := BitVec.getLsbD_of_ge _ _ h
theorem b_255 (i : Nat) : bt 255 i = decide (i < 8) := by
  rcases Nat.lt_or_ge i 32 with h | h
  · exact (by decide +kernel : ∀ i, i < 32 → bt 255 i = decide (i < 8)) i h
  · rw [b_big h, decide_eq_false (by omega)]
theorem b_65535 (i : Nat) : bt 65535 i = decide (i < 16) := by
  rcases Nat.lt_or_ge i 32 with h | h
  · exact (by decide +kernel : ∀ i, i < 32 → bt 65535 i = decide (i < 16)) i h
  · rw [b_big h, decide_eq_false (by omega)]
theorem b_m1 : ∀ i, i < 32 → bt (-1) i = true := by decide +kernel
theorem b_0 (i : Nat) : bt 0 i = false := BitVec.getLsbD_zero
theorem s_l : ∀ n, n < 32 → ((nI n &&& 31).toBitVec.smod 32).toNat = n := by decide +kernel
theorem b_shl (n : Nat) (hn : n < 32) (x : Int32) {i : Nat} (hi : i < 32) : bt (x <<< (nI n &&& 31)) i = (decide (n ≤ i) && bt x (i - n)) := by
  unfold bt
  rw [Int32.toBitVec_shiftLeft]
  show (x.toBitVec <<< ((nI n &&& 31).toBitVec.smod 32).toNat).getLsbD i = _
  rw [s_l n hn, BitVec.getLsbD_shiftLeft]
  rcases Nat.lt_or_ge i n with h | h
  · simp [h, Nat.not_le.mpr h]
  · simp [hi, h, Nat.not_lt.mpr h]
theorem b_sshr (n : Nat) (hn : n < 32) (x : Int32) {i : Nat} (hi : i < 32) : bt (x >>> (nI n &&& 31)) i = if n + i < 32 then bt x (n + i) else bt x 31 := by
  unfold bt
  rw [Int32.toBitVec_shiftRight]
  show (x.toBitVec.sshiftRight ((nI n &&& 31).toBitVec.smod 32).toNat).getLsbD i = _
  rw [s_l n hn, BitVec.getLsbD_sshiftRight, BitVec.msb_eq_getLsbD_last]
  simp [hi]
theorem b_shl8 (x : Int32) {i : Nat} (hi : i < 32) : bt (x <<< ((8 : Int32) &&& 31)) i = (decide (8 ≤ i) && bt x (i - 8)) := b_shl 8 (by omega) x hi
theorem b_sshr8 (x : Int32) {i : Nat} (hi : i < 32) : bt (x >>> ((8 : Int32) &&& 31)) i = if 8 + i < 32 then bt x (8 + i) else bt x 31 := b_sshr 8 (by omega) x hi
theorem nx_and (a b : Nat) : nI a &&& nI b = nI (a &&& b) := by
  apply Int32.toBitVec_inj.1
  show BitVec.ofNat 32 a &&& BitVec.ofNat 32 b = BitVec.ofNat 32 (a &&& b)
  apply BitVec.eq_of_getLsbD_eq
  intro i hi
  simp [hi]
theorem nx_xor (a b : Nat) : nI a ^^^ nI b = nI (a ^^^ b) := by
  apply Int32.toBitVec_inj.1
  show BitVec.ofNat 32 a ^^^ BitVec.ofNat 32 b = BitVec.ofNat 32 (a ^^^ b)
  apply BitVec.eq_of_getLsbD_eq
  intro i hi
  simp [hi]
end
section
/-! bytes, masks, flags, the words on the bus -/
theorem qb_of {x : Int32} (h : x &&& 255 = x) : ∃ n, n < 256 ∧ x = nI n := by
  obtain ⟨j, hj, e⟩ := pk_andE x (m := 255) 8 (by decide)
  exact ⟨j, hj, h.symm.trans e⟩
theorem qb_nI {n : Nat} (h : n < 256) : nI n &&& 255 = nI n := by
  rw [pk_andN (by omega) (m := 255) 8 (by decide), Nat.mod_eq_of_lt h]
theorem qb_and (x : Int32) : (x &&& 255) &&& 255 = x &&& 255 := by
  rw [Int32.and_assoc, show (255 : Int32) &&& 255 = 255 from by decide]
theorem qb_64 (x : Int32) : (x &&& 65535) &&& 65535 = x &&& 65535 := by
  rw [Int32.and_assoc, show (65535 : Int32) &&& 65535 = 65535 from by decide]
theorem qb_64b (x : Int32) : (x &&& 65535) &&& 255 = x &&& 255 := by
  rw [Int32.and_assoc, show (65535 : Int32) &&& 255 = 255 from by decide]
theorem qb_b128 (x : Int32) : (x &&& 255) &&& 128 = x &&& 128 := by
  rw [Int32.and_assoc, show (255 : Int32) &&& 128 = 128 from by decide]
theorem qb_in (x : Int32) : vp_in (x &&& 255) 256 := pk_andIn x (m := 255) 8 (by decide) (by decide)
theorem qb_lt (x : Int32) : (x &&& 255).toNatClampNeg < 256 := by
  obtain ⟨j, hj, e⟩ := pk_andE x (m := 255) 8 (by decide)
  rw [e, nI_clamp (by omega)]; exact hj
theorem qb_or {x y : Int32} (h : x &&& 255 = x) (k : y &&& 255 = y) : (x ||| y) &&& 255 = x ||| y := by
  apply b_ext; intro i hi
  have h1 : bt (x &&& 255) i = bt x i := by rw [h]
  have h2 : bt (y &&& 255) i = bt y i := by rw [k]
  rw [b_and, b_255] at h1 h2
  rw [b_and, b_or, b_255]
  revert h1 h2
  cases bt x i <;> cases bt y i <;> cases (decide (i < 8)) <;> decide
theorem qb_hl {h l : Int32} (hh : h &&& 255 = h) (hl : l &&& 255 = l) : (256 * h + l) &&& 65535 = 256 * h + l := by
  obtain ⟨i, hi, rfl⟩ := qb_of hh
  obtain ⟨j, hj, rfl⟩ := qb_of hl
  have e : (256 : Int32) * nI i + nI j = nI (256 * i + j) := by
    rw [← nI_add, ← pk_mul]; rfl
  rw [e, pk_andN (by omega) (m := 65535) 16 (by decide), Nat.mod_eq_of_lt (by omega)]
theorem qb_s8 (x : Int32) : (x >>> ((8 : Int32) &&& 31)) &&& 255 = (x &&& 65535) >>> ((8 : Int32) &&& 31) := by
  apply b_ext; intro i hi
  rw [b_and, b_sshr8 x hi, b_sshr8 _ hi, b_and, b_and, b_255, b_65535, b_65535]
  by_cases h : i < 8
  · rw [if_pos (by omega), if_pos (by omega), decide_eq_true h, decide_eq_true (by omega)]
  · by_cases h2 : 8 + i < 32
    · rw [if_pos h2, if_pos h2, decide_eq_false h, decide_eq_false (by omega)]
    · rw [if_neg h2, if_neg h2, decide_eq_false h, decide_eq_false (by omega)]
theorem qb_s8b (x : Int32) : ((x &&& 65535) >>> ((8 : Int32) &&& 31)) &&& 255 = (x &&& 65535) >>> ((8 : Int32) &&& 31) := by
  rw [← qb_s8, qb_and]
/-- a read's word and a write's word on the bus -/
def rd (m ad : Int32) : Int32 := 256 * (ad &&& 65535) + m
def wr (v ad : Int32) : Int32 := (256 * (ad &&& 65535) + v) + 16777216
theorem rd_64 (m x : Int32) : rd m (x &&& 65535) = rd m x := by unfold rd; rw [qb_64]
theorem wr_64 (m x : Int32) : wr m (x &&& 65535) = wr m x := by unfold wr; rw [qb_64]
theorem rd_n {m ad : Int32} (hm : m &&& 255 = m) : ∃ q j, q < 65536 ∧ j < 256 ∧ ad &&& 65535 = nI q ∧ m = nI j ∧ rd m ad = nI (256 * q + j) := by
  obtain ⟨j, hj, rfl⟩ := qb_of hm
  obtain ⟨q, hq, e⟩ := pk_andE ad (m := 65535) 16 (by decide)
  refine ⟨q, j, hq, hj, e, rfl, ?_⟩
  unfold rd
  rw [e, ← nI_add, ← pk_mul]; rfl
theorem rd_w {m ad : Int32} (hm : m &&& 255 = m) : rd m ad &&& 16777216 = 0 := by
  obtain ⟨q, j, hq, hj, _, _, e⟩ := rd_n (ad := ad) hm
  have h : rd m ad &&& 16777215 = rd m ad := by
    rw [e, pk_andN (by omega) (m := 16777215) 24 (by decide), Nat.mod_eq_of_lt (by omega)]
  rw [← h, Int32.and_assoc, show (16777215 : Int32) &&& 16777216 = 0 from by decide, Int32.and_zero]
theorem wr_w {v ad : Int32} (hv : v &&& 255 = v) : ¬ wr v ad &&& 16777216 = 0 := by
  obtain ⟨q, j, hq, hj, _, _, e⟩ := rd_n (ad := ad) hv
  have e2 : wr v ad = nI (256 * q + j + 16777216) := by
    show rd v ad + 16777216 = _
    rw [e, show (16777216 : Int32) = nI 16777216 from by decide, nI_add]
  intro h
  have h1 : bt (wr v ad &&& 16777216) 24 = false := by rw [h]; decide
  rw [b_and, show bt 16777216 24 = true from by decide, Bool.and_true, e2] at h1
  have h2 : bt (nI (256 * q + j + 16777216)) 24 = (256 * q + j + 16777216).testBit 24 := by
    show (BitVec.ofNat 32 (256 * q + j + 16777216)).getLsbD 24 = _
    rw [BitVec.getLsbD_ofNat]; simp
  rw [h2, Nat.testBit_eq_decide_div_mod_eq] at h1
  have h3 := of_decide_eq_false h1
  omega
theorem wr_a {v ad : Int32} (hv : v &&& 255 = v) : (wr v ad >>> ((8 : Int32) &&& 31)) &&& 255 = ad &&& 255 := by
  obtain ⟨q, j, hq, hj, e1, _, e⟩ := rd_n (ad := ad) hv
  have e2 : wr v ad = nI (256 * q + j + 16777216) := by
    show rd v ad + 16777216 = _
    rw [e, show (16777216 : Int32) = nI 16777216 from by decide, nI_add]
  rw [e2, pk_shrN (by omega) ((8 : Int32) &&& 31) 8 (by decide), pk_andN (by omega) (m := 255) 8 (by decide), ← qb_64b ad, e1, pk_andN (by omega) (m := 255) 8 (by decide)]
  exact congrArg nI (by omega)
theorem wr_v {v ad : Int32} (hv : v &&& 255 = v) : wr v ad &&& 255 = v := by
  obtain ⟨q, j, hq, hj, e1, e3, e⟩ := rd_n (ad := ad) hv
  have e2 : wr v ad = nI (256 * q + j + 16777216) := by
    show rd v ad + 16777216 = _
    rw [e, show (16777216 : Int32) = nI 16777216 from by decide, nI_add]
  rw [e2, pk_andN (by omega) (m := 255) 8 (by decide), e3]
  exact congrArg nI (by omega)
/-- what a word does to the memory -/
def qm (e : Int32) (mem mem' : Nat → Int32) : Prop := (∃ m ad, e = rd m ad ∧ m &&& 255 = m ∧ mem' = mem) ∨ (∃ v ad, e = wr v ad ∧ v &&& 255 = v ∧ mem' = upd mem (ad &&& 255).toNatClampNeg v)
theorem qm_r {m ad : Int32} {mem : Nat → Int32} (hm : m &&& 255 = m) : qm (rd m ad) mem mem := Or.inl ⟨m, ad, rfl, hm, rfl⟩
theorem qm_w {v ad : Int32} {mem : Nat → Int32} (hv : v &&& 255 = v) : qm (wr v ad) mem (upd mem (ad &&& 255).toNatClampNeg v) := Or.inr ⟨v, ad, rfl, hv, rfl⟩
/-- flags -/
def qB (b : Int32) : Prop := b = 1 ∨ b = 2 ∨ b = 4 ∨ b = 8 ∨ b = 64 ∨ b = 128
def qg (p b o : Int32) : Int32 := (p &&& (255 - b)) ||| (if o = 0 then 0 else b)
theorem qp_b {p : Int32} (h : p &&& 239 = p) : p &&& 255 = p := by
  rw [← h, Int32.and_assoc, show (239 : Int32) &&& 255 = 239 from by decide]
theorem qp_of {p : Int32} (h : p &&& 239 = p) : ∃ n, n < 256 ∧ p = nI n ∧ nI n &&& 239 = nI n := by
  obtain ⟨n, hn, rfl⟩ := qb_of (qp_b h)
  exact ⟨n, hn, rfl, h⟩
theorem qg_t0 : ∀ n, n < 256 → (nI n &&& (1 ^^^ (-1)) = (nI n &&& (255 - 1)) ||| 0 ∧ nI n &&& (2 ^^^ (-1)) = (nI n &&& (255 - 2)) ||| 0 ∧ nI n &&& (4 ^^^ (-1)) = (nI n &&& (255 - 4)) ||| 0) ∧ (nI n &&& (8 ^^^ (-1)) = (nI n &&& (255 - 8)) ||| 0 ∧ nI n &&& (64 ^^^ (-1)) = (nI n &&& (255 - 64)) ||| 0 ∧ nI n &&& (128 ^^^ (-1)) = (nI n &&& (255 - 128)) ||| 0) := by decide +kernel
theorem qg_t1 : ∀ n, n < 256 → (nI n ||| 1 = (nI n &&& (255 - 1)) ||| 1 ∧ nI n ||| 2 = (nI n &&& (255 - 2)) ||| 2 ∧ nI n ||| 4 = (nI n &&& (255 - 4)) ||| 4) ∧ (nI n ||| 8 = (nI n &&& (255 - 8)) ||| 8 ∧ nI n ||| 64 = (nI n &&& (255 - 64)) ||| 64 ∧ nI n ||| 128 = (nI n &&& (255 - 128)) ||| 128) := by decide +kernel
theorem qg_x0 {p b : Int32} (hp : p &&& 239 = p) (hb : qB b) : p &&& (b ^^^ (-1)) = qg p b 0 := by
  obtain ⟨n, hn, rfl, _⟩ := qp_of hp
  have t := qg_t0 n hn
  unfold qg
  rw [if_pos rfl]
  rcases hb with rfl | rfl | rfl | rfl | rfl | rfl
  · exact t.1.1
  · exact t.1.2.1
  · exact t.1.2.2
  · exact t.2.1
  · exact t.2.2.1
  · exact t.2.2.2
theorem qg_x1 {p b o : Int32} (hp : p &&& 239 = p) (hb : qB b) (ho : ¬ o = 0) : p ||| b = qg p b o := by
  obtain ⟨n, hn, rfl, _⟩ := qp_of hp
  have t := qg_t1 n hn
  unfold qg
  rw [if_neg ho]
  rcases hb with rfl | rfl | rfl | rfl | rfl | rfl
  · exact t.1.1
  · exact t.1.2.1
  · exact t.1.2.2
  · exact t.2.1
  · exact t.2.2.1
  · exact t.2.2.2
theorem qg_k {p b : Int32} (o m : Int32) (hp : p &&& m = p) (hm : b &&& m = b) : qg p b o &&& m = qg p b o := by
  have e : ∀ z : Int32, z &&& m = z → ((p &&& (255 - b)) ||| z) &&& m = (p &&& (255 - b)) ||| z := by
    intro z hz
    apply b_ext; intro i hi
    have h1 : bt (p &&& m) i = bt p i := by rw [hp]
    have h2 : bt (z &&& m) i = bt z i := by rw [hz]
    rw [b_and] at h1 h2
    rw [b_and, b_or, b_and]
    revert h1 h2
    cases bt p i <;> cases bt z i <;> cases bt m i <;> cases bt (255 - b) i <;> decide
  unfold qg
  by_cases ho : o = 0
  · rw [if_pos ho]; exact e 0 (by rw [Int32.zero_and])
  · rw [if_neg ho]; exact e b hm
theorem qg_p {p b : Int32} (o : Int32) (hp : p &&& 239 = p) (hb : qB b) : qg p b o &&& 239 = qg p b o := by
  refine qg_k o 239 hp ?_
  rcases hb with rfl | rfl | rfl | rfl | rfl | rfl <;> decide
theorem qg_8 {p b : Int32} (o : Int32) (hb : b &&& 8 = 0) (hc : (255 - b) &&& 8 = 8) : qg p b o &&& 8 = p &&& 8 := by
  have e : ∀ z : Int32, z &&& 8 = 0 → ((p &&& (255 - b)) ||| z) &&& 8 = p &&& 8 := by
    intro z hz
    apply b_ext; intro i hi
    have h1 : bt ((255 - b) &&& 8) i = bt 8 i := by rw [hc]
    have h2 : bt (z &&& 8) i = bt 0 i := by rw [hz]
    rw [b_and] at h1 h2
    rw [b_0] at h2
    rw [b_and, b_or, b_and, b_and]
    revert h1 h2
    cases bt p i <;> cases bt z i <;> cases bt 8 i <;> cases bt (255 - b) i <;> decide
  unfold qg
  by_cases ho : o = 0
  · rw [if_pos ho]; exact e 0 (by decide)
  · rw [if_neg ho]; exact e b hb
/-- N and Z of the low byte of r -/
def qz (p r : Int32) : Int32 := qg (qg p 128 (if r &&& 128 = 0 then 0 else 1)) 2 (if r &&& 255 = 0 then 1 else 0)
theorem qz_p {p : Int32} (r : Int32) (hp : p &&& 239 = p) : qz p r &&& 239 = qz p r := qg_p _ (qg_p _ hp (by unfold qB; decide)) (by unfold qB; decide)
theorem qz_b (p r : Int32) : qz p (r &&& 255) = qz p r := by unfold qz; rw [qb_b128, qb_and]
theorem qz_8 (p r : Int32) : qz p r &&& 8 = p &&& 8 := by
  unfold qz; rw [qg_8 _ (by decide) (by decide), qg_8 _ (by decide) (by decide)]
theorem qu_uu {f : Nat → Int32} {k : Nat} {x z : Int32} : upd (upd f k x) k z = upd f k z := by
  funext j; unfold upd; by_cases h : j = k
  · rw [if_pos h, if_pos h]
  · rw [if_neg h, if_neg h, if_neg h]
theorem qu_sw {f : Nat → Int32} {k l : Nat} {x z : Int32} (h : k ≠ l) : upd (upd f k x) l z = upd (upd f l z) k x := by
  funext j; unfold upd; by_cases h1 : j = k
  · by_cases h2 : j = l
    · exact absurd (h1.symm.trans h2) h
    · rw [if_neg h2, if_pos h1, if_pos h1]
  · by_cases h2 : j = l
    · rw [if_pos h2, if_neg h1, if_pos h2]
    · rw [if_neg h2, if_neg h1, if_neg h1, if_neg h2]
/-- memories of bytes, nothing behind 256; registers -/
def qM (mem : Nat → Int32) : Prop := (∀ i, mem i &&& 255 = mem i) ∧ ∀ i, 256 ≤ i → mem i = 0
def qR (now : Nat → Int32) : Prop := (now 0 &&& 255 = now 0 ∧ now 1 &&& 255 = now 1 ∧ now 2 &&& 255 = now 2 ∧ now 3 &&& 255 = now 3) ∧ (now 4 &&& 239 = now 4 ∧ now 5 &&& 65535 = now 5) ∧ ∀ i, 6 ≤ i → now i = 0
theorem qM_u {mem : Nat → Int32} {v : Int32} (ad : Int32) (h : qM mem) (hv : v &&& 255 = v) : qM (upd mem (ad &&& 255).toNatClampNeg v) := by
  constructor
  · intro i
    by_cases hi : i = (ad &&& 255).toNatClampNeg
    · rw [hi, pk_us]; exact hv
    · rw [pk_un hi]; exact h.1 i
  · intro i hi
    have := qb_lt ad
    rw [pk_un (by omega)]; exact h.2 i hi
theorem qM_m {e : Int32} {mem mem' : Nat → Int32} (h : qM mem) (hm : qm e mem mem') : qM mem' := by
  rcases hm with ⟨m, ad, _, _, rfl⟩ | ⟨v, ad, _, hv, rfl⟩
  · exact h
  · exact qM_u ad h hv
end
section
/-! the two states by the names that move; X's small methods -/
abbrev qx (a x y s p pc se la ne co ac sq dn le tl mo st lo hi pt ea uf op np : Int32) (mem lev : Nat → Int32) : SX := (0, 1, 2, 3, 4, 5, 6, 7, 8, 9, 10, 11, 12, 13, 14, 15, 16, 17, 18, 19, 1, 2, 4, 8, 64, 128, a, x, y, s, p, pc, se, la, ne, co, ac, sq, dn, le, tl, mo, st, lo, hi, pt, ea, uf, op, np, mem, lev)
abbrev qy (len dn co se la ne sq ac : Int32) (mem work now fin lin log : Nat → Int32) : SY := (len, dn, co, se, la, ne, sq, ac, mem, work, now, fin, lin, log)
theorem q_ite {c A B : Prop} [Decidable c] {α : Type} {P : α → Prop} {u v : α} (f : P u → A) (g : P v → B) (h : P (if c then u else v)) : (c → A) ∧ (¬ c → B) :=
  ⟨fun hc => f (by rw [if_pos hc] at h; exact h), fun hc => g (by rw [if_neg hc] at h; exact h)⟩
theorem q_B1 : qB 1 := by unfold qB; decide
theorem q_B2 : qB 2 := by unfold qB; decide
theorem q_B4 : qB 4 := by unfold qB; decide
theorem q_B8 : qB 8 := by unfold qB; decide
theorem q_B64 : qB 64 := by unfold qB; decide
theorem q_B128 : qB 128 := by unfold qB; decide
section
variable {a x y s p pc se la ne co ac sq dn le tl mo st lo hi pt ea uf op np : Int32} {mem lev : Nat → Int32}
theorem qx_read {post : Int32 → SX → Prop} {ad : Int32} (h : post (mem (ad &&& 255).toNatClampNeg) (qx a x y s p pc se la ne co (rd (mem (ad &&& 255).toNatClampNeg) ad) sq dn le tl mo st lo hi pt ea uf op np mem lev)) : wpX_read post (qx a x y s p pc se la ne co ac sq dn le tl mo st lo hi pt ea uf op np mem lev) ad :=
  And.intro (qb_in ad) (nm_e (nm_r (e' := rd (mem (ad &&& 255).toNatClampNeg) ad) (Int32.add_comm _ _) h))
theorem qx_write {post : SX → Prop} {ad v v' : Int32} (hv : v' &&& 255 = v) (h : post (qx a x y s p pc se la ne co (wr v ad) sq dn le tl mo st lo hi pt ea uf op np (upd mem (ad &&& 255).toNatClampNeg v) lev)) : wpX_write post (qx a x y s p pc se la ne co ac sq dn le tl mo st lo hi pt ea uf op np mem lev) ad v' := by
  subst hv
  exact And.intro (qb_in ad) (nm_e (nm_r (e' := wr (v' &&& 255) ad) (congrArg (fun z : Int32 => z + 16777216) (Int32.add_comm _ _)) h))
theorem qx_readStack {post : Int32 → SX → Prop} {k : Int32} (h : post (mem ((256 + ((s + k) &&& 255)) &&& 255).toNatClampNeg) (qx a x y s p pc se la ne co (rd (mem ((256 + ((s + k) &&& 255)) &&& 255).toNatClampNeg) (256 + ((s + k) &&& 255))) sq dn le tl mo st lo hi pt ea uf op np mem lev)) : wpX_readStack post (qx a x y s p pc se la ne co ac sq dn le tl mo st lo hi pt ea uf op np mem lev) k := by
  unfold wpX_readStack
  exact qx_read h
theorem qx_writeStack {post : SX → Prop} {k v v' : Int32} (hv : v' &&& 255 = v) (h : post (qx a x y s p pc se la ne co (wr v (256 + ((s + k) &&& 255))) sq dn le tl mo st lo hi pt ea uf op np (upd mem ((256 + ((s + k) &&& 255)) &&& 255).toNatClampNeg v) lev)) : wpX_writeStack post (qx a x y s p pc se la ne co ac sq dn le tl mo st lo hi pt ea uf op np mem lev) k v' := by
  unfold wpX_writeStack
  exact qx_write hv h
theorem qx_flag {post : SX → Prop} {b o : Int32} (hp : p &&& 239 = p) (hb : qB b) (h : post (qx a x y s (qg p b o) pc se la ne co ac sq dn le tl mo st lo hi pt ea uf op np mem lev)) : wpX_setFlag post (qx a x y s p pc se la ne co ac sq dn le tl mo st lo hi pt ea uf op np mem lev) b o := by
  by_cases ho : o = 0
  · exact br_t ho (nm_r (e' := qg p b o) (by rw [ho]; exact qg_x0 hp hb) h)
  · exact br_f ho (nm_r (e' := qg p b o) (qg_x1 hp hb ho) h)
theorem qx_fl35 {post : Int32 → SX → Prop} {r z : Int32} (hp : p &&& 239 = p) (h : post (r &&& 255) (qx a x y s (qg p 2 z) pc se la ne co ac sq dn le tl mo st lo hi pt ea uf op np mem lev)) : wX_flagged_35 post r z 2 0 1 2 3 4 5 6 7 8 9 10 11 12 13 14 15 16 17 18 19 1 2 4 8 64 128 a x y s p pc se la ne co ac sq dn le tl mo st lo hi pt ea uf op np mem lev := by
  unfold wX_flagged_35
  exact qx_flag hp q_B2 h
theorem qx_fl17 {post : Int32 → SX → Prop} {r z : Int32} (hp : p &&& 239 = p) (h : post (r &&& 255) (qx a x y s (qg (qg p 128 z) 2 (if r &&& 255 = 0 then 1 else 0)) pc se la ne co ac sq dn le tl mo st lo hi pt ea uf op np mem lev)) : wX_flagged_17 post r z 128 0 1 2 3 4 5 6 7 8 9 10 11 12 13 14 15 16 17 18 19 1 2 4 8 64 128 a x y s p pc se la ne co ac sq dn le tl mo st lo hi pt ea uf op np mem lev := by
  unfold wX_flagged_17
  refine qx_flag hp q_B128 ?_
  have hp' := qg_p z hp q_B128
  by_cases c : r &&& 255 = 0
  · rw [if_pos c] at h
    exact br_t c (qx_fl35 hp' h)
  · rw [if_neg c] at h
    exact br_f c (qx_fl35 hp' h)
theorem qx_flagged {post : Int32 → SX → Prop} {r : Int32} (hp : p &&& 239 = p) (h : post (r &&& 255) (qx a x y s (qz p r) pc se la ne co ac sq dn le tl mo st lo hi pt ea uf op np mem lev)) : wpX_flagged post (qx a x y s p pc se la ne co ac sq dn le tl mo st lo hi pt ea uf op np mem lev) r := by
  unfold qz at h
  by_cases c : r &&& 128 = 0
  · rw [if_pos c] at h
    exact br_t c (qx_fl17 hp h)
  · rw [if_neg c] at h
    exact br_f c (qx_fl17 hp h)
/-- X's lines -/
def qwl (l se la : Int32) : Int32 := if l = 1 then if se = 0 then 1 else la else la
theorem qx_watch {post : SX → Prop} (h : post (qx a x y s p pc (lev 1) (qwl (lev 1) se la) ne co ac sq dn le tl mo st lo hi pt ea uf op np mem lev)) : wpX_watchNmi post (qx a x y s p pc se la ne co ac sq dn le tl mo st lo hi pt ea uf op np mem lev) := by
  unfold qwl at h
  by_cases c : lev 1 = 1
  · rw [if_pos c] at h
    by_cases d : se = 0
    · rw [if_pos d] at h
      exact br_t c (br_t d (nm_e h))
    · rw [if_neg d] at h
      exact br_t c (br_f d (nm_e h))
  · rw [if_neg c] at h
    exact br_f c (nm_e h)
def qpx (mo dn le : Int32) : Int32 := if mo = 19 then 0 else if mo = 17 then 0 else if mo = 18 then (if dn = 1 then 1 else if dn = 3 then (if le = 4 then 1 else 0) else 0) else if dn = le - 1 then 1 else 0
theorem qx_isPoll {post : Int32 → Prop} (h : post (qpx mo dn le)) : wpX_isPollCycle post (qx a x y s p pc se la ne co ac sq dn le tl mo st lo hi pt ea uf op np mem lev) := by
  unfold qpx at h
  exact q_ite (P := post) id (q_ite (P := post) id (q_ite (P := post) (q_ite (P := post) id (q_ite (P := post) (q_ite (P := post) id id) id)) (q_ite (P := post) id id))) h
/-- the poll: next and latch behind it -/
def qpn (pl ne la l0 m : Int32) : Int32 := if pl = 0 then ne else if ne = 0 ∨ ne = 1 then (if la = 1 then 2 else if l0 = 1 then (if m = 0 then 1 else ne) else ne) else ne
def qpl (pl ne la : Int32) : Int32 := if pl = 0 then la else if ne = 0 ∨ ne = 1 then (if la = 1 then 0 else la) else la
theorem qx_poll36 {post : SX → Prop} {z : Int32} (h : post (qx a x y s p pc se (if la = 1 then 0 else la) (if la = 1 then 2 else if lev 0 = 1 then (if z &&& 4 = 0 then 1 else ne) else ne) co ac sq dn le tl mo st lo hi pt ea uf op np mem lev)) : wX_poll_36 post z 0 1 2 3 4 5 6 7 8 9 10 11 12 13 14 15 16 17 18 19 1 2 4 8 64 128 a x y s p pc se la ne co ac sq dn le tl mo st lo hi pt ea uf op np mem lev := by
  unfold wX_poll_36
  by_cases c : la = 1
  · rw [if_pos c, if_pos c] at h
    exact br_t c h
  · rw [if_neg c, if_neg c] at h
    by_cases d : lev 0 = 1
    · rw [if_pos d] at h
      by_cases e : z &&& 4 = 0
      · rw [if_pos e] at h
        exact br_f c (br_t d (br_t e h))
      · rw [if_neg e] at h
        exact br_f c (br_t d (br_f e h))
    · rw [if_neg d] at h
      exact br_f c (br_f d h)
theorem qx_poll16 {post : SX → Prop} (h : post (qx a x y s p pc se (if la = 1 then 0 else la) (if la = 1 then 2 else if lev 0 = 1 then (if (if mo = 14 then op else p) &&& 4 = 0 then 1 else ne) else ne) co ac sq dn le tl mo st lo hi pt ea uf op np mem lev)) : wX_poll_16 post 0 1 2 3 4 5 6 7 8 9 10 11 12 13 14 15 16 17 18 19 1 2 4 8 64 128 a x y s p pc se la ne co ac sq dn le tl mo st lo hi pt ea uf op np mem lev := by
  unfold wX_poll_16
  by_cases c : mo = 14
  · rw [if_pos c] at h
    exact br_t c (qx_poll36 h)
  · rw [if_neg c] at h
    exact br_f c (qx_poll36 h)
theorem qx_poll {post : SX → Prop} {pl : Int32} (hpl : ¬ pl = 0) (h : post (qx a x y s p pc se (qpl pl ne la) (qpn pl ne la (lev 0) ((if mo = 14 then op else p) &&& 4)) co ac sq dn le tl mo st lo hi pt ea uf op np mem lev)) : wpX_poll post (qx a x y s p pc se la ne co ac sq dn le tl mo st lo hi pt ea uf op np mem lev) := by
  unfold qpn qpl at h
  rw [if_neg hpl, if_neg hpl] at h
  by_cases c : ne = 0
  · rw [if_pos (Or.inl c), if_pos (Or.inl c)] at h
    exact br_t c (qx_poll16 h)
  · by_cases d : ne = 1
    · rw [if_pos (Or.inr d), if_pos (Or.inr d)] at h
      exact br_f c (br_t d (qx_poll16 h))
    · rw [if_neg (fun z => z.elim c d), if_neg (fun z => z.elim c d)] at h
      exact br_f c (br_f d h)
end
end
section
/-! X's operations -/
def qsum (p a m : Int32) : Int32 := (a + m) + (p &&& 1)
def qab (p a m : Int32) : Int32 := qz (qg (qg p 1 (if qsum p a m ≤ 255 then 0 else 1)) 64 (if ((a ^^^ qsum p a m) &&& (m ^^^ qsum p a m)) &&& 128 = 0 then 0 else 1)) (qsum p a m)
theorem qab_p {p : Int32} (a m : Int32) (hp : p &&& 239 = p) : qab p a m &&& 239 = qab p a m := qz_p _ (qg_p _ (qg_p _ hp q_B1) q_B64)
theorem qab_8 (p a m : Int32) : qab p a m &&& 8 = p &&& 8 := by
  unfold qab; rw [qz_8, qg_8 _ (by decide) (by decide), qg_8 _ (by decide) (by decide)]
def qdn (p a m : Int32) : Int32 := if ((a &&& 15) + (m &&& 15)) + (p &&& 1) ≤ 9 then ((a &&& 15) + (m &&& 15)) + (p &&& 1) else ((((a &&& 15) + (m &&& 15)) + (p &&& 1) + 6) &&& 15) + 16
def qds (p a m : Int32) : Int32 := ((a &&& 240) + (m &&& 240)) + qdn p a m
def qdt (p a m : Int32) : Int32 := if qds p a m < 160 then qds p a m else qds p a m + 96
def qdz (p a m : Int32) : Int32 := qg p 2 (if ((a + m) + (p &&& 1)) &&& 255 = 0 then 1 else 0)
def qdv (q a m t : Int32) : Int32 := qg (qg q 128 (if t &&& 128 = 0 then 0 else 1)) 64 (if ((a ^^^ t) &&& (m ^^^ t)) &&& 128 = 0 then 0 else 1)
def qdp (p a m : Int32) : Int32 := qg (qdv (qdz p a m) a m (qds p a m)) 1 (if qdt p a m < 256 then 0 else 1)
theorem qdz_p {p : Int32} (a m : Int32) (hp : p &&& 239 = p) : qdz p a m &&& 239 = qdz p a m := qg_p _ hp q_B2
theorem qdv_p {q : Int32} (a m t : Int32) (hp : q &&& 239 = q) : qdv q a m t &&& 239 = qdv q a m t := qg_p _ (qg_p _ hp q_B128) q_B64
theorem qdp_p {p : Int32} (a m : Int32) (hp : p &&& 239 = p) : qdp p a m &&& 239 = qdp p a m := qg_p _ (qdv_p _ _ _ (qdz_p _ _ hp)) q_B1
def qsn (p a m : Int32) : Int32 := if 0 ≤ (((a &&& 15) - (m &&& 15)) + (p &&& 1)) - 1 then (((a &&& 15) - (m &&& 15)) + (p &&& 1)) - 1 else (((((a &&& 15) - (m &&& 15)) + (p &&& 1)) - 1 - 6) &&& 15) - 16
def qsd (p a m : Int32) : Int32 := if 0 ≤ ((a &&& 240) - (m &&& 240)) + qsn p a m then ((a &&& 240) - (m &&& 240)) + qsn p a m else ((a &&& 240) - (m &&& 240)) + qsn p a m - 96
def qsa (p a m : Int32) : Int32 := if p &&& 8 = 0 then qsum p a (m ^^^ 255) &&& 255 else qsd p a m &&& 255
def qcp (p g m : Int32) : Int32 := qz (qg p 1 (if g < m then 0 else 1)) (g - m)
theorem qcp_p {p : Int32} (g m : Int32) (hp : p &&& 239 = p) : qcp p g m &&& 239 = qcp p g m := qz_p _ (qg_p _ hp q_B1)
def qbp (p a m : Int32) : Int32 := qg (qg (qg p 128 (if m &&& 128 = 0 then 0 else 1)) 64 (if m &&& 64 = 0 then 0 else 1)) 2 (if a &&& m = 0 then 1 else 0)
theorem qbp_p {p : Int32} (a m : Int32) (hp : p &&& 239 = p) : qbp p a m &&& 239 = qbp p a m := qg_p _ (qg_p _ (qg_p _ hp q_B128) q_B64) q_B2
/-- shifts, decrement, increment by the row of the opcode: the raw result, and P -/
def qmv (w p m : Int32) : Int32 := if w = 0 then m <<< ((1 : Int32) &&& 31) else if w = 1 then (m <<< ((1 : Int32) &&& 31)) + (p &&& 1) else if w = 2 then m >>> ((1 : Int32) &&& 31) else if w = 3 then (m >>> ((1 : Int32) &&& 31)) + 128 * (p &&& 1) else if w = 6 then m - 1 else m + 1
def qmp (w p m : Int32) : Int32 := if 4 ≤ w then qz p (qmv w p m) else if 2 ≤ w then qz (qg p 1 (if m &&& 1 = 0 then 0 else 1)) (qmv w p m) else qz (qg p 1 (if m &&& 128 = 0 then 0 else 1)) (qmv w p m)
theorem qmp_p {p : Int32} (w m : Int32) (hp : p &&& 239 = p) : qmp w p m &&& 239 = qmp w p m := by
  unfold qmp
  by_cases c : 4 ≤ w
  · rw [if_pos c]; exact qz_p _ hp
  · rw [if_neg c]
    by_cases d : 2 ≤ w
    · rw [if_pos d]; exact qz_p _ (qg_p _ hp q_B1)
    · rw [if_neg d]; exact qz_p _ (qg_p _ hp q_B1)
theorem qsh_t1 : ∀ n, n < 256 → (nI n <<< ((1 : Int32) &&& 31)) ||| 0 = nI n <<< ((1 : Int32) &&& 31) ∧ (nI n <<< ((1 : Int32) &&& 31)) ||| 1 = (nI n <<< ((1 : Int32) &&& 31)) + 1 := by decide +kernel
theorem qsh_t3 : ∀ n, n < 256 → (nI n >>> ((1 : Int32) &&& 31)) ||| (0 <<< ((7 : Int32) &&& 31)) = nI n >>> ((1 : Int32) &&& 31) ∧ (nI n >>> ((1 : Int32) &&& 31)) ||| (1 <<< ((7 : Int32) &&& 31)) = (nI n >>> ((1 : Int32) &&& 31)) + 128 * 1 := by decide +kernel
theorem q_and1 (p : Int32) : p &&& 1 = 0 ∨ p &&& 1 = 1 := by
  obtain ⟨j, hj, e⟩ := pk_andE p (m := 1) 1 (by decide)
  rw [e]
  rcases (show j = 0 ∨ j = 1 by omega) with rfl | rfl
  · exact Or.inl rfl
  · exact Or.inr rfl
theorem qsh_l {m : Int32} (p : Int32) (hm : m &&& 255 = m) : (m <<< ((1 : Int32) &&& 31)) ||| (p &&& 1) = (m <<< ((1 : Int32) &&& 31)) + (p &&& 1) := by
  obtain ⟨n, hn, rfl⟩ := qb_of hm
  rcases q_and1 p with e | e
  · rw [e, (qsh_t1 n hn).1, Int32.add_zero]
  · rw [e, (qsh_t1 n hn).2]
theorem qsh_l0 {m : Int32} (hm : m &&& 255 = m) : (m <<< ((1 : Int32) &&& 31)) ||| 0 = m <<< ((1 : Int32) &&& 31) := Int32.or_zero
theorem qsh_r {m : Int32} (p : Int32) (hm : m &&& 255 = m) : (m >>> ((1 : Int32) &&& 31)) ||| ((p &&& 1) <<< ((7 : Int32) &&& 31)) = (m >>> ((1 : Int32) &&& 31)) + 128 * (p &&& 1) := by
  obtain ⟨n, hn, rfl⟩ := qb_of hm
  rcases q_and1 p with e | e
  · rw [e, (qsh_t3 n hn).1, Int32.mul_zero, Int32.add_zero]
  · rw [e, (qsh_t3 n hn).2]
theorem qsh_r0 {m : Int32} (hm : m &&& 255 = m) : (m >>> ((1 : Int32) &&& 31)) ||| (0 <<< ((7 : Int32) &&& 31)) = m >>> ((1 : Int32) &&& 31) := by
  obtain ⟨n, hn, rfl⟩ := qb_of hm
  exact (qsh_t3 n hn).1
section
variable {a x y s p pc se la ne co ac sq dn le tl mo st lo hi pt ea uf op np : Int32} {mem lev : Nat → Int32}
theorem qx_ab56 {post : SX → Prop} {t z : Int32} (hp : p &&& 239 = p) (h : post (qx (t &&& 255) x y s (qz (qg p 64 z) t) pc se la ne co ac sq dn le tl mo st lo hi pt ea uf op np mem lev)) : wX_addBinary_56 post t z 64 0 1 2 3 4 5 6 7 8 9 10 11 12 13 14 15 16 17 18 19 1 2 4 8 64 128 a x y s p pc se la ne co ac sq dn le tl mo st lo hi pt ea uf op np mem lev := by
  unfold wX_addBinary_56
  refine qx_flag hp q_B64 ?_
  exact qx_flagged (qg_p z hp q_B64) h
theorem qx_ab28 {post : SX → Prop} {m t z : Int32} (hp : p &&& 239 = p) (h : post (qx (t &&& 255) x y s (qz (qg (qg p 1 z) 64 (if ((a ^^^ t) &&& (m ^^^ t)) &&& 128 = 0 then 0 else 1)) t) pc se la ne co ac sq dn le tl mo st lo hi pt ea uf op np mem lev)) : wX_addBinary_28 post m t z 1 0 1 2 3 4 5 6 7 8 9 10 11 12 13 14 15 16 17 18 19 1 2 4 8 64 128 a x y s p pc se la ne co ac sq dn le tl mo st lo hi pt ea uf op np mem lev := by
  unfold wX_addBinary_28
  refine qx_flag hp q_B1 ?_
  have hp' := qg_p z hp q_B1
  by_cases c : ((a ^^^ t) &&& (m ^^^ t)) &&& 128 = 0
  · rw [if_pos c] at h
    exact br_t c (qx_ab56 hp' h)
  · rw [if_neg c] at h
    exact br_f c (qx_ab56 hp' h)
theorem qx_addB {post : SX → Prop} {m : Int32} (hp : p &&& 239 = p) (h : post (qx (qsum p a m &&& 255) x y s (qab p a m) pc se la ne co ac sq dn le tl mo st lo hi pt ea uf op np mem lev)) : wpX_addBinary post (qx a x y s p pc se la ne co ac sq dn le tl mo st lo hi pt ea uf op np mem lev) m := by
  unfold qab at h
  refine nm_r (e' := qsum p a m) rfl ?_
  by_cases c : qsum p a m ≤ 255
  · rw [if_pos c] at h
    exact br_t c (qx_ab28 hp h)
  · rw [if_neg c] at h
    exact br_f c (qx_ab28 hp h)
theorem qx_ad165 {post : SX → Prop} {t z : Int32} (hp : p &&& 239 = p) (h : post (qx (t &&& 255) x y s (qg p 1 z) pc se la ne co ac sq dn le tl mo st lo hi pt ea uf op np mem lev)) : wX_addDecimal_165 post t z 1 0 1 2 3 4 5 6 7 8 9 10 11 12 13 14 15 16 17 18 19 1 2 4 8 64 128 a x y s p pc se la ne co ac sq dn le tl mo st lo hi pt ea uf op np mem lev := by
  unfold wX_addDecimal_165
  refine qx_flag hp q_B1 ?_
  exact nm_e h
theorem qx_ad151 {post : SX → Prop} {t : Int32} (hp : p &&& 239 = p) (h : post (qx (t &&& 255) x y s (qg p 1 (if t < 256 then 0 else 1)) pc se la ne co ac sq dn le tl mo st lo hi pt ea uf op np mem lev)) : wX_addDecimal_151 post t 0 1 2 3 4 5 6 7 8 9 10 11 12 13 14 15 16 17 18 19 1 2 4 8 64 128 a x y s p pc se la ne co ac sq dn le tl mo st lo hi pt ea uf op np mem lev := by
  unfold wX_addDecimal_151
  by_cases c : t < 256
  · rw [if_pos c] at h
    exact br_t c (qx_ad165 hp h)
  · rw [if_neg c] at h
    exact br_f c (qx_ad165 hp h)
theorem qx_ad138 {post : SX → Prop} {t z : Int32} (hp : p &&& 239 = p) (h : post (qx ((if t < 160 then t else t + 96) &&& 255) x y s (qg (qg p 64 z) 1 (if (if t < 160 then t else t + 96) < 256 then 0 else 1)) pc se la ne co ac sq dn le tl mo st lo hi pt ea uf op np mem lev)) : wX_addDecimal_138 post t z 64 0 1 2 3 4 5 6 7 8 9 10 11 12 13 14 15 16 17 18 19 1 2 4 8 64 128 a x y s p pc se la ne co ac sq dn le tl mo st lo hi pt ea uf op np mem lev := by
  unfold wX_addDecimal_138
  refine qx_flag hp q_B64 ?_
  have hp' := qg_p z hp q_B64
  by_cases c : t < 160
  · simp only [if_pos c] at h
    exact br_t c (qx_ad151 hp' h)
  · simp only [if_neg c] at h
    exact br_f c (nm_e (qx_ad151 hp' h))
theorem qx_ad107 {post : SX → Prop} {t z : Int32} (hp : p &&& 239 = p) (h : post (qx ((if t < 160 then t else t + 96) &&& 255) x y s (qg (qg (qg p 128 z) 64 (if ((a ^^^ t) &&& (op ^^^ t)) &&& 128 = 0 then 0 else 1)) 1 (if (if t < 160 then t else t + 96) < 256 then 0 else 1)) pc se la ne co ac sq dn le tl mo st lo hi pt ea uf op np mem lev)) : wX_addDecimal_107 post t z 128 0 1 2 3 4 5 6 7 8 9 10 11 12 13 14 15 16 17 18 19 1 2 4 8 64 128 a x y s p pc se la ne co ac sq dn le tl mo st lo hi pt ea uf op np mem lev := by
  unfold wX_addDecimal_107
  refine qx_flag hp q_B128 ?_
  have hp' := qg_p z hp q_B128
  by_cases c : ((a ^^^ t) &&& (op ^^^ t)) &&& 128 = 0
  · rw [if_pos c] at h
    exact br_t c (qx_ad138 hp' h)
  · rw [if_neg c] at h
    exact br_f c (qx_ad138 hp' h)
theorem qx_ad87 {post : SX → Prop} {t z : Int32} (hp : p &&& 239 = p) (h : post (qx ((if t < 160 then t else t + 96) &&& 255) x y s (qg (qdv (qg p 2 z) a op t) 1 (if (if t < 160 then t else t + 96) < 256 then 0 else 1)) pc se la ne co ac sq dn le tl mo st lo hi pt ea uf op np mem lev)) : wX_addDecimal_87 post t z 2 0 1 2 3 4 5 6 7 8 9 10 11 12 13 14 15 16 17 18 19 1 2 4 8 64 128 a x y s p pc se la ne co ac sq dn le tl mo st lo hi pt ea uf op np mem lev := by
  unfold wX_addDecimal_87
  unfold qdv at h
  refine qx_flag hp q_B2 ?_
  have hp' := qg_p z hp q_B2
  by_cases c : t &&& 128 = 0
  · rw [if_pos c] at h
    exact br_t c (qx_ad107 hp' h)
  · rw [if_neg c] at h
    exact br_f c (qx_ad107 hp' h)
theorem qx_ad42 {post : SX → Prop} (hp : p &&& 239 = p) (h : post (qx (qdt p a op &&& 255) x y s (qdp p a op) pc se la ne co ac sq dn le tl mo st lo hi pt ea uf op np mem lev)) : wX_addDecimal_42 post (p &&& 1) (qdn p a op) 0 1 2 3 4 5 6 7 8 9 10 11 12 13 14 15 16 17 18 19 1 2 4 8 64 128 a x y s p pc se la ne co ac sq dn le tl mo st lo hi pt ea uf op np mem lev := by
  unfold wX_addDecimal_42
  refine nm_r (e' := qds p a op) rfl ?_
  unfold qdp qdt qdz at h
  by_cases c : ((a + op) + (p &&& 1)) &&& 255 = 0
  · rw [if_pos c] at h
    exact br_t c (qx_ad87 hp h)
  · rw [if_neg c] at h
    exact br_f c (qx_ad87 hp h)
theorem qx_addD {post : SX → Prop} (hp : p &&& 239 = p) (h : post (qx (qdt p a op &&& 255) x y s (qdp p a op) pc se la ne co ac sq dn le tl mo st lo hi pt ea uf op np mem lev)) : wpX_addDecimal post (qx a x y s p pc se la ne co ac sq dn le tl mo st lo hi pt ea uf op np mem lev) := by
  refine nm_e (nm_e ?_)
  have k := qx_ad42 hp h
  by_cases c : ((a &&& 15) + (op &&& 15)) + (p &&& 1) ≤ 9
  · rw [show qdn p a op = ((a &&& 15) + (op &&& 15)) + (p &&& 1) from if_pos c] at k
    exact br_t c k
  · rw [show qdn p a op = ((((a &&& 15) + (op &&& 15)) + (p &&& 1) + 6) &&& 15) + 16 from if_neg c] at k
    exact br_f c (nm_e k)
theorem qx_add {post : SX → Prop} (hp : p &&& 239 = p) (h : post (qx (if p &&& 8 = 0 then qsum p a op &&& 255 else qdt p a op &&& 255) x y s (if p &&& 8 = 0 then qab p a op else qdp p a op) pc se la ne co ac sq dn le tl mo st lo hi pt ea uf op np mem lev)) : wpX_add post (qx a x y s p pc se la ne co ac sq dn le tl mo st lo hi pt ea uf op np mem lev) := by
  by_cases c : p &&& 8 = 0
  · rw [if_pos c, if_pos c] at h
    exact br_t c (qx_addB hp h)
  · rw [if_neg c, if_neg c] at h
    exact br_f c (qx_addD hp h)
theorem qx_cmp15 {post : SX → Prop} {g z : Int32} (hp : p &&& 239 = p) (h : post (qx a x y s (qz (qg p 1 z) (g - op)) pc se la ne co ac sq dn le tl mo st lo hi pt ea uf op np mem lev)) : wX_compare_15 post g z 1 0 1 2 3 4 5 6 7 8 9 10 11 12 13 14 15 16 17 18 19 1 2 4 8 64 128 a x y s p pc se la ne co ac sq dn le tl mo st lo hi pt ea uf op np mem lev := by
  unfold wX_compare_15
  refine qx_flag hp q_B1 ?_
  exact qx_flagged (qg_p z hp q_B1) h
theorem qx_cmp {post : SX → Prop} {g : Int32} (hp : p &&& 239 = p) (h : post (qx a x y s (qcp p g op) pc se la ne co ac sq dn le tl mo st lo hi pt ea uf op np mem lev)) : wpX_compare post (qx a x y s p pc se la ne co ac sq dn le tl mo st lo hi pt ea uf op np mem lev) g := by
  unfold qcp at h
  by_cases c : g < op
  · rw [if_pos c] at h
    exact br_t c (qx_cmp15 hp h)
  · rw [if_neg c] at h
    exact br_f c (qx_cmp15 hp h)
theorem qx_sub67 {post : SX → Prop} {t : Int32} (hp : p &&& 239 = p) (h : post (qx (if p &&& 8 = 0 then qsum p a (op ^^^ 255) &&& 255 else t &&& 255) x y s (qab p a (op ^^^ 255)) pc se la ne co ac sq dn le tl mo st lo hi pt ea uf op np mem lev)) : wX_subtract_67 post t 0 1 2 3 4 5 6 7 8 9 10 11 12 13 14 15 16 17 18 19 1 2 4 8 64 128 a x y s p pc se la ne co ac sq dn le tl mo st lo hi pt ea uf op np mem lev := by
  unfold wX_subtract_67
  refine qx_addB hp ?_
  have e := qab_8 p a (op ^^^ 255)
  by_cases c : p &&& 8 = 0
  · rw [if_pos c] at h
    exact br_t (e.trans c) h
  · rw [if_neg c] at h
    exact br_f (fun z => c (e.symm.trans z)) (nm_e h)
theorem q_m96 (t : Int32) : t + (-96) = t - 96 := (Int32.sub_eq_add_neg t 96).symm
theorem qx_sub40 {post : SX → Prop} (hp : p &&& 239 = p) (h : post (qx (qsa p a op) x y s (qab p a (op ^^^ 255)) pc se la ne co ac sq dn le tl mo st lo hi pt ea uf op np mem lev)) : wX_subtract_40 post (qsn p a op) 0 1 2 3 4 5 6 7 8 9 10 11 12 13 14 15 16 17 18 19 1 2 4 8 64 128 a x y s p pc se la ne co ac sq dn le tl mo st lo hi pt ea uf op np mem lev := by
  unfold wX_subtract_40
  refine nm_e ?_
  unfold qsa qsd at h
  by_cases c : 0 ≤ ((a &&& 240) - (op &&& 240)) + qsn p a op
  · rw [if_pos c] at h
    exact br_t c (qx_sub67 hp h)
  · rw [if_neg c] at h
    exact br_f c (nm_r (q_m96 _) (qx_sub67 hp h))
theorem qx_sub {post : SX → Prop} (hp : p &&& 239 = p) (h : post (qx (qsa p a op) x y s (qab p a (op ^^^ 255)) pc se la ne co ac sq dn le tl mo st lo hi pt ea uf op np mem lev)) : wpX_subtract post (qx a x y s p pc se la ne co ac sq dn le tl mo st lo hi pt ea uf op np mem lev) := by
  refine nm_e ?_
  have k := qx_sub40 hp h
  by_cases c : 0 ≤ (((a &&& 15) - (op &&& 15)) + (p &&& 1)) - 1
  · rw [show qsn p a op = (((a &&& 15) - (op &&& 15)) + (p &&& 1)) - 1 from if_pos c] at k
    exact br_t c k
  · rw [show qsn p a op = (((((a &&& 15) - (op &&& 15)) + (p &&& 1)) - 1 - 6) &&& 15) - 16 from if_neg c] at k
    exact br_f c (nm_e k)
theorem qx_tb63 {post : SX → Prop} {z : Int32} (hp : p &&& 239 = p) (h : post (qx a x y s (qg p 2 z) pc se la ne co ac sq dn le tl mo st lo hi pt ea uf op np mem lev)) : wX_testBits_63 post z 2 0 1 2 3 4 5 6 7 8 9 10 11 12 13 14 15 16 17 18 19 1 2 4 8 64 128 a x y s p pc se la ne co ac sq dn le tl mo st lo hi pt ea uf op np mem lev := by
  unfold wX_testBits_63
  exact qx_flag hp q_B2 h
theorem qx_tb41 {post : SX → Prop} {z : Int32} (hp : p &&& 239 = p) (h : post (qx a x y s (qg (qg p 64 z) 2 (if a &&& op = 0 then 1 else 0)) pc se la ne co ac sq dn le tl mo st lo hi pt ea uf op np mem lev)) : wX_testBits_41 post z 64 0 1 2 3 4 5 6 7 8 9 10 11 12 13 14 15 16 17 18 19 1 2 4 8 64 128 a x y s p pc se la ne co ac sq dn le tl mo st lo hi pt ea uf op np mem lev := by
  unfold wX_testBits_41
  refine qx_flag hp q_B64 ?_
  have hp' := qg_p z hp q_B64
  by_cases c : a &&& op = 0
  · rw [if_pos c] at h
    exact br_t c (qx_tb63 hp' h)
  · rw [if_neg c] at h
    exact br_f c (qx_tb63 hp' h)
theorem qx_tb20 {post : SX → Prop} {z : Int32} (hp : p &&& 239 = p) (h : post (qx a x y s (qg (qg (qg p 128 z) 64 (if op &&& 64 = 0 then 0 else 1)) 2 (if a &&& op = 0 then 1 else 0)) pc se la ne co ac sq dn le tl mo st lo hi pt ea uf op np mem lev)) : wX_testBits_20 post z 128 0 1 2 3 4 5 6 7 8 9 10 11 12 13 14 15 16 17 18 19 1 2 4 8 64 128 a x y s p pc se la ne co ac sq dn le tl mo st lo hi pt ea uf op np mem lev := by
  unfold wX_testBits_20
  refine qx_flag hp q_B128 ?_
  have hp' := qg_p z hp q_B128
  by_cases c : op &&& 64 = 0
  · rw [if_pos c] at h
    exact br_t c (qx_tb41 hp' h)
  · rw [if_neg c] at h
    exact br_f c (qx_tb41 hp' h)
theorem qx_tb {post : SX → Prop} (hp : p &&& 239 = p) (h : post (qx a x y s (qbp p a op) pc se la ne co ac sq dn le tl mo st lo hi pt ea uf op np mem lev)) : wpX_testBits post (qx a x y s p pc se la ne co ac sq dn le tl mo st lo hi pt ea uf op np mem lev) := by
  unfold qbp at h
  by_cases c : op &&& 128 = 0
  · rw [if_pos c] at h
    exact br_t c (qx_tb20 hp h)
  · rw [if_neg c] at h
    exact br_f c (qx_tb20 hp h)
theorem qx_sh61 {post : Int32 → SX → Prop} {m ca lf z r : Int32} (hp : p &&& 239 = p) (hr : (if lf = 0 then (m >>> ((1 : Int32) &&& 31)) ||| (ca <<< ((7 : Int32) &&& 31)) else (m <<< ((1 : Int32) &&& 31)) ||| ca) = r) (h : post (r &&& 255) (qx a x y s (qz (qg p 1 z) r) pc se la ne co ac sq dn le tl mo st lo hi pt ea uf op np mem lev)) : wX_shift_61 post m ca lf z 1 0 1 2 3 4 5 6 7 8 9 10 11 12 13 14 15 16 17 18 19 1 2 4 8 64 128 a x y s p pc se la ne co ac sq dn le tl mo st lo hi pt ea uf op np mem lev := by
  unfold wX_shift_61
  refine qx_flag hp q_B1 ?_
  have hp' := qg_p z hp q_B1
  by_cases c : lf = 0
  · rw [if_pos c] at hr
    refine br_t c ?_
    unfold wX_shift_86
    rw [hr]
    exact qx_flagged hp' h
  · rw [if_neg c] at hr
    refine br_f c ?_
    unfold wX_shift_86
    rw [hr]
    exact qx_flagged hp' h
theorem qx_sh52 {post : Int32 → SX → Prop} {m ca lf k r : Int32} (hp : p &&& 239 = p) (hr : (if lf = 0 then (m >>> ((1 : Int32) &&& 31)) ||| (ca <<< ((7 : Int32) &&& 31)) else (m <<< ((1 : Int32) &&& 31)) ||| ca) = r) (h : post (r &&& 255) (qx a x y s (qz (qg p 1 (if m &&& k = 0 then 0 else 1)) r) pc se la ne co ac sq dn le tl mo st lo hi pt ea uf op np mem lev)) : wX_shift_52 post m ca lf k m 1 0 1 2 3 4 5 6 7 8 9 10 11 12 13 14 15 16 17 18 19 1 2 4 8 64 128 a x y s p pc se la ne co ac sq dn le tl mo st lo hi pt ea uf op np mem lev := by
  unfold wX_shift_52
  by_cases c : m &&& k = 0
  · rw [if_pos c] at h
    exact br_t c (qx_sh61 hp hr h)
  · rw [if_neg c] at h
    exact br_f c (qx_sh61 hp hr h)
theorem qx_shift {post : Int32 → SX → Prop} {m w : Int32} (hp : p &&& 239 = p) (hm : m &&& 255 = m) (hw : sq >>> ((5 : Int32) &&& 31) = w) (hc : w = 0 ∨ w = 1 ∨ w = 2 ∨ w = 3) (h : post (qmv w p m &&& 255) (qx a x y s (qmp w p m) pc se la ne co ac sq dn le tl mo st lo hi pt ea uf op np mem lev)) : wpX_shift post (qx a x y s p pc se la ne co ac sq dn le tl mo st lo hi pt ea uf op np mem lev) m := by
  refine nm_r hw ?_
  unfold qmp at h
  rcases hc with rfl | rfl | rfl | rfl
  · rw [if_neg (by decide), if_neg (by decide)] at h
    refine br_f (by decide) (br_f (by decide) (br_f (by decide) (qx_sh52 hp ?_ h)))
    exact (if_neg (by decide)).trans ((qsh_l0 hm).trans (if_pos rfl).symm)
  · rw [if_neg (by decide), if_neg (by decide)] at h
    refine br_t (by decide) (br_f (by decide) (br_f (by decide) (qx_sh52 hp ?_ h)))
    exact (if_neg (by decide)).trans ((qsh_l p hm).trans rfl)
  · rw [if_neg (by decide), if_pos (by decide)] at h
    refine br_f (by decide) (br_t (by decide) (br_t (by decide) (qx_sh52 hp ?_ h)))
    exact (if_pos (by decide)).trans ((qsh_r0 hm).trans rfl)
  · rw [if_neg (by decide), if_pos (by decide)] at h
    refine br_t (by decide) (br_t (by decide) (br_t (by decide) (qx_sh52 hp ?_ h)))
    exact (if_pos (by decide)).trans ((qsh_r p hm).trans rfl)
theorem qx_modify {post : Int32 → SX → Prop} {m w : Int32} (hp : p &&& 239 = p) (hm : m &&& 255 = m) (hw : sq >>> ((5 : Int32) &&& 31) = w) (hc : w = 0 ∨ w = 1 ∨ w = 2 ∨ w = 3 ∨ w = 6 ∨ w = 7) (h : post (qmv w p m &&& 255) (qx a x y s (qmp w p m) pc se la ne co ac sq dn le tl mo st lo hi pt ea uf op np mem lev)) : wpX_modify post (qx a x y s p pc se la ne co ac sq dn le tl mo st lo hi pt ea uf op np mem lev) m := by
  refine nm_r hw ?_
  rcases hc with rfl | rfl | rfl | rfl | rfl | rfl
  · exact br_f (by decide) (br_f (by decide) (qx_shift hp hm hw (by decide) h))
  · exact br_f (by decide) (br_f (by decide) (qx_shift hp hm hw (by decide) h))
  · exact br_f (by decide) (br_f (by decide) (qx_shift hp hm hw (by decide) h))
  · exact br_f (by decide) (br_f (by decide) (qx_shift hp hm hw (by decide) h))
  · exact br_t (by decide) (qx_flagged hp h)
  · exact br_f (by decide) (br_t (by decide) (qx_flagged hp h))
end
end
section
/-! Y's small methods and operations -/
theorem qR_0 {f : Nat → Int32} {v : Int32} (h : qR f) (hv : v &&& 255 = v) : qR (upd f 0 v) := ⟨⟨hv, h.1.2⟩, h.2.1, fun i hi => by rw [pk_un (by omega)]; exact h.2.2 i hi⟩
theorem qR_1 {f : Nat → Int32} {v : Int32} (h : qR f) (hv : v &&& 255 = v) : qR (upd f 1 v) := ⟨⟨h.1.1, hv, h.1.2.2⟩, h.2.1, fun i hi => by rw [pk_un (by omega)]; exact h.2.2 i hi⟩
theorem qR_2 {f : Nat → Int32} {v : Int32} (h : qR f) (hv : v &&& 255 = v) : qR (upd f 2 v) := ⟨⟨h.1.1, h.1.2.1, hv, h.1.2.2.2⟩, h.2.1, fun i hi => by rw [pk_un (by omega)]; exact h.2.2 i hi⟩
theorem qR_3 {f : Nat → Int32} {v : Int32} (h : qR f) (hv : v &&& 255 = v) : qR (upd f 3 v) := ⟨⟨h.1.1, h.1.2.1, h.1.2.2.1, hv⟩, h.2.1, fun i hi => by rw [pk_un (by omega)]; exact h.2.2 i hi⟩
theorem qR_4 {f : Nat → Int32} {v : Int32} (h : qR f) (hv : v &&& 239 = v) : qR (upd f 4 v) := ⟨h.1, ⟨hv, h.2.1.2⟩, fun i hi => by rw [pk_un (by omega)]; exact h.2.2 i hi⟩
theorem qR_5 {f : Nat → Int32} {v : Int32} (h : qR f) (hv : v &&& 65535 = v) : qR (upd f 5 v) := ⟨h.1, ⟨h.2.1.1, hv⟩, fun i hi => by rw [pk_un (by omega)]; exact h.2.2 i hi⟩
section
variable {len dn co se la ne sq ac : Int32} {mem work now fin lin log : Nat → Int32}
theorem qy_note {post : SY → Prop} {k : Nat} {e : Int32} (hk : k < 8) (h : post (qy (nI (k + 1)) dn co se la ne sq ac mem work now fin lin (upd log k e))) : wpY_note post (qy (nI k) dn co se la ne sq ac mem work now fin lin log) e :=
  br_f (nI_ge (b := 8) hk (by decide)) (And.intro (vp_in_nI hk (by decide)) (nm_r (e' := upd log k e) (by rw [nI_clamp (by omega)]) (nm_r (nI_1 k) h)))
theorem qy_read {post : Int32 → SY → Prop} {k : Nat} {ad : Int32} (hk : k < 8) (h : post (work (ad &&& 255).toNatClampNeg) (qy (nI (k + 1)) dn co se la ne sq ac mem work now fin lin (upd log k (rd (work (ad &&& 255).toNatClampNeg) ad)))) : wpY_read post (qy (nI k) dn co se la ne sq ac mem work now fin lin log) ad :=
  And.intro (qb_in ad) (nm_e (qy_note hk h))
theorem qy_write {post : SY → Prop} {k : Nat} {ad v : Int32} (hk : k < 8) (h : post (qy (nI (k + 1)) dn co se la ne sq ac mem (upd work (ad &&& 255).toNatClampNeg v) now fin lin (upd log k (wr v ad)))) : wpY_write post (qy (nI k) dn co se la ne sq ac mem work now fin lin log) ad v :=
  And.intro (qb_in ad) (nm_e (qy_note hk h))
theorem qy_pull {post : Int32 → SY → Prop} {k : Nat} {d : Int32} (hk : k < 8) (h : post (work ((256 + ((now 3 + d) &&& 255)) &&& 255).toNatClampNeg) (qy (nI (k + 1)) dn co se la ne sq ac mem work now fin lin (upd log k (rd (work ((256 + ((now 3 + d) &&& 255)) &&& 255).toNatClampNeg) (256 + ((now 3 + d) &&& 255)))))) : wpY_pull post (qy (nI k) dn co se la ne sq ac mem work now fin lin log) d := by
  unfold wpY_pull
  exact qy_read hk h
theorem qy_push {post : SY → Prop} {k : Nat} {d v : Int32} (hk : k < 8) (h : post (qy (nI (k + 1)) dn co se la ne sq ac mem (upd work ((256 + ((now 3 + d) &&& 255)) &&& 255).toNatClampNeg v) now fin lin (upd log k (wr v (256 + ((now 3 + d) &&& 255)))))) : wpY_push post (qy (nI k) dn co se la ne sq ac mem work now fin lin log) d v := by
  unfold wpY_push
  exact qy_write hk h
theorem qy_flag {post : SY → Prop} {b o : Int32} (h : post (qy len dn co se la ne sq ac mem work now (upd fin 4 (qg (fin 4) b o)) lin log)) : wpY_flag post (qy len dn co se la ne sq ac mem work now fin lin log) b o := by
  by_cases ho : o = 0
  · exact br_t ho (nm_r (e' := upd fin 4 (qg (fin 4) b o)) (by unfold qg; rw [if_pos ho]) h)
  · exact br_f ho (nm_r (e' := upd fin 4 (qg (fin 4) b o)) (by unfold qg; rw [if_neg ho]) h)
theorem qy_flag2 {post : SY → Prop} {b o q : Int32} (h : post (qy len dn co se la ne sq ac mem work now (upd fin 4 (qg q b o)) lin log)) : wpY_flag post (qy len dn co se la ne sq ac mem work now (upd fin 4 q) lin log) b o := by
  refine qy_flag ?_
  rw [qu_uu, pk_us]; exact h
theorem qy_nz {post : SY → Prop} {q r : Int32} (h : post (qy len dn co se la ne sq ac mem work now (upd fin 4 (qz q r)) lin log)) : wpY_nz post (qy len dn co se la ne sq ac mem work now (upd fin 4 q) lin log) (r &&& 255) := by
  have k31 : ∀ {z q : Int32}, post (qy len dn co se la ne sq ac mem work now (upd fin 4 (qg q 2 z)) lin log) → wY_nz_31 post z 2 len dn co se la ne sq ac mem work now (upd fin 4 q) lin log := by
    intro z q h
    unfold wY_nz_31
    exact qy_flag2 h
  have k17 : ∀ {z q : Int32}, post (qy len dn co se la ne sq ac mem work now (upd fin 4 (qg (qg q 128 z) 2 (if r &&& 255 = 0 then 1 else 0))) lin log) → wY_nz_17 post (r &&& 255) z 128 len dn co se la ne sq ac mem work now (upd fin 4 q) lin log := by
    intro z q h
    unfold wY_nz_17
    refine qy_flag2 ?_
    by_cases c : r &&& 255 = 0
    · rw [if_pos c] at h
      exact br_t c (k31 h)
    · rw [if_neg c] at h
      exact br_f c (k31 h)
  unfold qz at h
  by_cases c : r &&& 128 = 0
  · rw [if_pos c] at h
    exact br_t ((qb_b128 r).trans c) (k17 h)
  · rw [if_neg c] at h
    exact br_f (fun z => c ((qb_b128 r).symm.trans z)) (k17 h)
theorem qu_self (f : Nat → Int32) (k : Nat) : upd f k (f k) = f := by
  funext j; unfold upd; by_cases h : j = k
  · rw [if_pos h, h]
  · rw [if_neg h]
theorem qy_nz1 {post : SY → Prop} {r : Int32} (h : post (qy len dn co se la ne sq ac mem work now (upd fin 4 (qz (fin 4) r)) lin log)) : wpY_nz post (qy len dn co se la ne sq ac mem work now fin lin log) (r &&& 255) := by
  have k := qy_nz (q := fin 4) h
  rw [qu_self] at k
  exact k
theorem qy_set0 {post : SY → Prop} {q v : Int32} (h : post (qy len dn co se la ne sq ac mem work now (upd (upd fin 0 (v &&& 255)) 4 (qz q v)) lin log)) (hq : fin 4 = q) : wpY_set post (qy len dn co se la ne sq ac mem work now fin lin log) 0 v := by
  subst hq
  exact And.intro (vp_in_iff.mpr (by decide)) (nm_r (e' := upd fin 0 (v &&& 255)) rfl (qy_nz1 h))
theorem qy_set1 {post : SY → Prop} {q v : Int32} (h : post (qy len dn co se la ne sq ac mem work now (upd (upd fin 1 (v &&& 255)) 4 (qz q v)) lin log)) (hq : fin 4 = q) : wpY_set post (qy len dn co se la ne sq ac mem work now fin lin log) 1 v := by
  subst hq
  exact And.intro (vp_in_iff.mpr (by decide)) (nm_r (e' := upd fin 1 (v &&& 255)) rfl (qy_nz1 h))
theorem qy_set2 {post : SY → Prop} {q v : Int32} (h : post (qy len dn co se la ne sq ac mem work now (upd (upd fin 2 (v &&& 255)) 4 (qz q v)) lin log)) (hq : fin 4 = q) : wpY_set post (qy len dn co se la ne sq ac mem work now fin lin log) 2 v := by
  subst hq
  exact And.intro (vp_in_iff.mpr (by decide)) (nm_r (e' := upd fin 2 (v &&& 255)) rfl (qy_nz1 h))
theorem q_v255 (g m t : Int32) : ((g ^^^ (t &&& 255)) &&& (m ^^^ (t &&& 255))) &&& 128 = ((g ^^^ t) &&& (m ^^^ t)) &&& 128 := by
  apply b_ext; intro i hi
  simp only [b_and, b_xor, b_255]
  by_cases h : i < 8
  · rw [decide_eq_true h]; simp
  · have e : bt 128 i = false := (by decide +kernel : ∀ i, i < 32 → ¬ i < 8 → bt 128 i = false) i hi h
    rw [e]; simp
theorem qy_addB {post : SY → Prop} {m : Int32} (hf : fin 4 = now 4) (h : post (qy len dn co se la ne sq ac mem work now (upd (upd fin 0 (qsum (now 4) (now 0) m &&& 255)) 4 (qab (now 4) (now 0) m)) lin log)) : wpY_addBinary post (qy len dn co se la ne sq ac mem work now fin lin log) m := by
  have k68 : ∀ {z q : Int32}, post (qy len dn co se la ne sq ac mem work now (upd (upd fin 0 (qsum (now 4) (now 0) m &&& 255)) 4 (qz (qg q 64 z) (qsum (now 4) (now 0) m))) lin log) → wY_addBinary_68 post (qsum (now 4) (now 0) m &&& 255) z 64 len dn co se la ne sq ac mem work now (upd fin 4 q) lin log := by
    intro z q h
    unfold wY_addBinary_68
    refine qy_flag2 ?_
    refine qy_set0 (q := qg q 64 z) ?_ pk_us
    rw [qz_b, qb_and, qu_sw (f := fin) (by decide : (4 : Nat) ≠ 0), qu_uu]
    exact h
  have k41 : ∀ {z : Int32}, post (qy len dn co se la ne sq ac mem work now (upd (upd fin 0 (qsum (now 4) (now 0) m &&& 255)) 4 (qz (qg (qg (now 4) 1 z) 64 (if ((now 0 ^^^ qsum (now 4) (now 0) m) &&& (m ^^^ qsum (now 4) (now 0) m)) &&& 128 = 0 then 0 else 1)) (qsum (now 4) (now 0) m))) lin log) → wY_addBinary_41 post m (now 0) (qsum (now 4) (now 0) m &&& 255) z 1 len dn co se la ne sq ac mem work now fin lin log := by
    intro z h
    unfold wY_addBinary_41
    refine qy_flag ?_
    rw [hf]
    have e := q_v255 (now 0) m (qsum (now 4) (now 0) m)
    by_cases c : ((now 0 ^^^ qsum (now 4) (now 0) m) &&& (m ^^^ qsum (now 4) (now 0) m)) &&& 128 = 0
    · rw [if_pos c] at h
      exact br_t (e.trans c) (k68 h)
    · rw [if_neg c] at h
      exact br_f (fun z => c (e.symm.trans z)) (k68 h)
  unfold qab at h
  refine nm_e (nm_r (e' := qsum (now 4) (now 0) m) rfl (nm_e ?_))
  by_cases c : qsum (now 4) (now 0) m ≤ 255
  · rw [if_pos c] at h
    exact br_t c (k41 h)
  · rw [if_neg c] at h
    exact br_f c (k41 h)
theorem qy_ad165 {post : SY → Prop} {t q z : Int32} (h : post (qy len dn co se la ne sq ac mem work now (upd (upd fin 0 (t &&& 255)) 4 (qg q 1 z)) lin log)) : wY_addDecimal_165 post t z 1 len dn co se la ne sq ac mem work now (upd fin 4 q) lin log := by
  unfold wY_addDecimal_165
  refine qy_flag2 ?_
  refine nm_r (e' := upd (upd fin 0 (t &&& 255)) 4 (qg q 1 z)) (qu_sw (by decide)) ?_
  exact h
theorem qy_ad150 {post : SY → Prop} {t q : Int32} (h : post (qy len dn co se la ne sq ac mem work now (upd (upd fin 0 (t &&& 255)) 4 (qg q 1 (if t < 256 then 0 else 1))) lin log)) : wY_addDecimal_150 post t len dn co se la ne sq ac mem work now (upd fin 4 q) lin log := by
  unfold wY_addDecimal_150
  by_cases c : t < 256
  · rw [if_pos c] at h
    exact br_t c (qy_ad165 h)
  · rw [if_neg c] at h
    exact br_f c (qy_ad165 h)
theorem qy_ad132 {post : SY → Prop} {t q z : Int32} (h : post (qy len dn co se la ne sq ac mem work now (upd (upd fin 0 ((if t < 160 then t else t + 96) &&& 255)) 4 (qg (qg q 64 z) 1 (if (if t < 160 then t else t + 96) < 256 then 0 else 1))) lin log)) : wY_addDecimal_132 post t z 64 len dn co se la ne sq ac mem work now (upd fin 4 q) lin log := by
  unfold wY_addDecimal_132
  refine qy_flag2 ?_
  by_cases c : t < 160
  · simp only [if_pos c] at h
    exact br_t c (qy_ad150 h)
  · simp only [if_neg c] at h
    exact br_f c (nm_e (qy_ad150 h))
theorem qy_ad105 {post : SY → Prop} {g m t q z : Int32} (h : post (qy len dn co se la ne sq ac mem work now (upd (upd fin 0 ((if t < 160 then t else t + 96) &&& 255)) 4 (qg (qg (qg q 128 z) 64 (if ((g ^^^ t) &&& (m ^^^ t)) &&& 128 = 0 then 0 else 1)) 1 (if (if t < 160 then t else t + 96) < 256 then 0 else 1))) lin log)) : wY_addDecimal_105 post m g t z 128 len dn co se la ne sq ac mem work now (upd fin 4 q) lin log := by
  unfold wY_addDecimal_105
  refine qy_flag2 ?_
  by_cases c : ((g ^^^ t) &&& (m ^^^ t)) &&& 128 = 0
  · rw [if_pos c] at h
    exact br_t c (qy_ad132 h)
  · rw [if_neg c] at h
    exact br_f c (qy_ad132 h)
theorem qy_ad71 {post : SY → Prop} {g m n q : Int32} (h : ∀ t, t = ((g &&& 240) + (m &&& 240)) + n → post (qy len dn co se la ne sq ac mem work now (upd (upd fin 0 ((if t < 160 then t else t + 96) &&& 255)) 4 (qg (qdv q g m t) 1 (if (if t < 160 then t else t + 96) < 256 then 0 else 1))) lin log)) : wY_addDecimal_71 post m g n len dn co se la ne sq ac mem work now (upd fin 4 q) lin log := by
  unfold wY_addDecimal_71
  intro t et
  have h := h t et
  unfold qdv at h
  by_cases c : t &&& 128 = 0
  · rw [if_pos c] at h
    exact br_t c (qy_ad105 h)
  · rw [if_neg c] at h
    exact br_f c (qy_ad105 h)
theorem qy_addD {post : SY → Prop} {m : Int32} (hf : fin 4 = now 4) (h : post (qy len dn co se la ne sq ac mem work now (upd (upd fin 0 (qdt (now 4) (now 0) m &&& 255)) 4 (qdp (now 4) (now 0) m)) lin log)) : wpY_addDecimal post (qy len dn co se la ne sq ac mem work now fin lin log) m := by
  have k48 : ∀ {z : Int32}, qdz (now 4) (now 0) m = qg (now 4) 2 z → wY_addDecimal_48 post m (now 0) (((now 0 &&& 15) + (m &&& 15)) + (now 4 &&& 1)) z 2 len dn co se la ne sq ac mem work now fin lin log := by
    intro z hz
    unfold wY_addDecimal_48
    refine qy_flag ?_
    rw [hf, ← hz]
    have k : wY_addDecimal_71 post m (now 0) (qdn (now 4) (now 0) m) len dn co se la ne sq ac mem work now (upd fin 4 (qdz (now 4) (now 0) m)) lin log := qy_ad71 (fun t et => by
      have e : t = qds (now 4) (now 0) m := et
      rw [e]; exact h)
    by_cases c : ((now 0 &&& 15) + (m &&& 15)) + (now 4 &&& 1) ≤ 9
    · rw [show qdn (now 4) (now 0) m = ((now 0 &&& 15) + (m &&& 15)) + (now 4 &&& 1) from if_pos c] at k
      exact br_t c k
    · rw [show qdn (now 4) (now 0) m = ((((now 0 &&& 15) + (m &&& 15)) + (now 4 &&& 1) + 6) &&& 15) + 16 from if_neg c] at k
      exact br_f c (nm_e k)
  refine nm_e (nm_e (nm_e ?_))
  by_cases c : ((now 0 + m) + (now 4 &&& 1)) &&& 255 = 0
  · exact br_t c (k48 (by unfold qdz; rw [if_pos c]))
  · exact br_f c (k48 (by unfold qdz; rw [if_neg c]))
theorem qy_modify {post : Int32 → SY → Prop} {m w : Int32} (hf : fin 4 = now 4) (hc : w = 0 ∨ w = 1 ∨ w = 2 ∨ w = 3 ∨ w = 6 ∨ w = 7) (h : post (qmv w (now 4) m &&& 255) (qy len dn co se la ne sq ac mem work now (upd fin 4 (qmp w (now 4) m)) lin log)) : wpY_modify post (qy len dn co se la ne sq ac mem work now fin lin log) w m := by
  have k109 : ∀ {t q : Int32}, post (t &&& 255) (qy len dn co se la ne sq ac mem work now (upd fin 4 (qz q t)) lin log) → wY_modify_109 post t len dn co se la ne sq ac mem work now (upd fin 4 q) lin log := by
    intro t q h
    unfold wY_modify_109
    exact qy_nz h
  have k109' : ∀ {t : Int32}, post (t &&& 255) (qy len dn co se la ne sq ac mem work now (upd fin 4 (qz (now 4) t)) lin log) → wY_modify_109 post t len dn co se la ne sq ac mem work now fin lin log := by
    intro t h
    unfold wY_modify_109
    exact qy_nz1 (by rw [hf]; exact h)
  have k97 : ∀ {t k : Int32}, post (t &&& 255) (qy len dn co se la ne sq ac mem work now (upd fin 4 (qz (qg (now 4) 1 (if m &&& k = 0 then 0 else 1)) t)) lin log) → wY_modify_97 post t k m 1 len dn co se la ne sq ac mem work now fin lin log := by
    intro t k h
    unfold wY_modify_97
    by_cases c : m &&& k = 0
    · rw [if_pos c] at h
      refine br_t c ?_
      unfold wY_modify_106
      refine qy_flag ?_
      rw [hf]
      exact k109 h
    · rw [if_neg c] at h
      refine br_f c ?_
      unfold wY_modify_106
      refine qy_flag ?_
      rw [hf]
      exact k109 h
  have k75 : ∀ {t : Int32}, t = qmv w (now 4) m → wY_modify_75 post w m t len dn co se la ne sq ac mem work now fin lin log := by
    intro t ht
    subst ht
    unfold wY_modify_75
    unfold qmp at h
    by_cases c : 4 ≤ w
    · rw [if_pos c] at h
      exact br_t c (k109' h)
    · rw [if_neg c] at h
      by_cases d : 2 ≤ w
      · rw [if_pos d] at h
        exact br_f c (br_t d (k97 h))
      · rw [if_neg d] at h
        exact br_f c (br_f d (k97 h))
  refine nm_e ?_
  rcases hc with rfl | rfl | rfl | rfl | rfl | rfl
  · exact br_t (by decide) (k75 rfl)
  · exact br_f (by decide) (br_t (by decide) (k75 rfl))
  · exact br_f (by decide) (br_f (by decide) (br_t (by decide) (k75 rfl)))
  · exact br_f (by decide) (br_f (by decide) (br_f (by decide) (br_t (by decide) (k75 rfl))))
  · exact br_f (by decide) (br_f (by decide) (br_f (by decide) (br_f (by decide) (br_t (by decide) (k75 rfl)))))
  · exact br_f (by decide) (br_f (by decide) (br_f (by decide) (br_f (by decide) (br_f (by decide) (k75 rfl)))))
end
end
section
/-! both sides' reading operations, one by one -/
def qJ (now : Nat → Int32) (sq m n w k : Int32) : Prop := ∃ F : Nat → Int32, qR F ∧ F 3 = now 3 ∧ F 5 = n ∧
  (∀ (post : SX → Prop) (se la ne co ac dn le tl mo st lo hi pt ea uf np : Int32) (mem lev : Nat → Int32), post (qx (F 0) (F 1) (F 2) (now 3) (F 4) (now 5) se la ne co ac sq dn le tl mo st lo hi pt ea uf m np mem lev) → wpX_operate post (qx (now 0) (now 1) (now 2) (now 3) (now 4) (now 5) se la ne co ac sq dn le tl mo st lo hi pt ea uf m np mem lev)) ∧
  (∀ (post : SY → Prop) (len dn co se la ne sq ac : Int32) (mem work lin log : Nat → Int32), post (qy len dn co se la ne sq ac mem work now F lin log) → wpY_compute post (qy len dn co se la ne sq ac mem work now (upd now 5 n) lin log) w k m)
theorem qy_c271 {len dn co se la ne sq ac : Int32} {mem work now fin lin log : Nat → Int32} {post : SY → Prop} {w k m g z : Int32} (hc : ¬ (w = 7 ∧ k = 1)) (h : post (qy len dn co se la ne sq ac mem work now fin lin log)) : wY_compute_271 post w k m g z len dn co se la ne sq ac mem work now fin lin log := by
  unfold wY_compute_271
  by_cases c : w = 7
  · exact br_t c (br_f (fun z => hc ⟨c, z⟩) h)
  · exact br_f c h
theorem qJ_ora {now : Nat → Int32} {sq m n : Int32} (hR : qR now) (hm : m &&& 255 = m) (hn : n &&& 65535 = n) (hw : sq >>> ((5 : Int32) &&& 31) = 0) (hk : sq &&& 3 = 1) : qJ now sq m n 0 1 := by
  refine ⟨upd (upd (upd now 5 n) 0 ((now 0 ||| m) &&& 255)) 4 (qz (now 4) (now 0 ||| m)), qR_4 (qR_0 (qR_5 hR hn) (qb_and _)) (qz_p _ hR.2.1.1), rfl, rfl, ?_, ?_⟩
  · intro post se la ne co ac dn le tl mo st lo hi pt ea uf np mem lev h
    have hp := hR.2.1.1
    refine nm_r hw ?_
    refine br_t hk ?_
    exact br_t (by decide) (qx_flagged hp h)
  · intro post len dn co se la ne sq ac mem work lin log h
    have K : ∀ z, wY_compute_25 post 0 1 m (now 0) z len dn co se la ne sq ac mem work now (upd now 5 n) lin log := by
      intro z
      refine br_f (by decide) (br_f (by decide) (br_f (by decide) (?_)))
      unfold wY_compute_133
      refine br_f (by decide) (br_f (by decide) (br_t (by decide) ?_))
      unfold wY_compute_229
      exact qy_set0 (q := now 4) (qy_c271 (by decide) h) rfl
    exact nm_e (br_c (fun _ => K 0) (fun _ => K 1))
theorem qJ_and {now : Nat → Int32} {sq m n : Int32} (hR : qR now) (hm : m &&& 255 = m) (hn : n &&& 65535 = n) (hw : sq >>> ((5 : Int32) &&& 31) = 1) (hk : sq &&& 3 = 1) : qJ now sq m n 1 1 := by
  refine ⟨upd (upd (upd now 5 n) 0 ((now 0 &&& m) &&& 255)) 4 (qz (now 4) (now 0 &&& m)), qR_4 (qR_0 (qR_5 hR hn) (qb_and _)) (qz_p _ hR.2.1.1), rfl, rfl, ?_, ?_⟩
  · intro post se la ne co ac dn le tl mo st lo hi pt ea uf np mem lev h
    have hp := hR.2.1.1
    refine nm_r hw ?_
    refine br_t hk ?_
    exact br_f (by decide) (br_t (by decide) (qx_flagged hp h))
  · intro post len dn co se la ne sq ac mem work lin log h
    have K : ∀ z, wY_compute_25 post 1 1 m (now 0) z len dn co se la ne sq ac mem work now (upd now 5 n) lin log := by
      intro z
      refine br_f (by decide) (br_f (by decide) (br_f (by decide) (?_)))
      unfold wY_compute_133
      refine br_f (by decide) (br_f (by decide) (br_f (by decide) (br_t (by decide) ?_)))
      unfold wY_compute_229
      exact qy_set0 (q := now 4) (qy_c271 (by decide) h) rfl
    exact nm_e (br_c (fun _ => K 0) (fun _ => K 1))
theorem qJ_eor {now : Nat → Int32} {sq m n : Int32} (hR : qR now) (hm : m &&& 255 = m) (hn : n &&& 65535 = n) (hw : sq >>> ((5 : Int32) &&& 31) = 2) (hk : sq &&& 3 = 1) : qJ now sq m n 2 1 := by
  refine ⟨upd (upd (upd now 5 n) 0 ((now 0 ^^^ m) &&& 255)) 4 (qz (now 4) (now 0 ^^^ m)), qR_4 (qR_0 (qR_5 hR hn) (qb_and _)) (qz_p _ hR.2.1.1), rfl, rfl, ?_, ?_⟩
  · intro post se la ne co ac dn le tl mo st lo hi pt ea uf np mem lev h
    have hp := hR.2.1.1
    refine nm_r hw ?_
    refine br_t hk ?_
    exact br_f (by decide) (br_f (by decide) (br_t (by decide) (qx_flagged hp h)))
  · intro post len dn co se la ne sq ac mem work lin log h
    have K : ∀ z, wY_compute_25 post 2 1 m (now 0) z len dn co se la ne sq ac mem work now (upd now 5 n) lin log := by
      intro z
      refine br_f (by decide) (br_f (by decide) (br_f (by decide) (?_)))
      unfold wY_compute_133
      refine br_f (by decide) (br_f (by decide) (br_f (by decide) (br_f (by decide) ?_)))
      unfold wY_compute_229
      exact qy_set0 (q := now 4) (qy_c271 (by decide) h) rfl
    exact nm_e (br_c (fun _ => K 0) (fun _ => K 1))
theorem qJ_lda {now : Nat → Int32} {sq m n : Int32} (hR : qR now) (hm : m &&& 255 = m) (hn : n &&& 65535 = n) (hw : sq >>> ((5 : Int32) &&& 31) = 5) (hk : sq &&& 3 = 1) : qJ now sq m n 5 1 := by
  refine ⟨upd (upd (upd now 5 n) 0 (m &&& 255)) 4 (qz (now 4) m), qR_4 (qR_0 (qR_5 hR hn) (qb_and _)) (qz_p _ hR.2.1.1), rfl, rfl, ?_, ?_⟩
  · intro post se la ne co ac dn le tl mo st lo hi pt ea uf np mem lev h
    have hp := hR.2.1.1
    refine nm_r hw ?_
    refine br_t hk ?_
    exact br_f (by decide) (br_f (by decide) (br_f (by decide) (br_f (by decide) (br_t (by decide) (qx_flagged hp h)))))
  · intro post len dn co se la ne sq ac mem work lin log h
    have K : ∀ z, wY_compute_25 post 5 1 m (now 0) z len dn co se la ne sq ac mem work now (upd now 5 n) lin log := by
      intro z
      refine br_t (by decide) (br_t (by decide) ?_)
      unfold wY_compute_52
      exact qy_set0 (q := now 4) (qy_c271 (by decide) h) rfl
    exact nm_e (br_c (fun _ => K 0) (fun _ => K 1))
theorem qJ_ldx {now : Nat → Int32} {sq m n : Int32} (hR : qR now) (hm : m &&& 255 = m) (hn : n &&& 65535 = n) (hw : sq >>> ((5 : Int32) &&& 31) = 5) (hk : sq &&& 3 = 2) : qJ now sq m n 5 2 := by
  refine ⟨upd (upd (upd now 5 n) 1 (m &&& 255)) 4 (qz (now 4) m), qR_4 (qR_1 (qR_5 hR hn) (qb_and _)) (qz_p _ hR.2.1.1), rfl, rfl, ?_, ?_⟩
  · intro post se la ne co ac dn le tl mo st lo hi pt ea uf np mem lev h
    have hp := hR.2.1.1
    refine nm_r hw ?_
    refine br_f (by rw [hk]; decide) ?_
    exact br_f (by decide) (br_f (by decide) (br_f (by decide) (br_t hk (qx_flagged hp h))))
  · intro post len dn co se la ne sq ac mem work lin log h
    have K : ∀ z, wY_compute_25 post 5 2 m (now 0) z len dn co se la ne sq ac mem work now (upd now 5 n) lin log := by
      intro z
      refine br_t (by decide) (br_f (by decide) (br_t (by decide) ?_))
      unfold wY_compute_52
      exact qy_set1 (q := now 4) (qy_c271 (by decide) h) rfl
    exact nm_e (br_c (fun _ => K 0) (fun _ => K 1))
theorem qJ_ldy {now : Nat → Int32} {sq m n : Int32} (hR : qR now) (hm : m &&& 255 = m) (hn : n &&& 65535 = n) (hw : sq >>> ((5 : Int32) &&& 31) = 5) (hk : sq &&& 3 = 0) : qJ now sq m n 5 0 := by
  refine ⟨upd (upd (upd now 5 n) 2 (m &&& 255)) 4 (qz (now 4) m), qR_4 (qR_2 (qR_5 hR hn) (qb_and _)) (qz_p _ hR.2.1.1), rfl, rfl, ?_, ?_⟩
  · intro post se la ne co ac dn le tl mo st lo hi pt ea uf np mem lev h
    have hp := hR.2.1.1
    refine nm_r hw ?_
    refine br_f (by rw [hk]; decide) ?_
    exact br_f (by decide) (br_f (by decide) (br_f (by decide) (br_f (by rw [hk]; decide) (qx_flagged hp h))))
  · intro post len dn co se la ne sq ac mem work lin log h
    have K : ∀ z, wY_compute_25 post 5 0 m (now 0) z len dn co se la ne sq ac mem work now (upd now 5 n) lin log := by
      intro z
      refine br_t (by decide) (br_f (by decide) (br_f (by decide) ?_))
      unfold wY_compute_52
      exact qy_set2 (q := now 4) (qy_c271 (by decide) h) rfl
    exact nm_e (br_c (fun _ => K 0) (fun _ => K 1))
theorem qJ_cmp {now : Nat → Int32} {sq m n : Int32} (hR : qR now) (hm : m &&& 255 = m) (hn : n &&& 65535 = n) (hw : sq >>> ((5 : Int32) &&& 31) = 6) (hk : sq &&& 3 = 1) : qJ now sq m n 6 1 := by
  refine ⟨upd (upd now 5 n) 4 (qcp (now 4) (now 0) m), qR_4 (qR_5 hR hn) (qcp_p _ _ hR.2.1.1), rfl, rfl, ?_, ?_⟩
  · intro post se la ne co ac dn le tl mo st lo hi pt ea uf np mem lev h
    have hp := hR.2.1.1
    refine nm_r hw ?_
    refine br_t hk ?_
    exact br_f (by decide) (br_f (by decide) (br_f (by decide) (br_f (by decide) (br_f (by decide) (br_t (by decide) (qx_cmp hp h))))))
  · intro post len dn co se la ne sq ac mem work lin log h
    have K : ∀ z, wY_compute_25 post 6 1 m (now 0) z len dn co se la ne sq ac mem work now (upd now 5 n) lin log := by
      intro z
      refine br_f (by decide) (br_t (by decide) ?_)
      unfold wY_compute_75
      refine br_f (by decide) ?_
      unfold wY_compute_102
      unfold qcp at h
      by_cases c : now 0 < m
      · rw [if_pos c] at h
        refine br_t c ?_
        unfold wY_compute_115
        refine qy_flag ?_
        exact qy_nz (qy_c271 (by decide) h)
      · rw [if_neg c] at h
        refine br_f c ?_
        unfold wY_compute_115
        refine qy_flag ?_
        exact qy_nz (qy_c271 (by decide) h)
    exact nm_e (br_c (fun _ => K 0) (fun _ => K 1))
theorem qJ_cpy {now : Nat → Int32} {sq m n : Int32} (hR : qR now) (hm : m &&& 255 = m) (hn : n &&& 65535 = n) (hw : sq >>> ((5 : Int32) &&& 31) = 6) (hk : sq &&& 3 = 0) : qJ now sq m n 6 0 := by
  refine ⟨upd (upd now 5 n) 4 (qcp (now 4) (now 2) m), qR_4 (qR_5 hR hn) (qcp_p _ _ hR.2.1.1), rfl, rfl, ?_, ?_⟩
  · intro post se la ne co ac dn le tl mo st lo hi pt ea uf np mem lev h
    have hp := hR.2.1.1
    refine nm_r hw ?_
    refine br_f (by rw [hk]; decide) ?_
    exact br_f (by decide) (br_t (by decide) (qx_cmp hp h))
  · intro post len dn co se la ne sq ac mem work lin log h
    have K : ∀ z, wY_compute_25 post 6 0 m (now 0) z len dn co se la ne sq ac mem work now (upd now 5 n) lin log := by
      intro z
      refine br_f (by decide) (br_t (by decide) ?_)
      unfold wY_compute_75
      refine br_t (by decide) (br_t (by decide) ?_)
      unfold wY_compute_100
      unfold wY_compute_102
      unfold qcp at h
      by_cases c : now 2 < m
      · rw [if_pos c] at h
        refine br_t c ?_
        unfold wY_compute_115
        refine qy_flag ?_
        exact qy_nz (qy_c271 (by decide) h)
      · rw [if_neg c] at h
        refine br_f c ?_
        unfold wY_compute_115
        refine qy_flag ?_
        exact qy_nz (qy_c271 (by decide) h)
    exact nm_e (br_c (fun _ => K 0) (fun _ => K 1))
theorem qJ_cpx {now : Nat → Int32} {sq m n : Int32} (hR : qR now) (hm : m &&& 255 = m) (hn : n &&& 65535 = n) (hw : sq >>> ((5 : Int32) &&& 31) = 7) (hk : sq &&& 3 = 0) : qJ now sq m n 7 0 := by
  refine ⟨upd (upd now 5 n) 4 (qcp (now 4) (now 1) m), qR_4 (qR_5 hR hn) (qcp_p _ _ hR.2.1.1), rfl, rfl, ?_, ?_⟩
  · intro post se la ne co ac dn le tl mo st lo hi pt ea uf np mem lev h
    have hp := hR.2.1.1
    refine nm_r hw ?_
    refine br_f (by rw [hk]; decide) ?_
    exact br_f (by decide) (br_f (by decide) (br_t (by decide) (qx_cmp hp h)))
  · intro post len dn co se la ne sq ac mem work lin log h
    have K : ∀ z, wY_compute_25 post 7 0 m (now 0) z len dn co se la ne sq ac mem work now (upd now 5 n) lin log := by
      intro z
      refine br_f (by decide) (br_f (by decide) (br_t (by decide) (br_t (by decide) ?_)))
      unfold wY_compute_75
      refine br_t (by decide) (br_f (by decide) ?_)
      unfold wY_compute_100
      unfold wY_compute_102
      unfold qcp at h
      by_cases c : now 1 < m
      · rw [if_pos c] at h
        refine br_t c ?_
        unfold wY_compute_115
        refine qy_flag ?_
        exact qy_nz (qy_c271 (by decide) h)
      · rw [if_neg c] at h
        refine br_f c ?_
        unfold wY_compute_115
        refine qy_flag ?_
        exact qy_nz (qy_c271 (by decide) h)
    exact nm_e (br_c (fun _ => K 0) (fun _ => K 1))
theorem qJ_bit {now : Nat → Int32} {sq m n : Int32} (hR : qR now) (hm : m &&& 255 = m) (hn : n &&& 65535 = n) (hw : sq >>> ((5 : Int32) &&& 31) = 1) (hk : sq &&& 3 = 0) : qJ now sq m n 1 0 := by
  refine ⟨upd (upd now 5 n) 4 (qbp (now 4) (now 0) m), qR_4 (qR_5 hR hn) (qbp_p _ _ hR.2.1.1), rfl, rfl, ?_, ?_⟩
  · intro post se la ne co ac dn le tl mo st lo hi pt ea uf np mem lev h
    have hp := hR.2.1.1
    refine nm_r hw ?_
    refine br_f (by rw [hk]; decide) ?_
    exact br_t (by decide) (qx_tb hp h)
  · intro post len dn co se la ne sq ac mem work lin log h
    have K : ∀ z, wY_compute_25 post 1 0 m (now 0) z len dn co se la ne sq ac mem work now (upd now 5 n) lin log := by
      intro z
      refine br_f (by decide) (br_f (by decide) (br_f (by decide) ?_))
      have k189 : ∀ {v q : Int32}, post (qy len dn co se la ne sq ac mem work now (upd (upd now 5 n) 4 (qg q 2 v)) lin log) → wY_compute_189 post 1 0 m (now 0) z v 2 len dn co se la ne sq ac mem work now (upd (upd now 5 n) 4 q) lin log := by
        intro v q h
        unfold wY_compute_189
        exact qy_flag2 (qy_c271 (by decide) h)
      have k172 : ∀ {v q : Int32}, post (qy len dn co se la ne sq ac mem work now (upd (upd now 5 n) 4 (qg (qg q 64 v) 2 (if now 0 &&& m = 0 then 1 else 0))) lin log) → wY_compute_172 post 1 0 m (now 0) z v 64 len dn co se la ne sq ac mem work now (upd (upd now 5 n) 4 q) lin log := by
        intro v q h
        unfold wY_compute_172
        refine qy_flag2 ?_
        by_cases c : now 0 &&& m = 0
        · rw [if_pos c] at h
          exact br_t c (k189 h)
        · rw [if_neg c] at h
          exact br_f c (k189 h)
      have k154 : ∀ {v : Int32}, post (qy len dn co se la ne sq ac mem work now (upd (upd now 5 n) 4 (qg (qg (qg (now 4) 128 v) 64 (if m &&& 64 = 0 then 0 else 1)) 2 (if now 0 &&& m = 0 then 1 else 0))) lin log) → wY_compute_154 post 1 0 m (now 0) z v 128 len dn co se la ne sq ac mem work now (upd now 5 n) lin log := by
        intro v h
        unfold wY_compute_154
        refine qy_flag ?_
        by_cases c : m &&& 64 = 0
        · rw [if_pos c] at h
          exact br_t c (k172 h)
        · rw [if_neg c] at h
          exact br_f c (k172 h)
      unfold wY_compute_133
      unfold qbp at h
      by_cases c : m &&& 128 = 0
      · rw [if_pos c] at h
        exact br_t (by decide) (br_t c (k154 h))
      · rw [if_neg c] at h
        exact br_t (by decide) (br_f c (k154 h))
    exact nm_e (br_c (fun _ => K 0) (fun _ => K 1))
theorem qJ_adc {now : Nat → Int32} {sq m n : Int32} (hR : qR now) (hm : m &&& 255 = m) (hn : n &&& 65535 = n) (hw : sq >>> ((5 : Int32) &&& 31) = 3) (hk : sq &&& 3 = 1) : qJ now sq m n 3 1 := by
  refine ⟨upd (upd (upd now 5 n) 0 (if now 4 &&& 8 = 0 then qsum (now 4) (now 0) m &&& 255 else qdt (now 4) (now 0) m &&& 255)) 4 (if now 4 &&& 8 = 0 then qab (now 4) (now 0) m else qdp (now 4) (now 0) m), qR_4 (qR_0 (qR_5 hR hn) ?_) ?_, rfl, rfl, ?_, ?_⟩
  · by_cases c : now 4 &&& 8 = 0
    · rw [if_pos c]; exact qb_and _
    · rw [if_neg c]; exact qb_and _
  · by_cases c : now 4 &&& 8 = 0
    · rw [if_pos c]; exact qab_p _ _ hR.2.1.1
    · rw [if_neg c]; exact qdp_p _ _ hR.2.1.1
  · intro post se la ne co ac dn le tl mo st lo hi pt ea uf np mem lev h
    have hp := hR.2.1.1
    refine nm_r hw ?_
    refine br_t hk ?_
    exact br_f (by decide) (br_f (by decide) (br_f (by decide) (br_t (by decide) (qx_add hp h))))
  · intro post len dn co se la ne sq ac mem work lin log h
    refine nm_e ?_
    by_cases c : now 4 &&& 8 = 0
    · simp only [if_pos c] at h
      refine br_t c ?_
      unfold wY_compute_25
      refine br_f (by decide) (br_f (by decide) (br_f (by decide) ?_))
      unfold wY_compute_133
      refine br_f (by decide) (br_t (by decide) (br_t (by decide) (br_t (by decide) ?_)))
      unfold wY_compute_253
      refine br_t (by decide) ?_
      unfold wY_compute_268
      exact qy_addB rfl (qy_c271 (by decide) h)
    · simp only [if_neg c] at h
      refine br_f c ?_
      unfold wY_compute_25
      refine br_f (by decide) (br_f (by decide) (br_f (by decide) ?_))
      unfold wY_compute_133
      refine br_f (by decide) (br_t (by decide) (br_t (by decide) (br_f (by decide) ?_)))
      exact qy_addD rfl (qy_c271 (by decide) h)
theorem qJ_sbc {now : Nat → Int32} {sq m n : Int32} (hR : qR now) (hm : m &&& 255 = m) (hn : n &&& 65535 = n) (hw : sq >>> ((5 : Int32) &&& 31) = 7) (hk : sq &&& 3 = 1) : qJ now sq m n 7 1 := by
  refine ⟨upd (upd (upd now 5 n) 0 (qsa (now 4) (now 0) m)) 4 (qab (now 4) (now 0) (m ^^^ 255)), qR_4 (qR_0 (qR_5 hR hn) ?_) (qab_p _ _ hR.2.1.1), rfl, rfl, ?_, ?_⟩
  · unfold qsa
    by_cases c : now 4 &&& 8 = 0
    · rw [if_pos c]; exact qb_and _
    · rw [if_neg c]; exact qb_and _
  · intro post se la ne co ac dn le tl mo st lo hi pt ea uf np mem lev h
    have hp := hR.2.1.1
    refine nm_r hw ?_
    refine br_t hk ?_
    exact br_f (by decide) (br_f (by decide) (br_f (by decide) (br_f (by decide) (br_f (by decide) (br_f (by decide) (qx_sub hp h))))))
  · intro post len dn co se la ne sq ac mem work lin log h
    refine nm_e ?_
    unfold qsa at h
    by_cases c : now 4 &&& 8 = 0
    · rw [if_pos c] at h
      refine br_t c ?_
      unfold wY_compute_25
      refine br_f (by decide) (br_f (by decide) (br_t (by decide) (br_f (by decide) ?_)))
      unfold wY_compute_133
      refine br_f (by decide) (br_t (by decide) (br_f (by decide) ?_))
      unfold wY_compute_253
      refine br_f (by decide) ?_
      unfold wY_compute_268
      refine qy_addB rfl ?_
      exact br_t (by decide) (br_t (by decide) (br_t (by decide) h))
    · rw [if_neg c] at h
      refine br_f c ?_
      unfold wY_compute_25
      refine br_f (by decide) (br_f (by decide) (br_t (by decide) (br_f (by decide) ?_)))
      unfold wY_compute_133
      refine br_f (by decide) (br_t (by decide) (br_f (by decide) ?_))
      unfold wY_compute_253
      refine br_f (by decide) ?_
      unfold wY_compute_268
      refine qy_addB rfl ?_
      refine br_t (by decide) (br_t (by decide) (br_f (by decide) ?_))
      refine nm_e ?_
      have k357 : ∀ {t : Int32}, t = qsd (now 4) (now 0) m → wY_compute_357 post t len dn co se la ne sq ac mem work now (upd (upd (upd now 5 n) 0 (qsum (now 4) (now 0) (m ^^^ 255) &&& 255)) 4 (qab (now 4) (now 0) (m ^^^ 255))) lin log := by
        intro t et
        subst et
        unfold wY_compute_357
        refine nm_r (e' := upd (upd (upd now 5 n) 0 (qsd (now 4) (now 0) m &&& 255)) 4 (qab (now 4) (now 0) (m ^^^ 255))) ?_ h
        rw [qu_sw (by decide : (4 : Nat) ≠ 0), qu_uu]
      have k328 : ∀ {t : Int32}, t = qsn (now 4) (now 0) m → wY_compute_328 post m (now 0) t len dn co se la ne sq ac mem work now (upd (upd (upd now 5 n) 0 (qsum (now 4) (now 0) (m ^^^ 255) &&& 255)) 4 (qab (now 4) (now 0) (m ^^^ 255))) lin log := by
        intro t et
        subst et
        unfold wY_compute_328
        refine nm_e ?_
        by_cases d : 0 ≤ ((now 0 &&& 240) - (m &&& 240)) + qsn (now 4) (now 0) m
        · exact br_t d (k357 (if_pos d).symm)
        · exact br_f d (nm_e (k357 (if_neg d).symm))
      by_cases d : 0 ≤ (((now 0 &&& 15) - (m &&& 15)) + (now 4 &&& 1)) - 1
      · exact br_t d (k328 (if_pos d).symm)
      · exact br_f d (nm_e (k328 (if_neg d).symm))
def qO (w k : Int32) : Prop := (k = 1 ∧ (w = 0 ∨ w = 1 ∨ w = 2 ∨ w = 3 ∨ w = 5 ∨ w = 6 ∨ w = 7)) ∨ (k = 0 ∧ (w = 1 ∨ w = 5 ∨ w = 6 ∨ w = 7)) ∨ (k = 2 ∧ w = 5)
theorem qJ_all {now : Nat → Int32} {sq m n : Int32} (hR : qR now) (hm : m &&& 255 = m) (hn : n &&& 65535 = n) (hO : qO (sq >>> ((5 : Int32) &&& 31)) (sq &&& 3)) : qJ now sq m n (sq >>> ((5 : Int32) &&& 31)) (sq &&& 3) := by
  rcases hO with ⟨hk, hw | hw | hw | hw | hw | hw | hw⟩ | ⟨hk, hw | hw | hw | hw⟩ | ⟨hk, hw⟩
  · rw [hk, hw]; exact qJ_ora hR hm hn hw hk
  · rw [hk, hw]; exact qJ_and hR hm hn hw hk
  · rw [hk, hw]; exact qJ_eor hR hm hn hw hk
  · rw [hk, hw]; exact qJ_adc hR hm hn hw hk
  · rw [hk, hw]; exact qJ_lda hR hm hn hw hk
  · rw [hk, hw]; exact qJ_cmp hR hm hn hw hk
  · rw [hk, hw]; exact qJ_sbc hR hm hn hw hk
  · rw [hk, hw]; exact qJ_bit hR hm hn hw hk
  · rw [hk, hw]; exact qJ_ldy hR hm hn hw hk
  · rw [hk, hw]; exact qJ_cpy hR hm hn hw hk
  · rw [hk, hw]; exact qJ_cpx hR hm hn hw hk
  · rw [hk, hw]; exact qJ_ldx hR hm hn hw hk
end
section
/-! X's later cycles, by mode and by the number of the cycle -/
theorem qp_16 : ∀ n, n < 256 → nI n &&& 239 = nI n → (nI n ||| 16) &&& 255 = nI n + 16 ∧ (nI n + 16 * 1) &&& 255 = nI n + 16 ∧ (nI n + 16) &&& 255 = nI n + 16 := by decide +kernel
theorem qp_a16 {p : Int32} (h : p &&& 239 = p) : (p ||| 16) &&& 255 = p + 16 := by
  obtain ⟨n, hn, rfl, e⟩ := qp_of h
  exact (qp_16 n hn e).1
theorem qp_b16 {p : Int32} (h : p &&& 239 = p) : (p + 16 * 1) &&& 255 = p + 16 := by
  obtain ⟨n, hn, rfl, e⟩ := qp_of h
  exact (qp_16 n hn e).2.1
theorem qp_c16 {p : Int32} (h : p &&& 239 = p) : (p + 16) &&& 255 = p + 16 := by
  obtain ⟨n, hn, rfl, e⟩ := qp_of h
  exact (qp_16 n hn e).2.2
def qsv (k a x y : Int32) : Int32 := if k = 1 then a else if k = 2 then x else y
theorem qsv_b {k a x y : Int32} (ha : a &&& 255 = a) (hx : x &&& 255 = x) (hy : y &&& 255 = y) : qsv k a x y &&& 255 = qsv k a x y := by
  unfold qsv
  by_cases c : k = 1
  · rw [if_pos c]; exact ha
  · rw [if_neg c]
    by_cases d : k = 2
    · rw [if_pos d]; exact hx
    · rw [if_neg d]; exact hy
def qlf (le st tl U E : Int32) : Int32 := if U = E then le else if st = 0 then (if tl = 1 then le + 1 else le) else le
section
variable {a x y s p pc se la ne co ac sq dn le tl mo st lo hi pt ea uf op np : Int32} {mem lev : Nat → Int32}
theorem qx_loc {post : SX → Prop} {i : Int32} (hi' : ∀ P : Int32 → Prop, P i → wpX_index P (qx a x y s p pc se la ne co ac sq dn le tl mo st lo hi pt ea uf op np mem lev)) (h : post (qx a x y s p pc se la ne co ac sq dn (qlf le st tl (256 * hi + ((lo + i) &&& 255)) ((256 * hi + lo + i) &&& 65535)) tl mo st lo hi pt ((256 * hi + lo + i) &&& 65535) (256 * hi + ((lo + i) &&& 255)) op np mem lev)) : wpX_locate post (qx a x y s p pc se la ne co ac sq dn le tl mo st lo hi pt ea uf op np mem lev) := by
  unfold wpX_locate
  refine hi' _ (nm_e (nm_e ?_))
  unfold qlf at h
  by_cases c : 256 * hi + ((lo + i) &&& 255) = (256 * hi + lo + i) &&& 65535
  · rw [if_pos c] at h
    exact br_t c h
  · rw [if_neg c] at h
    refine br_f c ?_
    by_cases d : st = 0
    · rw [if_pos d] at h
      refine br_t d ?_
      by_cases e : tl = 1
      · rw [if_pos e] at h
        exact br_t e (nm_e h)
      · rw [if_neg e] at h
        exact br_f e h
    · rw [if_neg d] at h
      exact br_f d h
theorem qp_m2 {post : SX → Prop} (hm1 : ¬ mo < 2) (hm2 : ¬ 9 < mo) (hpl : nI 2 - (le - tl) ≤ 0) (h : post (qx a x y s p pc se la ne co (rd (mem ((pc + 1) &&& 255).toNatClampNeg) (pc + 1)) sq (nI 2) le tl mo st (mem ((pc + 1) &&& 255).toNatClampNeg) hi (mem ((pc + 1) &&& 255).toNatClampNeg) (mem ((pc + 1) &&& 255).toNatClampNeg) uf op np mem lev)) : wpX_proceed post (qx a x y s p pc se la ne co ac sq (nI 2) le tl mo st lo hi pt ea uf op np mem lev) := by
  unfold wpX_proceed
  refine br_f hm1 (br_f hm2 ?_)
  unfold wpX_memoryCycle
  refine nm_e (br_t hpl (br_t (by decide) ?_))
  unfold wpX_fetchLow
  exact qx_read h
theorem qp_tr {post : SX → Prop} (hm1 : ¬ mo < 2) (hm2 : ¬ 9 < mo) (hpl : dn - (le - tl) = 1) (h : post (qx a x y s p pc se la ne co (rd (mem (ea &&& 255).toNatClampNeg) ea) sq dn le tl mo 0 lo hi pt ea uf (mem (ea &&& 255).toNatClampNeg) np mem lev)) : wpX_proceed post (qx a x y s p pc se la ne co ac sq dn le tl mo 0 lo hi pt ea uf op np mem lev) := by
  unfold wpX_proceed
  refine br_f hm1 (br_f hm2 ?_)
  unfold wpX_memoryCycle
  refine nm_r hpl (br_f (by decide) ?_)
  unfold wpX_tailCycle
  refine br_t (by decide) (br_t (by decide) ?_)
  exact qx_read h
theorem qp_ts {post : SX → Prop} (hm1 : ¬ mo < 2) (hm2 : ¬ 9 < mo) (hpl : dn - (le - tl) = 1) (ha : a &&& 255 = a) (hx : x &&& 255 = x) (hy : y &&& 255 = y) (h : post (qx a x y s p pc se la ne co (wr (qsv (sq &&& 3) a x y) ea) sq dn le tl mo 1 lo hi pt ea uf op np (upd mem (ea &&& 255).toNatClampNeg (qsv (sq &&& 3) a x y)) lev)) : wpX_proceed post (qx a x y s p pc se la ne co ac sq dn le tl mo 1 lo hi pt ea uf op np mem lev) := by
  unfold wpX_proceed
  refine br_f hm1 (br_f hm2 ?_)
  unfold wpX_memoryCycle
  refine nm_r hpl (br_f (by decide) ?_)
  unfold wpX_tailCycle
  refine br_f (by decide) (nm_e ?_)
  unfold qsv at h
  by_cases c : sq &&& 3 = 2
  · have c1 : ¬ sq &&& 3 = 1 := fun z => absurd (c.symm.trans z) (by decide)
    rw [if_neg c1, if_pos c] at h
    refine br_t c ?_
    unfold wX_tailCycle_30
    refine br_f c1 ?_
    unfold wX_tailCycle_49
    exact qx_write hx h
  · refine br_f c ?_
    unfold wX_tailCycle_30
    by_cases d : sq &&& 3 = 1
    · rw [if_pos d] at h
      refine br_t d ?_
      unfold wX_tailCycle_49
      exact qx_write ha h
    · rw [if_neg d, if_neg c] at h
      refine br_f d ?_
      unfold wX_tailCycle_49
      exact qx_write hy h
theorem qp_t2 {post : SX → Prop} (hm1 : ¬ mo < 2) (hm2 : ¬ 9 < mo) (hpl : dn - (le - tl) = 2) (hv : op &&& 255 = op) (h : post (qx a x y s p pc se la ne co (wr op ea) sq dn le tl mo 0 lo hi pt ea uf op np (upd mem (ea &&& 255).toNatClampNeg op) lev)) : wpX_proceed post (qx a x y s p pc se la ne co ac sq dn le tl mo 0 lo hi pt ea uf op np mem lev) := by
  unfold wpX_proceed
  refine br_f hm1 (br_f hm2 ?_)
  unfold wpX_memoryCycle
  refine nm_r hpl (br_f (by decide) ?_)
  unfold wpX_tailCycle
  refine br_t (by decide) (br_f (by decide) (br_f (by decide) ?_))
  unfold wX_tailCycle_92
  exact qx_write hv h
theorem qp_t3 {post : SX → Prop} {w : Int32} (hm1 : ¬ mo < 2) (hm2 : ¬ 9 < mo) (hpl : dn - (le - tl) = 3) (hv : op &&& 255 = op) (hp : p &&& 239 = p) (hw : sq >>> ((5 : Int32) &&& 31) = w) (hc : w = 0 ∨ w = 1 ∨ w = 2 ∨ w = 3 ∨ w = 6 ∨ w = 7) (h : post (qx a x y s (qmp w p op) pc se la ne co (wr (qmv w p op &&& 255) ea) sq dn le tl mo 0 lo hi pt ea uf (qmv w p op &&& 255) np (upd mem (ea &&& 255).toNatClampNeg (qmv w p op &&& 255)) lev)) : wpX_proceed post (qx a x y s p pc se la ne co ac sq dn le tl mo 0 lo hi pt ea uf op np mem lev) := by
  unfold wpX_proceed
  refine br_f hm1 (br_f hm2 ?_)
  unfold wpX_memoryCycle
  refine nm_r hpl (br_f (by decide) ?_)
  unfold wpX_tailCycle
  refine br_t (by decide) (br_f (by decide) (br_t (by decide) ?_))
  refine qx_modify hp hv hw hc ?_
  unfold wX_tailCycle_92
  exact qx_write (qb_and _) h
theorem qp_z3 {post : SX → Prop} (hpl : nI 3 - (le - tl) ≤ 0) (h : post (qx a x y s p pc se la ne co (rd (mem ((pt) &&& 255).toNatClampNeg) pt) sq (nI 3) le tl 3 st lo hi pt ((pt + x) &&& 255) uf op np mem lev)) : wpX_proceed post (qx a x y s p pc se la ne co ac sq (nI 3) le tl 3 st lo hi pt ea uf op np mem lev) := by
  unfold wpX_proceed
  refine br_f (by decide) (br_f (by decide) ?_)
  unfold wpX_memoryCycle
  refine nm_e (br_t hpl (br_f (by decide) (br_f (by decide) (br_f (by decide) (br_t (by decide) ?_)))))
  unfold wX_memoryCycle_90
  unfold wpX_zeroPageIndexCycle
  refine qx_read ?_
  refine br_t (by decide) (?_)
  exact nm_e h
theorem qp_z4 {post : SX → Prop} (hpl : nI 3 - (le - tl) ≤ 0) (h : post (qx a x y s p pc se la ne co (rd (mem ((pt) &&& 255).toNatClampNeg) pt) sq (nI 3) le tl 4 st lo hi pt ((pt + y) &&& 255) uf op np mem lev)) : wpX_proceed post (qx a x y s p pc se la ne co ac sq (nI 3) le tl 4 st lo hi pt ea uf op np mem lev) := by
  unfold wpX_proceed
  refine br_f (by decide) (br_f (by decide) ?_)
  unfold wpX_memoryCycle
  refine nm_e (br_t hpl (br_f (by decide) (br_f (by decide) (br_f (by decide) (br_f (by decide) (br_t (by decide) ?_))))))
  unfold wX_memoryCycle_90
  unfold wpX_zeroPageIndexCycle
  refine qx_read ?_
  refine br_f (by decide) (br_f (by decide) (br_t (by decide) (?_)))
  exact nm_e h
theorem qp_a5 {post : SX → Prop} (hpl : nI 3 - (le - tl) ≤ 0) (h : post (qx a x y s p pc se la ne co (rd (mem ((pc + 2) &&& 255).toNatClampNeg) (pc + 2)) sq (nI 3) (qlf le st tl (256 * (mem ((pc + 2) &&& 255).toNatClampNeg) + ((lo + 0) &&& 255)) ((256 * (mem ((pc + 2) &&& 255).toNatClampNeg) + lo + 0) &&& 65535)) tl 5 st lo (mem ((pc + 2) &&& 255).toNatClampNeg) pt ((256 * (mem ((pc + 2) &&& 255).toNatClampNeg) + lo + 0) &&& 65535) (256 * (mem ((pc + 2) &&& 255).toNatClampNeg) + ((lo + 0) &&& 255)) op np mem lev)) : wpX_proceed post (qx a x y s p pc se la ne co ac sq (nI 3) le tl 5 st lo hi pt ea uf op np mem lev) := by
  unfold wpX_proceed
  refine br_f (by decide) (br_f (by decide) ?_)
  unfold wpX_memoryCycle
  refine nm_e (br_t hpl (br_f (by decide) (br_f (by decide) (br_f (by decide) (br_f (by decide) (br_f (by decide) ?_))))))
  unfold wpX_absoluteCycle
  refine br_t (by decide) ?_
  refine qx_read ?_
  exact qx_loc (i := 0) (fun P k => br_f (by decide) (br_f (by decide) (br_f (by decide) (br_f (by decide) (br_f (by decide) (k)))))) h
theorem qp_a6 {post : SX → Prop} (hpl : nI 3 - (le - tl) ≤ 0) (h : post (qx a x y s p pc se la ne co (rd (mem ((pc + 2) &&& 255).toNatClampNeg) (pc + 2)) sq (nI 3) (qlf le st tl (256 * (mem ((pc + 2) &&& 255).toNatClampNeg) + ((lo + x) &&& 255)) ((256 * (mem ((pc + 2) &&& 255).toNatClampNeg) + lo + x) &&& 65535)) tl 6 st lo (mem ((pc + 2) &&& 255).toNatClampNeg) pt ((256 * (mem ((pc + 2) &&& 255).toNatClampNeg) + lo + x) &&& 65535) (256 * (mem ((pc + 2) &&& 255).toNatClampNeg) + ((lo + x) &&& 255)) op np mem lev)) : wpX_proceed post (qx a x y s p pc se la ne co ac sq (nI 3) le tl 6 st lo hi pt ea uf op np mem lev) := by
  unfold wpX_proceed
  refine br_f (by decide) (br_f (by decide) ?_)
  unfold wpX_memoryCycle
  refine nm_e (br_t hpl (br_f (by decide) (br_f (by decide) (br_f (by decide) (br_f (by decide) (br_f (by decide) ?_))))))
  unfold wpX_absoluteCycle
  refine br_t (by decide) ?_
  refine qx_read ?_
  exact qx_loc (i := x) (fun P k => br_f (by decide) (br_t (by decide) (k))) h
theorem qp_u6 {post : SX → Prop} (hpl : nI 4 - (le - tl) ≤ 0) (h : post (qx a x y s p pc se la ne co (rd (mem ((uf) &&& 255).toNatClampNeg) uf) sq (nI 4) le tl 6 st lo hi pt ea uf op np mem lev)) : wpX_proceed post (qx a x y s p pc se la ne co ac sq (nI 4) le tl 6 st lo hi pt ea uf op np mem lev) := by
  unfold wpX_proceed
  refine br_f (by decide) (br_f (by decide) ?_)
  unfold wpX_memoryCycle
  refine nm_e (br_t hpl (br_f (by decide) (br_f (by decide) (br_f (by decide) (br_f (by decide) (br_f (by decide) ?_))))))
  unfold wpX_absoluteCycle
  refine br_f (by decide) ?_
  exact qx_read h
theorem qp_a7 {post : SX → Prop} (hpl : nI 3 - (le - tl) ≤ 0) (h : post (qx a x y s p pc se la ne co (rd (mem ((pc + 2) &&& 255).toNatClampNeg) (pc + 2)) sq (nI 3) (qlf le st tl (256 * (mem ((pc + 2) &&& 255).toNatClampNeg) + ((lo + y) &&& 255)) ((256 * (mem ((pc + 2) &&& 255).toNatClampNeg) + lo + y) &&& 65535)) tl 7 st lo (mem ((pc + 2) &&& 255).toNatClampNeg) pt ((256 * (mem ((pc + 2) &&& 255).toNatClampNeg) + lo + y) &&& 65535) (256 * (mem ((pc + 2) &&& 255).toNatClampNeg) + ((lo + y) &&& 255)) op np mem lev)) : wpX_proceed post (qx a x y s p pc se la ne co ac sq (nI 3) le tl 7 st lo hi pt ea uf op np mem lev) := by
  unfold wpX_proceed
  refine br_f (by decide) (br_f (by decide) ?_)
  unfold wpX_memoryCycle
  refine nm_e (br_t hpl (br_f (by decide) (br_f (by decide) (br_f (by decide) (br_f (by decide) (br_f (by decide) ?_))))))
  unfold wpX_absoluteCycle
  refine br_t (by decide) ?_
  refine qx_read ?_
  exact qx_loc (i := y) (fun P k => br_f (by decide) (br_f (by decide) (br_f (by decide) (br_t (by decide) (k))))) h
theorem qp_u7 {post : SX → Prop} (hpl : nI 4 - (le - tl) ≤ 0) (h : post (qx a x y s p pc se la ne co (rd (mem ((uf) &&& 255).toNatClampNeg) uf) sq (nI 4) le tl 7 st lo hi pt ea uf op np mem lev)) : wpX_proceed post (qx a x y s p pc se la ne co ac sq (nI 4) le tl 7 st lo hi pt ea uf op np mem lev) := by
  unfold wpX_proceed
  refine br_f (by decide) (br_f (by decide) ?_)
  unfold wpX_memoryCycle
  refine nm_e (br_t hpl (br_f (by decide) (br_f (by decide) (br_f (by decide) (br_f (by decide) (br_f (by decide) ?_))))))
  unfold wpX_absoluteCycle
  refine br_f (by decide) ?_
  exact qx_read h
theorem qp_x3 {post : SX → Prop} (hpl : nI 3 - (le - tl) ≤ 0) (h : post (qx a x y s p pc se la ne co (rd (mem ((pt) &&& 255).toNatClampNeg) pt) sq (nI 3) le tl 8 st lo hi pt ea uf op np mem lev)) : wpX_proceed post (qx a x y s p pc se la ne co ac sq (nI 3) le tl 8 st lo hi pt ea uf op np mem lev) := by
  unfold wpX_proceed
  refine br_f (by decide) (br_f (by decide) ?_)
  unfold wpX_memoryCycle
  refine nm_e (br_t hpl (br_f (by decide) (br_t (by decide) ?_)))
  unfold wpX_indirectXCycle
  refine br_t (by decide) ?_
  exact qx_read h
theorem qp_x4 {post : SX → Prop} (hpl : nI 4 - (le - tl) ≤ 0) (h : post (qx a x y s p pc se la ne co (rd (mem (((pt + x) &&& 255) &&& 255).toNatClampNeg) ((pt + x) &&& 255)) sq (nI 4) le tl 8 st (mem (((pt + x) &&& 255) &&& 255).toNatClampNeg) hi pt ea uf op np mem lev)) : wpX_proceed post (qx a x y s p pc se la ne co ac sq (nI 4) le tl 8 st lo hi pt ea uf op np mem lev) := by
  unfold wpX_proceed
  refine br_f (by decide) (br_f (by decide) ?_)
  unfold wpX_memoryCycle
  refine nm_e (br_t hpl (br_f (by decide) (br_t (by decide) ?_)))
  unfold wpX_indirectXCycle
  refine br_f (by decide) (br_t (by decide) ?_)
  exact qx_read h
theorem qp_x5 {post : SX → Prop} (hpl : nI 5 - (le - tl) ≤ 0) (h : post (qx a x y s p pc se la ne co (rd (mem ((((pt + x) + 1) &&& 255) &&& 255).toNatClampNeg) (((pt + x) + 1) &&& 255)) sq (nI 5) (qlf le st tl (256 * (mem ((((pt + x) + 1) &&& 255) &&& 255).toNatClampNeg) + ((lo + 0) &&& 255)) ((256 * (mem ((((pt + x) + 1) &&& 255) &&& 255).toNatClampNeg) + lo + 0) &&& 65535)) tl 8 st lo (mem ((((pt + x) + 1) &&& 255) &&& 255).toNatClampNeg) pt ((256 * (mem ((((pt + x) + 1) &&& 255) &&& 255).toNatClampNeg) + lo + 0) &&& 65535) (256 * (mem ((((pt + x) + 1) &&& 255) &&& 255).toNatClampNeg) + ((lo + 0) &&& 255)) op np mem lev)) : wpX_proceed post (qx a x y s p pc se la ne co ac sq (nI 5) le tl 8 st lo hi pt ea uf op np mem lev) := by
  unfold wpX_proceed
  refine br_f (by decide) (br_f (by decide) ?_)
  unfold wpX_memoryCycle
  refine nm_e (br_t hpl (br_f (by decide) (br_t (by decide) ?_)))
  unfold wpX_indirectXCycle
  refine br_f (by decide) (br_f (by decide) ?_)
  refine qx_read ?_
  exact qx_loc (i := 0) (fun P k => br_f (by decide) (br_f (by decide) (br_f (by decide) (br_f (by decide) (br_f (by decide) (k)))))) h
theorem qp_y3 {post : SX → Prop} (hpl : nI 3 - (le - tl) ≤ 0) (h : post (qx a x y s p pc se la ne co (rd (mem ((pt) &&& 255).toNatClampNeg) pt) sq (nI 3) le tl 9 st (mem ((pt) &&& 255).toNatClampNeg) hi pt ea uf op np mem lev)) : wpX_proceed post (qx a x y s p pc se la ne co ac sq (nI 3) le tl 9 st lo hi pt ea uf op np mem lev) := by
  unfold wpX_proceed
  refine br_f (by decide) (br_f (by decide) ?_)
  unfold wpX_memoryCycle
  refine nm_e (br_t hpl (br_f (by decide) (br_f (by decide) (br_t (by decide) ?_))))
  unfold wpX_indirectYCycle
  refine br_t (by decide) ?_
  exact qx_read h
theorem qp_y4 {post : SX → Prop} (hpl : nI 4 - (le - tl) ≤ 0) (h : post (qx a x y s p pc se la ne co (rd (mem (((pt + 1) &&& 255) &&& 255).toNatClampNeg) ((pt + 1) &&& 255)) sq (nI 4) (qlf le st tl (256 * (mem (((pt + 1) &&& 255) &&& 255).toNatClampNeg) + ((lo + y) &&& 255)) ((256 * (mem (((pt + 1) &&& 255) &&& 255).toNatClampNeg) + lo + y) &&& 65535)) tl 9 st lo (mem (((pt + 1) &&& 255) &&& 255).toNatClampNeg) pt ((256 * (mem (((pt + 1) &&& 255) &&& 255).toNatClampNeg) + lo + y) &&& 65535) (256 * (mem (((pt + 1) &&& 255) &&& 255).toNatClampNeg) + ((lo + y) &&& 255)) op np mem lev)) : wpX_proceed post (qx a x y s p pc se la ne co ac sq (nI 4) le tl 9 st lo hi pt ea uf op np mem lev) := by
  unfold wpX_proceed
  refine br_f (by decide) (br_f (by decide) ?_)
  unfold wpX_memoryCycle
  refine nm_e (br_t hpl (br_f (by decide) (br_f (by decide) (br_t (by decide) ?_))))
  unfold wpX_indirectYCycle
  refine br_f (by decide) (br_t (by decide) ?_)
  refine qx_read ?_
  exact qx_loc (i := y) (fun P k => br_f (by decide) (br_f (by decide) (br_f (by decide) (br_f (by decide) (br_t (by decide) (k)))))) h
theorem qp_y5 {post : SX → Prop} (hpl : nI 5 - (le - tl) ≤ 0) (h : post (qx a x y s p pc se la ne co (rd (mem ((uf) &&& 255).toNatClampNeg) uf) sq (nI 5) le tl 9 st lo hi pt ea uf op np mem lev)) : wpX_proceed post (qx a x y s p pc se la ne co ac sq (nI 5) le tl 9 st lo hi pt ea uf op np mem lev) := by
  unfold wpX_proceed
  refine br_f (by decide) (br_f (by decide) ?_)
  unfold wpX_memoryCycle
  refine nm_e (br_t hpl (br_f (by decide) (br_f (by decide) (br_t (by decide) ?_))))
  unfold wpX_indirectYCycle
  refine br_f (by decide) (br_f (by decide) ?_)
  exact qx_read h
theorem qp_o0 {post : SX → Prop} (h : post (qx a x y s p pc se la ne co (rd (mem ((pc + 1) &&& 255).toNatClampNeg) (pc + 1)) sq (nI 2) le tl 0 st lo hi pt ea uf (mem ((pc + 1) &&& 255).toNatClampNeg) np mem lev)) : wpX_proceed post (qx a x y s p pc se la ne co ac sq (nI 2) le tl 0 st lo hi pt ea uf op np mem lev) := by
  unfold wpX_proceed
  refine br_t (by decide) (?_)
  unfold wX_proceed_24
  refine br_f (by decide) (br_f (by decide) (br_f (by decide) (br_f (by decide) (br_f (by decide) (br_f (by decide) (br_f (by decide) (br_f (by decide) (br_f (by decide) (?_)))))))))
  refine br_t (by decide) ?_
  exact qx_read h
theorem qp_o1 {post : SX → Prop} (h : post (qx a x y s p pc se la ne co (rd (mem ((pc + 1) &&& 255).toNatClampNeg) (pc + 1)) sq (nI 2) le tl 1 st lo hi pt ea uf (mem ((pc + 1) &&& 255).toNatClampNeg) np mem lev)) : wpX_proceed post (qx a x y s p pc se la ne co ac sq (nI 2) le tl 1 st lo hi pt ea uf op np mem lev) := by
  unfold wpX_proceed
  refine br_t (by decide) (?_)
  unfold wX_proceed_24
  refine br_f (by decide) (br_f (by decide) (br_f (by decide) (br_f (by decide) (br_f (by decide) (br_f (by decide) (br_f (by decide) (br_f (by decide) (br_f (by decide) (?_)))))))))
  refine br_t (by decide) ?_
  exact qx_read h
theorem qp_o10 {post : SX → Prop} (h : post (qx a x y s p pc se la ne co (rd (mem ((pc + 1) &&& 255).toNatClampNeg) (pc + 1)) sq (nI 2) le tl 10 st lo hi pt ea uf (mem ((pc + 1) &&& 255).toNatClampNeg) np mem lev)) : wpX_proceed post (qx a x y s p pc se la ne co ac sq (nI 2) le tl 10 st lo hi pt ea uf op np mem lev) := by
  unfold wpX_proceed
  refine br_f (by decide) (br_t (by decide) (?_))
  unfold wX_proceed_24
  refine br_f (by decide) (br_f (by decide) (br_f (by decide) (br_f (by decide) (br_f (by decide) (br_f (by decide) (br_f (by decide) (br_f (by decide) (br_f (by decide) (?_)))))))))
  refine br_t (by decide) ?_
  exact qx_read h
theorem qp_pha {post : SX → Prop} (ha : a &&& 255 = a) (h : post (qx a x y s p pc se la ne co (wr (a) (256 + ((s + 0) &&& 255))) 72 (nI 3) le tl 10 st lo hi pt ea uf op np (upd mem ((256 + ((s + 0) &&& 255)) &&& 255).toNatClampNeg (a)) lev)) : wpX_proceed post (qx a x y s p pc se la ne co ac 72 (nI 3) le tl 10 st lo hi pt ea uf op np mem lev) := by
  unfold wpX_proceed
  refine br_f (by decide) (br_t (by decide) (?_))
  unfold wX_proceed_24
  refine br_f (by decide) (br_f (by decide) (br_f (by decide) (br_f (by decide) (br_f (by decide) (br_f (by decide) (br_f (by decide) (br_f (by decide) (br_f (by decide) (?_)))))))))
  refine br_f (by decide) (br_t (by decide) ?_)
  unfold wX_proceed_190
  exact qx_writeStack ha h
theorem qp_php {post : SX → Prop} (hp : p &&& 239 = p) (h : post (qx a x y s p pc se la ne co (wr (p + 16) (256 + ((s + 0) &&& 255))) 8 (nI 3) le tl 10 st lo hi pt ea uf op np (upd mem ((256 + ((s + 0) &&& 255)) &&& 255).toNatClampNeg (p + 16)) lev)) : wpX_proceed post (qx a x y s p pc se la ne co ac 8 (nI 3) le tl 10 st lo hi pt ea uf op np mem lev) := by
  unfold wpX_proceed
  refine br_f (by decide) (br_t (by decide) (?_))
  unfold wX_proceed_24
  refine br_f (by decide) (br_f (by decide) (br_f (by decide) (br_f (by decide) (br_f (by decide) (br_f (by decide) (br_f (by decide) (br_f (by decide) (br_f (by decide) (?_)))))))))
  refine br_f (by decide) (br_f (by decide) ?_)
  unfold wX_proceed_190
  exact qx_writeStack (qp_a16 hp) h
theorem qp_pl2 {post : SX → Prop} (h : post (qx a x y s p pc se la ne co (rd (mem ((pc + 1) &&& 255).toNatClampNeg) (pc + 1)) sq (nI 2) le tl 11 st lo hi pt ea uf op np mem lev)) : wpX_proceed post (qx a x y s p pc se la ne co ac sq (nI 2) le tl 11 st lo hi pt ea uf op np mem lev) := by
  unfold wpX_proceed
  refine br_f (by decide) (br_t (by decide) (?_))
  unfold wX_proceed_24
  refine br_f (by decide) (br_f (by decide) (br_f (by decide) (br_f (by decide) (br_f (by decide) (br_f (by decide) (br_t (by decide) (?_)))))))
  unfold wX_proceed_133
  unfold wpX_pullCycle
  refine br_t (by decide) ?_
  exact qx_read h
theorem qp_pl3 {post : SX → Prop} (h : post (qx a x y s p pc se la ne co (rd (mem ((256 + ((s + 0) &&& 255)) &&& 255).toNatClampNeg) (256 + ((s + 0) &&& 255))) sq (nI 3) le tl 11 st lo hi pt ea uf op np mem lev)) : wpX_proceed post (qx a x y s p pc se la ne co ac sq (nI 3) le tl 11 st lo hi pt ea uf op np mem lev) := by
  unfold wpX_proceed
  refine br_f (by decide) (br_t (by decide) (?_))
  unfold wX_proceed_24
  refine br_f (by decide) (br_f (by decide) (br_f (by decide) (br_f (by decide) (br_f (by decide) (br_f (by decide) (br_t (by decide) (?_)))))))
  unfold wX_proceed_133
  unfold wpX_pullCycle
  refine br_f (by decide) (br_f (by decide) ?_)
  unfold wX_pullCycle_61
  rw [show nI 3 - 3 = (0 : Int32) from by decide]
  refine qx_readStack ?_
  refine br_f (by decide) ?_
  exact br_f (by decide) (br_f (by decide) (br_f (by decide) (h)))
theorem qp_pl4 {post : SX → Prop} (h : post (qx a x y s p pc se la ne co (rd (mem ((256 + ((s + 1) &&& 255)) &&& 255).toNatClampNeg) (256 + ((s + 1) &&& 255))) sq (nI 4) le tl 11 st lo hi pt ea uf (mem ((256 + ((s + 1) &&& 255)) &&& 255).toNatClampNeg) np mem lev)) : wpX_proceed post (qx a x y s p pc se la ne co ac sq (nI 4) le tl 11 st lo hi pt ea uf op np mem lev) := by
  unfold wpX_proceed
  refine br_f (by decide) (br_t (by decide) (?_))
  unfold wX_proceed_24
  refine br_f (by decide) (br_f (by decide) (br_f (by decide) (br_f (by decide) (br_f (by decide) (br_f (by decide) (br_t (by decide) (?_)))))))
  unfold wX_proceed_133
  unfold wpX_pullCycle
  refine br_f (by decide) (br_f (by decide) ?_)
  unfold wX_pullCycle_61
  rw [show nI 4 - 3 = (1 : Int32) from by decide]
  refine qx_readStack ?_
  refine br_f (by decide) ?_
  exact br_t (by decide) (h)
theorem qp_rs2 {post : SX → Prop} (h : post (qx a x y s p pc se la ne co (rd (mem ((pc + 1) &&& 255).toNatClampNeg) (pc + 1)) sq (nI 2) le tl 13 st lo hi pt ea uf op np mem lev)) : wpX_proceed post (qx a x y s p pc se la ne co ac sq (nI 2) le tl 13 st lo hi pt ea uf op np mem lev) := by
  unfold wpX_proceed
  refine br_f (by decide) (br_t (by decide) (?_))
  unfold wX_proceed_24
  refine br_f (by decide) (br_f (by decide) (br_f (by decide) (br_f (by decide) (br_f (by decide) (br_f (by decide) (br_f (by decide) (br_t (by decide) (?_))))))))
  unfold wX_proceed_133
  unfold wpX_pullCycle
  refine br_t (by decide) ?_
  exact qx_read h
theorem qp_rs3 {post : SX → Prop} (h : post (qx a x y s p pc se la ne co (rd (mem ((256 + ((s + 0) &&& 255)) &&& 255).toNatClampNeg) (256 + ((s + 0) &&& 255))) sq (nI 3) le tl 13 st lo hi pt ea uf (mem ((256 + ((s + 0) &&& 255)) &&& 255).toNatClampNeg) np mem lev)) : wpX_proceed post (qx a x y s p pc se la ne co ac sq (nI 3) le tl 13 st lo hi pt ea uf op np mem lev) := by
  unfold wpX_proceed
  refine br_f (by decide) (br_t (by decide) (?_))
  unfold wX_proceed_24
  refine br_f (by decide) (br_f (by decide) (br_f (by decide) (br_f (by decide) (br_f (by decide) (br_f (by decide) (br_f (by decide) (br_t (by decide) (?_))))))))
  unfold wX_proceed_133
  unfold wpX_pullCycle
  refine br_f (by decide) (br_f (by decide) ?_)
  unfold wX_pullCycle_61
  rw [show nI 3 - 3 = (0 : Int32) from by decide]
  refine qx_readStack ?_
  refine br_t (by decide) ?_
  exact br_t (by decide) (h)
theorem qp_rs4 {post : SX → Prop} (h : post (qx a x y s p pc se la ne co (rd (mem ((256 + ((s + 1) &&& 255)) &&& 255).toNatClampNeg) (256 + ((s + 1) &&& 255))) sq (nI 4) le tl 13 st (mem ((256 + ((s + 1) &&& 255)) &&& 255).toNatClampNeg) hi pt ea uf op np mem lev)) : wpX_proceed post (qx a x y s p pc se la ne co ac sq (nI 4) le tl 13 st lo hi pt ea uf op np mem lev) := by
  unfold wpX_proceed
  refine br_f (by decide) (br_t (by decide) (?_))
  unfold wX_proceed_24
  refine br_f (by decide) (br_f (by decide) (br_f (by decide) (br_f (by decide) (br_f (by decide) (br_f (by decide) (br_f (by decide) (br_t (by decide) (?_))))))))
  unfold wX_proceed_133
  unfold wpX_pullCycle
  refine br_f (by decide) (br_f (by decide) ?_)
  unfold wX_pullCycle_61
  rw [show nI 4 - 3 = (1 : Int32) from by decide]
  refine qx_readStack ?_
  refine br_t (by decide) ?_
  exact br_f (by decide) (br_t (by decide) (h))
theorem qp_rs5 {post : SX → Prop} (h : post (qx a x y s p pc se la ne co (rd (mem ((256 + ((s + 2) &&& 255)) &&& 255).toNatClampNeg) (256 + ((s + 2) &&& 255))) sq (nI 5) le tl 13 st lo (mem ((256 + ((s + 2) &&& 255)) &&& 255).toNatClampNeg) pt ea uf op np mem lev)) : wpX_proceed post (qx a x y s p pc se la ne co ac sq (nI 5) le tl 13 st lo hi pt ea uf op np mem lev) := by
  unfold wpX_proceed
  refine br_f (by decide) (br_t (by decide) (?_))
  unfold wX_proceed_24
  refine br_f (by decide) (br_f (by decide) (br_f (by decide) (br_f (by decide) (br_f (by decide) (br_f (by decide) (br_f (by decide) (br_t (by decide) (?_))))))))
  unfold wX_proceed_133
  unfold wpX_pullCycle
  refine br_f (by decide) (br_f (by decide) ?_)
  unfold wX_pullCycle_61
  rw [show nI 5 - 3 = (2 : Int32) from by decide]
  refine qx_readStack ?_
  refine br_t (by decide) ?_
  exact br_f (by decide) (br_f (by decide) (br_t (by decide) (h)))
theorem qp_ri2 {post : SX → Prop} (h : post (qx a x y s p pc se la ne co (rd (mem ((pc + 1) &&& 255).toNatClampNeg) (pc + 1)) sq (nI 2) le tl 14 st lo hi pt ea uf op np mem lev)) : wpX_proceed post (qx a x y s p pc se la ne co ac sq (nI 2) le tl 14 st lo hi pt ea uf op np mem lev) := by
  unfold wpX_proceed
  refine br_f (by decide) (br_t (by decide) (?_))
  unfold wX_proceed_24
  refine br_f (by decide) (br_f (by decide) (br_f (by decide) (br_f (by decide) (br_f (by decide) (br_f (by decide) (br_f (by decide) (br_f (by decide) (br_t (by decide) (?_)))))))))
  unfold wX_proceed_133
  unfold wpX_pullCycle
  refine br_t (by decide) ?_
  exact qx_read h
theorem qp_ri3 {post : SX → Prop} (h : post (qx a x y s p pc se la ne co (rd (mem ((256 + ((s + 0) &&& 255)) &&& 255).toNatClampNeg) (256 + ((s + 0) &&& 255))) sq (nI 3) le tl 14 st lo hi pt ea uf op np mem lev)) : wpX_proceed post (qx a x y s p pc se la ne co ac sq (nI 3) le tl 14 st lo hi pt ea uf op np mem lev) := by
  unfold wpX_proceed
  refine br_f (by decide) (br_t (by decide) (?_))
  unfold wX_proceed_24
  refine br_f (by decide) (br_f (by decide) (br_f (by decide) (br_f (by decide) (br_f (by decide) (br_f (by decide) (br_f (by decide) (br_f (by decide) (br_t (by decide) (?_)))))))))
  unfold wX_proceed_133
  unfold wpX_pullCycle
  refine br_f (by decide) (br_f (by decide) ?_)
  unfold wX_pullCycle_61
  rw [show nI 3 - 3 = (0 : Int32) from by decide]
  refine qx_readStack ?_
  refine br_f (by decide) ?_
  exact br_f (by decide) (br_f (by decide) (br_f (by decide) (h)))
theorem qp_ri4 {post : SX → Prop} (h : post (qx a x y s p pc se la ne co (rd (mem ((256 + ((s + 1) &&& 255)) &&& 255).toNatClampNeg) (256 + ((s + 1) &&& 255))) sq (nI 4) le tl 14 st lo hi pt ea uf (mem ((256 + ((s + 1) &&& 255)) &&& 255).toNatClampNeg) np mem lev)) : wpX_proceed post (qx a x y s p pc se la ne co ac sq (nI 4) le tl 14 st lo hi pt ea uf op np mem lev) := by
  unfold wpX_proceed
  refine br_f (by decide) (br_t (by decide) (?_))
  unfold wX_proceed_24
  refine br_f (by decide) (br_f (by decide) (br_f (by decide) (br_f (by decide) (br_f (by decide) (br_f (by decide) (br_f (by decide) (br_f (by decide) (br_t (by decide) (?_)))))))))
  unfold wX_proceed_133
  unfold wpX_pullCycle
  refine br_f (by decide) (br_f (by decide) ?_)
  unfold wX_pullCycle_61
  rw [show nI 4 - 3 = (1 : Int32) from by decide]
  refine qx_readStack ?_
  refine br_f (by decide) ?_
  exact br_t (by decide) (h)
theorem qp_ri5 {post : SX → Prop} (h : post (qx a x y s p pc se la ne co (rd (mem ((256 + ((s + 2) &&& 255)) &&& 255).toNatClampNeg) (256 + ((s + 2) &&& 255))) sq (nI 5) le tl 14 st (mem ((256 + ((s + 2) &&& 255)) &&& 255).toNatClampNeg) hi pt ea uf op np mem lev)) : wpX_proceed post (qx a x y s p pc se la ne co ac sq (nI 5) le tl 14 st lo hi pt ea uf op np mem lev) := by
  unfold wpX_proceed
  refine br_f (by decide) (br_t (by decide) (?_))
  unfold wX_proceed_24
  refine br_f (by decide) (br_f (by decide) (br_f (by decide) (br_f (by decide) (br_f (by decide) (br_f (by decide) (br_f (by decide) (br_f (by decide) (br_t (by decide) (?_)))))))))
  unfold wX_proceed_133
  unfold wpX_pullCycle
  refine br_f (by decide) (br_f (by decide) ?_)
  unfold wX_pullCycle_61
  rw [show nI 5 - 3 = (2 : Int32) from by decide]
  refine qx_readStack ?_
  refine br_f (by decide) ?_
  exact br_f (by decide) (br_t (by decide) (h))
theorem qp_ri6 {post : SX → Prop} (h : post (qx a x y s p pc se la ne co (rd (mem ((256 + ((s + 3) &&& 255)) &&& 255).toNatClampNeg) (256 + ((s + 3) &&& 255))) sq (nI 6) le tl 14 st lo (mem ((256 + ((s + 3) &&& 255)) &&& 255).toNatClampNeg) pt ea uf op np mem lev)) : wpX_proceed post (qx a x y s p pc se la ne co ac sq (nI 6) le tl 14 st lo hi pt ea uf op np mem lev) := by
  unfold wpX_proceed
  refine br_f (by decide) (br_t (by decide) (?_))
  unfold wX_proceed_24
  refine br_f (by decide) (br_f (by decide) (br_f (by decide) (br_f (by decide) (br_f (by decide) (br_f (by decide) (br_f (by decide) (br_f (by decide) (br_t (by decide) (?_)))))))))
  unfold wX_proceed_133
  unfold wpX_pullCycle
  refine br_f (by decide) (br_t (by decide) (br_f (by decide) ?_))
  unfold wX_pullCycle_61
  rw [show nI 6 - 3 = (3 : Int32) from by decide]
  refine qx_readStack ?_
  refine br_f (by decide) ?_
  exact br_f (by decide) (br_f (by decide) (br_t (by decide) (h)))
theorem qp_rs6 {post : SX → Prop} (h : post (qx a x y s p pc se la ne co (rd (mem ((256 * hi + lo) &&& 255).toNatClampNeg) (256 * hi + lo)) sq (nI 6) le tl 13 st lo hi pt ea uf op np mem lev)) : wpX_proceed post (qx a x y s p pc se la ne co ac sq (nI 6) le tl 13 st lo hi pt ea uf op np mem lev) := by
  unfold wpX_proceed
  refine br_f (by decide) (br_t (by decide) (?_))
  unfold wX_proceed_24
  refine br_f (by decide) (br_f (by decide) (br_f (by decide) (br_f (by decide) (br_f (by decide) (br_f (by decide) (br_f (by decide) (br_t (by decide) (?_))))))))
  unfold wX_proceed_133
  unfold wpX_pullCycle
  refine br_f (by decide) (br_t (by decide) (br_t (by decide) ?_))
  exact qx_read h
theorem qp_js2 {post : SX → Prop} (h : post (qx a x y s p pc se la ne co (rd (mem ((pc + 1) &&& 255).toNatClampNeg) (pc + 1)) sq (nI 2) le tl 12 st (mem ((pc + 1) &&& 255).toNatClampNeg) hi pt ea uf op np mem lev)) : wpX_proceed post (qx a x y s p pc se la ne co ac sq (nI 2) le tl 12 st lo hi pt ea uf op np mem lev) := by
  unfold wpX_proceed
  refine br_f (by decide) (br_t (by decide) (?_))
  unfold wX_proceed_24
  refine br_f (by decide) (br_f (by decide) (br_f (by decide) (br_t (by decide) (?_))))
  unfold wpX_callCycle
  refine nm_e ?_
  refine br_t (by decide) ?_
  exact qx_read h
theorem qp_js3 {post : SX → Prop} (h : post (qx a x y s p pc se la ne co (rd (mem ((256 + ((s + 0) &&& 255)) &&& 255).toNatClampNeg) (256 + ((s + 0) &&& 255))) sq (nI 3) le tl 12 st lo hi pt ea uf op np mem lev)) : wpX_proceed post (qx a x y s p pc se la ne co ac sq (nI 3) le tl 12 st lo hi pt ea uf op np mem lev) := by
  unfold wpX_proceed
  refine br_f (by decide) (br_t (by decide) (?_))
  unfold wX_proceed_24
  refine br_f (by decide) (br_f (by decide) (br_f (by decide) (br_t (by decide) (?_))))
  unfold wpX_callCycle
  refine nm_e ?_
  refine br_f (by decide) (br_t (by decide) (?_))
  exact qx_readStack h
theorem qp_js4 {post : SX → Prop} (h : post (qx a x y s p pc se la ne co (wr (((pc + 2) &&& 65535) >>> ((8 : Int32) &&& 31)) (256 + ((s + 0) &&& 255))) sq (nI 4) le tl 12 st lo hi pt ea uf op np (upd mem ((256 + ((s + 0) &&& 255)) &&& 255).toNatClampNeg (((pc + 2) &&& 65535) >>> ((8 : Int32) &&& 31))) lev)) : wpX_proceed post (qx a x y s p pc se la ne co ac sq (nI 4) le tl 12 st lo hi pt ea uf op np mem lev) := by
  unfold wpX_proceed
  refine br_f (by decide) (br_t (by decide) (?_))
  unfold wX_proceed_24
  refine br_f (by decide) (br_f (by decide) (br_f (by decide) (br_t (by decide) (?_))))
  unfold wpX_callCycle
  refine nm_e ?_
  refine br_f (by decide) (br_f (by decide) (br_t (by decide) (?_)))
  exact qx_writeStack (qb_s8 _) h
theorem qp_js5 {post : SX → Prop} (h : post (qx a x y s p pc se la ne co (wr (((pc + 2) &&& 65535) &&& 255) (256 + ((s + -1) &&& 255))) sq (nI 5) le tl 12 st lo hi pt ea uf op np (upd mem ((256 + ((s + -1) &&& 255)) &&& 255).toNatClampNeg (((pc + 2) &&& 65535) &&& 255)) lev)) : wpX_proceed post (qx a x y s p pc se la ne co ac sq (nI 5) le tl 12 st lo hi pt ea uf op np mem lev) := by
  unfold wpX_proceed
  refine br_f (by decide) (br_t (by decide) (?_))
  unfold wX_proceed_24
  refine br_f (by decide) (br_f (by decide) (br_f (by decide) (br_t (by decide) (?_))))
  unfold wpX_callCycle
  refine nm_e ?_
  refine br_f (by decide) (br_f (by decide) (br_f (by decide) (br_t (by decide) (?_))))
  exact qx_writeStack (qb_64b _).symm h
theorem qp_js6 {post : SX → Prop} (h : post (qx a x y s p pc se la ne co (rd (mem (((pc + 2) &&& 65535) &&& 255).toNatClampNeg) ((pc + 2) &&& 65535)) sq (nI 6) le tl 12 st lo (mem (((pc + 2) &&& 65535) &&& 255).toNatClampNeg) pt ea uf op np mem lev)) : wpX_proceed post (qx a x y s p pc se la ne co ac sq (nI 6) le tl 12 st lo hi pt ea uf op np mem lev) := by
  unfold wpX_proceed
  refine br_f (by decide) (br_t (by decide) (?_))
  unfold wX_proceed_24
  refine br_f (by decide) (br_f (by decide) (br_f (by decide) (br_t (by decide) (?_))))
  unfold wpX_callCycle
  refine nm_e ?_
  refine br_f (by decide) (br_f (by decide) (br_f (by decide) (br_f (by decide) (?_))))
  refine qx_read ?_
  rw [qb_64b, rd_64] at h
  exact h
theorem qp_jm2 {post : SX → Prop} (h : post (qx a x y s p pc se la ne co (rd (mem ((pc + 1) &&& 255).toNatClampNeg) (pc + 1)) sq (nI 2) le tl 15 st (mem ((pc + 1) &&& 255).toNatClampNeg) hi pt ea uf op np mem lev)) : wpX_proceed post (qx a x y s p pc se la ne co ac sq (nI 2) le tl 15 st lo hi pt ea uf op np mem lev) := by
  unfold wpX_proceed
  refine br_f (by decide) (br_t (by decide) (?_))
  unfold wX_proceed_24
  refine br_f (by decide) (br_f (by decide) (br_f (by decide) (br_f (by decide) (br_t (by decide) (?_)))))
  unfold wX_proceed_99
  unfold wpX_jumpCycle
  refine br_t (by decide) (?_)
  exact qx_read h
theorem qp_jm3 {post : SX → Prop} (h : post (qx a x y s p pc se la ne co (rd (mem (((pc + 2) &&& 65535) &&& 255).toNatClampNeg) ((pc + 2) &&& 65535)) sq (nI 3) le tl 15 st lo (mem (((pc + 2) &&& 65535) &&& 255).toNatClampNeg) pt ea uf op np mem lev)) : wpX_proceed post (qx a x y s p pc se la ne co ac sq (nI 3) le tl 15 st lo hi pt ea uf op np mem lev) := by
  unfold wpX_proceed
  refine br_f (by decide) (br_t (by decide) (?_))
  unfold wX_proceed_24
  refine br_f (by decide) (br_f (by decide) (br_f (by decide) (br_f (by decide) (br_t (by decide) (?_)))))
  unfold wX_proceed_99
  unfold wpX_jumpCycle
  refine br_f (by decide) (br_t (by decide) (?_))
  refine qx_read ?_
  rw [qb_64b, rd_64] at h
  exact h
theorem qp_ji2 {post : SX → Prop} (h : post (qx a x y s p pc se la ne co (rd (mem ((pc + 1) &&& 255).toNatClampNeg) (pc + 1)) sq (nI 2) le tl 16 st (mem ((pc + 1) &&& 255).toNatClampNeg) hi pt ea uf op np mem lev)) : wpX_proceed post (qx a x y s p pc se la ne co ac sq (nI 2) le tl 16 st lo hi pt ea uf op np mem lev) := by
  unfold wpX_proceed
  refine br_f (by decide) (br_t (by decide) (?_))
  unfold wX_proceed_24
  refine br_f (by decide) (br_f (by decide) (br_f (by decide) (br_f (by decide) (br_f (by decide) (br_t (by decide) (?_))))))
  unfold wX_proceed_99
  unfold wpX_jumpCycle
  refine br_t (by decide) (?_)
  exact qx_read h
theorem qp_ji3 {post : SX → Prop} (h : post (qx a x y s p pc se la ne co (rd (mem (((pc + 2) &&& 65535) &&& 255).toNatClampNeg) ((pc + 2) &&& 65535)) sq (nI 3) le tl 16 st lo (mem (((pc + 2) &&& 65535) &&& 255).toNatClampNeg) pt ea uf op np mem lev)) : wpX_proceed post (qx a x y s p pc se la ne co ac sq (nI 3) le tl 16 st lo hi pt ea uf op np mem lev) := by
  unfold wpX_proceed
  refine br_f (by decide) (br_t (by decide) (?_))
  unfold wX_proceed_24
  refine br_f (by decide) (br_f (by decide) (br_f (by decide) (br_f (by decide) (br_f (by decide) (br_t (by decide) (?_))))))
  unfold wX_proceed_99
  unfold wpX_jumpCycle
  refine br_f (by decide) (br_t (by decide) (?_))
  refine qx_read ?_
  rw [qb_64b, rd_64] at h
  exact h
theorem qp_ji4 {post : SX → Prop} (h : post (qx a x y s p pc se la ne co (rd (mem ((256 * hi + lo) &&& 255).toNatClampNeg) (256 * hi + lo)) sq (nI 4) le tl 16 st lo hi pt ea uf (mem ((256 * hi + lo) &&& 255).toNatClampNeg) np mem lev)) : wpX_proceed post (qx a x y s p pc se la ne co ac sq (nI 4) le tl 16 st lo hi pt ea uf op np mem lev) := by
  unfold wpX_proceed
  refine br_f (by decide) (br_t (by decide) (?_))
  unfold wX_proceed_24
  refine br_f (by decide) (br_f (by decide) (br_f (by decide) (br_f (by decide) (br_f (by decide) (br_t (by decide) (?_))))))
  unfold wX_proceed_99
  unfold wpX_jumpCycle
  refine br_f (by decide) (br_f (by decide) (br_t (by decide) (?_)))
  exact qx_read h
theorem qp_ji5 {post : SX → Prop} (h : post (qx a x y s p pc se la ne co (rd (mem ((256 * hi + ((lo + 1) &&& 255)) &&& 255).toNatClampNeg) (256 * hi + ((lo + 1) &&& 255))) sq (nI 5) le tl 16 st op (mem ((256 * hi + ((lo + 1) &&& 255)) &&& 255).toNatClampNeg) pt ea uf op np mem lev)) : wpX_proceed post (qx a x y s p pc se la ne co ac sq (nI 5) le tl 16 st lo hi pt ea uf op np mem lev) := by
  unfold wpX_proceed
  refine br_f (by decide) (br_t (by decide) (?_))
  unfold wX_proceed_24
  refine br_f (by decide) (br_f (by decide) (br_f (by decide) (br_f (by decide) (br_f (by decide) (br_t (by decide) (?_))))))
  unfold wX_proceed_99
  unfold wpX_jumpCycle
  refine br_f (by decide) (br_f (by decide) (br_f (by decide) (?_)))
  exact qx_read h
theorem qp_bk2 {post : SX → Prop} (h : post (qx a x y s p pc se la ne co (rd (mem ((pc + 1) &&& 255).toNatClampNeg) (pc + 1)) 0 (nI 2) le tl 17 st lo hi pt ea uf op np mem lev)) : wpX_proceed post (qx a x y s p pc se la ne co ac 0 (nI 2) le tl 17 st lo hi pt ea uf op np mem lev) := by
  unfold wpX_proceed
  refine br_f (by decide) (br_t (by decide) (?_))
  unfold wX_proceed_24
  refine br_t (by decide) (?_)
  unfold wX_proceed_42
  unfold wpX_interruptCycle
  refine br_t (by decide) ?_
  unfold wX_interruptCycle_14
  refine nm_e (br_f (by decide) (?_))
  unfold wX_interruptCycle_42
  refine br_f (by decide) (?_)
  unfold wX_interruptCycle_56
  refine br_t (by decide) ?_
  exact qx_read h
theorem qp_bk6 {post : SX → Prop} (h : post (qx a x y s p pc se la ne co (rd (mem (((65534 : Int32)) &&& 255).toNatClampNeg) 65534) 0 (nI 6) le tl 17 st (mem (((65534 : Int32)) &&& 255).toNatClampNeg) hi pt ea uf op np mem lev)) : wpX_proceed post (qx a x y s p pc se la ne co ac 0 (nI 6) le tl 17 st lo hi pt ea uf op np mem lev) := by
  unfold wpX_proceed
  refine br_f (by decide) (br_t (by decide) (?_))
  unfold wX_proceed_24
  refine br_t (by decide) (?_)
  unfold wX_proceed_42
  unfold wpX_interruptCycle
  refine br_t (by decide) ?_
  unfold wX_interruptCycle_14
  refine nm_e (br_f (by decide) (?_))
  unfold wX_interruptCycle_42
  refine br_f (by decide) (?_)
  unfold wX_interruptCycle_56
  refine br_f (by decide) (br_t (by decide) (?_))
  exact qx_read h
theorem qp_bk7 {post : SX → Prop} (h : post (qx a x y s p pc se la ne co (rd (mem (((65534 : Int32) + 1) &&& 255).toNatClampNeg) (65534 + 1)) 0 (nI 7) le tl 17 st lo (mem (((65534 : Int32) + 1) &&& 255).toNatClampNeg) pt ea uf op np mem lev)) : wpX_proceed post (qx a x y s p pc se la ne co ac 0 (nI 7) le tl 17 st lo hi pt ea uf op np mem lev) := by
  unfold wpX_proceed
  refine br_f (by decide) (br_t (by decide) (?_))
  unfold wX_proceed_24
  refine br_t (by decide) (?_)
  unfold wX_proceed_42
  unfold wpX_interruptCycle
  refine br_t (by decide) ?_
  unfold wX_interruptCycle_14
  refine nm_e (br_f (by decide) (?_))
  unfold wX_interruptCycle_42
  refine br_f (by decide) (?_)
  unfold wX_interruptCycle_56
  refine br_f (by decide) (br_f (by decide) (br_t (by decide) (?_)))
  exact qx_read h
theorem qp_bk3 {post : SX → Prop} (h : post (qx a x y s p pc se la ne co (wr (((pc + 2) &&& 65535) >>> ((8 : Int32) &&& 31)) (256 + ((s + 0) &&& 255))) 0 (nI 3) le tl 17 st lo hi pt ea uf op np (upd mem ((256 + ((s + 0) &&& 255)) &&& 255).toNatClampNeg (((pc + 2) &&& 65535) >>> ((8 : Int32) &&& 31))) lev)) : wpX_proceed post (qx a x y s p pc se la ne co ac 0 (nI 3) le tl 17 st lo hi pt ea uf op np mem lev) := by
  unfold wpX_proceed
  refine br_f (by decide) (br_t (by decide) (?_))
  unfold wX_proceed_24
  refine br_t (by decide) (?_)
  unfold wX_proceed_42
  unfold wpX_interruptCycle
  refine br_t (by decide) ?_
  unfold wX_interruptCycle_14
  refine nm_e (br_f (by decide) (?_))
  unfold wX_interruptCycle_42
  refine br_f (by decide) (?_)
  unfold wX_interruptCycle_56
  refine br_f (by decide) (br_f (by decide) (br_f (by decide) (br_f (by decide) (br_t (by decide) (?_)))))
  exact qx_writeStack (by rw [show pc + 2 * 1 = pc + 2 from rfl]; exact qb_s8 _) h
theorem qp_bk4 {post : SX → Prop} (h : post (qx a x y s p pc se la ne co (wr (((pc + 2) &&& 65535) &&& 255) (256 + ((s + -1) &&& 255))) 0 (nI 4) le tl 17 st lo hi pt ea uf op np (upd mem ((256 + ((s + -1) &&& 255)) &&& 255).toNatClampNeg (((pc + 2) &&& 65535) &&& 255)) lev)) : wpX_proceed post (qx a x y s p pc se la ne co ac 0 (nI 4) le tl 17 st lo hi pt ea uf op np mem lev) := by
  unfold wpX_proceed
  refine br_f (by decide) (br_t (by decide) (?_))
  unfold wX_proceed_24
  refine br_t (by decide) (?_)
  unfold wX_proceed_42
  unfold wpX_interruptCycle
  refine br_t (by decide) ?_
  unfold wX_interruptCycle_14
  refine nm_e (br_f (by decide) (?_))
  unfold wX_interruptCycle_42
  refine br_f (by decide) (?_)
  unfold wX_interruptCycle_56
  refine br_f (by decide) (br_f (by decide) (br_f (by decide) (br_f (by decide) (br_f (by decide) (br_t (by decide) (?_))))))
  exact qx_writeStack (by rw [show pc + 2 * 1 = pc + 2 from rfl]; exact (qb_64b _).symm) h
theorem qp_bk5 {post : SX → Prop} (hp : p &&& 239 = p) (h : post (qx a x y s p pc se la ne co (wr (p + 16) (256 + ((s + -2) &&& 255))) 0 (nI 5) le tl 17 st lo hi pt ea uf op np (upd mem ((256 + ((s + -2) &&& 255)) &&& 255).toNatClampNeg (p + 16)) lev)) : wpX_proceed post (qx a x y s p pc se la ne co ac 0 (nI 5) le tl 17 st lo hi pt ea uf op np mem lev) := by
  unfold wpX_proceed
  refine br_f (by decide) (br_t (by decide) (?_))
  unfold wX_proceed_24
  refine br_t (by decide) (?_)
  unfold wX_proceed_42
  unfold wpX_interruptCycle
  refine br_t (by decide) ?_
  unfold wX_interruptCycle_14
  refine nm_e (br_f (by decide) (?_))
  unfold wX_interruptCycle_42
  refine br_f (by decide) (?_)
  unfold wX_interruptCycle_56
  refine br_f (by decide) (br_f (by decide) (br_f (by decide) (br_f (by decide) (br_f (by decide) (br_f (by decide) (?_))))))
  exact qx_writeStack (by exact qp_b16 hp) h
theorem qp_eq2 {post : SX → Prop} (h : post (qx a x y s p pc se la ne co (rd (mem ((pc) &&& 255).toNatClampNeg) pc) 257 (nI 2) le tl 19 st lo hi pt ea uf op np mem lev)) : wpX_proceed post (qx a x y s p pc se la ne co ac 257 (nI 2) le tl 19 st lo hi pt ea uf op np mem lev) := by
  unfold wpX_proceed
  refine br_f (by decide) (br_t (by decide) (?_))
  unfold wX_proceed_24
  refine br_f (by decide) (br_t (by decide) (?_))
  unfold wX_proceed_42
  unfold wpX_interruptCycle
  refine br_f (by decide) ?_
  unfold wX_interruptCycle_14
  refine nm_e (br_f (by decide) (?_))
  unfold wX_interruptCycle_42
  refine br_f (by decide) (?_)
  unfold wX_interruptCycle_56
  refine br_t (by decide) ?_
  rw [Int32.add_zero]
  exact qx_read h
theorem qp_eq6 {post : SX → Prop} (h : post (qx a x y s p pc se la ne co (rd (mem (((65534 : Int32)) &&& 255).toNatClampNeg) 65534) 257 (nI 6) le tl 19 st (mem (((65534 : Int32)) &&& 255).toNatClampNeg) hi pt ea uf op np mem lev)) : wpX_proceed post (qx a x y s p pc se la ne co ac 257 (nI 6) le tl 19 st lo hi pt ea uf op np mem lev) := by
  unfold wpX_proceed
  refine br_f (by decide) (br_t (by decide) (?_))
  unfold wX_proceed_24
  refine br_f (by decide) (br_t (by decide) (?_))
  unfold wX_proceed_42
  unfold wpX_interruptCycle
  refine br_f (by decide) ?_
  unfold wX_interruptCycle_14
  refine nm_e (br_f (by decide) (?_))
  unfold wX_interruptCycle_42
  refine br_f (by decide) (?_)
  unfold wX_interruptCycle_56
  refine br_f (by decide) (br_t (by decide) (?_))
  exact qx_read h
theorem qp_eq7 {post : SX → Prop} (h : post (qx a x y s p pc se la ne co (rd (mem (((65534 : Int32) + 1) &&& 255).toNatClampNeg) (65534 + 1)) 257 (nI 7) le tl 19 st lo (mem (((65534 : Int32) + 1) &&& 255).toNatClampNeg) pt ea uf op np mem lev)) : wpX_proceed post (qx a x y s p pc se la ne co ac 257 (nI 7) le tl 19 st lo hi pt ea uf op np mem lev) := by
  unfold wpX_proceed
  refine br_f (by decide) (br_t (by decide) (?_))
  unfold wX_proceed_24
  refine br_f (by decide) (br_t (by decide) (?_))
  unfold wX_proceed_42
  unfold wpX_interruptCycle
  refine br_f (by decide) ?_
  unfold wX_interruptCycle_14
  refine nm_e (br_f (by decide) (?_))
  unfold wX_interruptCycle_42
  refine br_f (by decide) (?_)
  unfold wX_interruptCycle_56
  refine br_f (by decide) (br_f (by decide) (br_t (by decide) (?_)))
  exact qx_read h
theorem qp_eq3 {post : SX → Prop} (hpc : pc &&& 65535 = pc) (h : post (qx a x y s p pc se la ne co (wr (pc >>> ((8 : Int32) &&& 31)) (256 + ((s + 0) &&& 255))) 257 (nI 3) le tl 19 st lo hi pt ea uf op np (upd mem ((256 + ((s + 0) &&& 255)) &&& 255).toNatClampNeg (pc >>> ((8 : Int32) &&& 31))) lev)) : wpX_proceed post (qx a x y s p pc se la ne co ac 257 (nI 3) le tl 19 st lo hi pt ea uf op np mem lev) := by
  unfold wpX_proceed
  refine br_f (by decide) (br_t (by decide) (?_))
  unfold wX_proceed_24
  refine br_f (by decide) (br_t (by decide) (?_))
  unfold wX_proceed_42
  unfold wpX_interruptCycle
  refine br_f (by decide) ?_
  unfold wX_interruptCycle_14
  refine nm_e (br_f (by decide) (?_))
  unfold wX_interruptCycle_42
  refine br_f (by decide) (?_)
  unfold wX_interruptCycle_56
  refine br_f (by decide) (br_f (by decide) (br_f (by decide) (br_f (by decide) (br_t (by decide) (?_)))))
  exact qx_writeStack (by rw [show pc + 2 * 0 = pc + 0 from rfl, Int32.add_zero, qb_s8, hpc]) h
theorem qp_eq4 {post : SX → Prop} (h : post (qx a x y s p pc se la ne co (wr (pc &&& 255) (256 + ((s + -1) &&& 255))) 257 (nI 4) le tl 19 st lo hi pt ea uf op np (upd mem ((256 + ((s + -1) &&& 255)) &&& 255).toNatClampNeg (pc &&& 255)) lev)) : wpX_proceed post (qx a x y s p pc se la ne co ac 257 (nI 4) le tl 19 st lo hi pt ea uf op np mem lev) := by
  unfold wpX_proceed
  refine br_f (by decide) (br_t (by decide) (?_))
  unfold wX_proceed_24
  refine br_f (by decide) (br_t (by decide) (?_))
  unfold wX_proceed_42
  unfold wpX_interruptCycle
  refine br_f (by decide) ?_
  unfold wX_interruptCycle_14
  refine nm_e (br_f (by decide) (?_))
  unfold wX_interruptCycle_42
  refine br_f (by decide) (?_)
  unfold wX_interruptCycle_56
  refine br_f (by decide) (br_f (by decide) (br_f (by decide) (br_f (by decide) (br_f (by decide) (br_t (by decide) (?_))))))
  exact qx_writeStack (by rw [show pc + 2 * 0 = pc + 0 from rfl, Int32.add_zero]) h
theorem qp_eq5 {post : SX → Prop} (hp : p &&& 239 = p) (h : post (qx a x y s p pc se la ne co (wr (p) (256 + ((s + -2) &&& 255))) 257 (nI 5) le tl 19 st lo hi pt ea uf op np (upd mem ((256 + ((s + -2) &&& 255)) &&& 255).toNatClampNeg (p)) lev)) : wpX_proceed post (qx a x y s p pc se la ne co ac 257 (nI 5) le tl 19 st lo hi pt ea uf op np mem lev) := by
  unfold wpX_proceed
  refine br_f (by decide) (br_t (by decide) (?_))
  unfold wX_proceed_24
  refine br_f (by decide) (br_t (by decide) (?_))
  unfold wX_proceed_42
  unfold wpX_interruptCycle
  refine br_f (by decide) ?_
  unfold wX_interruptCycle_14
  refine nm_e (br_f (by decide) (?_))
  unfold wX_interruptCycle_42
  refine br_f (by decide) (?_)
  unfold wX_interruptCycle_56
  refine br_f (by decide) (br_f (by decide) (br_f (by decide) (br_f (by decide) (br_f (by decide) (br_f (by decide) (?_))))))
  exact qx_writeStack (by rw [show p + 16 * 0 = p + 0 from rfl, Int32.add_zero]; exact qp_b hp) h
theorem qp_en2 {post : SX → Prop} (h : post (qx a x y s p pc se la ne co (rd (mem ((pc) &&& 255).toNatClampNeg) pc) 258 (nI 2) le tl 19 st lo hi pt ea uf op np mem lev)) : wpX_proceed post (qx a x y s p pc se la ne co ac 258 (nI 2) le tl 19 st lo hi pt ea uf op np mem lev) := by
  unfold wpX_proceed
  refine br_f (by decide) (br_t (by decide) (?_))
  unfold wX_proceed_24
  refine br_f (by decide) (br_t (by decide) (?_))
  unfold wX_proceed_42
  unfold wpX_interruptCycle
  refine br_f (by decide) ?_
  unfold wX_interruptCycle_14
  refine nm_e (br_t (by decide) (?_))
  unfold wX_interruptCycle_42
  refine br_f (by decide) (?_)
  unfold wX_interruptCycle_56
  refine br_t (by decide) ?_
  rw [Int32.add_zero]
  exact qx_read h
theorem qp_en6 {post : SX → Prop} (h : post (qx a x y s p pc se la ne co (rd (mem (((65530 : Int32)) &&& 255).toNatClampNeg) 65530) 258 (nI 6) le tl 19 st (mem (((65530 : Int32)) &&& 255).toNatClampNeg) hi pt ea uf op np mem lev)) : wpX_proceed post (qx a x y s p pc se la ne co ac 258 (nI 6) le tl 19 st lo hi pt ea uf op np mem lev) := by
  unfold wpX_proceed
  refine br_f (by decide) (br_t (by decide) (?_))
  unfold wX_proceed_24
  refine br_f (by decide) (br_t (by decide) (?_))
  unfold wX_proceed_42
  unfold wpX_interruptCycle
  refine br_f (by decide) ?_
  unfold wX_interruptCycle_14
  refine nm_e (br_t (by decide) (?_))
  unfold wX_interruptCycle_42
  refine br_f (by decide) (?_)
  unfold wX_interruptCycle_56
  refine br_f (by decide) (br_t (by decide) (?_))
  exact qx_read h
theorem qp_en7 {post : SX → Prop} (h : post (qx a x y s p pc se la ne co (rd (mem (((65530 : Int32) + 1) &&& 255).toNatClampNeg) (65530 + 1)) 258 (nI 7) le tl 19 st lo (mem (((65530 : Int32) + 1) &&& 255).toNatClampNeg) pt ea uf op np mem lev)) : wpX_proceed post (qx a x y s p pc se la ne co ac 258 (nI 7) le tl 19 st lo hi pt ea uf op np mem lev) := by
  unfold wpX_proceed
  refine br_f (by decide) (br_t (by decide) (?_))
  unfold wX_proceed_24
  refine br_f (by decide) (br_t (by decide) (?_))
  unfold wX_proceed_42
  unfold wpX_interruptCycle
  refine br_f (by decide) ?_
  unfold wX_interruptCycle_14
  refine nm_e (br_t (by decide) (?_))
  unfold wX_interruptCycle_42
  refine br_f (by decide) (?_)
  unfold wX_interruptCycle_56
  refine br_f (by decide) (br_f (by decide) (br_t (by decide) (?_)))
  exact qx_read h
theorem qp_en3 {post : SX → Prop} (hpc : pc &&& 65535 = pc) (h : post (qx a x y s p pc se la ne co (wr (pc >>> ((8 : Int32) &&& 31)) (256 + ((s + 0) &&& 255))) 258 (nI 3) le tl 19 st lo hi pt ea uf op np (upd mem ((256 + ((s + 0) &&& 255)) &&& 255).toNatClampNeg (pc >>> ((8 : Int32) &&& 31))) lev)) : wpX_proceed post (qx a x y s p pc se la ne co ac 258 (nI 3) le tl 19 st lo hi pt ea uf op np mem lev) := by
  unfold wpX_proceed
  refine br_f (by decide) (br_t (by decide) (?_))
  unfold wX_proceed_24
  refine br_f (by decide) (br_t (by decide) (?_))
  unfold wX_proceed_42
  unfold wpX_interruptCycle
  refine br_f (by decide) ?_
  unfold wX_interruptCycle_14
  refine nm_e (br_t (by decide) (?_))
  unfold wX_interruptCycle_42
  refine br_f (by decide) (?_)
  unfold wX_interruptCycle_56
  refine br_f (by decide) (br_f (by decide) (br_f (by decide) (br_f (by decide) (br_t (by decide) (?_)))))
  exact qx_writeStack (by rw [show pc + 2 * 0 = pc + 0 from rfl, Int32.add_zero, qb_s8, hpc]) h
theorem qp_en4 {post : SX → Prop} (h : post (qx a x y s p pc se la ne co (wr (pc &&& 255) (256 + ((s + -1) &&& 255))) 258 (nI 4) le tl 19 st lo hi pt ea uf op np (upd mem ((256 + ((s + -1) &&& 255)) &&& 255).toNatClampNeg (pc &&& 255)) lev)) : wpX_proceed post (qx a x y s p pc se la ne co ac 258 (nI 4) le tl 19 st lo hi pt ea uf op np mem lev) := by
  unfold wpX_proceed
  refine br_f (by decide) (br_t (by decide) (?_))
  unfold wX_proceed_24
  refine br_f (by decide) (br_t (by decide) (?_))
  unfold wX_proceed_42
  unfold wpX_interruptCycle
  refine br_f (by decide) ?_
  unfold wX_interruptCycle_14
  refine nm_e (br_t (by decide) (?_))
  unfold wX_interruptCycle_42
  refine br_f (by decide) (?_)
  unfold wX_interruptCycle_56
  refine br_f (by decide) (br_f (by decide) (br_f (by decide) (br_f (by decide) (br_f (by decide) (br_t (by decide) (?_))))))
  exact qx_writeStack (by rw [show pc + 2 * 0 = pc + 0 from rfl, Int32.add_zero]) h
theorem qp_en5 {post : SX → Prop} (hp : p &&& 239 = p) (h : post (qx a x y s p pc se la ne co (wr (p) (256 + ((s + -2) &&& 255))) 258 (nI 5) le tl 19 st lo hi pt ea uf op np (upd mem ((256 + ((s + -2) &&& 255)) &&& 255).toNatClampNeg (p)) lev)) : wpX_proceed post (qx a x y s p pc se la ne co ac 258 (nI 5) le tl 19 st lo hi pt ea uf op np mem lev) := by
  unfold wpX_proceed
  refine br_f (by decide) (br_t (by decide) (?_))
  unfold wX_proceed_24
  refine br_f (by decide) (br_t (by decide) (?_))
  unfold wX_proceed_42
  unfold wpX_interruptCycle
  refine br_f (by decide) ?_
  unfold wX_interruptCycle_14
  refine nm_e (br_t (by decide) (?_))
  unfold wX_interruptCycle_42
  refine br_f (by decide) (?_)
  unfold wX_interruptCycle_56
  refine br_f (by decide) (br_f (by decide) (br_f (by decide) (br_f (by decide) (br_f (by decide) (br_f (by decide) (?_))))))
  exact qx_writeStack (by rw [show p + 16 * 0 = p + 0 from rfl, Int32.add_zero]; exact qp_b hp) h
theorem qp_er2 {post : SX → Prop} (h : post (qx a x y s p pc se la ne co (rd (mem ((pc) &&& 255).toNatClampNeg) pc) 259 (nI 2) le tl 19 st lo hi pt ea uf op np mem lev)) : wpX_proceed post (qx a x y s p pc se la ne co ac 259 (nI 2) le tl 19 st lo hi pt ea uf op np mem lev) := by
  unfold wpX_proceed
  refine br_f (by decide) (br_t (by decide) (?_))
  unfold wX_proceed_24
  refine br_f (by decide) (br_t (by decide) (?_))
  unfold wX_proceed_42
  unfold wpX_interruptCycle
  refine br_f (by decide) ?_
  unfold wX_interruptCycle_14
  refine nm_e (br_f (by decide) (?_))
  unfold wX_interruptCycle_42
  refine br_t (by decide) (?_)
  unfold wX_interruptCycle_56
  refine br_t (by decide) ?_
  rw [Int32.add_zero]
  exact qx_read h
theorem qp_er6 {post : SX → Prop} (h : post (qx a x y s p pc se la ne co (rd (mem (((65532 : Int32)) &&& 255).toNatClampNeg) 65532) 259 (nI 6) le tl 19 st (mem (((65532 : Int32)) &&& 255).toNatClampNeg) hi pt ea uf op np mem lev)) : wpX_proceed post (qx a x y s p pc se la ne co ac 259 (nI 6) le tl 19 st lo hi pt ea uf op np mem lev) := by
  unfold wpX_proceed
  refine br_f (by decide) (br_t (by decide) (?_))
  unfold wX_proceed_24
  refine br_f (by decide) (br_t (by decide) (?_))
  unfold wX_proceed_42
  unfold wpX_interruptCycle
  refine br_f (by decide) ?_
  unfold wX_interruptCycle_14
  refine nm_e (br_f (by decide) (?_))
  unfold wX_interruptCycle_42
  refine br_t (by decide) (?_)
  unfold wX_interruptCycle_56
  refine br_f (by decide) (br_t (by decide) (?_))
  exact qx_read h
theorem qp_er7 {post : SX → Prop} (h : post (qx a x y s p pc se la ne co (rd (mem (((65532 : Int32) + 1) &&& 255).toNatClampNeg) (65532 + 1)) 259 (nI 7) le tl 19 st lo (mem (((65532 : Int32) + 1) &&& 255).toNatClampNeg) pt ea uf op np mem lev)) : wpX_proceed post (qx a x y s p pc se la ne co ac 259 (nI 7) le tl 19 st lo hi pt ea uf op np mem lev) := by
  unfold wpX_proceed
  refine br_f (by decide) (br_t (by decide) (?_))
  unfold wX_proceed_24
  refine br_f (by decide) (br_t (by decide) (?_))
  unfold wX_proceed_42
  unfold wpX_interruptCycle
  refine br_f (by decide) ?_
  unfold wX_interruptCycle_14
  refine nm_e (br_f (by decide) (?_))
  unfold wX_interruptCycle_42
  refine br_t (by decide) (?_)
  unfold wX_interruptCycle_56
  refine br_f (by decide) (br_f (by decide) (br_t (by decide) (?_)))
  exact qx_read h
theorem qp_er3 {post : SX → Prop} (h : post (qx a x y s p pc se la ne co (rd (mem ((256 + ((s + 0) &&& 255)) &&& 255).toNatClampNeg) (256 + ((s + 0) &&& 255))) 259 (nI 3) le tl 19 st lo hi pt ea uf op np mem lev)) : wpX_proceed post (qx a x y s p pc se la ne co ac 259 (nI 3) le tl 19 st lo hi pt ea uf op np mem lev) := by
  unfold wpX_proceed
  refine br_f (by decide) (br_t (by decide) (?_))
  unfold wX_proceed_24
  refine br_f (by decide) (br_t (by decide) (?_))
  unfold wX_proceed_42
  unfold wpX_interruptCycle
  refine br_f (by decide) ?_
  unfold wX_interruptCycle_14
  refine nm_e (br_f (by decide) (?_))
  unfold wX_interruptCycle_42
  refine br_t (by decide) (?_)
  unfold wX_interruptCycle_56
  refine br_f (by decide) (br_f (by decide) (br_f (by decide) (br_t (by decide) (?_))))
  rw [show 3 - nI 3 = (0 : Int32) from by decide]
  exact qx_readStack h
theorem qp_er4 {post : SX → Prop} (h : post (qx a x y s p pc se la ne co (rd (mem ((256 + ((s + -1) &&& 255)) &&& 255).toNatClampNeg) (256 + ((s + -1) &&& 255))) 259 (nI 4) le tl 19 st lo hi pt ea uf op np mem lev)) : wpX_proceed post (qx a x y s p pc se la ne co ac 259 (nI 4) le tl 19 st lo hi pt ea uf op np mem lev) := by
  unfold wpX_proceed
  refine br_f (by decide) (br_t (by decide) (?_))
  unfold wX_proceed_24
  refine br_f (by decide) (br_t (by decide) (?_))
  unfold wX_proceed_42
  unfold wpX_interruptCycle
  refine br_f (by decide) ?_
  unfold wX_interruptCycle_14
  refine nm_e (br_f (by decide) (?_))
  unfold wX_interruptCycle_42
  refine br_t (by decide) (?_)
  unfold wX_interruptCycle_56
  refine br_f (by decide) (br_f (by decide) (br_f (by decide) (br_t (by decide) (?_))))
  rw [show 3 - nI 4 = (-1 : Int32) from by decide]
  exact qx_readStack h
theorem qp_er5 {post : SX → Prop} (h : post (qx a x y s p pc se la ne co (rd (mem ((256 + ((s + -2) &&& 255)) &&& 255).toNatClampNeg) (256 + ((s + -2) &&& 255))) 259 (nI 5) le tl 19 st lo hi pt ea uf op np mem lev)) : wpX_proceed post (qx a x y s p pc se la ne co ac 259 (nI 5) le tl 19 st lo hi pt ea uf op np mem lev) := by
  unfold wpX_proceed
  refine br_f (by decide) (br_t (by decide) (?_))
  unfold wX_proceed_24
  refine br_f (by decide) (br_t (by decide) (?_))
  unfold wX_proceed_42
  unfold wpX_interruptCycle
  refine br_f (by decide) ?_
  unfold wX_interruptCycle_14
  refine nm_e (br_f (by decide) (?_))
  unfold wX_interruptCycle_42
  refine br_t (by decide) (?_)
  unfold wX_interruptCycle_56
  refine br_f (by decide) (br_f (by decide) (br_f (by decide) (br_t (by decide) (?_))))
  rw [show 3 - nI 5 = (-2 : Int32) from by decide]
  exact qx_readStack h
def qbt (sq p : Int32) : Int32 := if (if p &&& (if sq >>> ((6 : Int32) &&& 31) = 0 then 128 else if sq >>> ((6 : Int32) &&& 31) = 1 then 64 else if sq >>> ((6 : Int32) &&& 31) = 2 then 1 else 2) = 0 then 0 else 1) = (if sq &&& 32 = 0 then 0 else (1 : Int32)) then 1 else 0
theorem qx_bt39 {post : Int32 → Prop} {f : Int32} (h : post (if (if p &&& f = 0 then 0 else 1) = (if sq &&& 32 = 0 then 0 else (1 : Int32)) then 1 else 0)) : wX_branchTaken_39 post f 0 1 2 3 4 5 6 7 8 9 10 11 12 13 14 15 16 17 18 19 1 2 4 8 64 128 a x y s p pc se la ne co ac sq dn le tl mo st lo hi pt ea uf op np mem lev := by
  unfold wX_branchTaken_39
  have k53 : ∀ {z : Int32}, post (if z = (if sq &&& 32 = 0 then 0 else (1 : Int32)) then 1 else 0) → wX_branchTaken_53 post z 0 1 2 3 4 5 6 7 8 9 10 11 12 13 14 15 16 17 18 19 1 2 4 8 64 128 a x y s p pc se la ne co ac sq dn le tl mo st lo hi pt ea uf op np mem lev := by
    intro z h
    unfold wX_branchTaken_53
    by_cases c : sq &&& 32 = 0
    · rw [if_pos c] at h
      exact br_t c (q_ite (P := post) id id h)
    · rw [if_neg c] at h
      exact br_f c (q_ite (P := post) id id h)
  by_cases c : p &&& f = 0
  · rw [if_pos c] at h
    exact br_t c (k53 h)
  · rw [if_neg c] at h
    exact br_f c (k53 h)
theorem qx_bt {post : Int32 → Prop} (h : post (qbt sq p)) : wpX_branchTaken post (qx a x y s p pc se la ne co ac sq dn le tl mo st lo hi pt ea uf op np mem lev) := by
  unfold qbt at h
  refine nm_e ?_
  by_cases c0 : sq >>> ((6 : Int32) &&& 31) = 0
  · rw [if_pos c0] at h
    exact br_t c0 (qx_bt39 h)
  · rw [if_neg c0] at h
    by_cases c1 : sq >>> ((6 : Int32) &&& 31) = 1
    · rw [if_pos c1] at h
      exact br_f c0 (br_t c1 (qx_bt39 h))
    · rw [if_neg c1] at h
      by_cases c2 : sq >>> ((6 : Int32) &&& 31) = 2
      · rw [if_pos c2] at h
        exact br_f c0 (br_f c1 (br_t c2 (qx_bt39 h)))
      · rw [if_neg c2] at h
        exact br_f c0 (br_f c1 (br_f c2 (qx_bt39 h)))
def qbn (q d : Int32) : Int32 := (q + (if 128 ≤ d then d - 256 else d)) &&& 65535
theorem qp_bn2 {post : SX → Prop} (ht : qbt sq p = 0) (h : post (qx a x y s p pc se la ne co (rd (mem ((pc + 1) &&& 255).toNatClampNeg) (pc + 1)) sq (nI 2) le tl 18 st lo hi pt ea uf op np mem lev)) : wpX_proceed post (qx a x y s p pc se la ne co ac sq (nI 2) le tl 18 st lo hi pt ea uf op np mem lev) := by
  unfold wpX_proceed
  refine br_f (by decide) (br_t (by decide) (?_))
  unfold wX_proceed_24
  refine br_f (by decide) (br_f (by decide) (br_t (by decide) (?_)))
  unfold wpX_branchCycle
  refine nm_e ?_
  refine br_t (by decide) ?_
  refine qx_read ?_
  refine qx_bt ?_
  exact br_t ht h
theorem qp_bt2 {post : SX → Prop} (ht : ¬ qbt sq p = 0) (h : post (qx a x y s p pc se la ne co (rd (mem ((pc + 1) &&& 255).toNatClampNeg) (pc + 1)) sq (nI 2) (if (qbn ((pc + 2) &&& 65535) (mem ((pc + 1) &&& 255).toNatClampNeg)) >>> ((8 : Int32) &&& 31) = ((pc + 2) &&& 65535) >>> ((8 : Int32) &&& 31) then 3 else 4) tl 18 st lo hi pt ea uf op (qbn ((pc + 2) &&& 65535) (mem ((pc + 1) &&& 255).toNatClampNeg)) mem lev)) : wpX_proceed post (qx a x y s p pc se la ne co ac sq (nI 2) le tl 18 st lo hi pt ea uf op np mem lev) := by
  unfold wpX_proceed
  refine br_f (by decide) (br_t (by decide) (?_))
  unfold wX_proceed_24
  refine br_f (by decide) (br_f (by decide) (br_t (by decide) (?_)))
  unfold wpX_branchCycle
  refine nm_e ?_
  refine br_t (by decide) ?_
  refine qx_read ?_
  refine qx_bt ?_
  refine br_f ht ?_
  have k54 : ∀ {v : Int32}, (if 128 ≤ mem ((pc + 1) &&& 255).toNatClampNeg then mem ((pc + 1) &&& 255).toNatClampNeg - 256 else mem ((pc + 1) &&& 255).toNatClampNeg) = v → wX_branchCycle_54 post ((pc + 2) &&& 65535) v ((pc + 2) &&& 65535) 0 1 2 3 4 5 6 7 8 9 10 11 12 13 14 15 16 17 18 19 1 2 4 8 64 128 a x y s p pc se la ne co (rd (mem ((pc + 1) &&& 255).toNatClampNeg) (pc + 1)) sq (nI 2) le tl 18 st lo hi pt ea uf op np mem lev := by
    intro v hv
    unfold wX_branchCycle_54
    refine nm_r (e' := qbn ((pc + 2) &&& 65535) (mem ((pc + 1) &&& 255).toNatClampNeg)) (by unfold qbn; rw [hv]) ?_
    by_cases c : (qbn ((pc + 2) &&& 65535) (mem ((pc + 1) &&& 255).toNatClampNeg)) >>> ((8 : Int32) &&& 31) = ((pc + 2) &&& 65535) >>> ((8 : Int32) &&& 31)
    · rw [if_pos c] at h
      exact br_t c h
    · rw [if_neg c] at h
      exact br_f c h
  by_cases c : 128 ≤ mem ((pc + 1) &&& 255).toNatClampNeg
  · exact br_t c (k54 (if_pos c))
  · exact br_f c (k54 (if_neg c))
theorem qp_b3 {post : SX → Prop} (h : post (qx a x y s p pc se la ne co (rd (mem ((((pc + 2) &&& 65535)) &&& 255).toNatClampNeg) ((pc + 2) &&& 65535)) sq (nI 3) le tl 18 st lo hi pt ea uf op np mem lev)) : wpX_proceed post (qx a x y s p pc se la ne co ac sq (nI 3) le tl 18 st lo hi pt ea uf op np mem lev) := by
  unfold wpX_proceed
  refine br_f (by decide) (br_t (by decide) (?_))
  unfold wX_proceed_24
  refine br_f (by decide) (br_f (by decide) (br_t (by decide) (?_)))
  unfold wpX_branchCycle
  refine nm_e ?_
  refine br_f (by decide) (br_t (by decide) (?_))
  exact qx_read h
theorem qp_b4 {post : SX → Prop} (h : post (qx a x y s p pc se la ne co (rd (mem (((((pc + 2) &&& 65535) &&& 65280) + (np &&& 255)) &&& 255).toNatClampNeg) ((((pc + 2) &&& 65535) &&& 65280) + (np &&& 255))) sq (nI 4) le tl 18 st lo hi pt ea uf op np mem lev)) : wpX_proceed post (qx a x y s p pc se la ne co ac sq (nI 4) le tl 18 st lo hi pt ea uf op np mem lev) := by
  unfold wpX_proceed
  refine br_f (by decide) (br_t (by decide) (?_))
  unfold wX_proceed_24
  refine br_f (by decide) (br_f (by decide) (br_t (by decide) (?_)))
  unfold wpX_branchCycle
  refine nm_e ?_
  refine br_f (by decide) (br_f (by decide) (?_))
  exact qx_read h
end
end
section
/-! X's decoding and first cycle -/
def qfc (w : Int32) : Int32 := if w = 0 then 17 else if w = 1 then 12 else if w = 2 then 14 else if w = 3 then 13 else if w = 4 then 0 else 1
def qc81 (w c : Int32) : Int32 := if c = 3 then (if w = 0 then 0 else 5) else if c = 4 then 18 else if c = 5 then (if w = 4 then 3 else if w = 5 then 3 else 0) else if c = 7 then (if w = 5 then 6 else 0) else 0
def qc68 (w c : Int32) : Int32 := if c = 3 then (if w = 3 then 16 else qc81 w c) else qc81 w c
def qc55 (w c : Int32) : Int32 := if c = 3 then (if w = 2 then 15 else qc68 w c) else qc68 w c
def qcm (w c : Int32) : Int32 := if c = 0 then qfc w else if c = 1 then (if w = 1 then 2 else if w < 4 then 0 else 2) else if c = 2 then (if 4 ≤ w then qc55 w c else if w &&& 1 = 0 then 10 else 11) else qc55 w c
def qam (c : Int32) : Int32 := if c = 0 then 8 else if c = 1 then 2 else if c = 2 then 1 else if c = 3 then 5 else if c = 4 then 9 else if c = 5 then 3 else if c = 6 then 7 else 6
def qsm (w c : Int32) : Int32 := if c = 0 then (if w = 5 then 1 else 0) else if c = 1 then 2 else if c = 3 then 5 else if c = 5 then (if w = 4 then 4 else if w = 5 then 4 else 3) else if c = 7 then (if w = 4 then 0 else if w = 5 then 7 else 6) else 0
def qbl (mo : Int32) : Int32 := if mo = 0 then 2 else if mo = 1 then 2 else if mo = 18 then 2 else if mo = 2 then 3 else if mo = 10 then 3 else if mo = 15 then 3 else if mo = 9 then 5 else if mo = 16 then 5 else if mo = 8 then 6 else if mo = 12 then 6 else if mo = 13 then 6 else if mo = 14 then 6 else if mo = 17 then 7 else if mo = 19 then 7 else 4
def qs36 (mo : Int32) : Int32 := if mo = 18 then 2 else 1
def qs19 (mo : Int32) : Int32 := if mo < 1 then qs36 mo else if mo ≤ 9 then 2 else qs36 mo
def qsz (mo : Int32) : Int32 := if mo < 5 then qs19 mo else if 7 < mo then qs19 mo else 3
def qsc (mo : Int32) : Int32 := if mo = 10 then -1 else if mo = 11 then 1 else if mo = 12 then -2 else if mo = 13 then 2 else if mo = 14 then 3 else if mo = 17 then -3 else if mo = 19 then -3 else 0
def qxm (o : Int32) : Int32 := if o &&& 3 = 0 then qcm (o >>> ((5 : Int32) &&& 31)) ((o >>> ((2 : Int32) &&& 31)) &&& 7) else if o &&& 3 = 1 then (if o = 137 then 0 else qam ((o >>> ((2 : Int32) &&& 31)) &&& 7)) else if o &&& 3 = 2 then qsm (o >>> ((5 : Int32) &&& 31)) ((o >>> ((2 : Int32) &&& 31)) &&& 7) else 0
def qfx (mo : Int32) : Int32 := if mo = 6 then 1 else if mo = 7 then 1 else if mo = 9 then 1 else 0
def qtl (x5 : Int32) : Int32 := if x5 = 0 then 1 else 3
def qbf (le x5 st z0 : Int32) : Int32 := if z0 = 0 then le else if st = 0 then (if x5 = 0 then le else le + 1) else le + 1
def qst (w z0 : Int32) : Int32 := if z0 = 0 then 0 else if w = 4 then 1 else 0
def qmd (o w z0 : Int32) : Int32 := if z0 = 0 then 0 else if o &&& 3 = 2 then (if w = 4 then 0 else if w = 5 then 0 else 1) else 0
def qmf (z0 : Int32) : Int32 := if z0 < 2 then 0 else if 9 < z0 then 0 else 1
theorem qst_01 (w z0 : Int32) : qst w z0 = 0 ∨ qst w z0 = 1 := by
  unfold qst
  by_cases c : z0 = 0
  · rw [if_pos c]; exact Or.inl rfl
  · rw [if_neg c]
    by_cases d : w = 4
    · rw [if_pos d]; exact Or.inr rfl
    · rw [if_neg d]; exact Or.inl rfl
section
variable {a x y s p pc se la ne co ac sq dn le tl mo st lo hi pt ea uf op np : Int32} {mem lev : Nat → Int32}
theorem qx_fc {post : Int32 → Prop} {w : Int32} (h : post (qfc w)) : wpX_firstColumnMode post (qx a x y s p pc se la ne co ac sq dn le tl mo st lo hi pt ea uf op np mem lev) w := by
  unfold qfc at h
  exact q_ite (P := post) (id) (q_ite (P := post) (id) (q_ite (P := post) (id) (q_ite (P := post) (id) (q_ite (P := post) (id) (id))))) h
theorem qx_c81 {post : Int32 → Prop} {w c : Int32} (h : post (qc81 w c)) : wX_controlMode_81 post w c 0 1 2 3 4 5 6 7 8 9 10 11 12 13 14 15 16 17 18 19 1 2 4 8 64 128 a x y s p pc se la ne co ac sq dn le tl mo st lo hi pt ea uf op np mem lev := by
  unfold qc81 at h
  exact q_ite (P := post) (q_ite (P := post) (id) (id)) (q_ite (P := post) (id) (q_ite (P := post) (q_ite (P := post) (id) (q_ite (P := post) (id) (id))) (q_ite (P := post) (q_ite (P := post) (id) (id)) (id)))) h
theorem qx_c68 {post : Int32 → Prop} {w c : Int32} (h : post (qc68 w c)) : wX_controlMode_68 post w c 0 1 2 3 4 5 6 7 8 9 10 11 12 13 14 15 16 17 18 19 1 2 4 8 64 128 a x y s p pc se la ne co ac sq dn le tl mo st lo hi pt ea uf op np mem lev := by
  unfold qc68 at h
  exact q_ite (P := post) (q_ite (P := post) (id) (qx_c81)) (qx_c81) h
theorem qx_c55 {post : Int32 → Prop} {w c : Int32} (h : post (qc55 w c)) : wX_controlMode_55 post w c 0 1 2 3 4 5 6 7 8 9 10 11 12 13 14 15 16 17 18 19 1 2 4 8 64 128 a x y s p pc se la ne co ac sq dn le tl mo st lo hi pt ea uf op np mem lev := by
  unfold qc55 at h
  exact q_ite (P := post) (q_ite (P := post) (id) (qx_c68)) (qx_c68) h
theorem qx_cm {post : Int32 → Prop} {w c : Int32} (h : post (qcm w c)) : wpX_controlMode post (qx a x y s p pc se la ne co ac sq dn le tl mo st lo hi pt ea uf op np mem lev) w c := by
  unfold qcm at h
  exact q_ite (P := post) (fun h => qx_fc h) (q_ite (P := post) (q_ite (P := post) (id) (q_ite (P := post) (id) (id))) (q_ite (P := post) (q_ite (P := post) (fun h => qx_c55 h) (q_ite (P := post) (id) (id))) (fun h => qx_c55 h))) h
theorem qx_am {post : Int32 → Prop} {c : Int32} (h : post (qam c)) : wpX_accumulatorMode post (qx a x y s p pc se la ne co ac sq dn le tl mo st lo hi pt ea uf op np mem lev) c := by
  unfold qam at h
  exact q_ite (P := post) (id) (q_ite (P := post) (id) (q_ite (P := post) (id) (q_ite (P := post) (id) (q_ite (P := post) (id) (q_ite (P := post) (id) (q_ite (P := post) (id) (id))))))) h
theorem qx_sm {post : Int32 → Prop} {w c : Int32} (h : post (qsm w c)) : wpX_shiftMode post (qx a x y s p pc se la ne co ac sq dn le tl mo st lo hi pt ea uf op np mem lev) w c := by
  unfold qsm at h
  exact q_ite (P := post) (q_ite (P := post) (id) (id)) (q_ite (P := post) (id) (q_ite (P := post) (id) (q_ite (P := post) (q_ite (P := post) (id) (q_ite (P := post) (id) (id))) (q_ite (P := post) (q_ite (P := post) (id) (q_ite (P := post) (id) (id))) (id))))) h
theorem qx_mode {post : Int32 → Prop} {o : Int32} (h : post (qxm o)) : wpX_modeOf post (qx a x y s p pc se la ne co ac sq dn le tl mo st lo hi pt ea uf op np mem lev) o := by
  unfold qxm at h
  refine nm_e (nm_e (nm_e ?_))
  exact q_ite (P := post) (fun h => qx_cm h) (q_ite (P := post) (q_ite (P := post) id (fun h => qx_am h)) (q_ite (P := post) (fun h => qx_sm h) id)) h
theorem qx_bl {post : Int32 → Prop} (h : post (qbl mo)) : wpX_baseLength post (qx a x y s p pc se la ne co ac sq dn le tl mo st lo hi pt ea uf op np mem lev) := by
  unfold qbl at h
  exact q_ite (P := post) (id) (q_ite (P := post) (id) (q_ite (P := post) (id) (q_ite (P := post) (id) (q_ite (P := post) (id) (q_ite (P := post) (id) (q_ite (P := post) (id) (q_ite (P := post) (id) (q_ite (P := post) (id) (q_ite (P := post) (id) (q_ite (P := post) (id) (q_ite (P := post) (id) (q_ite (P := post) (id) (q_ite (P := post) (id) (id)))))))))))))) h
theorem qx_s36 {post : Int32 → Prop} (h : post (qs36 mo)) : wX_size_36 post 0 1 2 3 4 5 6 7 8 9 10 11 12 13 14 15 16 17 18 19 1 2 4 8 64 128 a x y s p pc se la ne co ac sq dn le tl mo st lo hi pt ea uf op np mem lev := by
  unfold qs36 at h
  exact q_ite (P := post) (id) (id) h
theorem qx_s19 {post : Int32 → Prop} (h : post (qs19 mo)) : wX_size_19 post 0 1 2 3 4 5 6 7 8 9 10 11 12 13 14 15 16 17 18 19 1 2 4 8 64 128 a x y s p pc se la ne co ac sq dn le tl mo st lo hi pt ea uf op np mem lev := by
  unfold qs19 at h
  exact q_ite (P := post) (qx_s36) (q_ite (P := post) (id) (qx_s36)) h
theorem qx_sz {post : Int32 → Prop} (h : post (qsz mo)) : wpX_size post (qx a x y s p pc se la ne co ac sq dn le tl mo st lo hi pt ea uf op np mem lev) := by
  unfold qsz at h
  exact q_ite (P := post) (qx_s19) (q_ite (P := post) (qx_s19) (id)) h
theorem qx_sc {post : Int32 → Prop} (h : post (qsc mo)) : wpX_stackChange post (qx a x y s p pc se la ne co ac sq dn le tl mo st lo hi pt ea uf op np mem lev) := by
  unfold qsc at h
  exact q_ite (P := post) (id) (q_ite (P := post) (id) (q_ite (P := post) (id) (q_ite (P := post) (id) (q_ite (P := post) (id) (q_ite (P := post) (id) (q_ite (P := post) (id) (id))))))) h
theorem qb_220 {post : SX → Prop} (h : post (qx a x y s p pc se la ne co ac sq dn le tl mo st lo hi pt ea uf op (pc + qsz mo) mem lev)) : wX_begin_220 post 0 1 2 3 4 5 6 7 8 9 10 11 12 13 14 15 16 17 18 19 1 2 4 8 64 128 a x y s p pc se la ne co ac sq dn le tl mo st lo hi pt ea uf op np mem lev := by
  unfold wX_begin_220
  exact qx_sz (nm_e h)
theorem qb_210 {post : SX → Prop} (h : post (qx a x y s p pc se la ne co ac sq dn (le + 1) tl mo st lo hi pt ea uf op (pc + qsz mo) mem lev)) : wX_begin_210 post 0 1 2 3 4 5 6 7 8 9 10 11 12 13 14 15 16 17 18 19 1 2 4 8 64 128 a x y s p pc se la ne co ac sq dn le tl mo st lo hi pt ea uf op np mem lev := by
  unfold wX_begin_210
  exact nm_e (qb_220 h)
theorem qb_191 {post : SX → Prop} {x5 z0 : Int32} (h : post (qx a x y s p pc se la ne co ac sq dn (qbf le x5 st z0) tl mo st lo hi pt ea uf op (pc + qsz mo) mem lev)) : wX_begin_191 post x5 z0 0 1 2 3 4 5 6 7 8 9 10 11 12 13 14 15 16 17 18 19 1 2 4 8 64 128 a x y s p pc se la ne co ac sq dn le tl mo st lo hi pt ea uf op np mem lev := by
  unfold wX_begin_191
  unfold qbf at h
  by_cases c : z0 = 0
  · rw [if_pos c] at h
    exact br_t c (qb_220 h)
  · rw [if_neg c] at h
    refine br_f c ?_
    by_cases d : st = 0
    · rw [if_pos d] at h
      refine br_t d ?_
      by_cases e : x5 = 0
      · rw [if_pos e] at h
        exact br_t e (qb_220 h)
      · rw [if_neg e] at h
        exact br_f e (qb_210 h)
    · rw [if_neg d] at h
      exact br_f d (qb_210 h)
theorem qb_186 {post : SX → Prop} {x5 : Int32} (h : post (qx a x y s p pc se la ne co ac sq dn (qbf le x5 st 1) tl mo st lo hi pt ea uf op (pc + qsz mo) mem lev)) : wX_begin_186 post x5 0 1 2 3 4 5 6 7 8 9 10 11 12 13 14 15 16 17 18 19 1 2 4 8 64 128 a x y s p pc se la ne co ac sq dn le tl mo st lo hi pt ea uf op np mem lev := by
  unfold wX_begin_186
  exact qb_191 h
theorem qb_141 {post : SX → Prop} {x5 z0 : Int32} (h : post (qx a x y s p pc se la ne co ac sq dn (qbf ((qbl mo + z0) - 1) x5 st (qfx mo)) z0 mo st lo hi pt ea uf op (pc + qsz mo) mem lev)) : wX_begin_141 post x5 z0 0 1 2 3 4 5 6 7 8 9 10 11 12 13 14 15 16 17 18 19 1 2 4 8 64 128 a x y s p pc se la ne co ac sq dn le tl mo st lo hi pt ea uf op np mem lev := by
  unfold wX_begin_141
  refine qx_bl (nm_e ?_)
  unfold qfx at h
  by_cases c6 : mo = 6
  · rw [if_pos c6] at h
    exact br_t c6 (qb_186 h)
  · rw [if_neg c6] at h
    by_cases c7 : mo = 7
    · rw [if_pos c7] at h
      exact br_f c6 (br_t c7 (qb_186 h))
    · rw [if_neg c7] at h
      by_cases c9 : mo = 9
      · rw [if_pos c9] at h
        exact br_f c6 (br_f c7 (br_t c9 (qb_186 h)))
      · rw [if_neg c9] at h
        exact br_f c6 (br_f c7 (br_f c9 (qb_191 h)))
theorem qb_127 {post : SX → Prop} {x5 z0 : Int32} (hz : z0 = 0 ∨ z0 = 1) (h : post (qx a x y s p pc se la ne co ac sq dn (qbf ((qbl mo + qtl x5) - 1) x5 z0 (qfx mo)) (qtl x5) mo z0 lo hi pt ea uf op (pc + qsz mo) mem lev)) : wX_begin_127 post x5 z0 0 1 2 3 4 5 6 7 8 9 10 11 12 13 14 15 16 17 18 19 1 2 4 8 64 128 a x y s p pc se la ne co ac sq dn le tl mo st lo hi pt ea uf op np mem lev := by
  unfold wX_begin_127
  refine And.intro (by rcases hz with rfl | rfl <;> rfl) (And.intro (by rcases hz with rfl | rfl <;> rfl) ?_)
  unfold qtl at h
  by_cases c : x5 = 0
  · rw [if_pos c] at h
    exact br_t c (qb_141 h)
  · rw [if_neg c] at h
    exact br_f c (qb_141 h)
theorem qb_109 {post : SX → Prop} {x3 x4 x5 : Int32} (h : post (qx a x y s p pc se la ne co ac sq dn (qbf ((qbl mo + qtl x5) - 1) x5 (qst x3 x4) (qfx mo)) (qtl x5) mo (qst x3 x4) lo hi pt ea uf op (pc + qsz mo) mem lev)) : wX_begin_109 post x3 x4 x5 0 1 2 3 4 5 6 7 8 9 10 11 12 13 14 15 16 17 18 19 1 2 4 8 64 128 a x y s p pc se la ne co ac sq dn le tl mo st lo hi pt ea uf op np mem lev := by
  unfold wX_begin_109
  unfold qst at h
  by_cases c : x4 = 0
  · rw [if_pos c] at h
    refine br_t c ?_
    unfold wX_begin_126
    exact qb_127 (Or.inl rfl) h
  · rw [if_neg c] at h
    refine br_f c ?_
    by_cases d : x3 = 4
    · rw [if_pos d] at h
      exact br_t d (qb_127 (Or.inr rfl) h)
    · rw [if_neg d] at h
      refine br_f d ?_
      unfold wX_begin_126
      exact qb_127 (Or.inl rfl) h
theorem qb_80 {post : SX → Prop} {o w z0 : Int32} (h : post (qx a x y s p pc se la ne co ac sq dn (qbf ((qbl mo + qtl (qmd o w z0)) - 1) (qmd o w z0) (qst w z0) (qfx mo)) (qtl (qmd o w z0)) mo (qst w z0) lo hi pt ea uf op (pc + qsz mo) mem lev)) : wX_begin_80 post o w z0 0 1 2 3 4 5 6 7 8 9 10 11 12 13 14 15 16 17 18 19 1 2 4 8 64 128 a x y s p pc se la ne co ac sq dn le tl mo st lo hi pt ea uf op np mem lev := by
  unfold wX_begin_80
  unfold qmd at h
  have k108 : post (qx a x y s p pc se la ne co ac sq dn (qbf ((qbl mo + qtl 0) - 1) 0 (qst w z0) (qfx mo)) (qtl 0) mo (qst w z0) lo hi pt ea uf op (pc + qsz mo) mem lev) → wX_begin_108 post w z0 0 1 2 3 4 5 6 7 8 9 10 11 12 13 14 15 16 17 18 19 1 2 4 8 64 128 a x y s p pc se la ne co ac sq dn le tl mo st lo hi pt ea uf op np mem lev := by
    intro h
    unfold wX_begin_108
    exact qb_109 h
  by_cases c : z0 = 0
  · simp only [if_pos c] at h
    exact br_t c (k108 h)
  · simp only [if_neg c] at h
    refine br_f c ?_
    by_cases d : o &&& 3 = 2
    · simp only [if_pos d] at h
      refine br_t d ?_
      by_cases e : w = 4
      · simp only [if_pos e] at h
        exact br_t e (k108 h)
      · simp only [if_neg e] at h
        refine br_f e ?_
        by_cases f : w = 5
        · simp only [if_pos f] at h
          exact br_t f (k108 h)
        · simp only [if_neg f] at h
          exact br_f f (qb_109 h)
    · simp only [if_neg d] at h
      exact br_f d (k108 h)
theorem qb_51 {post : SX → Prop} {o M MD ST LE TL SZ : Int32} (hst : qst (o >>> ((5 : Int32) &&& 31)) (qmf M) = ST) (hmd : qmd o (o >>> ((5 : Int32) &&& 31)) (qmf M) = MD) (htl : qtl MD = TL) (hle : qbf ((qbl M + TL) - 1) MD ST (qfx M) = LE) (hsz : qsz M = SZ) (h : post (qx a x y s p pc se la ne co ac sq dn LE TL M ST lo hi pt ea uf op (pc + SZ) mem lev)) : wX_begin_51 post o M 0 1 2 3 4 5 6 7 8 9 10 11 12 13 14 15 16 17 18 19 1 2 4 8 64 128 a x y s p pc se la ne co ac sq dn le tl mo st lo hi pt ea uf op np mem lev := by
  subst hst hmd htl hle hsz
  unfold wX_begin_51
  refine nm_e ?_
  have k80 : ∀ z0, z0 = qmf M → wX_begin_80 post o (o >>> ((5 : Int32) &&& 31)) z0 0 1 2 3 4 5 6 7 8 9 10 11 12 13 14 15 16 17 18 19 1 2 4 8 64 128 a x y s p pc se la ne co ac sq dn le tl M st lo hi pt ea uf op np mem lev := by
    intro z0 e
    subst e
    exact qb_80 h
  by_cases c : M < 2
  · refine br_t c ?_
    unfold wX_begin_79
    exact k80 0 (by unfold qmf; rw [if_pos c])
  · refine br_f c ?_
    by_cases d : 9 < M
    · refine br_t d ?_
      unfold wX_begin_79
      exact k80 0 (by unfold qmf; rw [if_neg c, if_pos d])
    · exact br_f d (k80 1 (by unfold qmf; rw [if_neg c, if_neg d]))
theorem qb_op {post : SX → Prop} {o M MD ST LE TL SZ : Int32} (ho : mem (pc &&& 255).toNatClampNeg = o) (hM : qxm o = M) (hst : qst (o >>> ((5 : Int32) &&& 31)) (qmf M) = ST) (hmd : qmd o (o >>> ((5 : Int32) &&& 31)) (qmf M) = MD) (htl : qtl MD = TL) (hle : qbf ((qbl M + TL) - 1) MD ST (qfx M) = LE) (hsz : qsz M = SZ) (h : post (qx a x y s p pc se la 0 co (rd o pc) o dn LE TL M ST lo hi pt ea uf op (pc + SZ) mem lev)) : wpX_begin post (qx a x y s p pc se la 0 co ac sq dn le tl mo st lo hi pt ea uf op np mem lev) := by
  unfold wpX_begin
  subst ho
  refine qx_read ?_
  refine br_t (by decide) ?_
  unfold wX_begin_33
  refine br_t (by decide) ?_
  refine qx_mode ?_
  subst hM
  exact qb_51 hst hmd htl hle hsz h
theorem qb_en {post : SX → Prop} {o : Int32} (ho : mem (pc &&& 255).toNatClampNeg = o) (hne : ¬ ne = 0) (h : post (qx a x y s p pc se la 0 co (rd o pc) (256 + ne) dn 7 1 19 0 lo hi pt ea uf op (pc + 1) mem lev)) : wpX_begin post (qx a x y s p pc se la ne co ac sq dn le tl mo st lo hi pt ea uf op np mem lev) := by
  unfold wpX_begin
  subst ho
  refine qx_read ?_
  refine br_f hne ?_
  unfold wX_begin_33
  refine br_f hne ?_
  exact qb_51 (ST := 0) (MD := 0) (TL := 1) (LE := 7) (SZ := 1) (if_pos (by decide)) (if_pos (by decide)) (by decide) (by decide) (by decide) h
/-- the end of a sequence -/
def qnp (mo np hi lo : Int32) : Int32 := if mo = 13 then 256 * hi + lo + 1 else if mo < 12 then np else if mo = 18 then np else 256 * hi + lo
theorem qf_129 {post : SX → Prop} {N C : Int32} (hN : qnp mo np hi lo = N) (hC : qsc mo = C) (h : post (qx a x y ((s + C) &&& 255) p (N &&& 65535) se la ne co ac sq dn le tl mo st lo hi pt ea uf op N mem lev)) : wX_finish_129 post 0 1 2 3 4 5 6 7 8 9 10 11 12 13 14 15 16 17 18 19 1 2 4 8 64 128 a x y s p pc se la ne co ac sq dn le tl mo st lo hi pt ea uf op np mem lev := by
  have k183 : ∀ n, n = N → wX_finish_183 post 0 1 2 3 4 5 6 7 8 9 10 11 12 13 14 15 16 17 18 19 1 2 4 8 64 128 a x y s p pc se la ne co ac sq dn le tl mo st lo hi pt ea uf op n mem lev := by
    intro n e
    subst e hC
    unfold wX_finish_183
    refine nm_e (qx_sc (nm_e ?_))
    exact h
  subst hN
  unfold qnp at k183
  unfold wX_finish_129
  by_cases c13 : mo = 13
  · subst c13
    refine br_f (by decide) (br_f (by decide) (nm_e ?_))
    unfold wX_finish_164
    refine br_t (by decide) (nm_e ?_)
    exact k183 _ rfl
  · rw [if_neg c13] at k183
    by_cases c12 : mo < 12
    · rw [if_pos c12] at k183
      refine br_t c12 ?_
      unfold wX_finish_164
      exact br_f c13 (k183 _ rfl)
    · rw [if_neg c12] at k183
      refine br_f c12 ?_
      by_cases c18 : mo = 18
      · rw [if_pos c18] at k183
        refine br_t c18 ?_
        unfold wX_finish_164
        exact br_f c13 (k183 _ rfl)
      · rw [if_neg c18] at k183
        refine br_f c18 (nm_e ?_)
        unfold wX_finish_164
        exact br_f c13 (k183 _ rfl)
end
end
section
/-! Y's decoding; tables of the opcodes -/
def qy153 (o : Int32) : Int32 := if o = 10 then 1 else if o = 36 then 3 else if o = 42 then 1 else if o = 44 then 6 else if o = 74 then 1 else if o = 106 then 1 else if o = 132 then 3 else if o = 134 then 3 else if o = 140 then 6 else if o = 142 then 6 else if o = 148 then 4 else if o = 150 then 5 else if o = 160 then 2 else if o = 162 then 2 else if o = 164 then 3 else if o = 166 then 3 else if o = 172 then 6 else if o = 174 then 6 else if o = 180 then 4 else if o = 182 then 5 else if o = 188 then 7 else if o = 190 then 8 else if o = 192 then 2 else if o = 196 then 3 else if o = 204 then 6 else if o = 224 then 2 else if o = 228 then 3 else if o = 236 then 6 else 0
def qy115 (o c : Int32) : Int32 := if c &&& 1 = 1 then (if c = 1 then 3 else if c = 3 then 6 else if c = 5 then 4 else 7) else qy153 o
def qy99 (o w c k : Int32) : Int32 := if k = 2 then (if w < 4 then qy115 o c else if w ≤ 5 then qy153 o else qy115 o c) else qy153 o
def qymm (o w c k : Int32) : Int32 := if k = 1 then (if o = 137 then qy99 o w c k else if c = 0 then 9 else if c = 1 then 3 else if c = 2 then 2 else if c = 3 then 6 else if c = 4 then 10 else if c = 5 then 4 else if c = 6 then 8 else 7) else qy99 o w c k
def qym (o : Int32) : Int32 := qymm o (o >>> ((5 : Int32) &&& 31)) ((o >>> ((2 : Int32) &&& 31)) &&& 7) (o &&& 3)
def qyd (w k : Int32) : Int32 := if k = 2 then (if w < 4 then 1 else if w ≤ 5 then 0 else 1) else 0
section
variable {len dn co se la ne sq ac : Int32} {mem work now fin lin log : Nat → Int32}
theorem qy_153 {post : Int32 → Prop} {o : Int32} (h : post (qy153 o)) : wY_mode_153 post o len dn co se la ne sq ac mem work now fin lin log := by
  unfold qy153 at h
  exact q_ite (P := post) (id) (q_ite (P := post) (id) (q_ite (P := post) (id) (q_ite (P := post) (id) (q_ite (P := post) (id) (q_ite (P := post) (id) (q_ite (P := post) (id) (q_ite (P := post) (id) (q_ite (P := post) (id) (q_ite (P := post) (id) (q_ite (P := post) (id) (q_ite (P := post) (id) (q_ite (P := post) (id) (q_ite (P := post) (id) (q_ite (P := post) (id) (q_ite (P := post) (id) (q_ite (P := post) (id) (q_ite (P := post) (id) (q_ite (P := post) (id) (q_ite (P := post) (id) (q_ite (P := post) (id) (q_ite (P := post) (id) (q_ite (P := post) (id) (q_ite (P := post) (id) (q_ite (P := post) (id) (q_ite (P := post) (id) (q_ite (P := post) (id) (q_ite (P := post) (id) (id)))))))))))))))))))))))))))) h
theorem qy_115 {post : Int32 → Prop} {o c : Int32} (h : post (qy115 o c)) : wY_mode_115 post o c len dn co se la ne sq ac mem work now fin lin log := by
  unfold qy115 at h
  exact q_ite (P := post) (q_ite (P := post) (id) (q_ite (P := post) (id) (q_ite (P := post) (id) (id)))) (qy_153) h
theorem qy_99 {post : Int32 → Prop} {o w c k : Int32} (h : post (qy99 o w c k)) : wY_mode_99 post o w c k len dn co se la ne sq ac mem work now fin lin log := by
  unfold qy99 at h
  exact q_ite (P := post) (q_ite (P := post) (qy_115) (q_ite (P := post) (qy_153) (qy_115))) (qy_153) h
theorem qy_mode {post : Int32 → Prop} {o : Int32} (h : post (qym o)) : wpY_mode post (qy len dn co se la ne sq ac mem work now fin lin log) o := by
  unfold qym qymm at h
  refine nm_e (nm_e (nm_e ?_))
  exact q_ite (P := post) (q_ite (P := post) (qy_99) (q_ite (P := post) (id) (q_ite (P := post) (id) (q_ite (P := post) (id) (q_ite (P := post) (id) (q_ite (P := post) (id) (q_ite (P := post) (id) (q_ite (P := post) (id) (id))))))))) (qy_99) h
theorem qy_oper {post : SY → Prop} {o M ST MD : Int32} (hst : (if o >>> ((5 : Int32) &&& 31) = 4 then (1 : Int32) else 0) = ST) (hmd : qyd (o >>> ((5 : Int32) &&& 31)) (o &&& 3) = MD) (h : wY_operate_50 post M (o >>> ((5 : Int32) &&& 31)) (o &&& 3) (now 5) ST MD len dn co se la ne sq ac mem work now fin lin log) : wpY_operate post (qy len dn co se la ne sq ac mem work now fin lin log) o M := by
  refine nm_e (nm_e (nm_e ?_))
  unfold qyd at hmd
  have k27 : wY_operate_27 post M (o >>> ((5 : Int32) &&& 31)) (o &&& 3) (now 5) ST len dn co se la ne sq ac mem work now fin lin log := by
    unfold wY_operate_27
    by_cases c : o &&& 3 = 2
    · rw [if_pos c] at hmd
      refine br_t c ?_
      by_cases d : o >>> ((5 : Int32) &&& 31) < 4
      · rw [if_pos d] at hmd
        subst hmd
        exact br_t d h
      · rw [if_neg d] at hmd
        refine br_f d ?_
        by_cases e : o >>> ((5 : Int32) &&& 31) ≤ 5
        · rw [if_pos e] at hmd
          subst hmd
          exact br_t e h
        · rw [if_neg e] at hmd
          subst hmd
          exact br_f e h
    · rw [if_neg c] at hmd
      subst hmd
      exact br_f c h
  by_cases c : o >>> ((5 : Int32) &&& 31) = 4
  · rw [if_pos c] at hst
    subst hst
    exact br_t c k27
  · rw [if_neg c] at hst
    subst hst
    exact br_f c k27
end
theorem qt_cls : ∀ n, n < 256 → qxm (nI n) ∈ ([0, 1, 2, 3, 4, 5, 6, 7, 8, 9, 10, 11, 12, 13, 14, 15, 16, 17, 18] : List Int32) := by decide +kernel
theorem qt_ym : ∀ n, n < 256 → (¬ qxm (nI n) < 1 → ¬ 9 < qxm (nI n) → qym (nI n) = qxm (nI n) + 1) ∧ (9 < qxm (nI n) → qym (nI n) = 0) := by decide +kernel
def qOl : List (Int32 × Int32) := [(1, 0), (1, 1), (1, 2), (1, 3), (1, 5), (1, 6), (1, 7), (0, 1), (0, 5), (0, 6), (0, 7), (2, 5)]
def qvr (o : Int32) : Int32 := if qxm o < 1 then 9 else if 9 < qxm o then 9 else if o >>> ((5 : Int32) &&& 31) = 4 then 1 else if qmd o (o >>> ((5 : Int32) &&& 31)) 1 = 0 then 0 else 2
theorem qt_vr : ∀ n, n < 256 → ¬ qxm (nI n) < 1 → ¬ 9 < qxm (nI n) → qvr (nI n) ∈ ([0, 1, 2] : List Int32) := by decide +kernel
theorem qt_rd : ∀ n, n < 256 → qvr (nI n) = 0 → qyd (nI n >>> ((5 : Int32) &&& 31)) (nI n &&& 3) = 0 ∧ qmd (nI n) (nI n >>> ((5 : Int32) &&& 31)) 1 = 0 ∧ ¬ (nI n >>> ((5 : Int32) &&& 31)) = 4 := by decide +kernel
theorem qt_rO : ∀ n, n < 256 → qvr (nI n) = 0 → ((nI n &&& 3), (nI n >>> ((5 : Int32) &&& 31))) ∈ qOl := by decide +kernel
theorem qO_of {w k : Int32} (h : (k, w) ∈ qOl) : qO w k := by
  unfold qOl at h
  simp only [List.mem_cons, Prod.mk.injEq, List.not_mem_nil, or_false] at h
  unfold qO
  rcases h with ⟨rfl, rfl⟩ | ⟨rfl, rfl⟩ | ⟨rfl, rfl⟩ | ⟨rfl, rfl⟩ | ⟨rfl, rfl⟩ | ⟨rfl, rfl⟩ | ⟨rfl, rfl⟩ | ⟨rfl, rfl⟩ | ⟨rfl, rfl⟩ | ⟨rfl, rfl⟩ | ⟨rfl, rfl⟩ | ⟨rfl, rfl⟩ <;> decide
theorem qt_st : ∀ n, n < 256 → qvr (nI n) = 1 → (qyd (nI n >>> ((5 : Int32) &&& 31)) (nI n &&& 3) = 0 ∧ qmd (nI n) (nI n >>> ((5 : Int32) &&& 31)) 1 = 0) ∧ qst (nI n >>> ((5 : Int32) &&& 31)) 1 = 1 ∧ (nI n >>> ((5 : Int32) &&& 31)) = 4 := by decide +kernel
theorem qt_md : ∀ n, n < 256 → qvr (nI n) = 2 → (qyd (nI n >>> ((5 : Int32) &&& 31)) (nI n &&& 3) = 1 ∧ qmd (nI n) (nI n >>> ((5 : Int32) &&& 31)) 1 = 1) ∧ ¬ (nI n >>> ((5 : Int32) &&& 31)) = 4 := by decide +kernel
theorem qt_mw : ∀ n, n < 256 → qvr (nI n) = 2 → (nI n >>> ((5 : Int32) &&& 31)) ∈ ([0, 1, 2, 3, 6, 7] : List Int32) := by decide +kernel
theorem qt_mm : ∀ n, n < 256 → qvr (nI n) = 2 → qxm (nI n) ∈ ([2, 3, 5, 6] : List Int32) := by decide +kernel
theorem qt_im : ∀ n, n < 256 → qxm (nI n) = 1 → qvr (nI n) = 0 := by decide +kernel
theorem qt_or : ∀ n, n < 256 → nI n ≤ 255 ∧ (¬ qxm (nI n) = 17 → ¬ nI n = 0) ∧ (¬ qxm (nI n) = 18 → ¬ nI n &&& 31 = 16) ∧ (¬ qxm (nI n) = 14 → ¬ nI n = 64) := by decide +kernel
theorem qt_68 : ∀ n, n < 256 → ¬ qxm (nI n) = 11 → ¬ nI n = 104 := by decide +kernel
theorem qt_s1 : ∀ n, n < 256 → (qxm (nI n) = 10 → nI n = 8 ∨ nI n = 72) ∧ (qxm (nI n) = 11 → nI n = 40 ∨ nI n = 104) ∧ (qxm (nI n) = 12 → nI n = 32) ∧ (qxm (nI n) = 13 → nI n = 96) := by decide +kernel
theorem qt_s2 : ∀ n, n < 256 → (qxm (nI n) = 14 → nI n = 64) ∧ (qxm (nI n) = 15 → nI n = 76) ∧ (qxm (nI n) = 16 → nI n = 108) ∧ (qxm (nI n) = 17 → nI n = 0) := by decide +kernel
theorem qt_br : ∀ n, n < 256 → qxm (nI n) = 18 → nI n ∈ ([16, 48, 80, 112, 144, 176, 208, 240] : List Int32) := by decide +kernel
theorem qt_im0 : ∀ n, n < 256 → qxm (nI n) = 0 → nI n ∈ ([10, 42, 74, 106] : List Int32) ∨ nI n ∈ ([24, 56, 88, 120, 136, 138, 152, 154, 168, 170, 184, 186, 200, 202, 216, 232, 248] : List Int32) ∨ ((qym (nI n) = 0 ∧ ¬ nI n &&& 159 = 10) ∧ (¬ nI n &&& 31 = 24 ∧ ¬ nI n &&& 31 = 16) ∧ ¬ nI n ∈ ([0, 8, 24, 32, 40, 56, 64, 72, 76, 88, 96, 104, 108, 120, 136, 138, 152, 154, 168, 170, 184, 186, 200, 202, 216, 232, 248] : List Int32)) := by decide +kernel
end
section
/-! what is to come of a begun sequence: X's cycles against Y's log -/
def qpy (sq dn len : Int32) : Int32 := if sq = 0 then 0 else if sq ≤ 255 then (if sq &&& 31 = 16 then (if dn = 1 then 1 else if len = 4 then (if dn = 3 then 1 else 0) else 0) else if dn = len - 1 then 1 else 0) else 0
def qP (now F : Nat → Int32) (sq mo dn le len p op : Int32) : Prop := qpx mo dn le = qpy sq dn len ∧ (¬ qpx mo dn le = 0 → (if mo = 14 then op else p) &&& 4 = (if sq = 64 then F 4 else now 4) &&& 4)
def qOr (sq mo : Int32) : Prop := (¬ sq = 0 ∧ sq ≤ 255 ∧ ¬ sq &&& 31 = 16 ∧ ¬ sq = 64) ∧ (¬ mo = 19 ∧ ¬ mo = 17 ∧ ¬ mo = 18 ∧ ¬ mo = 14)
theorem qP_o {now F : Nat → Int32} {sq mo dn le len p op : Int32} (ho : qOr sq mo) (hc : (dn = le - 1) ↔ (dn = len - 1)) (hp : dn = le - 1 → p = now 4) : qP now F sq mo dn le len p op := by
  obtain ⟨⟨h0, h1, h2, h3⟩, h4, h5, h6, h7⟩ := ho
  unfold qP qpx qpy
  rw [if_neg h4, if_neg h5, if_neg h6, if_neg h0, if_pos h1, if_neg h2, if_neg h7, if_neg h3]
  by_cases c : dn = le - 1
  · rw [if_pos c, if_pos (hc.mp c), hp c]
    exact ⟨rfl, fun _ => rfl⟩
  · rw [if_neg c, if_neg (fun z => c (hc.mpr z))]
    exact ⟨rfl, fun z => absurd rfl z⟩
theorem qP_0 {now F : Nat → Int32} {sq mo dn le len p op : Int32} (h1 : qpx mo dn le = 0) (h2 : qpy sq dn len = 0) : qP now F sq mo dn le len p op := ⟨h1.trans h2.symm, fun z => absurd h1 z⟩
/-- the last cycle's end in X -/
def qF (now F : Nat → Int32) (sq dn le tl mo st lo hi pt ea uf op np p : Int32) (mem : Nat → Int32) : Prop := ∀ (post : SX → Prop) (se la ne co ac : Int32) (lev : Nat → Int32), post (qx (F 0) (F 1) (F 2) (F 3) (F 4) (F 5) se la ne co ac sq dn le tl mo st lo hi pt ea uf op (qnp mo np hi lo) mem lev) → wpX_finish post (qx (now 0) (now 1) (now 2) (now 3) p (now 5) se la ne co ac sq dn le tl mo st lo hi pt ea uf op np mem lev)
def Fu (now L F : Nat → Int32) (len sq tl mo st : Int32) : Nat → Nat → Int32 → Int32 → Int32 → Int32 → Int32 → Int32 → Int32 → Int32 → (Nat → Int32) → Prop
  | 0 => fun _ _ _ _ _ _ _ _ _ _ => False
  | r + 1 => fun d le lo hi pt ea uf op np mem => (1 ≤ d ∧ d < 7) ∧ ∃ (p' le' lo' hi' pt' ea' uf' op' np' : Int32) (mem' : Nat → Int32),
    (∀ (post : SX → Prop) (se la ne co ac : Int32) (lev : Nat → Int32), post (qx (now 0) (now 1) (now 2) (now 3) p' (now 5) se la ne co (L d) sq (nI (d + 1)) le' tl mo st lo' hi' pt' ea' uf' op' np' mem' lev) → wpX_proceed post (qx (now 0) (now 1) (now 2) (now 3) (now 4) (now 5) se la ne co ac sq (nI (d + 1)) le tl mo st lo hi pt ea uf op np mem lev)) ∧
    qm (L d) mem mem' ∧ qP now F sq mo (nI (d + 1)) le' len p' op' ∧
    ((nI (d + 1) = le' ∧ nI (d + 1) = len ∧ qF now F sq (nI (d + 1)) le' tl mo st lo' hi' pt' ea' uf' op' np' p' mem') ∨ (¬ nI (d + 1) = le' ∧ ¬ nI (d + 1) = len ∧ p' = now 4 ∧ Fu now L F len sq tl mo st r (d + 1) le' lo' hi' pt' ea' uf' op' np' mem'))
section
variable {now L F : Nat → Int32} {len sq tl mo st : Int32} {r d : Nat} {le lo hi pt ea uf op np : Int32} {mem : Nat → Int32} {le' lo' hi' pt' ea' uf' op' np' p' e : Int32} {mem' : Nat → Int32}
theorem fu_c (h1 : 1 ≤ d ∧ d < 7) (hL : L d = e) (hm : qm e mem mem')
    (hX : ∀ (post : SX → Prop) (se la ne co ac : Int32) (lev : Nat → Int32), post (qx (now 0) (now 1) (now 2) (now 3) (now 4) (now 5) se la ne co e sq (nI (d + 1)) le' tl mo st lo' hi' pt' ea' uf' op' np' mem' lev) → wpX_proceed post (qx (now 0) (now 1) (now 2) (now 3) (now 4) (now 5) se la ne co ac sq (nI (d + 1)) le tl mo st lo hi pt ea uf op np mem lev))
    (hP : qP now F sq mo (nI (d + 1)) le' len (now 4) op') (hn : ¬ nI (d + 1) = le' ∧ ¬ nI (d + 1) = len)
    (k : Fu now L F len sq tl mo st r (d + 1) le' lo' hi' pt' ea' uf' op' np' mem') : Fu now L F len sq tl mo st (r + 1) d le lo hi pt ea uf op np mem := by
  subst hL
  exact ⟨h1, now 4, le', lo', hi', pt', ea', uf', op', np', mem', hX, hm, hP, Or.inr ⟨hn.1, hn.2, rfl, k⟩⟩
theorem fu_e (h1 : 1 ≤ d ∧ d < 7) (hL : L d = e) (hm : qm e mem mem')
    (hX : ∀ (post : SX → Prop) (se la ne co ac : Int32) (lev : Nat → Int32), post (qx (now 0) (now 1) (now 2) (now 3) p' (now 5) se la ne co e sq (nI (d + 1)) le' tl mo st lo' hi' pt' ea' uf' op' np' mem' lev) → wpX_proceed post (qx (now 0) (now 1) (now 2) (now 3) (now 4) (now 5) se la ne co ac sq (nI (d + 1)) le tl mo st lo hi pt ea uf op np mem lev))
    (hP : qP now F sq mo (nI (d + 1)) le' len p' op') (hn : nI (d + 1) = le' ∧ nI (d + 1) = len)
    (k : qF now F sq (nI (d + 1)) le' tl mo st lo' hi' pt' ea' uf' op' np' p' mem') : Fu now L F len sq tl mo st (r + 1) d le lo hi pt ea uf op np mem := by
  subst hL
  exact ⟨h1, p', le', lo', hi', pt', ea', uf', op', np', mem', hX, hm, hP, Or.inl ⟨hn.1, hn.2, k⟩⟩
end
theorem fu_m2 {now L F : Nat → Int32} {len tl sq mo st : Int32} {r : Nat} {le lo hi pt ea uf op np : Int32} {mem : Nat → Int32} (hm1 : ¬ mo < 2) (hm2 : ¬ 9 < mo) (hpl : nI 2 - (le - tl) ≤ 0) (hM : qM mem) (hL : L 1 = rd (mem (((now 5) + 1) &&& 255).toNatClampNeg) ((now 5) + 1)) (hP : qP now F (sq) (mo) (nI (1 + 1)) le len (now 4) op) (hn : ¬ nI (1 + 1) = le ∧ ¬ nI (1 + 1) = len) (k : Fu now L F len (sq) tl (mo) (st) r (1 + 1) le (mem (((now 5) + 1) &&& 255).toNatClampNeg) hi (mem (((now 5) + 1) &&& 255).toNatClampNeg) (mem (((now 5) + 1) &&& 255).toNatClampNeg) uf op np mem) : Fu now L F len (sq) tl (mo) (st) (r + 1) 1 le lo hi pt ea uf op np mem :=
  fu_c (by decide) hL (qm_r (hM.1 _)) (fun post se la ne co ac lev h => qp_m2 hm1 hm2 hpl h) hP hn k
theorem fu_tr {now L F : Nat → Int32} {len tl sq mo : Int32} {r d : Nat} {le lo hi pt ea uf op np : Int32} {mem : Nat → Int32} (hd : 1 ≤ d ∧ d < 7) (hm1 : ¬ mo < 2) (hm2 : ¬ 9 < mo) (hpl : nI (d + 1) - (le - tl) = 1) (hM : qM mem) (hL : L d = rd (mem (ea &&& 255).toNatClampNeg) ea) (hP : qP now F (sq) (mo) (nI (d + 1)) le len (now 4) (mem (ea &&& 255).toNatClampNeg)) (hn : ¬ nI (d + 1) = le ∧ ¬ nI (d + 1) = len) (k : Fu now L F len (sq) tl (mo) (0) r (d + 1) le lo hi pt ea uf (mem (ea &&& 255).toNatClampNeg) np mem) : Fu now L F len (sq) tl (mo) (0) (r + 1) d le lo hi pt ea uf op np mem :=
  fu_c hd hL (qm_r (hM.1 _)) (fun post se la ne co ac lev h => qp_tr hm1 hm2 hpl h) hP hn k
theorem fe_tr {now L F : Nat → Int32} {len tl sq mo : Int32} {r d : Nat} {le lo hi pt ea uf op np : Int32} {mem : Nat → Int32} (hd : 1 ≤ d ∧ d < 7) (hm1 : ¬ mo < 2) (hm2 : ¬ 9 < mo) (hpl : nI (d + 1) - (le - tl) = 1) (hM : qM mem) (hL : L d = rd (mem (ea &&& 255).toNatClampNeg) ea) (hP : qP now F (sq) (mo) (nI (d + 1)) le len (now 4) (mem (ea &&& 255).toNatClampNeg)) (hn : nI (d + 1) = le ∧ nI (d + 1) = len) (k : qF now F (sq) (nI (d + 1)) le tl (mo) (0) lo hi pt ea uf (mem (ea &&& 255).toNatClampNeg) np (now 4) mem) : Fu now L F len (sq) tl (mo) (0) (r + 1) d le lo hi pt ea uf op np mem :=
  fu_e hd hL (qm_r (hM.1 _)) (fun post se la ne co ac lev h => qp_tr hm1 hm2 hpl h) hP hn k
theorem fe_ts {now L F : Nat → Int32} {len tl sq mo : Int32} {r d : Nat} {le lo hi pt ea uf op np : Int32} {mem : Nat → Int32} (hd : 1 ≤ d ∧ d < 7) (hm1 : ¬ mo < 2) (hm2 : ¬ 9 < mo) (hpl : nI (d + 1) - (le - tl) = 1) (ha : (now 0) &&& 255 = (now 0)) (hx : (now 1) &&& 255 = (now 1)) (hy : (now 2) &&& 255 = (now 2)) (hb : (qsv (sq &&& 3) (now 0) (now 1) (now 2)) &&& 255 = (qsv (sq &&& 3) (now 0) (now 1) (now 2))) (hL : L d = wr (qsv (sq &&& 3) (now 0) (now 1) (now 2)) ea) (hP : qP now F (sq) (mo) (nI (d + 1)) le len (now 4) op) (hn : nI (d + 1) = le ∧ nI (d + 1) = len) (k : qF now F (sq) (nI (d + 1)) le tl (mo) (1) lo hi pt ea uf op np (now 4) (upd mem (ea &&& 255).toNatClampNeg (qsv (sq &&& 3) (now 0) (now 1) (now 2)))) : Fu now L F len (sq) tl (mo) (1) (r + 1) d le lo hi pt ea uf op np mem :=
  fu_e hd hL (qm_w (hb)) (fun post se la ne co ac lev h => qp_ts hm1 hm2 hpl ha hx hy h) hP hn k
theorem fu_t2 {now L F : Nat → Int32} {len tl sq mo : Int32} {r d : Nat} {le lo hi pt ea uf op np : Int32} {mem : Nat → Int32} (hd : 1 ≤ d ∧ d < 7) (hm1 : ¬ mo < 2) (hm2 : ¬ 9 < mo) (hpl : nI (d + 1) - (le - tl) = 2) (hv : op &&& 255 = op) (hb : op &&& 255 = op) (hL : L d = wr op ea) (hP : qP now F (sq) (mo) (nI (d + 1)) le len (now 4) op) (hn : ¬ nI (d + 1) = le ∧ ¬ nI (d + 1) = len) (k : Fu now L F len (sq) tl (mo) (0) r (d + 1) le lo hi pt ea uf op np (upd mem (ea &&& 255).toNatClampNeg op)) : Fu now L F len (sq) tl (mo) (0) (r + 1) d le lo hi pt ea uf op np mem :=
  fu_c hd hL (qm_w (hb)) (fun post se la ne co ac lev h => qp_t2 hm1 hm2 hpl hv h) hP hn k
theorem fe_t3 {now L F : Nat → Int32} {len tl sq mo : Int32} {r d : Nat} {le lo hi pt ea uf op np : Int32} {mem : Nat → Int32} {w : Int32} (hd : 1 ≤ d ∧ d < 7) (hm1 : ¬ mo < 2) (hm2 : ¬ 9 < mo) (hpl : nI (d + 1) - (le - tl) = 3) (hv : op &&& 255 = op) (hp : (now 4) &&& 239 = (now 4)) (hw : sq >>> ((5 : Int32) &&& 31) = w) (hc : w = 0 ∨ w = 1 ∨ w = 2 ∨ w = 3 ∨ w = 6 ∨ w = 7) (hb : (qmv w (now 4) op &&& 255) &&& 255 = (qmv w (now 4) op &&& 255)) (hL : L d = wr (qmv w (now 4) op &&& 255) ea) (hP : qP now F (sq) (mo) (nI (d + 1)) le len (qmp w (now 4) op) (qmv w (now 4) op &&& 255)) (hn : nI (d + 1) = le ∧ nI (d + 1) = len) (k : qF now F (sq) (nI (d + 1)) le tl (mo) (0) lo hi pt ea uf (qmv w (now 4) op &&& 255) np (qmp w (now 4) op) (upd mem (ea &&& 255).toNatClampNeg (qmv w (now 4) op &&& 255))) : Fu now L F len (sq) tl (mo) (0) (r + 1) d le lo hi pt ea uf op np mem :=
  fu_e hd hL (qm_w (hb)) (fun post se la ne co ac lev h => qp_t3 hm1 hm2 hpl hv hp hw hc h) hP hn k
theorem fu_z3 {now L F : Nat → Int32} {len tl sq st : Int32} {r : Nat} {le lo hi pt ea uf op np : Int32} {mem : Nat → Int32} (hpl : nI 3 - (le - tl) ≤ 0) (hM : qM mem) (hL : L 2 = rd (mem ((pt) &&& 255).toNatClampNeg) pt) (hP : qP now F (sq) (3) (nI (2 + 1)) le len (now 4) op) (hn : ¬ nI (2 + 1) = le ∧ ¬ nI (2 + 1) = len) (k : Fu now L F len (sq) tl (3) (st) r (2 + 1) le lo hi pt ((pt + (now 1)) &&& 255) uf op np mem) : Fu now L F len (sq) tl (3) (st) (r + 1) 2 le lo hi pt ea uf op np mem :=
  fu_c (by decide) hL (qm_r (hM.1 _)) (fun post se la ne co ac lev h => qp_z3 hpl h) hP hn k
theorem fu_z4 {now L F : Nat → Int32} {len tl sq st : Int32} {r : Nat} {le lo hi pt ea uf op np : Int32} {mem : Nat → Int32} (hpl : nI 3 - (le - tl) ≤ 0) (hM : qM mem) (hL : L 2 = rd (mem ((pt) &&& 255).toNatClampNeg) pt) (hP : qP now F (sq) (4) (nI (2 + 1)) le len (now 4) op) (hn : ¬ nI (2 + 1) = le ∧ ¬ nI (2 + 1) = len) (k : Fu now L F len (sq) tl (4) (st) r (2 + 1) le lo hi pt ((pt + (now 2)) &&& 255) uf op np mem) : Fu now L F len (sq) tl (4) (st) (r + 1) 2 le lo hi pt ea uf op np mem :=
  fu_c (by decide) hL (qm_r (hM.1 _)) (fun post se la ne co ac lev h => qp_z4 hpl h) hP hn k
theorem fu_a5 {now L F : Nat → Int32} {len tl sq st : Int32} {r : Nat} {le lo hi pt ea uf op np : Int32} {mem : Nat → Int32} {le' : Int32} (hq : (qlf le st tl (256 * (mem (((now 5) + 2) &&& 255).toNatClampNeg) + ((lo + 0) &&& 255)) ((256 * (mem (((now 5) + 2) &&& 255).toNatClampNeg) + lo + 0) &&& 65535)) = le') (hpl : nI 3 - (le - tl) ≤ 0) (hM : qM mem) (hL : L 2 = rd (mem (((now 5) + 2) &&& 255).toNatClampNeg) ((now 5) + 2)) (hP : qP now F (sq) (5) (nI (2 + 1)) le' len (now 4) op) (hn : ¬ nI (2 + 1) = le' ∧ ¬ nI (2 + 1) = len) (k : Fu now L F len (sq) tl (5) (st) r (2 + 1) le' lo (mem (((now 5) + 2) &&& 255).toNatClampNeg) pt ((256 * (mem (((now 5) + 2) &&& 255).toNatClampNeg) + lo + 0) &&& 65535) (256 * (mem (((now 5) + 2) &&& 255).toNatClampNeg) + ((lo + 0) &&& 255)) op np mem) : Fu now L F len (sq) tl (5) (st) (r + 1) 2 le lo hi pt ea uf op np mem :=
  fu_c (by decide) hL (qm_r (hM.1 _)) (fun post se la ne co ac lev h => qp_a5 hpl (by rw [hq]; exact h)) hP hn k
theorem fu_a6 {now L F : Nat → Int32} {len tl sq st : Int32} {r : Nat} {le lo hi pt ea uf op np : Int32} {mem : Nat → Int32} {le' : Int32} (hq : (qlf le st tl (256 * (mem (((now 5) + 2) &&& 255).toNatClampNeg) + ((lo + (now 1)) &&& 255)) ((256 * (mem (((now 5) + 2) &&& 255).toNatClampNeg) + lo + (now 1)) &&& 65535)) = le') (hpl : nI 3 - (le - tl) ≤ 0) (hM : qM mem) (hL : L 2 = rd (mem (((now 5) + 2) &&& 255).toNatClampNeg) ((now 5) + 2)) (hP : qP now F (sq) (6) (nI (2 + 1)) le' len (now 4) op) (hn : ¬ nI (2 + 1) = le' ∧ ¬ nI (2 + 1) = len) (k : Fu now L F len (sq) tl (6) (st) r (2 + 1) le' lo (mem (((now 5) + 2) &&& 255).toNatClampNeg) pt ((256 * (mem (((now 5) + 2) &&& 255).toNatClampNeg) + lo + (now 1)) &&& 65535) (256 * (mem (((now 5) + 2) &&& 255).toNatClampNeg) + ((lo + (now 1)) &&& 255)) op np mem) : Fu now L F len (sq) tl (6) (st) (r + 1) 2 le lo hi pt ea uf op np mem :=
  fu_c (by decide) hL (qm_r (hM.1 _)) (fun post se la ne co ac lev h => qp_a6 hpl (by rw [hq]; exact h)) hP hn k
theorem fu_u6 {now L F : Nat → Int32} {len tl sq st : Int32} {r : Nat} {le lo hi pt ea uf op np : Int32} {mem : Nat → Int32} (hpl : nI 4 - (le - tl) ≤ 0) (hM : qM mem) (hL : L 3 = rd (mem ((uf) &&& 255).toNatClampNeg) uf) (hP : qP now F (sq) (6) (nI (3 + 1)) le len (now 4) op) (hn : ¬ nI (3 + 1) = le ∧ ¬ nI (3 + 1) = len) (k : Fu now L F len (sq) tl (6) (st) r (3 + 1) le lo hi pt ea uf op np mem) : Fu now L F len (sq) tl (6) (st) (r + 1) 3 le lo hi pt ea uf op np mem :=
  fu_c (by decide) hL (qm_r (hM.1 _)) (fun post se la ne co ac lev h => qp_u6 hpl h) hP hn k
theorem fu_a7 {now L F : Nat → Int32} {len tl sq st : Int32} {r : Nat} {le lo hi pt ea uf op np : Int32} {mem : Nat → Int32} {le' : Int32} (hq : (qlf le st tl (256 * (mem (((now 5) + 2) &&& 255).toNatClampNeg) + ((lo + (now 2)) &&& 255)) ((256 * (mem (((now 5) + 2) &&& 255).toNatClampNeg) + lo + (now 2)) &&& 65535)) = le') (hpl : nI 3 - (le - tl) ≤ 0) (hM : qM mem) (hL : L 2 = rd (mem (((now 5) + 2) &&& 255).toNatClampNeg) ((now 5) + 2)) (hP : qP now F (sq) (7) (nI (2 + 1)) le' len (now 4) op) (hn : ¬ nI (2 + 1) = le' ∧ ¬ nI (2 + 1) = len) (k : Fu now L F len (sq) tl (7) (st) r (2 + 1) le' lo (mem (((now 5) + 2) &&& 255).toNatClampNeg) pt ((256 * (mem (((now 5) + 2) &&& 255).toNatClampNeg) + lo + (now 2)) &&& 65535) (256 * (mem (((now 5) + 2) &&& 255).toNatClampNeg) + ((lo + (now 2)) &&& 255)) op np mem) : Fu now L F len (sq) tl (7) (st) (r + 1) 2 le lo hi pt ea uf op np mem :=
  fu_c (by decide) hL (qm_r (hM.1 _)) (fun post se la ne co ac lev h => qp_a7 hpl (by rw [hq]; exact h)) hP hn k
theorem fu_u7 {now L F : Nat → Int32} {len tl sq st : Int32} {r : Nat} {le lo hi pt ea uf op np : Int32} {mem : Nat → Int32} (hpl : nI 4 - (le - tl) ≤ 0) (hM : qM mem) (hL : L 3 = rd (mem ((uf) &&& 255).toNatClampNeg) uf) (hP : qP now F (sq) (7) (nI (3 + 1)) le len (now 4) op) (hn : ¬ nI (3 + 1) = le ∧ ¬ nI (3 + 1) = len) (k : Fu now L F len (sq) tl (7) (st) r (3 + 1) le lo hi pt ea uf op np mem) : Fu now L F len (sq) tl (7) (st) (r + 1) 3 le lo hi pt ea uf op np mem :=
  fu_c (by decide) hL (qm_r (hM.1 _)) (fun post se la ne co ac lev h => qp_u7 hpl h) hP hn k
theorem fu_x3 {now L F : Nat → Int32} {len tl sq st : Int32} {r : Nat} {le lo hi pt ea uf op np : Int32} {mem : Nat → Int32} (hpl : nI 3 - (le - tl) ≤ 0) (hM : qM mem) (hL : L 2 = rd (mem ((pt) &&& 255).toNatClampNeg) pt) (hP : qP now F (sq) (8) (nI (2 + 1)) le len (now 4) op) (hn : ¬ nI (2 + 1) = le ∧ ¬ nI (2 + 1) = len) (k : Fu now L F len (sq) tl (8) (st) r (2 + 1) le lo hi pt ea uf op np mem) : Fu now L F len (sq) tl (8) (st) (r + 1) 2 le lo hi pt ea uf op np mem :=
  fu_c (by decide) hL (qm_r (hM.1 _)) (fun post se la ne co ac lev h => qp_x3 hpl h) hP hn k
theorem fu_x4 {now L F : Nat → Int32} {len tl sq st : Int32} {r : Nat} {le lo hi pt ea uf op np : Int32} {mem : Nat → Int32} (hpl : nI 4 - (le - tl) ≤ 0) (hM : qM mem) (hL : L 3 = rd (mem (((pt + (now 1)) &&& 255) &&& 255).toNatClampNeg) ((pt + (now 1)) &&& 255)) (hP : qP now F (sq) (8) (nI (3 + 1)) le len (now 4) op) (hn : ¬ nI (3 + 1) = le ∧ ¬ nI (3 + 1) = len) (k : Fu now L F len (sq) tl (8) (st) r (3 + 1) le (mem (((pt + (now 1)) &&& 255) &&& 255).toNatClampNeg) hi pt ea uf op np mem) : Fu now L F len (sq) tl (8) (st) (r + 1) 3 le lo hi pt ea uf op np mem :=
  fu_c (by decide) hL (qm_r (hM.1 _)) (fun post se la ne co ac lev h => qp_x4 hpl h) hP hn k
theorem fu_x5 {now L F : Nat → Int32} {len tl sq st : Int32} {r : Nat} {le lo hi pt ea uf op np : Int32} {mem : Nat → Int32} {le' : Int32} (hq : (qlf le st tl (256 * (mem ((((pt + (now 1)) + 1) &&& 255) &&& 255).toNatClampNeg) + ((lo + 0) &&& 255)) ((256 * (mem ((((pt + (now 1)) + 1) &&& 255) &&& 255).toNatClampNeg) + lo + 0) &&& 65535)) = le') (hpl : nI 5 - (le - tl) ≤ 0) (hM : qM mem) (hL : L 4 = rd (mem ((((pt + (now 1)) + 1) &&& 255) &&& 255).toNatClampNeg) (((pt + (now 1)) + 1) &&& 255)) (hP : qP now F (sq) (8) (nI (4 + 1)) le' len (now 4) op) (hn : ¬ nI (4 + 1) = le' ∧ ¬ nI (4 + 1) = len) (k : Fu now L F len (sq) tl (8) (st) r (4 + 1) le' lo (mem ((((pt + (now 1)) + 1) &&& 255) &&& 255).toNatClampNeg) pt ((256 * (mem ((((pt + (now 1)) + 1) &&& 255) &&& 255).toNatClampNeg) + lo + 0) &&& 65535) (256 * (mem ((((pt + (now 1)) + 1) &&& 255) &&& 255).toNatClampNeg) + ((lo + 0) &&& 255)) op np mem) : Fu now L F len (sq) tl (8) (st) (r + 1) 4 le lo hi pt ea uf op np mem :=
  fu_c (by decide) hL (qm_r (hM.1 _)) (fun post se la ne co ac lev h => qp_x5 hpl (by rw [hq]; exact h)) hP hn k
theorem fu_y3 {now L F : Nat → Int32} {len tl sq st : Int32} {r : Nat} {le lo hi pt ea uf op np : Int32} {mem : Nat → Int32} (hpl : nI 3 - (le - tl) ≤ 0) (hM : qM mem) (hL : L 2 = rd (mem ((pt) &&& 255).toNatClampNeg) pt) (hP : qP now F (sq) (9) (nI (2 + 1)) le len (now 4) op) (hn : ¬ nI (2 + 1) = le ∧ ¬ nI (2 + 1) = len) (k : Fu now L F len (sq) tl (9) (st) r (2 + 1) le (mem ((pt) &&& 255).toNatClampNeg) hi pt ea uf op np mem) : Fu now L F len (sq) tl (9) (st) (r + 1) 2 le lo hi pt ea uf op np mem :=
  fu_c (by decide) hL (qm_r (hM.1 _)) (fun post se la ne co ac lev h => qp_y3 hpl h) hP hn k
theorem fu_y4 {now L F : Nat → Int32} {len tl sq st : Int32} {r : Nat} {le lo hi pt ea uf op np : Int32} {mem : Nat → Int32} {le' : Int32} (hq : (qlf le st tl (256 * (mem (((pt + 1) &&& 255) &&& 255).toNatClampNeg) + ((lo + (now 2)) &&& 255)) ((256 * (mem (((pt + 1) &&& 255) &&& 255).toNatClampNeg) + lo + (now 2)) &&& 65535)) = le') (hpl : nI 4 - (le - tl) ≤ 0) (hM : qM mem) (hL : L 3 = rd (mem (((pt + 1) &&& 255) &&& 255).toNatClampNeg) ((pt + 1) &&& 255)) (hP : qP now F (sq) (9) (nI (3 + 1)) le' len (now 4) op) (hn : ¬ nI (3 + 1) = le' ∧ ¬ nI (3 + 1) = len) (k : Fu now L F len (sq) tl (9) (st) r (3 + 1) le' lo (mem (((pt + 1) &&& 255) &&& 255).toNatClampNeg) pt ((256 * (mem (((pt + 1) &&& 255) &&& 255).toNatClampNeg) + lo + (now 2)) &&& 65535) (256 * (mem (((pt + 1) &&& 255) &&& 255).toNatClampNeg) + ((lo + (now 2)) &&& 255)) op np mem) : Fu now L F len (sq) tl (9) (st) (r + 1) 3 le lo hi pt ea uf op np mem :=
  fu_c (by decide) hL (qm_r (hM.1 _)) (fun post se la ne co ac lev h => qp_y4 hpl (by rw [hq]; exact h)) hP hn k
theorem fu_y5 {now L F : Nat → Int32} {len tl sq st : Int32} {r : Nat} {le lo hi pt ea uf op np : Int32} {mem : Nat → Int32} (hpl : nI 5 - (le - tl) ≤ 0) (hM : qM mem) (hL : L 4 = rd (mem ((uf) &&& 255).toNatClampNeg) uf) (hP : qP now F (sq) (9) (nI (4 + 1)) le len (now 4) op) (hn : ¬ nI (4 + 1) = le ∧ ¬ nI (4 + 1) = len) (k : Fu now L F len (sq) tl (9) (st) r (4 + 1) le lo hi pt ea uf op np mem) : Fu now L F len (sq) tl (9) (st) (r + 1) 4 le lo hi pt ea uf op np mem :=
  fu_c (by decide) hL (qm_r (hM.1 _)) (fun post se la ne co ac lev h => qp_y5 hpl h) hP hn k
theorem fe_o0 {now L F : Nat → Int32} {len tl sq st : Int32} {r : Nat} {le lo hi pt ea uf op np : Int32} {mem : Nat → Int32} (hM : qM mem) (hL : L 1 = rd (mem (((now 5) + 1) &&& 255).toNatClampNeg) ((now 5) + 1)) (hP : qP now F (sq) (0) (nI (1 + 1)) le len (now 4) (mem (((now 5) + 1) &&& 255).toNatClampNeg)) (hn : nI (1 + 1) = le ∧ nI (1 + 1) = len) (k : qF now F (sq) (nI (1 + 1)) le tl (0) (st) lo hi pt ea uf (mem (((now 5) + 1) &&& 255).toNatClampNeg) np (now 4) mem) : Fu now L F len (sq) tl (0) (st) (r + 1) 1 le lo hi pt ea uf op np mem :=
  fu_e (by decide) hL (qm_r (hM.1 _)) (fun post se la ne co ac lev h => qp_o0  h) hP hn k
theorem fe_o1 {now L F : Nat → Int32} {len tl sq st : Int32} {r : Nat} {le lo hi pt ea uf op np : Int32} {mem : Nat → Int32} (hM : qM mem) (hL : L 1 = rd (mem (((now 5) + 1) &&& 255).toNatClampNeg) ((now 5) + 1)) (hP : qP now F (sq) (1) (nI (1 + 1)) le len (now 4) (mem (((now 5) + 1) &&& 255).toNatClampNeg)) (hn : nI (1 + 1) = le ∧ nI (1 + 1) = len) (k : qF now F (sq) (nI (1 + 1)) le tl (1) (st) lo hi pt ea uf (mem (((now 5) + 1) &&& 255).toNatClampNeg) np (now 4) mem) : Fu now L F len (sq) tl (1) (st) (r + 1) 1 le lo hi pt ea uf op np mem :=
  fu_e (by decide) hL (qm_r (hM.1 _)) (fun post se la ne co ac lev h => qp_o1  h) hP hn k
theorem fu_o10 {now L F : Nat → Int32} {len tl sq st : Int32} {r : Nat} {le lo hi pt ea uf op np : Int32} {mem : Nat → Int32} (hM : qM mem) (hL : L 1 = rd (mem (((now 5) + 1) &&& 255).toNatClampNeg) ((now 5) + 1)) (hP : qP now F (sq) (10) (nI (1 + 1)) le len (now 4) (mem (((now 5) + 1) &&& 255).toNatClampNeg)) (hn : ¬ nI (1 + 1) = le ∧ ¬ nI (1 + 1) = len) (k : Fu now L F len (sq) tl (10) (st) r (1 + 1) le lo hi pt ea uf (mem (((now 5) + 1) &&& 255).toNatClampNeg) np mem) : Fu now L F len (sq) tl (10) (st) (r + 1) 1 le lo hi pt ea uf op np mem :=
  fu_c (by decide) hL (qm_r (hM.1 _)) (fun post se la ne co ac lev h => qp_o10  h) hP hn k
theorem fe_pha {now L F : Nat → Int32} {len tl st : Int32} {r : Nat} {le lo hi pt ea uf op np : Int32} {mem : Nat → Int32} (ha : (now 0) &&& 255 = (now 0)) (hb : ((now 0)) &&& 255 = ((now 0))) (hL : L 2 = wr ((now 0)) (256 + (((now 3) + 0) &&& 255))) (hP : qP now F (72) (10) (nI (2 + 1)) le len (now 4) op) (hn : nI (2 + 1) = le ∧ nI (2 + 1) = len) (k : qF now F (72) (nI (2 + 1)) le tl (10) (st) lo hi pt ea uf op np (now 4) (upd mem ((256 + (((now 3) + 0) &&& 255)) &&& 255).toNatClampNeg ((now 0)))) : Fu now L F len (72) tl (10) (st) (r + 1) 2 le lo hi pt ea uf op np mem :=
  fu_e (by decide) hL (qm_w (hb)) (fun post se la ne co ac lev h => qp_pha ha h) hP hn k
theorem fe_php {now L F : Nat → Int32} {len tl st : Int32} {r : Nat} {le lo hi pt ea uf op np : Int32} {mem : Nat → Int32} (hp : (now 4) &&& 239 = (now 4)) (hb : ((now 4) + 16) &&& 255 = ((now 4) + 16)) (hL : L 2 = wr ((now 4) + 16) (256 + (((now 3) + 0) &&& 255))) (hP : qP now F (8) (10) (nI (2 + 1)) le len (now 4) op) (hn : nI (2 + 1) = le ∧ nI (2 + 1) = len) (k : qF now F (8) (nI (2 + 1)) le tl (10) (st) lo hi pt ea uf op np (now 4) (upd mem ((256 + (((now 3) + 0) &&& 255)) &&& 255).toNatClampNeg ((now 4) + 16))) : Fu now L F len (8) tl (10) (st) (r + 1) 2 le lo hi pt ea uf op np mem :=
  fu_e (by decide) hL (qm_w (hb)) (fun post se la ne co ac lev h => qp_php hp h) hP hn k
theorem fu_pl2 {now L F : Nat → Int32} {len tl sq st : Int32} {r : Nat} {le lo hi pt ea uf op np : Int32} {mem : Nat → Int32} (hM : qM mem) (hL : L 1 = rd (mem (((now 5) + 1) &&& 255).toNatClampNeg) ((now 5) + 1)) (hP : qP now F (sq) (11) (nI (1 + 1)) le len (now 4) op) (hn : ¬ nI (1 + 1) = le ∧ ¬ nI (1 + 1) = len) (k : Fu now L F len (sq) tl (11) (st) r (1 + 1) le lo hi pt ea uf op np mem) : Fu now L F len (sq) tl (11) (st) (r + 1) 1 le lo hi pt ea uf op np mem :=
  fu_c (by decide) hL (qm_r (hM.1 _)) (fun post se la ne co ac lev h => qp_pl2  h) hP hn k
theorem fu_pl3 {now L F : Nat → Int32} {len tl sq st : Int32} {r : Nat} {le lo hi pt ea uf op np : Int32} {mem : Nat → Int32} (hM : qM mem) (hL : L 2 = rd (mem ((256 + (((now 3) + 0) &&& 255)) &&& 255).toNatClampNeg) (256 + (((now 3) + 0) &&& 255))) (hP : qP now F (sq) (11) (nI (2 + 1)) le len (now 4) op) (hn : ¬ nI (2 + 1) = le ∧ ¬ nI (2 + 1) = len) (k : Fu now L F len (sq) tl (11) (st) r (2 + 1) le lo hi pt ea uf op np mem) : Fu now L F len (sq) tl (11) (st) (r + 1) 2 le lo hi pt ea uf op np mem :=
  fu_c (by decide) hL (qm_r (hM.1 _)) (fun post se la ne co ac lev h => qp_pl3  h) hP hn k
theorem fe_pl4 {now L F : Nat → Int32} {len tl sq st : Int32} {r : Nat} {le lo hi pt ea uf op np : Int32} {mem : Nat → Int32} (hM : qM mem) (hL : L 3 = rd (mem ((256 + (((now 3) + 1) &&& 255)) &&& 255).toNatClampNeg) (256 + (((now 3) + 1) &&& 255))) (hP : qP now F (sq) (11) (nI (3 + 1)) le len (now 4) (mem ((256 + (((now 3) + 1) &&& 255)) &&& 255).toNatClampNeg)) (hn : nI (3 + 1) = le ∧ nI (3 + 1) = len) (k : qF now F (sq) (nI (3 + 1)) le tl (11) (st) lo hi pt ea uf (mem ((256 + (((now 3) + 1) &&& 255)) &&& 255).toNatClampNeg) np (now 4) mem) : Fu now L F len (sq) tl (11) (st) (r + 1) 3 le lo hi pt ea uf op np mem :=
  fu_e (by decide) hL (qm_r (hM.1 _)) (fun post se la ne co ac lev h => qp_pl4  h) hP hn k
theorem fu_rs2 {now L F : Nat → Int32} {len tl sq st : Int32} {r : Nat} {le lo hi pt ea uf op np : Int32} {mem : Nat → Int32} (hM : qM mem) (hL : L 1 = rd (mem (((now 5) + 1) &&& 255).toNatClampNeg) ((now 5) + 1)) (hP : qP now F (sq) (13) (nI (1 + 1)) le len (now 4) op) (hn : ¬ nI (1 + 1) = le ∧ ¬ nI (1 + 1) = len) (k : Fu now L F len (sq) tl (13) (st) r (1 + 1) le lo hi pt ea uf op np mem) : Fu now L F len (sq) tl (13) (st) (r + 1) 1 le lo hi pt ea uf op np mem :=
  fu_c (by decide) hL (qm_r (hM.1 _)) (fun post se la ne co ac lev h => qp_rs2  h) hP hn k
theorem fu_rs3 {now L F : Nat → Int32} {len tl sq st : Int32} {r : Nat} {le lo hi pt ea uf op np : Int32} {mem : Nat → Int32} (hM : qM mem) (hL : L 2 = rd (mem ((256 + (((now 3) + 0) &&& 255)) &&& 255).toNatClampNeg) (256 + (((now 3) + 0) &&& 255))) (hP : qP now F (sq) (13) (nI (2 + 1)) le len (now 4) (mem ((256 + (((now 3) + 0) &&& 255)) &&& 255).toNatClampNeg)) (hn : ¬ nI (2 + 1) = le ∧ ¬ nI (2 + 1) = len) (k : Fu now L F len (sq) tl (13) (st) r (2 + 1) le lo hi pt ea uf (mem ((256 + (((now 3) + 0) &&& 255)) &&& 255).toNatClampNeg) np mem) : Fu now L F len (sq) tl (13) (st) (r + 1) 2 le lo hi pt ea uf op np mem :=
  fu_c (by decide) hL (qm_r (hM.1 _)) (fun post se la ne co ac lev h => qp_rs3  h) hP hn k
theorem fu_rs4 {now L F : Nat → Int32} {len tl sq st : Int32} {r : Nat} {le lo hi pt ea uf op np : Int32} {mem : Nat → Int32} (hM : qM mem) (hL : L 3 = rd (mem ((256 + (((now 3) + 1) &&& 255)) &&& 255).toNatClampNeg) (256 + (((now 3) + 1) &&& 255))) (hP : qP now F (sq) (13) (nI (3 + 1)) le len (now 4) op) (hn : ¬ nI (3 + 1) = le ∧ ¬ nI (3 + 1) = len) (k : Fu now L F len (sq) tl (13) (st) r (3 + 1) le (mem ((256 + (((now 3) + 1) &&& 255)) &&& 255).toNatClampNeg) hi pt ea uf op np mem) : Fu now L F len (sq) tl (13) (st) (r + 1) 3 le lo hi pt ea uf op np mem :=
  fu_c (by decide) hL (qm_r (hM.1 _)) (fun post se la ne co ac lev h => qp_rs4  h) hP hn k
theorem fu_rs5 {now L F : Nat → Int32} {len tl sq st : Int32} {r : Nat} {le lo hi pt ea uf op np : Int32} {mem : Nat → Int32} (hM : qM mem) (hL : L 4 = rd (mem ((256 + (((now 3) + 2) &&& 255)) &&& 255).toNatClampNeg) (256 + (((now 3) + 2) &&& 255))) (hP : qP now F (sq) (13) (nI (4 + 1)) le len (now 4) op) (hn : ¬ nI (4 + 1) = le ∧ ¬ nI (4 + 1) = len) (k : Fu now L F len (sq) tl (13) (st) r (4 + 1) le lo (mem ((256 + (((now 3) + 2) &&& 255)) &&& 255).toNatClampNeg) pt ea uf op np mem) : Fu now L F len (sq) tl (13) (st) (r + 1) 4 le lo hi pt ea uf op np mem :=
  fu_c (by decide) hL (qm_r (hM.1 _)) (fun post se la ne co ac lev h => qp_rs5  h) hP hn k
theorem fu_ri2 {now L F : Nat → Int32} {len tl sq st : Int32} {r : Nat} {le lo hi pt ea uf op np : Int32} {mem : Nat → Int32} (hM : qM mem) (hL : L 1 = rd (mem (((now 5) + 1) &&& 255).toNatClampNeg) ((now 5) + 1)) (hP : qP now F (sq) (14) (nI (1 + 1)) le len (now 4) op) (hn : ¬ nI (1 + 1) = le ∧ ¬ nI (1 + 1) = len) (k : Fu now L F len (sq) tl (14) (st) r (1 + 1) le lo hi pt ea uf op np mem) : Fu now L F len (sq) tl (14) (st) (r + 1) 1 le lo hi pt ea uf op np mem :=
  fu_c (by decide) hL (qm_r (hM.1 _)) (fun post se la ne co ac lev h => qp_ri2  h) hP hn k
theorem fu_ri3 {now L F : Nat → Int32} {len tl sq st : Int32} {r : Nat} {le lo hi pt ea uf op np : Int32} {mem : Nat → Int32} (hM : qM mem) (hL : L 2 = rd (mem ((256 + (((now 3) + 0) &&& 255)) &&& 255).toNatClampNeg) (256 + (((now 3) + 0) &&& 255))) (hP : qP now F (sq) (14) (nI (2 + 1)) le len (now 4) op) (hn : ¬ nI (2 + 1) = le ∧ ¬ nI (2 + 1) = len) (k : Fu now L F len (sq) tl (14) (st) r (2 + 1) le lo hi pt ea uf op np mem) : Fu now L F len (sq) tl (14) (st) (r + 1) 2 le lo hi pt ea uf op np mem :=
  fu_c (by decide) hL (qm_r (hM.1 _)) (fun post se la ne co ac lev h => qp_ri3  h) hP hn k
theorem fu_ri4 {now L F : Nat → Int32} {len tl sq st : Int32} {r : Nat} {le lo hi pt ea uf op np : Int32} {mem : Nat → Int32} (hM : qM mem) (hL : L 3 = rd (mem ((256 + (((now 3) + 1) &&& 255)) &&& 255).toNatClampNeg) (256 + (((now 3) + 1) &&& 255))) (hP : qP now F (sq) (14) (nI (3 + 1)) le len (now 4) (mem ((256 + (((now 3) + 1) &&& 255)) &&& 255).toNatClampNeg)) (hn : ¬ nI (3 + 1) = le ∧ ¬ nI (3 + 1) = len) (k : Fu now L F len (sq) tl (14) (st) r (3 + 1) le lo hi pt ea uf (mem ((256 + (((now 3) + 1) &&& 255)) &&& 255).toNatClampNeg) np mem) : Fu now L F len (sq) tl (14) (st) (r + 1) 3 le lo hi pt ea uf op np mem :=
  fu_c (by decide) hL (qm_r (hM.1 _)) (fun post se la ne co ac lev h => qp_ri4  h) hP hn k
theorem fu_ri5 {now L F : Nat → Int32} {len tl sq st : Int32} {r : Nat} {le lo hi pt ea uf op np : Int32} {mem : Nat → Int32} (hM : qM mem) (hL : L 4 = rd (mem ((256 + (((now 3) + 2) &&& 255)) &&& 255).toNatClampNeg) (256 + (((now 3) + 2) &&& 255))) (hP : qP now F (sq) (14) (nI (4 + 1)) le len (now 4) op) (hn : ¬ nI (4 + 1) = le ∧ ¬ nI (4 + 1) = len) (k : Fu now L F len (sq) tl (14) (st) r (4 + 1) le (mem ((256 + (((now 3) + 2) &&& 255)) &&& 255).toNatClampNeg) hi pt ea uf op np mem) : Fu now L F len (sq) tl (14) (st) (r + 1) 4 le lo hi pt ea uf op np mem :=
  fu_c (by decide) hL (qm_r (hM.1 _)) (fun post se la ne co ac lev h => qp_ri5  h) hP hn k
theorem fe_ri6 {now L F : Nat → Int32} {len tl sq st : Int32} {r : Nat} {le lo hi pt ea uf op np : Int32} {mem : Nat → Int32} (hM : qM mem) (hL : L 5 = rd (mem ((256 + (((now 3) + 3) &&& 255)) &&& 255).toNatClampNeg) (256 + (((now 3) + 3) &&& 255))) (hP : qP now F (sq) (14) (nI (5 + 1)) le len (now 4) op) (hn : nI (5 + 1) = le ∧ nI (5 + 1) = len) (k : qF now F (sq) (nI (5 + 1)) le tl (14) (st) lo (mem ((256 + (((now 3) + 3) &&& 255)) &&& 255).toNatClampNeg) pt ea uf op np (now 4) mem) : Fu now L F len (sq) tl (14) (st) (r + 1) 5 le lo hi pt ea uf op np mem :=
  fu_e (by decide) hL (qm_r (hM.1 _)) (fun post se la ne co ac lev h => qp_ri6  h) hP hn k
theorem fe_rs6 {now L F : Nat → Int32} {len tl sq st : Int32} {r : Nat} {le lo hi pt ea uf op np : Int32} {mem : Nat → Int32} (hM : qM mem) (hL : L 5 = rd (mem ((256 * hi + lo) &&& 255).toNatClampNeg) (256 * hi + lo)) (hP : qP now F (sq) (13) (nI (5 + 1)) le len (now 4) op) (hn : nI (5 + 1) = le ∧ nI (5 + 1) = len) (k : qF now F (sq) (nI (5 + 1)) le tl (13) (st) lo hi pt ea uf op np (now 4) mem) : Fu now L F len (sq) tl (13) (st) (r + 1) 5 le lo hi pt ea uf op np mem :=
  fu_e (by decide) hL (qm_r (hM.1 _)) (fun post se la ne co ac lev h => qp_rs6  h) hP hn k
theorem fu_js2 {now L F : Nat → Int32} {len tl sq st : Int32} {r : Nat} {le lo hi pt ea uf op np : Int32} {mem : Nat → Int32} (hM : qM mem) (hL : L 1 = rd (mem (((now 5) + 1) &&& 255).toNatClampNeg) ((now 5) + 1)) (hP : qP now F (sq) (12) (nI (1 + 1)) le len (now 4) op) (hn : ¬ nI (1 + 1) = le ∧ ¬ nI (1 + 1) = len) (k : Fu now L F len (sq) tl (12) (st) r (1 + 1) le (mem (((now 5) + 1) &&& 255).toNatClampNeg) hi pt ea uf op np mem) : Fu now L F len (sq) tl (12) (st) (r + 1) 1 le lo hi pt ea uf op np mem :=
  fu_c (by decide) hL (qm_r (hM.1 _)) (fun post se la ne co ac lev h => qp_js2  h) hP hn k
theorem fu_js3 {now L F : Nat → Int32} {len tl sq st : Int32} {r : Nat} {le lo hi pt ea uf op np : Int32} {mem : Nat → Int32} (hM : qM mem) (hL : L 2 = rd (mem ((256 + (((now 3) + 0) &&& 255)) &&& 255).toNatClampNeg) (256 + (((now 3) + 0) &&& 255))) (hP : qP now F (sq) (12) (nI (2 + 1)) le len (now 4) op) (hn : ¬ nI (2 + 1) = le ∧ ¬ nI (2 + 1) = len) (k : Fu now L F len (sq) tl (12) (st) r (2 + 1) le lo hi pt ea uf op np mem) : Fu now L F len (sq) tl (12) (st) (r + 1) 2 le lo hi pt ea uf op np mem :=
  fu_c (by decide) hL (qm_r (hM.1 _)) (fun post se la ne co ac lev h => qp_js3  h) hP hn k
theorem fu_js4 {now L F : Nat → Int32} {len tl sq st : Int32} {r : Nat} {le lo hi pt ea uf op np : Int32} {mem : Nat → Int32} (hb : ((((now 5) + 2) &&& 65535) >>> ((8 : Int32) &&& 31)) &&& 255 = ((((now 5) + 2) &&& 65535) >>> ((8 : Int32) &&& 31))) (hL : L 3 = wr ((((now 5) + 2) &&& 65535) >>> ((8 : Int32) &&& 31)) (256 + (((now 3) + 0) &&& 255))) (hP : qP now F (sq) (12) (nI (3 + 1)) le len (now 4) op) (hn : ¬ nI (3 + 1) = le ∧ ¬ nI (3 + 1) = len) (k : Fu now L F len (sq) tl (12) (st) r (3 + 1) le lo hi pt ea uf op np (upd mem ((256 + (((now 3) + 0) &&& 255)) &&& 255).toNatClampNeg ((((now 5) + 2) &&& 65535) >>> ((8 : Int32) &&& 31)))) : Fu now L F len (sq) tl (12) (st) (r + 1) 3 le lo hi pt ea uf op np mem :=
  fu_c (by decide) hL (qm_w (hb)) (fun post se la ne co ac lev h => qp_js4  h) hP hn k
theorem fu_js5 {now L F : Nat → Int32} {len tl sq st : Int32} {r : Nat} {le lo hi pt ea uf op np : Int32} {mem : Nat → Int32} (hb : ((((now 5) + 2) &&& 65535) &&& 255) &&& 255 = ((((now 5) + 2) &&& 65535) &&& 255)) (hL : L 4 = wr ((((now 5) + 2) &&& 65535) &&& 255) (256 + (((now 3) + -1) &&& 255))) (hP : qP now F (sq) (12) (nI (4 + 1)) le len (now 4) op) (hn : ¬ nI (4 + 1) = le ∧ ¬ nI (4 + 1) = len) (k : Fu now L F len (sq) tl (12) (st) r (4 + 1) le lo hi pt ea uf op np (upd mem ((256 + (((now 3) + -1) &&& 255)) &&& 255).toNatClampNeg ((((now 5) + 2) &&& 65535) &&& 255))) : Fu now L F len (sq) tl (12) (st) (r + 1) 4 le lo hi pt ea uf op np mem :=
  fu_c (by decide) hL (qm_w (hb)) (fun post se la ne co ac lev h => qp_js5  h) hP hn k
theorem fe_js6 {now L F : Nat → Int32} {len tl sq st : Int32} {r : Nat} {le lo hi pt ea uf op np : Int32} {mem : Nat → Int32} (hM : qM mem) (hL : L 5 = rd (mem ((((now 5) + 2) &&& 65535) &&& 255).toNatClampNeg) (((now 5) + 2) &&& 65535)) (hP : qP now F (sq) (12) (nI (5 + 1)) le len (now 4) op) (hn : nI (5 + 1) = le ∧ nI (5 + 1) = len) (k : qF now F (sq) (nI (5 + 1)) le tl (12) (st) lo (mem ((((now 5) + 2) &&& 65535) &&& 255).toNatClampNeg) pt ea uf op np (now 4) mem) : Fu now L F len (sq) tl (12) (st) (r + 1) 5 le lo hi pt ea uf op np mem :=
  fu_e (by decide) hL (qm_r (hM.1 _)) (fun post se la ne co ac lev h => qp_js6  h) hP hn k
theorem fu_jm2 {now L F : Nat → Int32} {len tl sq st : Int32} {r : Nat} {le lo hi pt ea uf op np : Int32} {mem : Nat → Int32} (hM : qM mem) (hL : L 1 = rd (mem (((now 5) + 1) &&& 255).toNatClampNeg) ((now 5) + 1)) (hP : qP now F (sq) (15) (nI (1 + 1)) le len (now 4) op) (hn : ¬ nI (1 + 1) = le ∧ ¬ nI (1 + 1) = len) (k : Fu now L F len (sq) tl (15) (st) r (1 + 1) le (mem (((now 5) + 1) &&& 255).toNatClampNeg) hi pt ea uf op np mem) : Fu now L F len (sq) tl (15) (st) (r + 1) 1 le lo hi pt ea uf op np mem :=
  fu_c (by decide) hL (qm_r (hM.1 _)) (fun post se la ne co ac lev h => qp_jm2  h) hP hn k
theorem fe_jm3 {now L F : Nat → Int32} {len tl sq st : Int32} {r : Nat} {le lo hi pt ea uf op np : Int32} {mem : Nat → Int32} (hM : qM mem) (hL : L 2 = rd (mem ((((now 5) + 2) &&& 65535) &&& 255).toNatClampNeg) (((now 5) + 2) &&& 65535)) (hP : qP now F (sq) (15) (nI (2 + 1)) le len (now 4) op) (hn : nI (2 + 1) = le ∧ nI (2 + 1) = len) (k : qF now F (sq) (nI (2 + 1)) le tl (15) (st) lo (mem ((((now 5) + 2) &&& 65535) &&& 255).toNatClampNeg) pt ea uf op np (now 4) mem) : Fu now L F len (sq) tl (15) (st) (r + 1) 2 le lo hi pt ea uf op np mem :=
  fu_e (by decide) hL (qm_r (hM.1 _)) (fun post se la ne co ac lev h => qp_jm3  h) hP hn k
theorem fu_ji2 {now L F : Nat → Int32} {len tl sq st : Int32} {r : Nat} {le lo hi pt ea uf op np : Int32} {mem : Nat → Int32} (hM : qM mem) (hL : L 1 = rd (mem (((now 5) + 1) &&& 255).toNatClampNeg) ((now 5) + 1)) (hP : qP now F (sq) (16) (nI (1 + 1)) le len (now 4) op) (hn : ¬ nI (1 + 1) = le ∧ ¬ nI (1 + 1) = len) (k : Fu now L F len (sq) tl (16) (st) r (1 + 1) le (mem (((now 5) + 1) &&& 255).toNatClampNeg) hi pt ea uf op np mem) : Fu now L F len (sq) tl (16) (st) (r + 1) 1 le lo hi pt ea uf op np mem :=
  fu_c (by decide) hL (qm_r (hM.1 _)) (fun post se la ne co ac lev h => qp_ji2  h) hP hn k
theorem fu_ji3 {now L F : Nat → Int32} {len tl sq st : Int32} {r : Nat} {le lo hi pt ea uf op np : Int32} {mem : Nat → Int32} (hM : qM mem) (hL : L 2 = rd (mem ((((now 5) + 2) &&& 65535) &&& 255).toNatClampNeg) (((now 5) + 2) &&& 65535)) (hP : qP now F (sq) (16) (nI (2 + 1)) le len (now 4) op) (hn : ¬ nI (2 + 1) = le ∧ ¬ nI (2 + 1) = len) (k : Fu now L F len (sq) tl (16) (st) r (2 + 1) le lo (mem ((((now 5) + 2) &&& 65535) &&& 255).toNatClampNeg) pt ea uf op np mem) : Fu now L F len (sq) tl (16) (st) (r + 1) 2 le lo hi pt ea uf op np mem :=
  fu_c (by decide) hL (qm_r (hM.1 _)) (fun post se la ne co ac lev h => qp_ji3  h) hP hn k
theorem fu_ji4 {now L F : Nat → Int32} {len tl sq st : Int32} {r : Nat} {le lo hi pt ea uf op np : Int32} {mem : Nat → Int32} (hM : qM mem) (hL : L 3 = rd (mem ((256 * hi + lo) &&& 255).toNatClampNeg) (256 * hi + lo)) (hP : qP now F (sq) (16) (nI (3 + 1)) le len (now 4) (mem ((256 * hi + lo) &&& 255).toNatClampNeg)) (hn : ¬ nI (3 + 1) = le ∧ ¬ nI (3 + 1) = len) (k : Fu now L F len (sq) tl (16) (st) r (3 + 1) le lo hi pt ea uf (mem ((256 * hi + lo) &&& 255).toNatClampNeg) np mem) : Fu now L F len (sq) tl (16) (st) (r + 1) 3 le lo hi pt ea uf op np mem :=
  fu_c (by decide) hL (qm_r (hM.1 _)) (fun post se la ne co ac lev h => qp_ji4  h) hP hn k
theorem fe_ji5 {now L F : Nat → Int32} {len tl sq st : Int32} {r : Nat} {le lo hi pt ea uf op np : Int32} {mem : Nat → Int32} (hM : qM mem) (hL : L 4 = rd (mem ((256 * hi + ((lo + 1) &&& 255)) &&& 255).toNatClampNeg) (256 * hi + ((lo + 1) &&& 255))) (hP : qP now F (sq) (16) (nI (4 + 1)) le len (now 4) op) (hn : nI (4 + 1) = le ∧ nI (4 + 1) = len) (k : qF now F (sq) (nI (4 + 1)) le tl (16) (st) op (mem ((256 * hi + ((lo + 1) &&& 255)) &&& 255).toNatClampNeg) pt ea uf op np (now 4) mem) : Fu now L F len (sq) tl (16) (st) (r + 1) 4 le lo hi pt ea uf op np mem :=
  fu_e (by decide) hL (qm_r (hM.1 _)) (fun post se la ne co ac lev h => qp_ji5  h) hP hn k
theorem fu_bk2 {now L F : Nat → Int32} {len tl st : Int32} {r : Nat} {le lo hi pt ea uf op np : Int32} {mem : Nat → Int32} (hM : qM mem) (hL : L 1 = rd (mem (((now 5) + 1) &&& 255).toNatClampNeg) ((now 5) + 1)) (hP : qP now F (0) (17) (nI (1 + 1)) le len (now 4) op) (hn : ¬ nI (1 + 1) = le ∧ ¬ nI (1 + 1) = len) (k : Fu now L F len (0) tl (17) (st) r (1 + 1) le lo hi pt ea uf op np mem) : Fu now L F len (0) tl (17) (st) (r + 1) 1 le lo hi pt ea uf op np mem :=
  fu_c (by decide) hL (qm_r (hM.1 _)) (fun post se la ne co ac lev h => qp_bk2  h) hP hn k
theorem fu_bk6 {now L F : Nat → Int32} {len tl st : Int32} {r : Nat} {le lo hi pt ea uf op np : Int32} {mem : Nat → Int32} (hM : qM mem) (hL : L 5 = rd (mem (((65534 : Int32)) &&& 255).toNatClampNeg) 65534) (hP : qP now F (0) (17) (nI (5 + 1)) le len (now 4) op) (hn : ¬ nI (5 + 1) = le ∧ ¬ nI (5 + 1) = len) (k : Fu now L F len (0) tl (17) (st) r (5 + 1) le (mem (((65534 : Int32)) &&& 255).toNatClampNeg) hi pt ea uf op np mem) : Fu now L F len (0) tl (17) (st) (r + 1) 5 le lo hi pt ea uf op np mem :=
  fu_c (by decide) hL (qm_r (hM.1 _)) (fun post se la ne co ac lev h => qp_bk6  h) hP hn k
theorem fe_bk7 {now L F : Nat → Int32} {len tl st : Int32} {r : Nat} {le lo hi pt ea uf op np : Int32} {mem : Nat → Int32} (hM : qM mem) (hL : L 6 = rd (mem (((65534 : Int32) + 1) &&& 255).toNatClampNeg) (65534 + 1)) (hP : qP now F (0) (17) (nI (6 + 1)) le len (now 4) op) (hn : nI (6 + 1) = le ∧ nI (6 + 1) = len) (k : qF now F (0) (nI (6 + 1)) le tl (17) (st) lo (mem (((65534 : Int32) + 1) &&& 255).toNatClampNeg) pt ea uf op np (now 4) mem) : Fu now L F len (0) tl (17) (st) (r + 1) 6 le lo hi pt ea uf op np mem :=
  fu_e (by decide) hL (qm_r (hM.1 _)) (fun post se la ne co ac lev h => qp_bk7  h) hP hn k
theorem fu_bk3 {now L F : Nat → Int32} {len tl st : Int32} {r : Nat} {le lo hi pt ea uf op np : Int32} {mem : Nat → Int32} (hb : ((((now 5) + 2) &&& 65535) >>> ((8 : Int32) &&& 31)) &&& 255 = ((((now 5) + 2) &&& 65535) >>> ((8 : Int32) &&& 31))) (hL : L 2 = wr ((((now 5) + 2) &&& 65535) >>> ((8 : Int32) &&& 31)) (256 + (((now 3) + 0) &&& 255))) (hP : qP now F (0) (17) (nI (2 + 1)) le len (now 4) op) (hn : ¬ nI (2 + 1) = le ∧ ¬ nI (2 + 1) = len) (k : Fu now L F len (0) tl (17) (st) r (2 + 1) le lo hi pt ea uf op np (upd mem ((256 + (((now 3) + 0) &&& 255)) &&& 255).toNatClampNeg ((((now 5) + 2) &&& 65535) >>> ((8 : Int32) &&& 31)))) : Fu now L F len (0) tl (17) (st) (r + 1) 2 le lo hi pt ea uf op np mem :=
  fu_c (by decide) hL (qm_w (hb)) (fun post se la ne co ac lev h => qp_bk3  h) hP hn k
theorem fu_bk4 {now L F : Nat → Int32} {len tl st : Int32} {r : Nat} {le lo hi pt ea uf op np : Int32} {mem : Nat → Int32} (hb : ((((now 5) + 2) &&& 65535) &&& 255) &&& 255 = ((((now 5) + 2) &&& 65535) &&& 255)) (hL : L 3 = wr ((((now 5) + 2) &&& 65535) &&& 255) (256 + (((now 3) + -1) &&& 255))) (hP : qP now F (0) (17) (nI (3 + 1)) le len (now 4) op) (hn : ¬ nI (3 + 1) = le ∧ ¬ nI (3 + 1) = len) (k : Fu now L F len (0) tl (17) (st) r (3 + 1) le lo hi pt ea uf op np (upd mem ((256 + (((now 3) + -1) &&& 255)) &&& 255).toNatClampNeg ((((now 5) + 2) &&& 65535) &&& 255))) : Fu now L F len (0) tl (17) (st) (r + 1) 3 le lo hi pt ea uf op np mem :=
  fu_c (by decide) hL (qm_w (hb)) (fun post se la ne co ac lev h => qp_bk4  h) hP hn k
theorem fu_bk5 {now L F : Nat → Int32} {len tl st : Int32} {r : Nat} {le lo hi pt ea uf op np : Int32} {mem : Nat → Int32} (hp : (now 4) &&& 239 = (now 4)) (hb : ((now 4) + 16) &&& 255 = ((now 4) + 16)) (hL : L 4 = wr ((now 4) + 16) (256 + (((now 3) + -2) &&& 255))) (hP : qP now F (0) (17) (nI (4 + 1)) le len (now 4) op) (hn : ¬ nI (4 + 1) = le ∧ ¬ nI (4 + 1) = len) (k : Fu now L F len (0) tl (17) (st) r (4 + 1) le lo hi pt ea uf op np (upd mem ((256 + (((now 3) + -2) &&& 255)) &&& 255).toNatClampNeg ((now 4) + 16))) : Fu now L F len (0) tl (17) (st) (r + 1) 4 le lo hi pt ea uf op np mem :=
  fu_c (by decide) hL (qm_w (hb)) (fun post se la ne co ac lev h => qp_bk5 hp h) hP hn k
theorem fu_eq2 {now L F : Nat → Int32} {len tl st : Int32} {r : Nat} {le lo hi pt ea uf op np : Int32} {mem : Nat → Int32} (hM : qM mem) (hL : L 1 = rd (mem (((now 5)) &&& 255).toNatClampNeg) (now 5)) (hP : qP now F (257) (19) (nI (1 + 1)) le len (now 4) op) (hn : ¬ nI (1 + 1) = le ∧ ¬ nI (1 + 1) = len) (k : Fu now L F len (257) tl (19) (st) r (1 + 1) le lo hi pt ea uf op np mem) : Fu now L F len (257) tl (19) (st) (r + 1) 1 le lo hi pt ea uf op np mem :=
  fu_c (by decide) hL (qm_r (hM.1 _)) (fun post se la ne co ac lev h => qp_eq2  h) hP hn k
theorem fu_eq6 {now L F : Nat → Int32} {len tl st : Int32} {r : Nat} {le lo hi pt ea uf op np : Int32} {mem : Nat → Int32} (hM : qM mem) (hL : L 5 = rd (mem (((65534 : Int32)) &&& 255).toNatClampNeg) 65534) (hP : qP now F (257) (19) (nI (5 + 1)) le len (now 4) op) (hn : ¬ nI (5 + 1) = le ∧ ¬ nI (5 + 1) = len) (k : Fu now L F len (257) tl (19) (st) r (5 + 1) le (mem (((65534 : Int32)) &&& 255).toNatClampNeg) hi pt ea uf op np mem) : Fu now L F len (257) tl (19) (st) (r + 1) 5 le lo hi pt ea uf op np mem :=
  fu_c (by decide) hL (qm_r (hM.1 _)) (fun post se la ne co ac lev h => qp_eq6  h) hP hn k
theorem fe_eq7 {now L F : Nat → Int32} {len tl st : Int32} {r : Nat} {le lo hi pt ea uf op np : Int32} {mem : Nat → Int32} (hM : qM mem) (hL : L 6 = rd (mem (((65534 : Int32) + 1) &&& 255).toNatClampNeg) (65534 + 1)) (hP : qP now F (257) (19) (nI (6 + 1)) le len (now 4) op) (hn : nI (6 + 1) = le ∧ nI (6 + 1) = len) (k : qF now F (257) (nI (6 + 1)) le tl (19) (st) lo (mem (((65534 : Int32) + 1) &&& 255).toNatClampNeg) pt ea uf op np (now 4) mem) : Fu now L F len (257) tl (19) (st) (r + 1) 6 le lo hi pt ea uf op np mem :=
  fu_e (by decide) hL (qm_r (hM.1 _)) (fun post se la ne co ac lev h => qp_eq7  h) hP hn k
theorem fu_eq3 {now L F : Nat → Int32} {len tl st : Int32} {r : Nat} {le lo hi pt ea uf op np : Int32} {mem : Nat → Int32} (hpc : (now 5) &&& 65535 = (now 5)) (hb : ((now 5) >>> ((8 : Int32) &&& 31)) &&& 255 = ((now 5) >>> ((8 : Int32) &&& 31))) (hL : L 2 = wr ((now 5) >>> ((8 : Int32) &&& 31)) (256 + (((now 3) + 0) &&& 255))) (hP : qP now F (257) (19) (nI (2 + 1)) le len (now 4) op) (hn : ¬ nI (2 + 1) = le ∧ ¬ nI (2 + 1) = len) (k : Fu now L F len (257) tl (19) (st) r (2 + 1) le lo hi pt ea uf op np (upd mem ((256 + (((now 3) + 0) &&& 255)) &&& 255).toNatClampNeg ((now 5) >>> ((8 : Int32) &&& 31)))) : Fu now L F len (257) tl (19) (st) (r + 1) 2 le lo hi pt ea uf op np mem :=
  fu_c (by decide) hL (qm_w (hb)) (fun post se la ne co ac lev h => qp_eq3 hpc h) hP hn k
theorem fu_eq4 {now L F : Nat → Int32} {len tl st : Int32} {r : Nat} {le lo hi pt ea uf op np : Int32} {mem : Nat → Int32} (hb : ((now 5) &&& 255) &&& 255 = ((now 5) &&& 255)) (hL : L 3 = wr ((now 5) &&& 255) (256 + (((now 3) + -1) &&& 255))) (hP : qP now F (257) (19) (nI (3 + 1)) le len (now 4) op) (hn : ¬ nI (3 + 1) = le ∧ ¬ nI (3 + 1) = len) (k : Fu now L F len (257) tl (19) (st) r (3 + 1) le lo hi pt ea uf op np (upd mem ((256 + (((now 3) + -1) &&& 255)) &&& 255).toNatClampNeg ((now 5) &&& 255))) : Fu now L F len (257) tl (19) (st) (r + 1) 3 le lo hi pt ea uf op np mem :=
  fu_c (by decide) hL (qm_w (hb)) (fun post se la ne co ac lev h => qp_eq4  h) hP hn k
theorem fu_eq5 {now L F : Nat → Int32} {len tl st : Int32} {r : Nat} {le lo hi pt ea uf op np : Int32} {mem : Nat → Int32} (hp : (now 4) &&& 239 = (now 4)) (hb : ((now 4)) &&& 255 = ((now 4))) (hL : L 4 = wr ((now 4)) (256 + (((now 3) + -2) &&& 255))) (hP : qP now F (257) (19) (nI (4 + 1)) le len (now 4) op) (hn : ¬ nI (4 + 1) = le ∧ ¬ nI (4 + 1) = len) (k : Fu now L F len (257) tl (19) (st) r (4 + 1) le lo hi pt ea uf op np (upd mem ((256 + (((now 3) + -2) &&& 255)) &&& 255).toNatClampNeg ((now 4)))) : Fu now L F len (257) tl (19) (st) (r + 1) 4 le lo hi pt ea uf op np mem :=
  fu_c (by decide) hL (qm_w (hb)) (fun post se la ne co ac lev h => qp_eq5 hp h) hP hn k
theorem fu_en2 {now L F : Nat → Int32} {len tl st : Int32} {r : Nat} {le lo hi pt ea uf op np : Int32} {mem : Nat → Int32} (hM : qM mem) (hL : L 1 = rd (mem (((now 5)) &&& 255).toNatClampNeg) (now 5)) (hP : qP now F (258) (19) (nI (1 + 1)) le len (now 4) op) (hn : ¬ nI (1 + 1) = le ∧ ¬ nI (1 + 1) = len) (k : Fu now L F len (258) tl (19) (st) r (1 + 1) le lo hi pt ea uf op np mem) : Fu now L F len (258) tl (19) (st) (r + 1) 1 le lo hi pt ea uf op np mem :=
  fu_c (by decide) hL (qm_r (hM.1 _)) (fun post se la ne co ac lev h => qp_en2  h) hP hn k
theorem fu_en6 {now L F : Nat → Int32} {len tl st : Int32} {r : Nat} {le lo hi pt ea uf op np : Int32} {mem : Nat → Int32} (hM : qM mem) (hL : L 5 = rd (mem (((65530 : Int32)) &&& 255).toNatClampNeg) 65530) (hP : qP now F (258) (19) (nI (5 + 1)) le len (now 4) op) (hn : ¬ nI (5 + 1) = le ∧ ¬ nI (5 + 1) = len) (k : Fu now L F len (258) tl (19) (st) r (5 + 1) le (mem (((65530 : Int32)) &&& 255).toNatClampNeg) hi pt ea uf op np mem) : Fu now L F len (258) tl (19) (st) (r + 1) 5 le lo hi pt ea uf op np mem :=
  fu_c (by decide) hL (qm_r (hM.1 _)) (fun post se la ne co ac lev h => qp_en6  h) hP hn k
theorem fe_en7 {now L F : Nat → Int32} {len tl st : Int32} {r : Nat} {le lo hi pt ea uf op np : Int32} {mem : Nat → Int32} (hM : qM mem) (hL : L 6 = rd (mem (((65530 : Int32) + 1) &&& 255).toNatClampNeg) (65530 + 1)) (hP : qP now F (258) (19) (nI (6 + 1)) le len (now 4) op) (hn : nI (6 + 1) = le ∧ nI (6 + 1) = len) (k : qF now F (258) (nI (6 + 1)) le tl (19) (st) lo (mem (((65530 : Int32) + 1) &&& 255).toNatClampNeg) pt ea uf op np (now 4) mem) : Fu now L F len (258) tl (19) (st) (r + 1) 6 le lo hi pt ea uf op np mem :=
  fu_e (by decide) hL (qm_r (hM.1 _)) (fun post se la ne co ac lev h => qp_en7  h) hP hn k
theorem fu_en3 {now L F : Nat → Int32} {len tl st : Int32} {r : Nat} {le lo hi pt ea uf op np : Int32} {mem : Nat → Int32} (hpc : (now 5) &&& 65535 = (now 5)) (hb : ((now 5) >>> ((8 : Int32) &&& 31)) &&& 255 = ((now 5) >>> ((8 : Int32) &&& 31))) (hL : L 2 = wr ((now 5) >>> ((8 : Int32) &&& 31)) (256 + (((now 3) + 0) &&& 255))) (hP : qP now F (258) (19) (nI (2 + 1)) le len (now 4) op) (hn : ¬ nI (2 + 1) = le ∧ ¬ nI (2 + 1) = len) (k : Fu now L F len (258) tl (19) (st) r (2 + 1) le lo hi pt ea uf op np (upd mem ((256 + (((now 3) + 0) &&& 255)) &&& 255).toNatClampNeg ((now 5) >>> ((8 : Int32) &&& 31)))) : Fu now L F len (258) tl (19) (st) (r + 1) 2 le lo hi pt ea uf op np mem :=
  fu_c (by decide) hL (qm_w (hb)) (fun post se la ne co ac lev h => qp_en3 hpc h) hP hn k
theorem fu_en4 {now L F : Nat → Int32} {len tl st : Int32} {r : Nat} {le lo hi pt ea uf op np : Int32} {mem : Nat → Int32} (hb : ((now 5) &&& 255) &&& 255 = ((now 5) &&& 255)) (hL : L 3 = wr ((now 5) &&& 255) (256 + (((now 3) + -1) &&& 255))) (hP : qP now F (258) (19) (nI (3 + 1)) le len (now 4) op) (hn : ¬ nI (3 + 1) = le ∧ ¬ nI (3 + 1) = len) (k : Fu now L F len (258) tl (19) (st) r (3 + 1) le lo hi pt ea uf op np (upd mem ((256 + (((now 3) + -1) &&& 255)) &&& 255).toNatClampNeg ((now 5) &&& 255))) : Fu now L F len (258) tl (19) (st) (r + 1) 3 le lo hi pt ea uf op np mem :=
  fu_c (by decide) hL (qm_w (hb)) (fun post se la ne co ac lev h => qp_en4  h) hP hn k
theorem fu_en5 {now L F : Nat → Int32} {len tl st : Int32} {r : Nat} {le lo hi pt ea uf op np : Int32} {mem : Nat → Int32} (hp : (now 4) &&& 239 = (now 4)) (hb : ((now 4)) &&& 255 = ((now 4))) (hL : L 4 = wr ((now 4)) (256 + (((now 3) + -2) &&& 255))) (hP : qP now F (258) (19) (nI (4 + 1)) le len (now 4) op) (hn : ¬ nI (4 + 1) = le ∧ ¬ nI (4 + 1) = len) (k : Fu now L F len (258) tl (19) (st) r (4 + 1) le lo hi pt ea uf op np (upd mem ((256 + (((now 3) + -2) &&& 255)) &&& 255).toNatClampNeg ((now 4)))) : Fu now L F len (258) tl (19) (st) (r + 1) 4 le lo hi pt ea uf op np mem :=
  fu_c (by decide) hL (qm_w (hb)) (fun post se la ne co ac lev h => qp_en5 hp h) hP hn k
theorem fu_er2 {now L F : Nat → Int32} {len tl st : Int32} {r : Nat} {le lo hi pt ea uf op np : Int32} {mem : Nat → Int32} (hM : qM mem) (hL : L 1 = rd (mem (((now 5)) &&& 255).toNatClampNeg) (now 5)) (hP : qP now F (259) (19) (nI (1 + 1)) le len (now 4) op) (hn : ¬ nI (1 + 1) = le ∧ ¬ nI (1 + 1) = len) (k : Fu now L F len (259) tl (19) (st) r (1 + 1) le lo hi pt ea uf op np mem) : Fu now L F len (259) tl (19) (st) (r + 1) 1 le lo hi pt ea uf op np mem :=
  fu_c (by decide) hL (qm_r (hM.1 _)) (fun post se la ne co ac lev h => qp_er2  h) hP hn k
theorem fu_er6 {now L F : Nat → Int32} {len tl st : Int32} {r : Nat} {le lo hi pt ea uf op np : Int32} {mem : Nat → Int32} (hM : qM mem) (hL : L 5 = rd (mem (((65532 : Int32)) &&& 255).toNatClampNeg) 65532) (hP : qP now F (259) (19) (nI (5 + 1)) le len (now 4) op) (hn : ¬ nI (5 + 1) = le ∧ ¬ nI (5 + 1) = len) (k : Fu now L F len (259) tl (19) (st) r (5 + 1) le (mem (((65532 : Int32)) &&& 255).toNatClampNeg) hi pt ea uf op np mem) : Fu now L F len (259) tl (19) (st) (r + 1) 5 le lo hi pt ea uf op np mem :=
  fu_c (by decide) hL (qm_r (hM.1 _)) (fun post se la ne co ac lev h => qp_er6  h) hP hn k
theorem fe_er7 {now L F : Nat → Int32} {len tl st : Int32} {r : Nat} {le lo hi pt ea uf op np : Int32} {mem : Nat → Int32} (hM : qM mem) (hL : L 6 = rd (mem (((65532 : Int32) + 1) &&& 255).toNatClampNeg) (65532 + 1)) (hP : qP now F (259) (19) (nI (6 + 1)) le len (now 4) op) (hn : nI (6 + 1) = le ∧ nI (6 + 1) = len) (k : qF now F (259) (nI (6 + 1)) le tl (19) (st) lo (mem (((65532 : Int32) + 1) &&& 255).toNatClampNeg) pt ea uf op np (now 4) mem) : Fu now L F len (259) tl (19) (st) (r + 1) 6 le lo hi pt ea uf op np mem :=
  fu_e (by decide) hL (qm_r (hM.1 _)) (fun post se la ne co ac lev h => qp_er7  h) hP hn k
theorem fu_er3 {now L F : Nat → Int32} {len tl st : Int32} {r : Nat} {le lo hi pt ea uf op np : Int32} {mem : Nat → Int32} (hM : qM mem) (hL : L 2 = rd (mem ((256 + (((now 3) + 0) &&& 255)) &&& 255).toNatClampNeg) (256 + (((now 3) + 0) &&& 255))) (hP : qP now F (259) (19) (nI (2 + 1)) le len (now 4) op) (hn : ¬ nI (2 + 1) = le ∧ ¬ nI (2 + 1) = len) (k : Fu now L F len (259) tl (19) (st) r (2 + 1) le lo hi pt ea uf op np mem) : Fu now L F len (259) tl (19) (st) (r + 1) 2 le lo hi pt ea uf op np mem :=
  fu_c (by decide) hL (qm_r (hM.1 _)) (fun post se la ne co ac lev h => qp_er3  h) hP hn k
theorem fu_er4 {now L F : Nat → Int32} {len tl st : Int32} {r : Nat} {le lo hi pt ea uf op np : Int32} {mem : Nat → Int32} (hM : qM mem) (hL : L 3 = rd (mem ((256 + (((now 3) + -1) &&& 255)) &&& 255).toNatClampNeg) (256 + (((now 3) + -1) &&& 255))) (hP : qP now F (259) (19) (nI (3 + 1)) le len (now 4) op) (hn : ¬ nI (3 + 1) = le ∧ ¬ nI (3 + 1) = len) (k : Fu now L F len (259) tl (19) (st) r (3 + 1) le lo hi pt ea uf op np mem) : Fu now L F len (259) tl (19) (st) (r + 1) 3 le lo hi pt ea uf op np mem :=
  fu_c (by decide) hL (qm_r (hM.1 _)) (fun post se la ne co ac lev h => qp_er4  h) hP hn k
theorem fu_er5 {now L F : Nat → Int32} {len tl st : Int32} {r : Nat} {le lo hi pt ea uf op np : Int32} {mem : Nat → Int32} (hM : qM mem) (hL : L 4 = rd (mem ((256 + (((now 3) + -2) &&& 255)) &&& 255).toNatClampNeg) (256 + (((now 3) + -2) &&& 255))) (hP : qP now F (259) (19) (nI (4 + 1)) le len (now 4) op) (hn : ¬ nI (4 + 1) = le ∧ ¬ nI (4 + 1) = len) (k : Fu now L F len (259) tl (19) (st) r (4 + 1) le lo hi pt ea uf op np mem) : Fu now L F len (259) tl (19) (st) (r + 1) 4 le lo hi pt ea uf op np mem :=
  fu_c (by decide) hL (qm_r (hM.1 _)) (fun post se la ne co ac lev h => qp_er5  h) hP hn k
theorem fe_bn2 {now L F : Nat → Int32} {len tl sq st : Int32} {r : Nat} {le lo hi pt ea uf op np : Int32} {mem : Nat → Int32} (ht : qbt sq (now 4) = 0) (hM : qM mem) (hL : L 1 = rd (mem (((now 5) + 1) &&& 255).toNatClampNeg) ((now 5) + 1)) (hP : qP now F (sq) (18) (nI (1 + 1)) le len (now 4) op) (hn : nI (1 + 1) = le ∧ nI (1 + 1) = len) (k : qF now F (sq) (nI (1 + 1)) le tl (18) (st) lo hi pt ea uf op np (now 4) mem) : Fu now L F len (sq) tl (18) (st) (r + 1) 1 le lo hi pt ea uf op np mem :=
  fu_e (by decide) hL (qm_r (hM.1 _)) (fun post se la ne co ac lev h => qp_bn2 ht h) hP hn k
theorem fu_bt2 {now L F : Nat → Int32} {len tl sq st : Int32} {r : Nat} {le lo hi pt ea uf op np : Int32} {mem : Nat → Int32} {le' : Int32} (hq : (if (qbn (((now 5) + 2) &&& 65535) (mem (((now 5) + 1) &&& 255).toNatClampNeg)) >>> ((8 : Int32) &&& 31) = (((now 5) + 2) &&& 65535) >>> ((8 : Int32) &&& 31) then 3 else 4) = le') (ht : ¬ qbt sq (now 4) = 0) (hM : qM mem) (hL : L 1 = rd (mem (((now 5) + 1) &&& 255).toNatClampNeg) ((now 5) + 1)) (hP : qP now F (sq) (18) (nI (1 + 1)) le' len (now 4) op) (hn : ¬ nI (1 + 1) = le' ∧ ¬ nI (1 + 1) = len) (k : Fu now L F len (sq) tl (18) (st) r (1 + 1) le' lo hi pt ea uf op (qbn (((now 5) + 2) &&& 65535) (mem (((now 5) + 1) &&& 255).toNatClampNeg)) mem) : Fu now L F len (sq) tl (18) (st) (r + 1) 1 le lo hi pt ea uf op np mem :=
  fu_c (by decide) hL (qm_r (hM.1 _)) (fun post se la ne co ac lev h => qp_bt2 ht (by rw [hq]; exact h)) hP hn k
theorem fu_b3 {now L F : Nat → Int32} {len tl sq st : Int32} {r : Nat} {le lo hi pt ea uf op np : Int32} {mem : Nat → Int32} (hM : qM mem) (hL : L 2 = rd (mem (((((now 5) + 2) &&& 65535)) &&& 255).toNatClampNeg) (((now 5) + 2) &&& 65535)) (hP : qP now F (sq) (18) (nI (2 + 1)) le len (now 4) op) (hn : ¬ nI (2 + 1) = le ∧ ¬ nI (2 + 1) = len) (k : Fu now L F len (sq) tl (18) (st) r (2 + 1) le lo hi pt ea uf op np mem) : Fu now L F len (sq) tl (18) (st) (r + 1) 2 le lo hi pt ea uf op np mem :=
  fu_c (by decide) hL (qm_r (hM.1 _)) (fun post se la ne co ac lev h => qp_b3  h) hP hn k
theorem fe_b3 {now L F : Nat → Int32} {len tl sq st : Int32} {r : Nat} {le lo hi pt ea uf op np : Int32} {mem : Nat → Int32} (hM : qM mem) (hL : L 2 = rd (mem (((((now 5) + 2) &&& 65535)) &&& 255).toNatClampNeg) (((now 5) + 2) &&& 65535)) (hP : qP now F (sq) (18) (nI (2 + 1)) le len (now 4) op) (hn : nI (2 + 1) = le ∧ nI (2 + 1) = len) (k : qF now F (sq) (nI (2 + 1)) le tl (18) (st) lo hi pt ea uf op np (now 4) mem) : Fu now L F len (sq) tl (18) (st) (r + 1) 2 le lo hi pt ea uf op np mem :=
  fu_e (by decide) hL (qm_r (hM.1 _)) (fun post se la ne co ac lev h => qp_b3  h) hP hn k
theorem fe_b4 {now L F : Nat → Int32} {len tl sq st : Int32} {r : Nat} {le lo hi pt ea uf op np : Int32} {mem : Nat → Int32} (hM : qM mem) (hL : L 3 = rd (mem ((((((now 5) + 2) &&& 65535) &&& 65280) + (np &&& 255)) &&& 255).toNatClampNeg) (((((now 5) + 2) &&& 65535) &&& 65280) + (np &&& 255))) (hP : qP now F (sq) (18) (nI (3 + 1)) le len (now 4) op) (hn : nI (3 + 1) = le ∧ nI (3 + 1) = len) (k : qF now F (sq) (nI (3 + 1)) le tl (18) (st) lo hi pt ea uf op np (now 4) mem) : Fu now L F len (sq) tl (18) (st) (r + 1) 3 le lo hi pt ea uf op np mem :=
  fu_e (by decide) hL (qm_r (hM.1 _)) (fun post se la ne co ac lev h => qp_b4  h) hP hn k
end
section
/-! Y's addressing and the tails of its sequences -/
section
variable {len dn co se la ne sq ac : Int32} {mem work now fin lin log : Nat → Int32}
theorem ya_3 {post : Int32 → SY → Prop} {rf : Int32} (h : post (work ((now 5 + 1) &&& 255).toNatClampNeg) (qy (nI 2) dn co se la ne sq ac mem work now (upd fin 5 ((now 5 + 2) &&& 65535)) lin (upd (log) 1 (rd (work ((now 5 + 1) &&& 255).toNatClampNeg) (now 5 + 1))))) : wpY_address post (qy (nI 1) dn co se la ne sq ac mem work now fin lin log) 3 rf := by
  refine nm_e ?_
  refine br_f (by decide) (br_f (by decide) (br_f (by decide) (?_)))
  unfold wY_address_39
  refine qy_read (by decide) ?_
  refine br_f (by decide) (br_f (by decide) (br_f (by decide) (?_)))
  unfold wY_address_86
  refine And.intro (vp_in_iff.mpr (by decide)) (nm_r (e' := upd fin 5 ((now 5 + 2) &&& 65535)) rfl ?_)
  refine br_t (by decide) (?_)
  exact h
theorem ya_4 {post : Int32 → SY → Prop} {rf : Int32} (h : post (((work ((now 5 + 1) &&& 255).toNatClampNeg) + now 1) &&& 255) (qy (nI 3) dn co se la ne sq ac mem work now (upd fin 5 ((now 5 + 2) &&& 65535)) lin (upd (upd (log) 1 (rd (work ((now 5 + 1) &&& 255).toNatClampNeg) (now 5 + 1))) 2 (rd (work ((work ((now 5 + 1) &&& 255).toNatClampNeg) &&& 255).toNatClampNeg) (work ((now 5 + 1) &&& 255).toNatClampNeg))))) : wpY_address post (qy (nI 1) dn co se la ne sq ac mem work now fin lin log) 4 rf := by
  refine nm_e ?_
  refine br_f (by decide) (br_f (by decide) (br_f (by decide) (?_)))
  unfold wY_address_39
  refine qy_read (by decide) ?_
  refine br_f (by decide) (br_f (by decide) (br_f (by decide) (?_)))
  unfold wY_address_86
  refine And.intro (vp_in_iff.mpr (by decide)) (nm_r (e' := upd fin 5 ((now 5 + 2) &&& 65535)) rfl ?_)
  refine br_f (by decide) (br_t (by decide) (?_))
  unfold wY_address_109
  exact qy_read (by decide) h
theorem ya_5 {post : Int32 → SY → Prop} {rf : Int32} (h : post (((work ((now 5 + 1) &&& 255).toNatClampNeg) + now 2) &&& 255) (qy (nI 3) dn co se la ne sq ac mem work now (upd fin 5 ((now 5 + 2) &&& 65535)) lin (upd (upd (log) 1 (rd (work ((now 5 + 1) &&& 255).toNatClampNeg) (now 5 + 1))) 2 (rd (work ((work ((now 5 + 1) &&& 255).toNatClampNeg) &&& 255).toNatClampNeg) (work ((now 5 + 1) &&& 255).toNatClampNeg))))) : wpY_address post (qy (nI 1) dn co se la ne sq ac mem work now fin lin log) 5 rf := by
  refine nm_e ?_
  refine br_t (by decide) (?_)
  unfold wY_address_24
  unfold wY_address_39
  refine qy_read (by decide) ?_
  refine br_f (by decide) (br_f (by decide) (br_f (by decide) (?_)))
  unfold wY_address_86
  refine And.intro (vp_in_iff.mpr (by decide)) (nm_r (e' := upd fin 5 ((now 5 + 2) &&& 65535)) rfl ?_)
  refine br_f (by decide) (br_f (by decide) (br_t (by decide) (?_)))
  unfold wY_address_109
  exact qy_read (by decide) h
theorem ya_6 {post : Int32 → SY → Prop} {rf : Int32} (h : post (256 * (work ((now 5 + 2) &&& 255).toNatClampNeg) + work ((now 5 + 1) &&& 255).toNatClampNeg) (qy (nI 3) dn co se la ne sq ac mem work now (upd fin 5 ((now 5 + 3) &&& 65535)) lin (upd (upd (log) 1 (rd (work ((now 5 + 1) &&& 255).toNatClampNeg) (now 5 + 1))) 2 (rd (work ((now 5 + 2) &&& 255).toNatClampNeg) (now 5 + 2))))) : wpY_address post (qy (nI 1) dn co se la ne sq ac mem work now fin lin log) 6 rf := by
  refine nm_e ?_
  refine br_f (by decide) (br_f (by decide) (br_f (by decide) (?_)))
  unfold wY_address_39
  refine qy_read (by decide) ?_
  refine br_t (by decide) (?_)
  unfold wY_address_81
  unfold wY_address_86
  refine And.intro (vp_in_iff.mpr (by decide)) (nm_r (e' := upd fin 5 ((now 5 + 3) &&& 65535)) rfl ?_)
  refine br_f (by decide) (br_f (by decide) (br_f (by decide) (br_f (by decide) (br_f (by decide) (?_)))))
  refine qy_read (by decide) ?_
  unfold wY_address_214
  exact br_f (by decide) (br_t (by decide) h)
theorem ya_7n {post : Int32 → SY → Prop} (h : post ((256 * (work ((now 5 + 2) &&& 255).toNatClampNeg) + work ((now 5 + 1) &&& 255).toNatClampNeg + now 1) &&& 65535) (qy (nI 4) dn co se la ne sq ac mem work now (upd fin 5 ((now 5 + 3) &&& 65535)) lin (upd (upd (upd (log) 1 (rd (work ((now 5 + 1) &&& 255).toNatClampNeg) (now 5 + 1))) 2 (rd (work ((now 5 + 2) &&& 255).toNatClampNeg) (now 5 + 2))) 3 (rd (work ((256 * (work ((now 5 + 2) &&& 255).toNatClampNeg) + ((work ((now 5 + 1) &&& 255).toNatClampNeg + now 1) &&& 255)) &&& 255).toNatClampNeg) (256 * (work ((now 5 + 2) &&& 255).toNatClampNeg) + ((work ((now 5 + 1) &&& 255).toNatClampNeg + now 1) &&& 255)))))) : wpY_address post (qy (nI 1) dn co se la ne sq ac mem work now fin lin log) 7 0 := by
  refine nm_e ?_
  refine br_f (by decide) (br_f (by decide) (br_f (by decide) (?_)))
  unfold wY_address_39
  refine qy_read (by decide) ?_
  refine br_f (by decide) (br_t (by decide) (?_))
  unfold wY_address_81
  unfold wY_address_86
  refine And.intro (vp_in_iff.mpr (by decide)) (nm_r (e' := upd fin 5 ((now 5 + 3) &&& 65535)) rfl ?_)
  refine br_f (by decide) (br_f (by decide) (br_f (by decide) (br_f (by decide) (br_f (by decide) (?_)))))
  refine qy_read (by decide) ?_
  unfold wY_address_214
  refine br_f (by decide) (br_f (by decide) (nm_e (nm_e ?_)))
  refine br_t (by decide) ?_
  unfold wY_address_282
  exact qy_read (by decide) h
theorem ya_7e {post : Int32 → SY → Prop} (hu : 256 * (work ((now 5 + 2) &&& 255).toNatClampNeg) + ((work ((now 5 + 1) &&& 255).toNatClampNeg + now 1) &&& 255) = (256 * (work ((now 5 + 2) &&& 255).toNatClampNeg) + work ((now 5 + 1) &&& 255).toNatClampNeg + now 1) &&& 65535) (h : post ((256 * (work ((now 5 + 2) &&& 255).toNatClampNeg) + work ((now 5 + 1) &&& 255).toNatClampNeg + now 1) &&& 65535) (qy (nI 3) dn co se la ne sq ac mem work now (upd fin 5 ((now 5 + 3) &&& 65535)) lin (upd (upd (log) 1 (rd (work ((now 5 + 1) &&& 255).toNatClampNeg) (now 5 + 1))) 2 (rd (work ((now 5 + 2) &&& 255).toNatClampNeg) (now 5 + 2))))) : wpY_address post (qy (nI 1) dn co se la ne sq ac mem work now fin lin log) 7 1 := by
  refine nm_e ?_
  refine br_f (by decide) (br_f (by decide) (br_f (by decide) (?_)))
  unfold wY_address_39
  refine qy_read (by decide) ?_
  refine br_f (by decide) (br_t (by decide) (?_))
  unfold wY_address_81
  unfold wY_address_86
  refine And.intro (vp_in_iff.mpr (by decide)) (nm_r (e' := upd fin 5 ((now 5 + 3) &&& 65535)) rfl ?_)
  refine br_f (by decide) (br_f (by decide) (br_f (by decide) (br_f (by decide) (br_f (by decide) (?_)))))
  refine qy_read (by decide) ?_
  unfold wY_address_214
  refine br_f (by decide) (br_f (by decide) (nm_e (nm_e ?_)))
  exact br_f (by decide) (br_t hu h)
theorem ya_7c {post : Int32 → SY → Prop} (hu : ¬ 256 * (work ((now 5 + 2) &&& 255).toNatClampNeg) + ((work ((now 5 + 1) &&& 255).toNatClampNeg + now 1) &&& 255) = (256 * (work ((now 5 + 2) &&& 255).toNatClampNeg) + work ((now 5 + 1) &&& 255).toNatClampNeg + now 1) &&& 65535) (h : post ((256 * (work ((now 5 + 2) &&& 255).toNatClampNeg) + work ((now 5 + 1) &&& 255).toNatClampNeg + now 1) &&& 65535) (qy (nI 4) dn co se la ne sq ac mem work now (upd fin 5 ((now 5 + 3) &&& 65535)) lin (upd (upd (upd (log) 1 (rd (work ((now 5 + 1) &&& 255).toNatClampNeg) (now 5 + 1))) 2 (rd (work ((now 5 + 2) &&& 255).toNatClampNeg) (now 5 + 2))) 3 (rd (work ((256 * (work ((now 5 + 2) &&& 255).toNatClampNeg) + ((work ((now 5 + 1) &&& 255).toNatClampNeg + now 1) &&& 255)) &&& 255).toNatClampNeg) (256 * (work ((now 5 + 2) &&& 255).toNatClampNeg) + ((work ((now 5 + 1) &&& 255).toNatClampNeg + now 1) &&& 255)))))) : wpY_address post (qy (nI 1) dn co se la ne sq ac mem work now fin lin log) 7 1 := by
  refine nm_e ?_
  refine br_f (by decide) (br_f (by decide) (br_f (by decide) (?_)))
  unfold wY_address_39
  refine qy_read (by decide) ?_
  refine br_f (by decide) (br_t (by decide) (?_))
  unfold wY_address_81
  unfold wY_address_86
  refine And.intro (vp_in_iff.mpr (by decide)) (nm_r (e' := upd fin 5 ((now 5 + 3) &&& 65535)) rfl ?_)
  refine br_f (by decide) (br_f (by decide) (br_f (by decide) (br_f (by decide) (br_f (by decide) (?_)))))
  refine qy_read (by decide) ?_
  unfold wY_address_214
  refine br_f (by decide) (br_f (by decide) (nm_e (nm_e ?_)))
  refine br_f (by decide) (br_f hu ?_)
  unfold wY_address_282
  exact qy_read (by decide) h
theorem ya_8n {post : Int32 → SY → Prop} (h : post ((256 * (work ((now 5 + 2) &&& 255).toNatClampNeg) + work ((now 5 + 1) &&& 255).toNatClampNeg + now 2) &&& 65535) (qy (nI 4) dn co se la ne sq ac mem work now (upd fin 5 ((now 5 + 3) &&& 65535)) lin (upd (upd (upd (log) 1 (rd (work ((now 5 + 1) &&& 255).toNatClampNeg) (now 5 + 1))) 2 (rd (work ((now 5 + 2) &&& 255).toNatClampNeg) (now 5 + 2))) 3 (rd (work ((256 * (work ((now 5 + 2) &&& 255).toNatClampNeg) + ((work ((now 5 + 1) &&& 255).toNatClampNeg + now 2) &&& 255)) &&& 255).toNatClampNeg) (256 * (work ((now 5 + 2) &&& 255).toNatClampNeg) + ((work ((now 5 + 1) &&& 255).toNatClampNeg + now 2) &&& 255)))))) : wpY_address post (qy (nI 1) dn co se la ne sq ac mem work now fin lin log) 8 0 := by
  refine nm_e ?_
  refine br_f (by decide) (br_t (by decide) (?_))
  unfold wY_address_24
  unfold wY_address_39
  refine qy_read (by decide) ?_
  refine br_f (by decide) (br_f (by decide) (br_t (by decide) (?_)))
  unfold wY_address_81
  unfold wY_address_86
  refine And.intro (vp_in_iff.mpr (by decide)) (nm_r (e' := upd fin 5 ((now 5 + 3) &&& 65535)) rfl ?_)
  refine br_f (by decide) (br_f (by decide) (br_f (by decide) (br_f (by decide) (br_f (by decide) (?_)))))
  refine qy_read (by decide) ?_
  unfold wY_address_214
  refine br_f (by decide) (br_f (by decide) (nm_e (nm_e ?_)))
  refine br_t (by decide) ?_
  unfold wY_address_282
  exact qy_read (by decide) h
theorem ya_8e {post : Int32 → SY → Prop} (hu : 256 * (work ((now 5 + 2) &&& 255).toNatClampNeg) + ((work ((now 5 + 1) &&& 255).toNatClampNeg + now 2) &&& 255) = (256 * (work ((now 5 + 2) &&& 255).toNatClampNeg) + work ((now 5 + 1) &&& 255).toNatClampNeg + now 2) &&& 65535) (h : post ((256 * (work ((now 5 + 2) &&& 255).toNatClampNeg) + work ((now 5 + 1) &&& 255).toNatClampNeg + now 2) &&& 65535) (qy (nI 3) dn co se la ne sq ac mem work now (upd fin 5 ((now 5 + 3) &&& 65535)) lin (upd (upd (log) 1 (rd (work ((now 5 + 1) &&& 255).toNatClampNeg) (now 5 + 1))) 2 (rd (work ((now 5 + 2) &&& 255).toNatClampNeg) (now 5 + 2))))) : wpY_address post (qy (nI 1) dn co se la ne sq ac mem work now fin lin log) 8 1 := by
  refine nm_e ?_
  refine br_f (by decide) (br_t (by decide) (?_))
  unfold wY_address_24
  unfold wY_address_39
  refine qy_read (by decide) ?_
  refine br_f (by decide) (br_f (by decide) (br_t (by decide) (?_)))
  unfold wY_address_81
  unfold wY_address_86
  refine And.intro (vp_in_iff.mpr (by decide)) (nm_r (e' := upd fin 5 ((now 5 + 3) &&& 65535)) rfl ?_)
  refine br_f (by decide) (br_f (by decide) (br_f (by decide) (br_f (by decide) (br_f (by decide) (?_)))))
  refine qy_read (by decide) ?_
  unfold wY_address_214
  refine br_f (by decide) (br_f (by decide) (nm_e (nm_e ?_)))
  exact br_f (by decide) (br_t hu h)
theorem ya_8c {post : Int32 → SY → Prop} (hu : ¬ 256 * (work ((now 5 + 2) &&& 255).toNatClampNeg) + ((work ((now 5 + 1) &&& 255).toNatClampNeg + now 2) &&& 255) = (256 * (work ((now 5 + 2) &&& 255).toNatClampNeg) + work ((now 5 + 1) &&& 255).toNatClampNeg + now 2) &&& 65535) (h : post ((256 * (work ((now 5 + 2) &&& 255).toNatClampNeg) + work ((now 5 + 1) &&& 255).toNatClampNeg + now 2) &&& 65535) (qy (nI 4) dn co se la ne sq ac mem work now (upd fin 5 ((now 5 + 3) &&& 65535)) lin (upd (upd (upd (log) 1 (rd (work ((now 5 + 1) &&& 255).toNatClampNeg) (now 5 + 1))) 2 (rd (work ((now 5 + 2) &&& 255).toNatClampNeg) (now 5 + 2))) 3 (rd (work ((256 * (work ((now 5 + 2) &&& 255).toNatClampNeg) + ((work ((now 5 + 1) &&& 255).toNatClampNeg + now 2) &&& 255)) &&& 255).toNatClampNeg) (256 * (work ((now 5 + 2) &&& 255).toNatClampNeg) + ((work ((now 5 + 1) &&& 255).toNatClampNeg + now 2) &&& 255)))))) : wpY_address post (qy (nI 1) dn co se la ne sq ac mem work now fin lin log) 8 1 := by
  refine nm_e ?_
  refine br_f (by decide) (br_t (by decide) (?_))
  unfold wY_address_24
  unfold wY_address_39
  refine qy_read (by decide) ?_
  refine br_f (by decide) (br_f (by decide) (br_t (by decide) (?_)))
  unfold wY_address_81
  unfold wY_address_86
  refine And.intro (vp_in_iff.mpr (by decide)) (nm_r (e' := upd fin 5 ((now 5 + 3) &&& 65535)) rfl ?_)
  refine br_f (by decide) (br_f (by decide) (br_f (by decide) (br_f (by decide) (br_f (by decide) (?_)))))
  refine qy_read (by decide) ?_
  unfold wY_address_214
  refine br_f (by decide) (br_f (by decide) (nm_e (nm_e ?_)))
  refine br_f (by decide) (br_f hu ?_)
  unfold wY_address_282
  exact qy_read (by decide) h
theorem ya_9 {post : Int32 → SY → Prop} {rf : Int32} (h : post (256 * (work (((((work ((now 5 + 1) &&& 255).toNatClampNeg) + now 1) + 1) &&& 255) &&& 255).toNatClampNeg) + work ((((work ((now 5 + 1) &&& 255).toNatClampNeg) + now 1) &&& 255) &&& 255).toNatClampNeg) (qy (nI 5) dn co se la ne sq ac mem work now (upd fin 5 ((now 5 + 2) &&& 65535)) lin (upd (upd (upd (upd (log) 1 (rd (work ((now 5 + 1) &&& 255).toNatClampNeg) (now 5 + 1))) 2 (rd (work ((work ((now 5 + 1) &&& 255).toNatClampNeg) &&& 255).toNatClampNeg) (work ((now 5 + 1) &&& 255).toNatClampNeg))) 3 (rd (work ((((work ((now 5 + 1) &&& 255).toNatClampNeg) + now 1) &&& 255) &&& 255).toNatClampNeg) (((work ((now 5 + 1) &&& 255).toNatClampNeg) + now 1) &&& 255))) 4 (rd (work (((((work ((now 5 + 1) &&& 255).toNatClampNeg) + now 1) + 1) &&& 255) &&& 255).toNatClampNeg) ((((work ((now 5 + 1) &&& 255).toNatClampNeg) + now 1) + 1) &&& 255))))) : wpY_address post (qy (nI 1) dn co se la ne sq ac mem work now fin lin log) 9 rf := by
  refine nm_e ?_
  refine br_f (by decide) (br_f (by decide) (br_f (by decide) (?_)))
  unfold wY_address_39
  refine qy_read (by decide) ?_
  refine br_f (by decide) (br_f (by decide) (br_f (by decide) (?_)))
  unfold wY_address_86
  refine And.intro (vp_in_iff.mpr (by decide)) (nm_r (e' := upd fin 5 ((now 5 + 2) &&& 65535)) rfl ?_)
  refine br_f (by decide) (br_f (by decide) (br_f (by decide) (br_t (by decide) (?_))))
  refine qy_read (by decide) ?_
  refine qy_read (by decide) ?_
  refine qy_read (by decide) ?_
  unfold wY_address_214
  exact br_t (by decide) h
theorem ya_10n {post : Int32 → SY → Prop} (h : post ((256 * (work ((((work ((now 5 + 1) &&& 255).toNatClampNeg) + 1) &&& 255) &&& 255).toNatClampNeg) + work ((work ((now 5 + 1) &&& 255).toNatClampNeg) &&& 255).toNatClampNeg + now 2) &&& 65535) (qy (nI 5) dn co se la ne sq ac mem work now (upd fin 5 ((now 5 + 2) &&& 65535)) lin (upd (upd (upd (upd (log) 1 (rd (work ((now 5 + 1) &&& 255).toNatClampNeg) (now 5 + 1))) 2 (rd (work ((work ((now 5 + 1) &&& 255).toNatClampNeg) &&& 255).toNatClampNeg) (work ((now 5 + 1) &&& 255).toNatClampNeg))) 3 (rd (work ((((work ((now 5 + 1) &&& 255).toNatClampNeg) + 1) &&& 255) &&& 255).toNatClampNeg) (((work ((now 5 + 1) &&& 255).toNatClampNeg) + 1) &&& 255))) 4 (rd (work ((256 * (work ((((work ((now 5 + 1) &&& 255).toNatClampNeg) + 1) &&& 255) &&& 255).toNatClampNeg) + ((work ((work ((now 5 + 1) &&& 255).toNatClampNeg) &&& 255).toNatClampNeg + now 2) &&& 255)) &&& 255).toNatClampNeg) (256 * (work ((((work ((now 5 + 1) &&& 255).toNatClampNeg) + 1) &&& 255) &&& 255).toNatClampNeg) + ((work ((work ((now 5 + 1) &&& 255).toNatClampNeg) &&& 255).toNatClampNeg + now 2) &&& 255)))))) : wpY_address post (qy (nI 1) dn co se la ne sq ac mem work now fin lin log) 10 0 := by
  refine nm_e ?_
  refine br_f (by decide) (br_f (by decide) (br_t (by decide) (?_)))
  unfold wY_address_24
  unfold wY_address_39
  refine qy_read (by decide) ?_
  refine br_f (by decide) (br_f (by decide) (br_f (by decide) (?_)))
  unfold wY_address_86
  refine And.intro (vp_in_iff.mpr (by decide)) (nm_r (e' := upd fin 5 ((now 5 + 2) &&& 65535)) rfl ?_)
  refine br_f (by decide) (br_f (by decide) (br_f (by decide) (br_f (by decide) (br_t (by decide) (?_)))))
  refine qy_read (by decide) ?_
  refine qy_read (by decide) ?_
  unfold wY_address_214
  refine br_f (by decide) (br_f (by decide) (nm_e (nm_e ?_)))
  refine br_t (by decide) ?_
  unfold wY_address_282
  exact qy_read (by decide) h
theorem ya_10e {post : Int32 → SY → Prop} (hu : 256 * (work ((((work ((now 5 + 1) &&& 255).toNatClampNeg) + 1) &&& 255) &&& 255).toNatClampNeg) + ((work ((work ((now 5 + 1) &&& 255).toNatClampNeg) &&& 255).toNatClampNeg + now 2) &&& 255) = (256 * (work ((((work ((now 5 + 1) &&& 255).toNatClampNeg) + 1) &&& 255) &&& 255).toNatClampNeg) + work ((work ((now 5 + 1) &&& 255).toNatClampNeg) &&& 255).toNatClampNeg + now 2) &&& 65535) (h : post ((256 * (work ((((work ((now 5 + 1) &&& 255).toNatClampNeg) + 1) &&& 255) &&& 255).toNatClampNeg) + work ((work ((now 5 + 1) &&& 255).toNatClampNeg) &&& 255).toNatClampNeg + now 2) &&& 65535) (qy (nI 4) dn co se la ne sq ac mem work now (upd fin 5 ((now 5 + 2) &&& 65535)) lin (upd (upd (upd (log) 1 (rd (work ((now 5 + 1) &&& 255).toNatClampNeg) (now 5 + 1))) 2 (rd (work ((work ((now 5 + 1) &&& 255).toNatClampNeg) &&& 255).toNatClampNeg) (work ((now 5 + 1) &&& 255).toNatClampNeg))) 3 (rd (work ((((work ((now 5 + 1) &&& 255).toNatClampNeg) + 1) &&& 255) &&& 255).toNatClampNeg) (((work ((now 5 + 1) &&& 255).toNatClampNeg) + 1) &&& 255))))) : wpY_address post (qy (nI 1) dn co se la ne sq ac mem work now fin lin log) 10 1 := by
  refine nm_e ?_
  refine br_f (by decide) (br_f (by decide) (br_t (by decide) (?_)))
  unfold wY_address_24
  unfold wY_address_39
  refine qy_read (by decide) ?_
  refine br_f (by decide) (br_f (by decide) (br_f (by decide) (?_)))
  unfold wY_address_86
  refine And.intro (vp_in_iff.mpr (by decide)) (nm_r (e' := upd fin 5 ((now 5 + 2) &&& 65535)) rfl ?_)
  refine br_f (by decide) (br_f (by decide) (br_f (by decide) (br_f (by decide) (br_t (by decide) (?_)))))
  refine qy_read (by decide) ?_
  refine qy_read (by decide) ?_
  unfold wY_address_214
  refine br_f (by decide) (br_f (by decide) (nm_e (nm_e ?_)))
  exact br_f (by decide) (br_t hu h)
theorem ya_10c {post : Int32 → SY → Prop} (hu : ¬ 256 * (work ((((work ((now 5 + 1) &&& 255).toNatClampNeg) + 1) &&& 255) &&& 255).toNatClampNeg) + ((work ((work ((now 5 + 1) &&& 255).toNatClampNeg) &&& 255).toNatClampNeg + now 2) &&& 255) = (256 * (work ((((work ((now 5 + 1) &&& 255).toNatClampNeg) + 1) &&& 255) &&& 255).toNatClampNeg) + work ((work ((now 5 + 1) &&& 255).toNatClampNeg) &&& 255).toNatClampNeg + now 2) &&& 65535) (h : post ((256 * (work ((((work ((now 5 + 1) &&& 255).toNatClampNeg) + 1) &&& 255) &&& 255).toNatClampNeg) + work ((work ((now 5 + 1) &&& 255).toNatClampNeg) &&& 255).toNatClampNeg + now 2) &&& 65535) (qy (nI 5) dn co se la ne sq ac mem work now (upd fin 5 ((now 5 + 2) &&& 65535)) lin (upd (upd (upd (upd (log) 1 (rd (work ((now 5 + 1) &&& 255).toNatClampNeg) (now 5 + 1))) 2 (rd (work ((work ((now 5 + 1) &&& 255).toNatClampNeg) &&& 255).toNatClampNeg) (work ((now 5 + 1) &&& 255).toNatClampNeg))) 3 (rd (work ((((work ((now 5 + 1) &&& 255).toNatClampNeg) + 1) &&& 255) &&& 255).toNatClampNeg) (((work ((now 5 + 1) &&& 255).toNatClampNeg) + 1) &&& 255))) 4 (rd (work ((256 * (work ((((work ((now 5 + 1) &&& 255).toNatClampNeg) + 1) &&& 255) &&& 255).toNatClampNeg) + ((work ((work ((now 5 + 1) &&& 255).toNatClampNeg) &&& 255).toNatClampNeg + now 2) &&& 255)) &&& 255).toNatClampNeg) (256 * (work ((((work ((now 5 + 1) &&& 255).toNatClampNeg) + 1) &&& 255) &&& 255).toNatClampNeg) + ((work ((work ((now 5 + 1) &&& 255).toNatClampNeg) &&& 255).toNatClampNeg + now 2) &&& 255)))))) : wpY_address post (qy (nI 1) dn co se la ne sq ac mem work now fin lin log) 10 1 := by
  refine nm_e ?_
  refine br_f (by decide) (br_f (by decide) (br_t (by decide) (?_)))
  unfold wY_address_24
  unfold wY_address_39
  refine qy_read (by decide) ?_
  refine br_f (by decide) (br_f (by decide) (br_f (by decide) (?_)))
  unfold wY_address_86
  refine And.intro (vp_in_iff.mpr (by decide)) (nm_r (e' := upd fin 5 ((now 5 + 2) &&& 65535)) rfl ?_)
  refine br_f (by decide) (br_f (by decide) (br_f (by decide) (br_f (by decide) (br_t (by decide) (?_)))))
  refine qy_read (by decide) ?_
  refine qy_read (by decide) ?_
  unfold wY_address_214
  refine br_f (by decide) (br_f (by decide) (nm_e (nm_e ?_)))
  refine br_f (by decide) (br_f hu ?_)
  unfold wY_address_282
  exact qy_read (by decide) h
theorem yo_s {post : SY → Prop} {w k z e : Int32} {n : Nat} (hn : n < 8) (h : post (qy (nI (n + 1)) dn co se la ne sq ac mem (upd work (e &&& 255).toNatClampNeg (qsv k (now 0) (now 1) (now 2))) now fin lin (upd log n (wr (qsv k (now 0) (now 1) (now 2)) e)))) : wY_operate_146 post w k 1 z e (nI n) dn co se la ne sq ac mem work now fin lin log := by
  unfold wY_operate_146
  refine br_f (by decide) ?_
  unfold qsv at h
  by_cases c : k = 1
  · simp only [if_pos c] at h
    refine br_t c ?_
    unfold wY_operate_190
    exact qy_write hn h
  · simp only [if_neg c] at h
    refine br_f c ?_
    by_cases d : k = 2
    · simp only [if_pos d] at h
      refine br_t d ?_
      unfold wY_operate_190
      exact qy_write hn h
    · simp only [if_neg d] at h
      refine br_f d ?_
      unfold wY_operate_190
      exact qy_write hn h
theorem yo_r {post : SY → Prop} {F : Nat → Int32} {w k e q m : Int32} {n : Nat} (hn : n < 8)
    (hJ : ∀ (post : SY → Prop) (len dn co se la ne sq ac : Int32) (mem work lin log : Nat → Int32), post (qy len dn co se la ne sq ac mem work now F lin log) → wpY_compute post (qy len dn co se la ne sq ac mem work now (upd now 5 q) lin log) w k m)
    (hm : work (e &&& 255).toNatClampNeg = m)
    (h : post (qy (nI (n + 1)) dn co se la ne sq ac mem work now F lin (upd log n (rd (work (e &&& 255).toNatClampNeg) e)))) : wY_operate_146 post w k 0 0 e (nI n) dn co se la ne sq ac mem work now (upd now 5 q) lin log := by
  subst hm
  unfold wY_operate_146
  refine br_t (by decide) ?_
  refine qy_read hn ?_
  refine br_t (by decide) ?_
  exact hJ _ _ _ _ _ _ _ _ _ _ _ _ _ h
theorem yo_m {post : SY → Prop} {w k e m : Int32} {n : Nat} (hn : n + 2 < 8) (hf : fin 4 = now 4) (hc : w = 0 ∨ w = 1 ∨ w = 2 ∨ w = 3 ∨ w = 6 ∨ w = 7) (hm : work (e &&& 255).toNatClampNeg = m) (h : post (qy (nI (n + 3)) dn co se la ne sq ac mem (upd (upd work (e &&& 255).toNatClampNeg m) (e &&& 255).toNatClampNeg (qmv w (now 4) m &&& 255)) now (upd fin 4 (qmp w (now 4) m)) lin (upd (upd (upd log n (rd m e)) (n + 1) (wr m e)) (n + 2) (wr (qmv w (now 4) m &&& 255) e)))) : wY_operate_146 post w k 0 1 e (nI n) dn co se la ne sq ac mem work now fin lin log := by
  subst hm
  unfold wY_operate_146
  refine br_t (by decide) ?_
  refine qy_read (by omega) ?_
  refine br_f (by decide) ?_
  refine qy_write (by omega) ?_
  refine qy_modify hf hc ?_
  exact qy_write (by omega) h
theorem yp_mem {post : SY → Prop} {o M ST MD : Int32} (hy : qym o = M) (h0 : ¬ M = 0) (hst : (if o >>> ((5 : Int32) &&& 31) = 4 then (1 : Int32) else 0) = ST) (hmd : qyd (o >>> ((5 : Int32) &&& 31)) (o &&& 3) = MD) (h : wY_operate_50 post M (o >>> ((5 : Int32) &&& 31)) (o &&& 3) (now 5) ST MD len dn co se la ne o ac mem work now fin lin log) : wY_plan_95 post 0 (now 5) o o len dn co se la ne sq ac mem work now fin lin log := by
  unfold wY_plan_95
  refine qy_mode ?_
  rw [hy]
  refine br_t (by decide) (br_f h0 ?_)
  exact qy_oper hst hmd h
end
/-- the whole of a sequence at its beginning -/
def Bg (now mem lg : Nat → Int32) (ne o sq lo hi pt ea uf op : Int32) : Prop := ∃ (le tl mo st np len : Int32) (L F work' : Nat → Int32) (r : Nat),
  (∀ (post : SX → Prop) (se la co ac sq0 le0 tl0 mo0 st0 np0 : Int32) (lev : Nat → Int32), post (qx (now 0) (now 1) (now 2) (now 3) (now 4) (now 5) se la 0 co (rd o (now 5)) sq (nI 1) le tl mo st lo hi pt ea uf op np mem lev) → wpX_begin post (qx (now 0) (now 1) (now 2) (now 3) (now 4) (now 5) se la ne co ac sq0 (nI 1) le0 tl0 mo0 st0 lo hi pt ea uf op np0 mem lev)) ∧
  (∀ (post : SY → Prop) (co se la sq0 ac : Int32) (lin : Nat → Int32), post (qy len 0 co se la 0 sq ac mem work' now F lin L) → wY_plan_95 post ne (now 5) o sq (nI 1) 0 co se la 0 sq0 ac mem mem now now lin (upd lg 0 (rd o (now 5)))) ∧
  L 0 = rd o (now 5) ∧ qR F ∧ (∀ i, 256 ≤ i → work' i = 0) ∧ qP now F sq mo (nI 1) le len (now 4) op ∧ (¬ nI 1 = le ∧ ¬ nI 1 = len) ∧
  Fu now L F len sq tl mo st r 1 le lo hi pt ea uf op np mem
/-- ends of sequences in X -/
theorem qnp_m {mo np hi lo : Int32} (h13 : ¬ mo = 13) (h12 : mo < 12) : qnp mo np hi lo = np := by
  unfold qnp
  rw [if_neg h13, if_pos h12]
def qMd (mo : Int32) : Prop := (¬ mo = 0 ∧ ¬ mo = 11 ∧ ¬ mo = 14 ∧ ¬ mo = 17) ∧ (¬ mo = 19 ∧ ¬ 9 < mo ∧ ¬ mo = 13 ∧ mo < 12) ∧ qsc mo = 0
theorem qf_rd {now F : Nat → Int32} {sq dn le mo lo hi pt ea uf m np n : Int32} {mem : Nat → Int32} (hmd : qMd mo) (hs : ¬ sq = 104) (hR : now 3 &&& 255 = now 3) (h3 : F 3 = now 3) (h5 : F 5 = n) (hn : np &&& 65535 = n)
    (hX : ∀ (post : SX → Prop) (se la ne co ac dn le tl mo st lo hi pt ea uf np : Int32) (mem lev : Nat → Int32), post (qx (F 0) (F 1) (F 2) (now 3) (F 4) (now 5) se la ne co ac sq dn le tl mo st lo hi pt ea uf m np mem lev) → wpX_operate post (qx (now 0) (now 1) (now 2) (now 3) (now 4) (now 5) se la ne co ac sq dn le tl mo st lo hi pt ea uf m np mem lev)) : qF now F sq dn le 1 mo 0 lo hi pt ea uf m np (now 4) mem := by
  obtain ⟨⟨c0, c11, c14, c17⟩, ⟨c19, c9, c13, c12⟩, cs⟩ := hmd
  intro post se la ne co ac lev h
  rw [qnp_m c13 c12] at h
  unfold wpX_finish
  refine br_f c0 (br_f hs (br_f c11 (br_f c14 (br_f c17 (br_f c19 (br_f c9 (br_t (by decide) (br_t (by decide) ?_))))))))
  refine hX _ _ _ _ _ _ _ _ _ _ _ _ _ _ _ _ _ _ _ ?_
  refine qf_129 (N := np) (C := 0) (qnp_m c13 c12) cs ?_
  rw [Int32.add_zero, hR, hn, ← h3, ← h5]
  exact h
theorem qf_no {now F : Nat → Int32} {sq dn le tl mo st lo hi pt ea uf op np p : Int32} {mem : Nat → Int32} (hmd : qMd mo) (hs : ¬ sq = 104) (ht : ¬ st = 0 ∨ (st = 0 ∧ ¬ tl = 1)) (hR : now 3 &&& 255 = now 3) (h0 : F 0 = now 0) (h1 : F 1 = now 1) (h2 : F 2 = now 2) (h3 : F 3 = now 3) (h4 : F 4 = p) (h5 : F 5 = np &&& 65535) : qF now F sq dn le tl mo st lo hi pt ea uf op np p mem := by
  obtain ⟨⟨c0, c11, c14, c17⟩, ⟨c19, c9, c13, c12⟩, cs⟩ := hmd
  intro post se la ne co ac lev h
  rw [qnp_m c13 c12] at h
  have k : wX_finish_129 post 0 1 2 3 4 5 6 7 8 9 10 11 12 13 14 15 16 17 18 19 1 2 4 8 64 128 (now 0) (now 1) (now 2) (now 3) p (now 5) se la ne co ac sq dn le tl mo st lo hi pt ea uf op np mem lev := by
    refine qf_129 (N := np) (C := 0) (qnp_m c13 c12) cs ?_
    rw [Int32.add_zero, hR, ← h0, ← h1, ← h2, ← h3, ← h4, ← h5]
    exact h
  unfold wpX_finish
  refine br_f c0 (br_f hs (br_f c11 (br_f c14 (br_f c17 (br_f c19 (br_f c9 ?_))))))
  rcases ht with e | ⟨e, f⟩
  · exact br_f e k
  · exact br_t e (br_f f k)
end
section
/-! sequences that address memory -/
theorem qst_n {w : Int32} (h : ¬ w = 4) : qst w 1 = 0 := by
  unfold qst
  rw [if_neg (by decide), if_neg h]
theorem qlf_n {le st tl U E : Int32} (h : ¬ st = 0 ∨ ¬ tl = 1) : qlf le st tl U E = le := by
  unfold qlf
  by_cases c : U = E
  · rw [if_pos c]
  · rw [if_neg c]
    by_cases d : st = 0
    · rw [if_pos d]
      by_cases e : tl = 1
      · exact absurd e (h.resolve_left (fun z => z d))
      · rw [if_neg e]
    · rw [if_neg d]
theorem qlf_e {le st tl U E : Int32} (h : U = E) : qlf le st tl U E = le := by
  unfold qlf
  rw [if_pos h]
theorem qlf_c {le U E : Int32} (h : ¬ U = E) : qlf le 0 1 U E = le + 1 := by
  unfold qlf
  rw [if_neg h, if_pos rfl, if_pos rfl]
theorem q_hl0 {h l : Int32} (hh : h &&& 255 = h) (hl : l &&& 255 = l) : (256 * h + l + 0) &&& 65535 = 256 * h + l := by
  rw [Int32.add_zero]
  exact qb_hl hh hl
theorem q_hl1 {h l : Int32} (hh : h &&& 255 = h) (hl : l &&& 255 = l) : 256 * h + ((l + 0) &&& 255) = (256 * h + l + 0) &&& 65535 := by
  rw [q_hl0 hh hl, Int32.add_zero, hl]
theorem bg_2r {now mem lg : Nat → Int32} {o lo hi pt ea uf op : Int32} (hR : qR now) (hM : qM mem) (ho : mem (now 5 &&& 255).toNatClampNeg = o) (hx : qxm o = 2) (hy : qym o = 3) (hO : qOr o 2) (h68 : ¬ o = 104) (hw : ¬ (o >>> ((5 : Int32) &&& 31)) = 4) (hmd : qmd o (o >>> ((5 : Int32) &&& 31)) 1 = 0) (hyd : qyd (o >>> ((5 : Int32) &&& 31)) (o &&& 3) = 0) (hOO : qO (o >>> ((5 : Int32) &&& 31)) (o &&& 3)) : Bg now mem lg 0 o o lo hi pt ea uf op := by
  obtain ⟨F, hRF, h3, h5, hX, hYJ⟩ := qJ_all (m := mem ((mem ((now 5 + 1) &&& 255).toNatClampNeg) &&& 255).toNatClampNeg) (n := (now 5 + 2) &&& 65535) hR (hM.1 _) (qb_64 _) hOO
  refine ⟨3, 1, 2, 0, now 5 + 2, nI 3, upd (upd (upd lg 0 (rd o (now 5))) 1 (rd (mem ((now 5 + 1) &&& 255).toNatClampNeg) (now 5 + 1))) 2 (rd (mem ((mem ((now 5 + 1) &&& 255).toNatClampNeg) &&& 255).toNatClampNeg) (mem ((now 5 + 1) &&& 255).toNatClampNeg)), F, mem, 7, ?_, ?_, rfl, hRF, hM.2, (qP_o hO (by decide) (fun _ => rfl)), ⟨by decide, by decide⟩, ?_⟩
  · intro post se la co ac sq0 le0 tl0 mo0 st0 np0 lev h
    exact qb_op (MD := 0) ho hx (by rw [show qmf 2 = 1 from by decide]; exact qst_n hw) (by rw [show qmf 2 = 1 from by decide]; exact hmd) (by decide) (by decide) (by decide) h
  · intro post co se la sq0 ac lin h
    refine yp_mem hy (by decide) (if_neg hw) hyd ?_
    unfold wY_operate_50
    refine br_f (by decide) (nm_e (br_f (by decide) (br_t (by decide) (br_t (by decide) ?_))))
    unfold wY_operate_141
    refine ya_3 ?_
    exact yo_r (by decide) hYJ rfl h
  · refine fu_m2 (by decide) (by decide) (by decide) hM rfl (qP_o hO (by decide) (fun _ => rfl)) ⟨by decide, by decide⟩ ?_
    exact fe_tr ⟨by decide, by decide⟩ (by decide) (by decide) (by decide) hM rfl (qP_o hO (by decide) (fun _ => rfl)) ⟨by decide, by decide⟩ (qf_rd (by unfold qMd; decide) h68 hR.1.2.2.2 h3 h5 rfl hX)
theorem bg_2s {now mem lg : Nat → Int32} {o lo hi pt ea uf op : Int32} (hR : qR now) (hM : qM mem) (ho : mem (now 5 &&& 255).toNatClampNeg = o) (hx : qxm o = 2) (hy : qym o = 3) (hO : qOr o 2) (h68 : ¬ o = 104) (hw : (o >>> ((5 : Int32) &&& 31)) = 4) (hmd : qmd o (o >>> ((5 : Int32) &&& 31)) 1 = 0) (hyd : qyd (o >>> ((5 : Int32) &&& 31)) (o &&& 3) = 0) (hst : qst (o >>> ((5 : Int32) &&& 31)) 1 = 1) : Bg now mem lg 0 o o lo hi pt ea uf op := by
  have hb : qsv (o &&& 3) (now 0) (now 1) (now 2) &&& 255 = qsv (o &&& 3) (now 0) (now 1) (now 2) := qsv_b hR.1.1 hR.1.2.1 hR.1.2.2.1
  refine ⟨3, 1, 2, 1, now 5 + 2, nI 3, upd (upd (upd lg 0 (rd o (now 5))) 1 (rd (mem ((now 5 + 1) &&& 255).toNatClampNeg) (now 5 + 1))) 2 (wr (qsv (o &&& 3) (now 0) (now 1) (now 2)) (mem ((now 5 + 1) &&& 255).toNatClampNeg)), upd now 5 ((now 5 + 2) &&& 65535), upd mem ((mem ((now 5 + 1) &&& 255).toNatClampNeg) &&& 255).toNatClampNeg (qsv (o &&& 3) (now 0) (now 1) (now 2)), 7, ?_, ?_, rfl, qR_5 hR (qb_64 _), (qM_u (mem ((now 5 + 1) &&& 255).toNatClampNeg) hM hb).2, (qP_o hO (by decide) (fun _ => rfl)), ⟨by decide, by decide⟩, ?_⟩
  · intro post se la co ac sq0 le0 tl0 mo0 st0 np0 lev h
    exact qb_op (MD := 0) ho hx (by rw [show qmf 2 = 1 from by decide]; exact hst) (by rw [show qmf 2 = 1 from by decide]; exact hmd) (by decide) (by decide) (by decide) h
  · intro post co se la sq0 ac lin h
    refine yp_mem hy (by decide) (if_pos hw) hyd ?_
    unfold wY_operate_50
    refine br_f (by decide) (nm_e (br_f (by decide) (br_f (by decide) ?_)))
    unfold wY_operate_140
    unfold wY_operate_141
    refine ya_3 ?_
    exact yo_s (by decide) h
  · refine fu_m2 (by decide) (by decide) (by decide) hM rfl (qP_o hO (by decide) (fun _ => rfl)) ⟨by decide, by decide⟩ ?_
    exact fe_ts ⟨by decide, by decide⟩ (by decide) (by decide) (by decide) hR.1.1 hR.1.2.1 hR.1.2.2.1 hb rfl (qP_o hO (by decide) (fun _ => rfl)) ⟨by decide, by decide⟩ (qf_no (by unfold qMd; decide) h68 (by decide) hR.1.2.2.2 rfl rfl rfl rfl rfl rfl)
theorem bg_2m {now mem lg : Nat → Int32} {o lo hi pt ea uf op : Int32} (hR : qR now) (hM : qM mem) (ho : mem (now 5 &&& 255).toNatClampNeg = o) (hx : qxm o = 2) (hy : qym o = 3) (hO : qOr o 2) (h68 : ¬ o = 104) (hw : ¬ (o >>> ((5 : Int32) &&& 31)) = 4) (hmd : qmd o (o >>> ((5 : Int32) &&& 31)) 1 = 1) (hyd : qyd (o >>> ((5 : Int32) &&& 31)) (o &&& 3) = 1) (hc : (o >>> ((5 : Int32) &&& 31)) = 0 ∨ (o >>> ((5 : Int32) &&& 31)) = 1 ∨ (o >>> ((5 : Int32) &&& 31)) = 2 ∨ (o >>> ((5 : Int32) &&& 31)) = 3 ∨ (o >>> ((5 : Int32) &&& 31)) = 6 ∨ (o >>> ((5 : Int32) &&& 31)) = 7) : Bg now mem lg 0 o o lo hi pt ea uf op := by
  refine ⟨5, 3, 2, 0, now 5 + 2, nI 5, upd (upd (upd (upd (upd lg 0 (rd o (now 5))) 1 (rd (mem ((now 5 + 1) &&& 255).toNatClampNeg) (now 5 + 1))) 2 (rd (mem ((mem ((now 5 + 1) &&& 255).toNatClampNeg) &&& 255).toNatClampNeg) (mem ((now 5 + 1) &&& 255).toNatClampNeg))) 3 (wr (mem ((mem ((now 5 + 1) &&& 255).toNatClampNeg) &&& 255).toNatClampNeg) (mem ((now 5 + 1) &&& 255).toNatClampNeg))) 4 (wr (qmv (o >>> ((5 : Int32) &&& 31)) (now 4) (mem ((mem ((now 5 + 1) &&& 255).toNatClampNeg) &&& 255).toNatClampNeg) &&& 255) (mem ((now 5 + 1) &&& 255).toNatClampNeg)), upd (upd now 5 ((now 5 + 2) &&& 65535)) 4 (qmp (o >>> ((5 : Int32) &&& 31)) (now 4) (mem ((mem ((now 5 + 1) &&& 255).toNatClampNeg) &&& 255).toNatClampNeg)), upd (upd mem ((mem ((now 5 + 1) &&& 255).toNatClampNeg) &&& 255).toNatClampNeg (mem ((mem ((now 5 + 1) &&& 255).toNatClampNeg) &&& 255).toNatClampNeg)) ((mem ((now 5 + 1) &&& 255).toNatClampNeg) &&& 255).toNatClampNeg (qmv (o >>> ((5 : Int32) &&& 31)) (now 4) (mem ((mem ((now 5 + 1) &&& 255).toNatClampNeg) &&& 255).toNatClampNeg) &&& 255), 7, ?_, ?_, rfl, qR_4 (qR_5 hR (qb_64 _)) (qmp_p _ _ hR.2.1.1), (qM_u (mem ((now 5 + 1) &&& 255).toNatClampNeg) (qM_u (mem ((now 5 + 1) &&& 255).toNatClampNeg) hM (hM.1 _)) (qb_and _)).2, (qP_o hO (by decide) (fun _ => rfl)), ⟨by decide, by decide⟩, ?_⟩
  · intro post se la co ac sq0 le0 tl0 mo0 st0 np0 lev h
    exact qb_op (MD := 1) ho hx (by rw [show qmf 2 = 1 from by decide]; exact qst_n hw) (by rw [show qmf 2 = 1 from by decide]; exact hmd) (by decide) (by decide) (by decide) h
  · intro post co se la sq0 ac lin h
    refine yp_mem hy (by decide) (if_neg hw) hyd ?_
    unfold wY_operate_50
    refine br_f (by decide) (nm_e (br_f (by decide) (br_t (by decide) (br_f (by decide) ?_))))
    unfold wY_operate_140
    unfold wY_operate_141
    refine ya_3 ?_
    exact yo_m (by decide) rfl hc rfl h
  · refine fu_m2 (by decide) (by decide) (by decide) hM rfl (qP_o hO (by decide) (fun _ => rfl)) ⟨by decide, by decide⟩ ?_
    refine fu_tr ⟨by decide, by decide⟩ (by decide) (by decide) (by decide) hM rfl (qP_o hO (by decide) (fun _ => rfl)) ⟨by decide, by decide⟩ ?_
    refine fu_t2 ⟨by decide, by decide⟩ (by decide) (by decide) (by decide) (hM.1 _) (hM.1 _) rfl (qP_o hO (by decide) (fun _ => rfl)) ⟨by decide, by decide⟩ ?_
    exact fe_t3 ⟨by decide, by decide⟩ (by decide) (by decide) (by decide) (hM.1 _) hR.2.1.1 rfl hc (qb_and _) rfl (qP_o hO (by decide) (fun z => absurd z (by decide))) ⟨by decide, by decide⟩ (qf_no (by unfold qMd; decide) h68 (by decide) hR.1.2.2.2 rfl rfl rfl rfl rfl rfl)
theorem bg_3r {now mem lg : Nat → Int32} {o lo hi pt ea uf op : Int32} (hR : qR now) (hM : qM mem) (ho : mem (now 5 &&& 255).toNatClampNeg = o) (hx : qxm o = 3) (hy : qym o = 4) (hO : qOr o 3) (h68 : ¬ o = 104) (hw : ¬ (o >>> ((5 : Int32) &&& 31)) = 4) (hmd : qmd o (o >>> ((5 : Int32) &&& 31)) 1 = 0) (hyd : qyd (o >>> ((5 : Int32) &&& 31)) (o &&& 3) = 0) (hOO : qO (o >>> ((5 : Int32) &&& 31)) (o &&& 3)) : Bg now mem lg 0 o o lo hi pt ea uf op := by
  obtain ⟨F, hRF, h3, h5, hX, hYJ⟩ := qJ_all (m := mem ((((mem ((now 5 + 1) &&& 255).toNatClampNeg) + now 1) &&& 255) &&& 255).toNatClampNeg) (n := (now 5 + 2) &&& 65535) hR (hM.1 _) (qb_64 _) hOO
  refine ⟨4, 1, 3, 0, now 5 + 2, nI 4, upd (upd (upd (upd lg 0 (rd o (now 5))) 1 (rd (mem ((now 5 + 1) &&& 255).toNatClampNeg) (now 5 + 1))) 2 (rd (mem ((mem ((now 5 + 1) &&& 255).toNatClampNeg) &&& 255).toNatClampNeg) (mem ((now 5 + 1) &&& 255).toNatClampNeg))) 3 (rd (mem ((((mem ((now 5 + 1) &&& 255).toNatClampNeg) + now 1) &&& 255) &&& 255).toNatClampNeg) (((mem ((now 5 + 1) &&& 255).toNatClampNeg) + now 1) &&& 255)), F, mem, 7, ?_, ?_, rfl, hRF, hM.2, (qP_o hO (by decide) (fun _ => rfl)), ⟨by decide, by decide⟩, ?_⟩
  · intro post se la co ac sq0 le0 tl0 mo0 st0 np0 lev h
    exact qb_op (MD := 0) ho hx (by rw [show qmf 3 = 1 from by decide]; exact qst_n hw) (by rw [show qmf 3 = 1 from by decide]; exact hmd) (by decide) (by decide) (by decide) h
  · intro post co se la sq0 ac lin h
    refine yp_mem hy (by decide) (if_neg hw) hyd ?_
    unfold wY_operate_50
    refine br_f (by decide) (nm_e (br_f (by decide) (br_t (by decide) (br_t (by decide) ?_))))
    unfold wY_operate_141
    refine ya_4 ?_
    exact yo_r (by decide) hYJ rfl h
  · refine fu_m2 (by decide) (by decide) (by decide) hM rfl (qP_o hO (by decide) (fun _ => rfl)) ⟨by decide, by decide⟩ ?_
    refine fu_z3 (by decide) hM rfl (qP_o hO (by decide) (fun _ => rfl)) ⟨by decide, by decide⟩ ?_
    exact fe_tr ⟨by decide, by decide⟩ (by decide) (by decide) (by decide) hM rfl (qP_o hO (by decide) (fun _ => rfl)) ⟨by decide, by decide⟩ (qf_rd (by unfold qMd; decide) h68 hR.1.2.2.2 h3 h5 rfl hX)
theorem bg_3s {now mem lg : Nat → Int32} {o lo hi pt ea uf op : Int32} (hR : qR now) (hM : qM mem) (ho : mem (now 5 &&& 255).toNatClampNeg = o) (hx : qxm o = 3) (hy : qym o = 4) (hO : qOr o 3) (h68 : ¬ o = 104) (hw : (o >>> ((5 : Int32) &&& 31)) = 4) (hmd : qmd o (o >>> ((5 : Int32) &&& 31)) 1 = 0) (hyd : qyd (o >>> ((5 : Int32) &&& 31)) (o &&& 3) = 0) (hst : qst (o >>> ((5 : Int32) &&& 31)) 1 = 1) : Bg now mem lg 0 o o lo hi pt ea uf op := by
  have hb : qsv (o &&& 3) (now 0) (now 1) (now 2) &&& 255 = qsv (o &&& 3) (now 0) (now 1) (now 2) := qsv_b hR.1.1 hR.1.2.1 hR.1.2.2.1
  refine ⟨4, 1, 3, 1, now 5 + 2, nI 4, upd (upd (upd (upd lg 0 (rd o (now 5))) 1 (rd (mem ((now 5 + 1) &&& 255).toNatClampNeg) (now 5 + 1))) 2 (rd (mem ((mem ((now 5 + 1) &&& 255).toNatClampNeg) &&& 255).toNatClampNeg) (mem ((now 5 + 1) &&& 255).toNatClampNeg))) 3 (wr (qsv (o &&& 3) (now 0) (now 1) (now 2)) (((mem ((now 5 + 1) &&& 255).toNatClampNeg) + now 1) &&& 255)), upd now 5 ((now 5 + 2) &&& 65535), upd mem ((((mem ((now 5 + 1) &&& 255).toNatClampNeg) + now 1) &&& 255) &&& 255).toNatClampNeg (qsv (o &&& 3) (now 0) (now 1) (now 2)), 7, ?_, ?_, rfl, qR_5 hR (qb_64 _), (qM_u (((mem ((now 5 + 1) &&& 255).toNatClampNeg) + now 1) &&& 255) hM hb).2, (qP_o hO (by decide) (fun _ => rfl)), ⟨by decide, by decide⟩, ?_⟩
  · intro post se la co ac sq0 le0 tl0 mo0 st0 np0 lev h
    exact qb_op (MD := 0) ho hx (by rw [show qmf 3 = 1 from by decide]; exact hst) (by rw [show qmf 3 = 1 from by decide]; exact hmd) (by decide) (by decide) (by decide) h
  · intro post co se la sq0 ac lin h
    refine yp_mem hy (by decide) (if_pos hw) hyd ?_
    unfold wY_operate_50
    refine br_f (by decide) (nm_e (br_f (by decide) (br_f (by decide) ?_)))
    unfold wY_operate_140
    unfold wY_operate_141
    refine ya_4 ?_
    exact yo_s (by decide) h
  · refine fu_m2 (by decide) (by decide) (by decide) hM rfl (qP_o hO (by decide) (fun _ => rfl)) ⟨by decide, by decide⟩ ?_
    refine fu_z3 (by decide) hM rfl (qP_o hO (by decide) (fun _ => rfl)) ⟨by decide, by decide⟩ ?_
    exact fe_ts ⟨by decide, by decide⟩ (by decide) (by decide) (by decide) hR.1.1 hR.1.2.1 hR.1.2.2.1 hb rfl (qP_o hO (by decide) (fun _ => rfl)) ⟨by decide, by decide⟩ (qf_no (by unfold qMd; decide) h68 (by decide) hR.1.2.2.2 rfl rfl rfl rfl rfl rfl)
theorem bg_3m {now mem lg : Nat → Int32} {o lo hi pt ea uf op : Int32} (hR : qR now) (hM : qM mem) (ho : mem (now 5 &&& 255).toNatClampNeg = o) (hx : qxm o = 3) (hy : qym o = 4) (hO : qOr o 3) (h68 : ¬ o = 104) (hw : ¬ (o >>> ((5 : Int32) &&& 31)) = 4) (hmd : qmd o (o >>> ((5 : Int32) &&& 31)) 1 = 1) (hyd : qyd (o >>> ((5 : Int32) &&& 31)) (o &&& 3) = 1) (hc : (o >>> ((5 : Int32) &&& 31)) = 0 ∨ (o >>> ((5 : Int32) &&& 31)) = 1 ∨ (o >>> ((5 : Int32) &&& 31)) = 2 ∨ (o >>> ((5 : Int32) &&& 31)) = 3 ∨ (o >>> ((5 : Int32) &&& 31)) = 6 ∨ (o >>> ((5 : Int32) &&& 31)) = 7) : Bg now mem lg 0 o o lo hi pt ea uf op := by
  refine ⟨6, 3, 3, 0, now 5 + 2, nI 6, upd (upd (upd (upd (upd (upd lg 0 (rd o (now 5))) 1 (rd (mem ((now 5 + 1) &&& 255).toNatClampNeg) (now 5 + 1))) 2 (rd (mem ((mem ((now 5 + 1) &&& 255).toNatClampNeg) &&& 255).toNatClampNeg) (mem ((now 5 + 1) &&& 255).toNatClampNeg))) 3 (rd (mem ((((mem ((now 5 + 1) &&& 255).toNatClampNeg) + now 1) &&& 255) &&& 255).toNatClampNeg) (((mem ((now 5 + 1) &&& 255).toNatClampNeg) + now 1) &&& 255))) 4 (wr (mem ((((mem ((now 5 + 1) &&& 255).toNatClampNeg) + now 1) &&& 255) &&& 255).toNatClampNeg) (((mem ((now 5 + 1) &&& 255).toNatClampNeg) + now 1) &&& 255))) 5 (wr (qmv (o >>> ((5 : Int32) &&& 31)) (now 4) (mem ((((mem ((now 5 + 1) &&& 255).toNatClampNeg) + now 1) &&& 255) &&& 255).toNatClampNeg) &&& 255) (((mem ((now 5 + 1) &&& 255).toNatClampNeg) + now 1) &&& 255)), upd (upd now 5 ((now 5 + 2) &&& 65535)) 4 (qmp (o >>> ((5 : Int32) &&& 31)) (now 4) (mem ((((mem ((now 5 + 1) &&& 255).toNatClampNeg) + now 1) &&& 255) &&& 255).toNatClampNeg)), upd (upd mem ((((mem ((now 5 + 1) &&& 255).toNatClampNeg) + now 1) &&& 255) &&& 255).toNatClampNeg (mem ((((mem ((now 5 + 1) &&& 255).toNatClampNeg) + now 1) &&& 255) &&& 255).toNatClampNeg)) ((((mem ((now 5 + 1) &&& 255).toNatClampNeg) + now 1) &&& 255) &&& 255).toNatClampNeg (qmv (o >>> ((5 : Int32) &&& 31)) (now 4) (mem ((((mem ((now 5 + 1) &&& 255).toNatClampNeg) + now 1) &&& 255) &&& 255).toNatClampNeg) &&& 255), 7, ?_, ?_, rfl, qR_4 (qR_5 hR (qb_64 _)) (qmp_p _ _ hR.2.1.1), (qM_u (((mem ((now 5 + 1) &&& 255).toNatClampNeg) + now 1) &&& 255) (qM_u (((mem ((now 5 + 1) &&& 255).toNatClampNeg) + now 1) &&& 255) hM (hM.1 _)) (qb_and _)).2, (qP_o hO (by decide) (fun _ => rfl)), ⟨by decide, by decide⟩, ?_⟩
  · intro post se la co ac sq0 le0 tl0 mo0 st0 np0 lev h
    exact qb_op (MD := 1) ho hx (by rw [show qmf 3 = 1 from by decide]; exact qst_n hw) (by rw [show qmf 3 = 1 from by decide]; exact hmd) (by decide) (by decide) (by decide) h
  · intro post co se la sq0 ac lin h
    refine yp_mem hy (by decide) (if_neg hw) hyd ?_
    unfold wY_operate_50
    refine br_f (by decide) (nm_e (br_f (by decide) (br_t (by decide) (br_f (by decide) ?_))))
    unfold wY_operate_140
    unfold wY_operate_141
    refine ya_4 ?_
    exact yo_m (by decide) rfl hc rfl h
  · refine fu_m2 (by decide) (by decide) (by decide) hM rfl (qP_o hO (by decide) (fun _ => rfl)) ⟨by decide, by decide⟩ ?_
    refine fu_z3 (by decide) hM rfl (qP_o hO (by decide) (fun _ => rfl)) ⟨by decide, by decide⟩ ?_
    refine fu_tr ⟨by decide, by decide⟩ (by decide) (by decide) (by decide) hM rfl (qP_o hO (by decide) (fun _ => rfl)) ⟨by decide, by decide⟩ ?_
    refine fu_t2 ⟨by decide, by decide⟩ (by decide) (by decide) (by decide) (hM.1 _) (hM.1 _) rfl (qP_o hO (by decide) (fun _ => rfl)) ⟨by decide, by decide⟩ ?_
    exact fe_t3 ⟨by decide, by decide⟩ (by decide) (by decide) (by decide) (hM.1 _) hR.2.1.1 rfl hc (qb_and _) rfl (qP_o hO (by decide) (fun z => absurd z (by decide))) ⟨by decide, by decide⟩ (qf_no (by unfold qMd; decide) h68 (by decide) hR.1.2.2.2 rfl rfl rfl rfl rfl rfl)
theorem bg_4r {now mem lg : Nat → Int32} {o lo hi pt ea uf op : Int32} (hR : qR now) (hM : qM mem) (ho : mem (now 5 &&& 255).toNatClampNeg = o) (hx : qxm o = 4) (hy : qym o = 5) (hO : qOr o 4) (h68 : ¬ o = 104) (hw : ¬ (o >>> ((5 : Int32) &&& 31)) = 4) (hmd : qmd o (o >>> ((5 : Int32) &&& 31)) 1 = 0) (hyd : qyd (o >>> ((5 : Int32) &&& 31)) (o &&& 3) = 0) (hOO : qO (o >>> ((5 : Int32) &&& 31)) (o &&& 3)) : Bg now mem lg 0 o o lo hi pt ea uf op := by
  obtain ⟨F, hRF, h3, h5, hX, hYJ⟩ := qJ_all (m := mem ((((mem ((now 5 + 1) &&& 255).toNatClampNeg) + now 2) &&& 255) &&& 255).toNatClampNeg) (n := (now 5 + 2) &&& 65535) hR (hM.1 _) (qb_64 _) hOO
  refine ⟨4, 1, 4, 0, now 5 + 2, nI 4, upd (upd (upd (upd lg 0 (rd o (now 5))) 1 (rd (mem ((now 5 + 1) &&& 255).toNatClampNeg) (now 5 + 1))) 2 (rd (mem ((mem ((now 5 + 1) &&& 255).toNatClampNeg) &&& 255).toNatClampNeg) (mem ((now 5 + 1) &&& 255).toNatClampNeg))) 3 (rd (mem ((((mem ((now 5 + 1) &&& 255).toNatClampNeg) + now 2) &&& 255) &&& 255).toNatClampNeg) (((mem ((now 5 + 1) &&& 255).toNatClampNeg) + now 2) &&& 255)), F, mem, 7, ?_, ?_, rfl, hRF, hM.2, (qP_o hO (by decide) (fun _ => rfl)), ⟨by decide, by decide⟩, ?_⟩
  · intro post se la co ac sq0 le0 tl0 mo0 st0 np0 lev h
    exact qb_op (MD := 0) ho hx (by rw [show qmf 4 = 1 from by decide]; exact qst_n hw) (by rw [show qmf 4 = 1 from by decide]; exact hmd) (by decide) (by decide) (by decide) h
  · intro post co se la sq0 ac lin h
    refine yp_mem hy (by decide) (if_neg hw) hyd ?_
    unfold wY_operate_50
    refine br_f (by decide) (nm_e (br_f (by decide) (br_t (by decide) (br_t (by decide) ?_))))
    unfold wY_operate_141
    refine ya_5 ?_
    exact yo_r (by decide) hYJ rfl h
  · refine fu_m2 (by decide) (by decide) (by decide) hM rfl (qP_o hO (by decide) (fun _ => rfl)) ⟨by decide, by decide⟩ ?_
    refine fu_z4 (by decide) hM rfl (qP_o hO (by decide) (fun _ => rfl)) ⟨by decide, by decide⟩ ?_
    exact fe_tr ⟨by decide, by decide⟩ (by decide) (by decide) (by decide) hM rfl (qP_o hO (by decide) (fun _ => rfl)) ⟨by decide, by decide⟩ (qf_rd (by unfold qMd; decide) h68 hR.1.2.2.2 h3 h5 rfl hX)
theorem bg_4s {now mem lg : Nat → Int32} {o lo hi pt ea uf op : Int32} (hR : qR now) (hM : qM mem) (ho : mem (now 5 &&& 255).toNatClampNeg = o) (hx : qxm o = 4) (hy : qym o = 5) (hO : qOr o 4) (h68 : ¬ o = 104) (hw : (o >>> ((5 : Int32) &&& 31)) = 4) (hmd : qmd o (o >>> ((5 : Int32) &&& 31)) 1 = 0) (hyd : qyd (o >>> ((5 : Int32) &&& 31)) (o &&& 3) = 0) (hst : qst (o >>> ((5 : Int32) &&& 31)) 1 = 1) : Bg now mem lg 0 o o lo hi pt ea uf op := by
  have hb : qsv (o &&& 3) (now 0) (now 1) (now 2) &&& 255 = qsv (o &&& 3) (now 0) (now 1) (now 2) := qsv_b hR.1.1 hR.1.2.1 hR.1.2.2.1
  refine ⟨4, 1, 4, 1, now 5 + 2, nI 4, upd (upd (upd (upd lg 0 (rd o (now 5))) 1 (rd (mem ((now 5 + 1) &&& 255).toNatClampNeg) (now 5 + 1))) 2 (rd (mem ((mem ((now 5 + 1) &&& 255).toNatClampNeg) &&& 255).toNatClampNeg) (mem ((now 5 + 1) &&& 255).toNatClampNeg))) 3 (wr (qsv (o &&& 3) (now 0) (now 1) (now 2)) (((mem ((now 5 + 1) &&& 255).toNatClampNeg) + now 2) &&& 255)), upd now 5 ((now 5 + 2) &&& 65535), upd mem ((((mem ((now 5 + 1) &&& 255).toNatClampNeg) + now 2) &&& 255) &&& 255).toNatClampNeg (qsv (o &&& 3) (now 0) (now 1) (now 2)), 7, ?_, ?_, rfl, qR_5 hR (qb_64 _), (qM_u (((mem ((now 5 + 1) &&& 255).toNatClampNeg) + now 2) &&& 255) hM hb).2, (qP_o hO (by decide) (fun _ => rfl)), ⟨by decide, by decide⟩, ?_⟩
  · intro post se la co ac sq0 le0 tl0 mo0 st0 np0 lev h
    exact qb_op (MD := 0) ho hx (by rw [show qmf 4 = 1 from by decide]; exact hst) (by rw [show qmf 4 = 1 from by decide]; exact hmd) (by decide) (by decide) (by decide) h
  · intro post co se la sq0 ac lin h
    refine yp_mem hy (by decide) (if_pos hw) hyd ?_
    unfold wY_operate_50
    refine br_f (by decide) (nm_e (br_f (by decide) (br_f (by decide) ?_)))
    unfold wY_operate_140
    unfold wY_operate_141
    refine ya_5 ?_
    exact yo_s (by decide) h
  · refine fu_m2 (by decide) (by decide) (by decide) hM rfl (qP_o hO (by decide) (fun _ => rfl)) ⟨by decide, by decide⟩ ?_
    refine fu_z4 (by decide) hM rfl (qP_o hO (by decide) (fun _ => rfl)) ⟨by decide, by decide⟩ ?_
    exact fe_ts ⟨by decide, by decide⟩ (by decide) (by decide) (by decide) hR.1.1 hR.1.2.1 hR.1.2.2.1 hb rfl (qP_o hO (by decide) (fun _ => rfl)) ⟨by decide, by decide⟩ (qf_no (by unfold qMd; decide) h68 (by decide) hR.1.2.2.2 rfl rfl rfl rfl rfl rfl)
theorem bg_5r {now mem lg : Nat → Int32} {o lo hi pt ea uf op : Int32} (hR : qR now) (hM : qM mem) (ho : mem (now 5 &&& 255).toNatClampNeg = o) (hx : qxm o = 5) (hy : qym o = 6) (hO : qOr o 5) (h68 : ¬ o = 104) (hw : ¬ (o >>> ((5 : Int32) &&& 31)) = 4) (hmd : qmd o (o >>> ((5 : Int32) &&& 31)) 1 = 0) (hyd : qyd (o >>> ((5 : Int32) &&& 31)) (o &&& 3) = 0) (hOO : qO (o >>> ((5 : Int32) &&& 31)) (o &&& 3)) : Bg now mem lg 0 o o lo hi pt ea uf op := by
  obtain ⟨F, hRF, h3, h5, hX, hYJ⟩ := qJ_all (m := mem ((256 * (mem ((now 5 + 2) &&& 255).toNatClampNeg) + mem ((now 5 + 1) &&& 255).toNatClampNeg) &&& 255).toNatClampNeg) (n := (now 5 + 3) &&& 65535) hR (hM.1 _) (qb_64 _) hOO
  refine ⟨4, 1, 5, 0, now 5 + 3, nI 4, upd (upd (upd (upd lg 0 (rd o (now 5))) 1 (rd (mem ((now 5 + 1) &&& 255).toNatClampNeg) (now 5 + 1))) 2 (rd (mem ((now 5 + 2) &&& 255).toNatClampNeg) (now 5 + 2))) 3 (rd (mem ((256 * (mem ((now 5 + 2) &&& 255).toNatClampNeg) + mem ((now 5 + 1) &&& 255).toNatClampNeg) &&& 255).toNatClampNeg) (256 * (mem ((now 5 + 2) &&& 255).toNatClampNeg) + mem ((now 5 + 1) &&& 255).toNatClampNeg)), F, mem, 7, ?_, ?_, rfl, hRF, hM.2, (qP_o hO (by decide) (fun _ => rfl)), ⟨by decide, by decide⟩, ?_⟩
  · intro post se la co ac sq0 le0 tl0 mo0 st0 np0 lev h
    exact qb_op (MD := 0) ho hx (by rw [show qmf 5 = 1 from by decide]; exact qst_n hw) (by rw [show qmf 5 = 1 from by decide]; exact hmd) (by decide) (by decide) (by decide) h
  · intro post co se la sq0 ac lin h
    refine yp_mem hy (by decide) (if_neg hw) hyd ?_
    unfold wY_operate_50
    refine br_f (by decide) (nm_e (br_f (by decide) (br_t (by decide) (br_t (by decide) ?_))))
    unfold wY_operate_141
    refine ya_6 ?_
    exact yo_r (by decide) hYJ rfl h
  · refine fu_m2 (by decide) (by decide) (by decide) hM rfl (qP_o hO (by decide) (fun _ => rfl)) ⟨by decide, by decide⟩ ?_
    refine fu_a5 (qlf_e (q_hl1 (hM.1 _) (hM.1 _))) (by decide) hM rfl (qP_o hO (by decide) (fun _ => rfl)) ⟨by decide, by decide⟩ ?_
    rw [q_hl0 (hM.1 _) (hM.1 _)]
    exact fe_tr ⟨by decide, by decide⟩ (by decide) (by decide) (by decide) hM rfl (qP_o hO (by decide) (fun _ => rfl)) ⟨by decide, by decide⟩ (qf_rd (by unfold qMd; decide) h68 hR.1.2.2.2 h3 h5 rfl hX)
theorem bg_5s {now mem lg : Nat → Int32} {o lo hi pt ea uf op : Int32} (hR : qR now) (hM : qM mem) (ho : mem (now 5 &&& 255).toNatClampNeg = o) (hx : qxm o = 5) (hy : qym o = 6) (hO : qOr o 5) (h68 : ¬ o = 104) (hw : (o >>> ((5 : Int32) &&& 31)) = 4) (hmd : qmd o (o >>> ((5 : Int32) &&& 31)) 1 = 0) (hyd : qyd (o >>> ((5 : Int32) &&& 31)) (o &&& 3) = 0) (hst : qst (o >>> ((5 : Int32) &&& 31)) 1 = 1) : Bg now mem lg 0 o o lo hi pt ea uf op := by
  have hb : qsv (o &&& 3) (now 0) (now 1) (now 2) &&& 255 = qsv (o &&& 3) (now 0) (now 1) (now 2) := qsv_b hR.1.1 hR.1.2.1 hR.1.2.2.1
  refine ⟨4, 1, 5, 1, now 5 + 3, nI 4, upd (upd (upd (upd lg 0 (rd o (now 5))) 1 (rd (mem ((now 5 + 1) &&& 255).toNatClampNeg) (now 5 + 1))) 2 (rd (mem ((now 5 + 2) &&& 255).toNatClampNeg) (now 5 + 2))) 3 (wr (qsv (o &&& 3) (now 0) (now 1) (now 2)) (256 * (mem ((now 5 + 2) &&& 255).toNatClampNeg) + mem ((now 5 + 1) &&& 255).toNatClampNeg)), upd now 5 ((now 5 + 3) &&& 65535), upd mem ((256 * (mem ((now 5 + 2) &&& 255).toNatClampNeg) + mem ((now 5 + 1) &&& 255).toNatClampNeg) &&& 255).toNatClampNeg (qsv (o &&& 3) (now 0) (now 1) (now 2)), 7, ?_, ?_, rfl, qR_5 hR (qb_64 _), (qM_u (256 * (mem ((now 5 + 2) &&& 255).toNatClampNeg) + mem ((now 5 + 1) &&& 255).toNatClampNeg) hM hb).2, (qP_o hO (by decide) (fun _ => rfl)), ⟨by decide, by decide⟩, ?_⟩
  · intro post se la co ac sq0 le0 tl0 mo0 st0 np0 lev h
    exact qb_op (MD := 0) ho hx (by rw [show qmf 5 = 1 from by decide]; exact hst) (by rw [show qmf 5 = 1 from by decide]; exact hmd) (by decide) (by decide) (by decide) h
  · intro post co se la sq0 ac lin h
    refine yp_mem hy (by decide) (if_pos hw) hyd ?_
    unfold wY_operate_50
    refine br_f (by decide) (nm_e (br_f (by decide) (br_f (by decide) ?_)))
    unfold wY_operate_140
    unfold wY_operate_141
    refine ya_6 ?_
    exact yo_s (by decide) h
  · refine fu_m2 (by decide) (by decide) (by decide) hM rfl (qP_o hO (by decide) (fun _ => rfl)) ⟨by decide, by decide⟩ ?_
    refine fu_a5 (qlf_e (q_hl1 (hM.1 _) (hM.1 _))) (by decide) hM rfl (qP_o hO (by decide) (fun _ => rfl)) ⟨by decide, by decide⟩ ?_
    rw [q_hl0 (hM.1 _) (hM.1 _)]
    exact fe_ts ⟨by decide, by decide⟩ (by decide) (by decide) (by decide) hR.1.1 hR.1.2.1 hR.1.2.2.1 hb rfl (qP_o hO (by decide) (fun _ => rfl)) ⟨by decide, by decide⟩ (qf_no (by unfold qMd; decide) h68 (by decide) hR.1.2.2.2 rfl rfl rfl rfl rfl rfl)
theorem bg_5m {now mem lg : Nat → Int32} {o lo hi pt ea uf op : Int32} (hR : qR now) (hM : qM mem) (ho : mem (now 5 &&& 255).toNatClampNeg = o) (hx : qxm o = 5) (hy : qym o = 6) (hO : qOr o 5) (h68 : ¬ o = 104) (hw : ¬ (o >>> ((5 : Int32) &&& 31)) = 4) (hmd : qmd o (o >>> ((5 : Int32) &&& 31)) 1 = 1) (hyd : qyd (o >>> ((5 : Int32) &&& 31)) (o &&& 3) = 1) (hc : (o >>> ((5 : Int32) &&& 31)) = 0 ∨ (o >>> ((5 : Int32) &&& 31)) = 1 ∨ (o >>> ((5 : Int32) &&& 31)) = 2 ∨ (o >>> ((5 : Int32) &&& 31)) = 3 ∨ (o >>> ((5 : Int32) &&& 31)) = 6 ∨ (o >>> ((5 : Int32) &&& 31)) = 7) : Bg now mem lg 0 o o lo hi pt ea uf op := by
  refine ⟨6, 3, 5, 0, now 5 + 3, nI 6, upd (upd (upd (upd (upd (upd lg 0 (rd o (now 5))) 1 (rd (mem ((now 5 + 1) &&& 255).toNatClampNeg) (now 5 + 1))) 2 (rd (mem ((now 5 + 2) &&& 255).toNatClampNeg) (now 5 + 2))) 3 (rd (mem ((256 * (mem ((now 5 + 2) &&& 255).toNatClampNeg) + mem ((now 5 + 1) &&& 255).toNatClampNeg) &&& 255).toNatClampNeg) (256 * (mem ((now 5 + 2) &&& 255).toNatClampNeg) + mem ((now 5 + 1) &&& 255).toNatClampNeg))) 4 (wr (mem ((256 * (mem ((now 5 + 2) &&& 255).toNatClampNeg) + mem ((now 5 + 1) &&& 255).toNatClampNeg) &&& 255).toNatClampNeg) (256 * (mem ((now 5 + 2) &&& 255).toNatClampNeg) + mem ((now 5 + 1) &&& 255).toNatClampNeg))) 5 (wr (qmv (o >>> ((5 : Int32) &&& 31)) (now 4) (mem ((256 * (mem ((now 5 + 2) &&& 255).toNatClampNeg) + mem ((now 5 + 1) &&& 255).toNatClampNeg) &&& 255).toNatClampNeg) &&& 255) (256 * (mem ((now 5 + 2) &&& 255).toNatClampNeg) + mem ((now 5 + 1) &&& 255).toNatClampNeg)), upd (upd now 5 ((now 5 + 3) &&& 65535)) 4 (qmp (o >>> ((5 : Int32) &&& 31)) (now 4) (mem ((256 * (mem ((now 5 + 2) &&& 255).toNatClampNeg) + mem ((now 5 + 1) &&& 255).toNatClampNeg) &&& 255).toNatClampNeg)), upd (upd mem ((256 * (mem ((now 5 + 2) &&& 255).toNatClampNeg) + mem ((now 5 + 1) &&& 255).toNatClampNeg) &&& 255).toNatClampNeg (mem ((256 * (mem ((now 5 + 2) &&& 255).toNatClampNeg) + mem ((now 5 + 1) &&& 255).toNatClampNeg) &&& 255).toNatClampNeg)) ((256 * (mem ((now 5 + 2) &&& 255).toNatClampNeg) + mem ((now 5 + 1) &&& 255).toNatClampNeg) &&& 255).toNatClampNeg (qmv (o >>> ((5 : Int32) &&& 31)) (now 4) (mem ((256 * (mem ((now 5 + 2) &&& 255).toNatClampNeg) + mem ((now 5 + 1) &&& 255).toNatClampNeg) &&& 255).toNatClampNeg) &&& 255), 7, ?_, ?_, rfl, qR_4 (qR_5 hR (qb_64 _)) (qmp_p _ _ hR.2.1.1), (qM_u (256 * (mem ((now 5 + 2) &&& 255).toNatClampNeg) + mem ((now 5 + 1) &&& 255).toNatClampNeg) (qM_u (256 * (mem ((now 5 + 2) &&& 255).toNatClampNeg) + mem ((now 5 + 1) &&& 255).toNatClampNeg) hM (hM.1 _)) (qb_and _)).2, (qP_o hO (by decide) (fun _ => rfl)), ⟨by decide, by decide⟩, ?_⟩
  · intro post se la co ac sq0 le0 tl0 mo0 st0 np0 lev h
    exact qb_op (MD := 1) ho hx (by rw [show qmf 5 = 1 from by decide]; exact qst_n hw) (by rw [show qmf 5 = 1 from by decide]; exact hmd) (by decide) (by decide) (by decide) h
  · intro post co se la sq0 ac lin h
    refine yp_mem hy (by decide) (if_neg hw) hyd ?_
    unfold wY_operate_50
    refine br_f (by decide) (nm_e (br_f (by decide) (br_t (by decide) (br_f (by decide) ?_))))
    unfold wY_operate_140
    unfold wY_operate_141
    refine ya_6 ?_
    exact yo_m (by decide) rfl hc rfl h
  · refine fu_m2 (by decide) (by decide) (by decide) hM rfl (qP_o hO (by decide) (fun _ => rfl)) ⟨by decide, by decide⟩ ?_
    refine fu_a5 (qlf_e (q_hl1 (hM.1 _) (hM.1 _))) (by decide) hM rfl (qP_o hO (by decide) (fun _ => rfl)) ⟨by decide, by decide⟩ ?_
    rw [q_hl0 (hM.1 _) (hM.1 _)]
    refine fu_tr ⟨by decide, by decide⟩ (by decide) (by decide) (by decide) hM rfl (qP_o hO (by decide) (fun _ => rfl)) ⟨by decide, by decide⟩ ?_
    refine fu_t2 ⟨by decide, by decide⟩ (by decide) (by decide) (by decide) (hM.1 _) (hM.1 _) rfl (qP_o hO (by decide) (fun _ => rfl)) ⟨by decide, by decide⟩ ?_
    exact fe_t3 ⟨by decide, by decide⟩ (by decide) (by decide) (by decide) (hM.1 _) hR.2.1.1 rfl hc (qb_and _) rfl (qP_o hO (by decide) (fun z => absurd z (by decide))) ⟨by decide, by decide⟩ (qf_no (by unfold qMd; decide) h68 (by decide) hR.1.2.2.2 rfl rfl rfl rfl rfl rfl)
theorem bg_6re {now mem lg : Nat → Int32} {o lo hi pt ea uf op : Int32} (hR : qR now) (hM : qM mem) (ho : mem (now 5 &&& 255).toNatClampNeg = o) (hx : qxm o = 6) (hy : qym o = 7) (hO : qOr o 6) (h68 : ¬ o = 104) (hw : ¬ (o >>> ((5 : Int32) &&& 31)) = 4) (hmd : qmd o (o >>> ((5 : Int32) &&& 31)) 1 = 0) (hyd : qyd (o >>> ((5 : Int32) &&& 31)) (o &&& 3) = 0) (hOO : qO (o >>> ((5 : Int32) &&& 31)) (o &&& 3)) (hu : 256 * (mem ((now 5 + 2) &&& 255).toNatClampNeg) + ((mem ((now 5 + 1) &&& 255).toNatClampNeg + now 1) &&& 255) = (256 * (mem ((now 5 + 2) &&& 255).toNatClampNeg) + mem ((now 5 + 1) &&& 255).toNatClampNeg + now 1) &&& 65535) : Bg now mem lg 0 o o lo hi pt ea uf op := by
  obtain ⟨F, hRF, h3, h5, hX, hYJ⟩ := qJ_all (m := mem (((256 * (mem ((now 5 + 2) &&& 255).toNatClampNeg) + mem ((now 5 + 1) &&& 255).toNatClampNeg + now 1) &&& 65535) &&& 255).toNatClampNeg) (n := (now 5 + 3) &&& 65535) hR (hM.1 _) (qb_64 _) hOO
  refine ⟨4, 1, 6, 0, now 5 + 3, nI 4, upd (upd (upd (upd lg 0 (rd o (now 5))) 1 (rd (mem ((now 5 + 1) &&& 255).toNatClampNeg) (now 5 + 1))) 2 (rd (mem ((now 5 + 2) &&& 255).toNatClampNeg) (now 5 + 2))) 3 (rd (mem (((256 * (mem ((now 5 + 2) &&& 255).toNatClampNeg) + mem ((now 5 + 1) &&& 255).toNatClampNeg + now 1) &&& 65535) &&& 255).toNatClampNeg) ((256 * (mem ((now 5 + 2) &&& 255).toNatClampNeg) + mem ((now 5 + 1) &&& 255).toNatClampNeg + now 1) &&& 65535)), F, mem, 7, ?_, ?_, rfl, hRF, hM.2, (qP_o hO (by decide) (fun _ => rfl)), ⟨by decide, by decide⟩, ?_⟩
  · intro post se la co ac sq0 le0 tl0 mo0 st0 np0 lev h
    exact qb_op (MD := 0) ho hx (by rw [show qmf 6 = 1 from by decide]; exact qst_n hw) (by rw [show qmf 6 = 1 from by decide]; exact hmd) (by decide) (by decide) (by decide) h
  · intro post co se la sq0 ac lin h
    refine yp_mem hy (by decide) (if_neg hw) hyd ?_
    unfold wY_operate_50
    refine br_f (by decide) (nm_e (br_f (by decide) (br_t (by decide) (br_t (by decide) ?_))))
    unfold wY_operate_141
    refine ya_7e hu ?_
    exact yo_r (by decide) hYJ rfl h
  · refine fu_m2 (by decide) (by decide) (by decide) hM rfl (qP_o hO (by decide) (fun _ => rfl)) ⟨by decide, by decide⟩ ?_
    refine fu_a6 (qlf_e hu) (by decide) hM rfl (qP_o hO (by decide) (fun _ => rfl)) ⟨by decide, by decide⟩ ?_
    exact fe_tr ⟨by decide, by decide⟩ (by decide) (by decide) (by decide) hM rfl (qP_o hO (by decide) (fun _ => rfl)) ⟨by decide, by decide⟩ (qf_rd (by unfold qMd; decide) h68 hR.1.2.2.2 h3 h5 rfl hX)
theorem bg_6rc {now mem lg : Nat → Int32} {o lo hi pt ea uf op : Int32} (hR : qR now) (hM : qM mem) (ho : mem (now 5 &&& 255).toNatClampNeg = o) (hx : qxm o = 6) (hy : qym o = 7) (hO : qOr o 6) (h68 : ¬ o = 104) (hw : ¬ (o >>> ((5 : Int32) &&& 31)) = 4) (hmd : qmd o (o >>> ((5 : Int32) &&& 31)) 1 = 0) (hyd : qyd (o >>> ((5 : Int32) &&& 31)) (o &&& 3) = 0) (hOO : qO (o >>> ((5 : Int32) &&& 31)) (o &&& 3)) (hu : ¬ 256 * (mem ((now 5 + 2) &&& 255).toNatClampNeg) + ((mem ((now 5 + 1) &&& 255).toNatClampNeg + now 1) &&& 255) = (256 * (mem ((now 5 + 2) &&& 255).toNatClampNeg) + mem ((now 5 + 1) &&& 255).toNatClampNeg + now 1) &&& 65535) : Bg now mem lg 0 o o lo hi pt ea uf op := by
  obtain ⟨F, hRF, h3, h5, hX, hYJ⟩ := qJ_all (m := mem (((256 * (mem ((now 5 + 2) &&& 255).toNatClampNeg) + mem ((now 5 + 1) &&& 255).toNatClampNeg + now 1) &&& 65535) &&& 255).toNatClampNeg) (n := (now 5 + 3) &&& 65535) hR (hM.1 _) (qb_64 _) hOO
  refine ⟨4, 1, 6, 0, now 5 + 3, nI 5, upd (upd (upd (upd (upd lg 0 (rd o (now 5))) 1 (rd (mem ((now 5 + 1) &&& 255).toNatClampNeg) (now 5 + 1))) 2 (rd (mem ((now 5 + 2) &&& 255).toNatClampNeg) (now 5 + 2))) 3 (rd (mem ((256 * (mem ((now 5 + 2) &&& 255).toNatClampNeg) + ((mem ((now 5 + 1) &&& 255).toNatClampNeg + now 1) &&& 255)) &&& 255).toNatClampNeg) (256 * (mem ((now 5 + 2) &&& 255).toNatClampNeg) + ((mem ((now 5 + 1) &&& 255).toNatClampNeg + now 1) &&& 255)))) 4 (rd (mem (((256 * (mem ((now 5 + 2) &&& 255).toNatClampNeg) + mem ((now 5 + 1) &&& 255).toNatClampNeg + now 1) &&& 65535) &&& 255).toNatClampNeg) ((256 * (mem ((now 5 + 2) &&& 255).toNatClampNeg) + mem ((now 5 + 1) &&& 255).toNatClampNeg + now 1) &&& 65535)), F, mem, 7, ?_, ?_, rfl, hRF, hM.2, (qP_o hO (by decide) (fun _ => rfl)), ⟨by decide, by decide⟩, ?_⟩
  · intro post se la co ac sq0 le0 tl0 mo0 st0 np0 lev h
    exact qb_op (MD := 0) ho hx (by rw [show qmf 6 = 1 from by decide]; exact qst_n hw) (by rw [show qmf 6 = 1 from by decide]; exact hmd) (by decide) (by decide) (by decide) h
  · intro post co se la sq0 ac lin h
    refine yp_mem hy (by decide) (if_neg hw) hyd ?_
    unfold wY_operate_50
    refine br_f (by decide) (nm_e (br_f (by decide) (br_t (by decide) (br_t (by decide) ?_))))
    unfold wY_operate_141
    refine ya_7c hu ?_
    exact yo_r (by decide) hYJ rfl h
  · refine fu_m2 (by decide) (by decide) (by decide) hM rfl (qP_o hO (by decide) (fun _ => rfl)) ⟨by decide, by decide⟩ ?_
    refine fu_a6 (le' := 5) ((qlf_c hu).trans (by decide)) (by decide) hM rfl (qP_o hO (by decide) (fun _ => rfl)) ⟨by decide, by decide⟩ ?_
    refine fu_u6 (by decide) hM rfl (qP_o hO (by decide) (fun _ => rfl)) ⟨by decide, by decide⟩ ?_
    exact fe_tr ⟨by decide, by decide⟩ (by decide) (by decide) (by decide) hM rfl (qP_o hO (by decide) (fun _ => rfl)) ⟨by decide, by decide⟩ (qf_rd (by unfold qMd; decide) h68 hR.1.2.2.2 h3 h5 rfl hX)
theorem bg_6sn {now mem lg : Nat → Int32} {o lo hi pt ea uf op : Int32} (hR : qR now) (hM : qM mem) (ho : mem (now 5 &&& 255).toNatClampNeg = o) (hx : qxm o = 6) (hy : qym o = 7) (hO : qOr o 6) (h68 : ¬ o = 104) (hw : (o >>> ((5 : Int32) &&& 31)) = 4) (hmd : qmd o (o >>> ((5 : Int32) &&& 31)) 1 = 0) (hyd : qyd (o >>> ((5 : Int32) &&& 31)) (o &&& 3) = 0) (hst : qst (o >>> ((5 : Int32) &&& 31)) 1 = 1) : Bg now mem lg 0 o o lo hi pt ea uf op := by
  have hb : qsv (o &&& 3) (now 0) (now 1) (now 2) &&& 255 = qsv (o &&& 3) (now 0) (now 1) (now 2) := qsv_b hR.1.1 hR.1.2.1 hR.1.2.2.1
  refine ⟨5, 1, 6, 1, now 5 + 3, nI 5, upd (upd (upd (upd (upd lg 0 (rd o (now 5))) 1 (rd (mem ((now 5 + 1) &&& 255).toNatClampNeg) (now 5 + 1))) 2 (rd (mem ((now 5 + 2) &&& 255).toNatClampNeg) (now 5 + 2))) 3 (rd (mem ((256 * (mem ((now 5 + 2) &&& 255).toNatClampNeg) + ((mem ((now 5 + 1) &&& 255).toNatClampNeg + now 1) &&& 255)) &&& 255).toNatClampNeg) (256 * (mem ((now 5 + 2) &&& 255).toNatClampNeg) + ((mem ((now 5 + 1) &&& 255).toNatClampNeg + now 1) &&& 255)))) 4 (wr (qsv (o &&& 3) (now 0) (now 1) (now 2)) ((256 * (mem ((now 5 + 2) &&& 255).toNatClampNeg) + mem ((now 5 + 1) &&& 255).toNatClampNeg + now 1) &&& 65535)), upd now 5 ((now 5 + 3) &&& 65535), upd mem (((256 * (mem ((now 5 + 2) &&& 255).toNatClampNeg) + mem ((now 5 + 1) &&& 255).toNatClampNeg + now 1) &&& 65535) &&& 255).toNatClampNeg (qsv (o &&& 3) (now 0) (now 1) (now 2)), 7, ?_, ?_, rfl, qR_5 hR (qb_64 _), (qM_u ((256 * (mem ((now 5 + 2) &&& 255).toNatClampNeg) + mem ((now 5 + 1) &&& 255).toNatClampNeg + now 1) &&& 65535) hM hb).2, (qP_o hO (by decide) (fun _ => rfl)), ⟨by decide, by decide⟩, ?_⟩
  · intro post se la co ac sq0 le0 tl0 mo0 st0 np0 lev h
    exact qb_op (MD := 0) ho hx (by rw [show qmf 6 = 1 from by decide]; exact hst) (by rw [show qmf 6 = 1 from by decide]; exact hmd) (by decide) (by decide) (by decide) h
  · intro post co se la sq0 ac lin h
    refine yp_mem hy (by decide) (if_pos hw) hyd ?_
    unfold wY_operate_50
    refine br_f (by decide) (nm_e (br_f (by decide) (br_f (by decide) ?_)))
    unfold wY_operate_140
    unfold wY_operate_141
    refine ya_7n ?_
    exact yo_s (by decide) h
  · refine fu_m2 (by decide) (by decide) (by decide) hM rfl (qP_o hO (by decide) (fun _ => rfl)) ⟨by decide, by decide⟩ ?_
    refine fu_a6 (qlf_n (by decide)) (by decide) hM rfl (qP_o hO (by decide) (fun _ => rfl)) ⟨by decide, by decide⟩ ?_
    refine fu_u6 (by decide) hM rfl (qP_o hO (by decide) (fun _ => rfl)) ⟨by decide, by decide⟩ ?_
    exact fe_ts ⟨by decide, by decide⟩ (by decide) (by decide) (by decide) hR.1.1 hR.1.2.1 hR.1.2.2.1 hb rfl (qP_o hO (by decide) (fun _ => rfl)) ⟨by decide, by decide⟩ (qf_no (by unfold qMd; decide) h68 (by decide) hR.1.2.2.2 rfl rfl rfl rfl rfl rfl)
theorem bg_6mn {now mem lg : Nat → Int32} {o lo hi pt ea uf op : Int32} (hR : qR now) (hM : qM mem) (ho : mem (now 5 &&& 255).toNatClampNeg = o) (hx : qxm o = 6) (hy : qym o = 7) (hO : qOr o 6) (h68 : ¬ o = 104) (hw : ¬ (o >>> ((5 : Int32) &&& 31)) = 4) (hmd : qmd o (o >>> ((5 : Int32) &&& 31)) 1 = 1) (hyd : qyd (o >>> ((5 : Int32) &&& 31)) (o &&& 3) = 1) (hc : (o >>> ((5 : Int32) &&& 31)) = 0 ∨ (o >>> ((5 : Int32) &&& 31)) = 1 ∨ (o >>> ((5 : Int32) &&& 31)) = 2 ∨ (o >>> ((5 : Int32) &&& 31)) = 3 ∨ (o >>> ((5 : Int32) &&& 31)) = 6 ∨ (o >>> ((5 : Int32) &&& 31)) = 7) : Bg now mem lg 0 o o lo hi pt ea uf op := by
  refine ⟨7, 3, 6, 0, now 5 + 3, nI 7, upd (upd (upd (upd (upd (upd (upd lg 0 (rd o (now 5))) 1 (rd (mem ((now 5 + 1) &&& 255).toNatClampNeg) (now 5 + 1))) 2 (rd (mem ((now 5 + 2) &&& 255).toNatClampNeg) (now 5 + 2))) 3 (rd (mem ((256 * (mem ((now 5 + 2) &&& 255).toNatClampNeg) + ((mem ((now 5 + 1) &&& 255).toNatClampNeg + now 1) &&& 255)) &&& 255).toNatClampNeg) (256 * (mem ((now 5 + 2) &&& 255).toNatClampNeg) + ((mem ((now 5 + 1) &&& 255).toNatClampNeg + now 1) &&& 255)))) 4 (rd (mem (((256 * (mem ((now 5 + 2) &&& 255).toNatClampNeg) + mem ((now 5 + 1) &&& 255).toNatClampNeg + now 1) &&& 65535) &&& 255).toNatClampNeg) ((256 * (mem ((now 5 + 2) &&& 255).toNatClampNeg) + mem ((now 5 + 1) &&& 255).toNatClampNeg + now 1) &&& 65535))) 5 (wr (mem (((256 * (mem ((now 5 + 2) &&& 255).toNatClampNeg) + mem ((now 5 + 1) &&& 255).toNatClampNeg + now 1) &&& 65535) &&& 255).toNatClampNeg) ((256 * (mem ((now 5 + 2) &&& 255).toNatClampNeg) + mem ((now 5 + 1) &&& 255).toNatClampNeg + now 1) &&& 65535))) 6 (wr (qmv (o >>> ((5 : Int32) &&& 31)) (now 4) (mem (((256 * (mem ((now 5 + 2) &&& 255).toNatClampNeg) + mem ((now 5 + 1) &&& 255).toNatClampNeg + now 1) &&& 65535) &&& 255).toNatClampNeg) &&& 255) ((256 * (mem ((now 5 + 2) &&& 255).toNatClampNeg) + mem ((now 5 + 1) &&& 255).toNatClampNeg + now 1) &&& 65535)), upd (upd now 5 ((now 5 + 3) &&& 65535)) 4 (qmp (o >>> ((5 : Int32) &&& 31)) (now 4) (mem (((256 * (mem ((now 5 + 2) &&& 255).toNatClampNeg) + mem ((now 5 + 1) &&& 255).toNatClampNeg + now 1) &&& 65535) &&& 255).toNatClampNeg)), upd (upd mem (((256 * (mem ((now 5 + 2) &&& 255).toNatClampNeg) + mem ((now 5 + 1) &&& 255).toNatClampNeg + now 1) &&& 65535) &&& 255).toNatClampNeg (mem (((256 * (mem ((now 5 + 2) &&& 255).toNatClampNeg) + mem ((now 5 + 1) &&& 255).toNatClampNeg + now 1) &&& 65535) &&& 255).toNatClampNeg)) (((256 * (mem ((now 5 + 2) &&& 255).toNatClampNeg) + mem ((now 5 + 1) &&& 255).toNatClampNeg + now 1) &&& 65535) &&& 255).toNatClampNeg (qmv (o >>> ((5 : Int32) &&& 31)) (now 4) (mem (((256 * (mem ((now 5 + 2) &&& 255).toNatClampNeg) + mem ((now 5 + 1) &&& 255).toNatClampNeg + now 1) &&& 65535) &&& 255).toNatClampNeg) &&& 255), 7, ?_, ?_, rfl, qR_4 (qR_5 hR (qb_64 _)) (qmp_p _ _ hR.2.1.1), (qM_u ((256 * (mem ((now 5 + 2) &&& 255).toNatClampNeg) + mem ((now 5 + 1) &&& 255).toNatClampNeg + now 1) &&& 65535) (qM_u ((256 * (mem ((now 5 + 2) &&& 255).toNatClampNeg) + mem ((now 5 + 1) &&& 255).toNatClampNeg + now 1) &&& 65535) hM (hM.1 _)) (qb_and _)).2, (qP_o hO (by decide) (fun _ => rfl)), ⟨by decide, by decide⟩, ?_⟩
  · intro post se la co ac sq0 le0 tl0 mo0 st0 np0 lev h
    exact qb_op (MD := 1) ho hx (by rw [show qmf 6 = 1 from by decide]; exact qst_n hw) (by rw [show qmf 6 = 1 from by decide]; exact hmd) (by decide) (by decide) (by decide) h
  · intro post co se la sq0 ac lin h
    refine yp_mem hy (by decide) (if_neg hw) hyd ?_
    unfold wY_operate_50
    refine br_f (by decide) (nm_e (br_f (by decide) (br_t (by decide) (br_f (by decide) ?_))))
    unfold wY_operate_140
    unfold wY_operate_141
    refine ya_7n ?_
    exact yo_m (by decide) rfl hc rfl h
  · refine fu_m2 (by decide) (by decide) (by decide) hM rfl (qP_o hO (by decide) (fun _ => rfl)) ⟨by decide, by decide⟩ ?_
    refine fu_a6 (qlf_n (by decide)) (by decide) hM rfl (qP_o hO (by decide) (fun _ => rfl)) ⟨by decide, by decide⟩ ?_
    refine fu_u6 (by decide) hM rfl (qP_o hO (by decide) (fun _ => rfl)) ⟨by decide, by decide⟩ ?_
    refine fu_tr ⟨by decide, by decide⟩ (by decide) (by decide) (by decide) hM rfl (qP_o hO (by decide) (fun _ => rfl)) ⟨by decide, by decide⟩ ?_
    refine fu_t2 ⟨by decide, by decide⟩ (by decide) (by decide) (by decide) (hM.1 _) (hM.1 _) rfl (qP_o hO (by decide) (fun _ => rfl)) ⟨by decide, by decide⟩ ?_
    exact fe_t3 ⟨by decide, by decide⟩ (by decide) (by decide) (by decide) (hM.1 _) hR.2.1.1 rfl hc (qb_and _) rfl (qP_o hO (by decide) (fun z => absurd z (by decide))) ⟨by decide, by decide⟩ (qf_no (by unfold qMd; decide) h68 (by decide) hR.1.2.2.2 rfl rfl rfl rfl rfl rfl)
theorem bg_7re {now mem lg : Nat → Int32} {o lo hi pt ea uf op : Int32} (hR : qR now) (hM : qM mem) (ho : mem (now 5 &&& 255).toNatClampNeg = o) (hx : qxm o = 7) (hy : qym o = 8) (hO : qOr o 7) (h68 : ¬ o = 104) (hw : ¬ (o >>> ((5 : Int32) &&& 31)) = 4) (hmd : qmd o (o >>> ((5 : Int32) &&& 31)) 1 = 0) (hyd : qyd (o >>> ((5 : Int32) &&& 31)) (o &&& 3) = 0) (hOO : qO (o >>> ((5 : Int32) &&& 31)) (o &&& 3)) (hu : 256 * (mem ((now 5 + 2) &&& 255).toNatClampNeg) + ((mem ((now 5 + 1) &&& 255).toNatClampNeg + now 2) &&& 255) = (256 * (mem ((now 5 + 2) &&& 255).toNatClampNeg) + mem ((now 5 + 1) &&& 255).toNatClampNeg + now 2) &&& 65535) : Bg now mem lg 0 o o lo hi pt ea uf op := by
  obtain ⟨F, hRF, h3, h5, hX, hYJ⟩ := qJ_all (m := mem (((256 * (mem ((now 5 + 2) &&& 255).toNatClampNeg) + mem ((now 5 + 1) &&& 255).toNatClampNeg + now 2) &&& 65535) &&& 255).toNatClampNeg) (n := (now 5 + 3) &&& 65535) hR (hM.1 _) (qb_64 _) hOO
  refine ⟨4, 1, 7, 0, now 5 + 3, nI 4, upd (upd (upd (upd lg 0 (rd o (now 5))) 1 (rd (mem ((now 5 + 1) &&& 255).toNatClampNeg) (now 5 + 1))) 2 (rd (mem ((now 5 + 2) &&& 255).toNatClampNeg) (now 5 + 2))) 3 (rd (mem (((256 * (mem ((now 5 + 2) &&& 255).toNatClampNeg) + mem ((now 5 + 1) &&& 255).toNatClampNeg + now 2) &&& 65535) &&& 255).toNatClampNeg) ((256 * (mem ((now 5 + 2) &&& 255).toNatClampNeg) + mem ((now 5 + 1) &&& 255).toNatClampNeg + now 2) &&& 65535)), F, mem, 7, ?_, ?_, rfl, hRF, hM.2, (qP_o hO (by decide) (fun _ => rfl)), ⟨by decide, by decide⟩, ?_⟩
  · intro post se la co ac sq0 le0 tl0 mo0 st0 np0 lev h
    exact qb_op (MD := 0) ho hx (by rw [show qmf 7 = 1 from by decide]; exact qst_n hw) (by rw [show qmf 7 = 1 from by decide]; exact hmd) (by decide) (by decide) (by decide) h
  · intro post co se la sq0 ac lin h
    refine yp_mem hy (by decide) (if_neg hw) hyd ?_
    unfold wY_operate_50
    refine br_f (by decide) (nm_e (br_f (by decide) (br_t (by decide) (br_t (by decide) ?_))))
    unfold wY_operate_141
    refine ya_8e hu ?_
    exact yo_r (by decide) hYJ rfl h
  · refine fu_m2 (by decide) (by decide) (by decide) hM rfl (qP_o hO (by decide) (fun _ => rfl)) ⟨by decide, by decide⟩ ?_
    refine fu_a7 (qlf_e hu) (by decide) hM rfl (qP_o hO (by decide) (fun _ => rfl)) ⟨by decide, by decide⟩ ?_
    exact fe_tr ⟨by decide, by decide⟩ (by decide) (by decide) (by decide) hM rfl (qP_o hO (by decide) (fun _ => rfl)) ⟨by decide, by decide⟩ (qf_rd (by unfold qMd; decide) h68 hR.1.2.2.2 h3 h5 rfl hX)
theorem bg_7rc {now mem lg : Nat → Int32} {o lo hi pt ea uf op : Int32} (hR : qR now) (hM : qM mem) (ho : mem (now 5 &&& 255).toNatClampNeg = o) (hx : qxm o = 7) (hy : qym o = 8) (hO : qOr o 7) (h68 : ¬ o = 104) (hw : ¬ (o >>> ((5 : Int32) &&& 31)) = 4) (hmd : qmd o (o >>> ((5 : Int32) &&& 31)) 1 = 0) (hyd : qyd (o >>> ((5 : Int32) &&& 31)) (o &&& 3) = 0) (hOO : qO (o >>> ((5 : Int32) &&& 31)) (o &&& 3)) (hu : ¬ 256 * (mem ((now 5 + 2) &&& 255).toNatClampNeg) + ((mem ((now 5 + 1) &&& 255).toNatClampNeg + now 2) &&& 255) = (256 * (mem ((now 5 + 2) &&& 255).toNatClampNeg) + mem ((now 5 + 1) &&& 255).toNatClampNeg + now 2) &&& 65535) : Bg now mem lg 0 o o lo hi pt ea uf op := by
  obtain ⟨F, hRF, h3, h5, hX, hYJ⟩ := qJ_all (m := mem (((256 * (mem ((now 5 + 2) &&& 255).toNatClampNeg) + mem ((now 5 + 1) &&& 255).toNatClampNeg + now 2) &&& 65535) &&& 255).toNatClampNeg) (n := (now 5 + 3) &&& 65535) hR (hM.1 _) (qb_64 _) hOO
  refine ⟨4, 1, 7, 0, now 5 + 3, nI 5, upd (upd (upd (upd (upd lg 0 (rd o (now 5))) 1 (rd (mem ((now 5 + 1) &&& 255).toNatClampNeg) (now 5 + 1))) 2 (rd (mem ((now 5 + 2) &&& 255).toNatClampNeg) (now 5 + 2))) 3 (rd (mem ((256 * (mem ((now 5 + 2) &&& 255).toNatClampNeg) + ((mem ((now 5 + 1) &&& 255).toNatClampNeg + now 2) &&& 255)) &&& 255).toNatClampNeg) (256 * (mem ((now 5 + 2) &&& 255).toNatClampNeg) + ((mem ((now 5 + 1) &&& 255).toNatClampNeg + now 2) &&& 255)))) 4 (rd (mem (((256 * (mem ((now 5 + 2) &&& 255).toNatClampNeg) + mem ((now 5 + 1) &&& 255).toNatClampNeg + now 2) &&& 65535) &&& 255).toNatClampNeg) ((256 * (mem ((now 5 + 2) &&& 255).toNatClampNeg) + mem ((now 5 + 1) &&& 255).toNatClampNeg + now 2) &&& 65535)), F, mem, 7, ?_, ?_, rfl, hRF, hM.2, (qP_o hO (by decide) (fun _ => rfl)), ⟨by decide, by decide⟩, ?_⟩
  · intro post se la co ac sq0 le0 tl0 mo0 st0 np0 lev h
    exact qb_op (MD := 0) ho hx (by rw [show qmf 7 = 1 from by decide]; exact qst_n hw) (by rw [show qmf 7 = 1 from by decide]; exact hmd) (by decide) (by decide) (by decide) h
  · intro post co se la sq0 ac lin h
    refine yp_mem hy (by decide) (if_neg hw) hyd ?_
    unfold wY_operate_50
    refine br_f (by decide) (nm_e (br_f (by decide) (br_t (by decide) (br_t (by decide) ?_))))
    unfold wY_operate_141
    refine ya_8c hu ?_
    exact yo_r (by decide) hYJ rfl h
  · refine fu_m2 (by decide) (by decide) (by decide) hM rfl (qP_o hO (by decide) (fun _ => rfl)) ⟨by decide, by decide⟩ ?_
    refine fu_a7 (le' := 5) ((qlf_c hu).trans (by decide)) (by decide) hM rfl (qP_o hO (by decide) (fun _ => rfl)) ⟨by decide, by decide⟩ ?_
    refine fu_u7 (by decide) hM rfl (qP_o hO (by decide) (fun _ => rfl)) ⟨by decide, by decide⟩ ?_
    exact fe_tr ⟨by decide, by decide⟩ (by decide) (by decide) (by decide) hM rfl (qP_o hO (by decide) (fun _ => rfl)) ⟨by decide, by decide⟩ (qf_rd (by unfold qMd; decide) h68 hR.1.2.2.2 h3 h5 rfl hX)
theorem bg_7sn {now mem lg : Nat → Int32} {o lo hi pt ea uf op : Int32} (hR : qR now) (hM : qM mem) (ho : mem (now 5 &&& 255).toNatClampNeg = o) (hx : qxm o = 7) (hy : qym o = 8) (hO : qOr o 7) (h68 : ¬ o = 104) (hw : (o >>> ((5 : Int32) &&& 31)) = 4) (hmd : qmd o (o >>> ((5 : Int32) &&& 31)) 1 = 0) (hyd : qyd (o >>> ((5 : Int32) &&& 31)) (o &&& 3) = 0) (hst : qst (o >>> ((5 : Int32) &&& 31)) 1 = 1) : Bg now mem lg 0 o o lo hi pt ea uf op := by
  have hb : qsv (o &&& 3) (now 0) (now 1) (now 2) &&& 255 = qsv (o &&& 3) (now 0) (now 1) (now 2) := qsv_b hR.1.1 hR.1.2.1 hR.1.2.2.1
  refine ⟨5, 1, 7, 1, now 5 + 3, nI 5, upd (upd (upd (upd (upd lg 0 (rd o (now 5))) 1 (rd (mem ((now 5 + 1) &&& 255).toNatClampNeg) (now 5 + 1))) 2 (rd (mem ((now 5 + 2) &&& 255).toNatClampNeg) (now 5 + 2))) 3 (rd (mem ((256 * (mem ((now 5 + 2) &&& 255).toNatClampNeg) + ((mem ((now 5 + 1) &&& 255).toNatClampNeg + now 2) &&& 255)) &&& 255).toNatClampNeg) (256 * (mem ((now 5 + 2) &&& 255).toNatClampNeg) + ((mem ((now 5 + 1) &&& 255).toNatClampNeg + now 2) &&& 255)))) 4 (wr (qsv (o &&& 3) (now 0) (now 1) (now 2)) ((256 * (mem ((now 5 + 2) &&& 255).toNatClampNeg) + mem ((now 5 + 1) &&& 255).toNatClampNeg + now 2) &&& 65535)), upd now 5 ((now 5 + 3) &&& 65535), upd mem (((256 * (mem ((now 5 + 2) &&& 255).toNatClampNeg) + mem ((now 5 + 1) &&& 255).toNatClampNeg + now 2) &&& 65535) &&& 255).toNatClampNeg (qsv (o &&& 3) (now 0) (now 1) (now 2)), 7, ?_, ?_, rfl, qR_5 hR (qb_64 _), (qM_u ((256 * (mem ((now 5 + 2) &&& 255).toNatClampNeg) + mem ((now 5 + 1) &&& 255).toNatClampNeg + now 2) &&& 65535) hM hb).2, (qP_o hO (by decide) (fun _ => rfl)), ⟨by decide, by decide⟩, ?_⟩
  · intro post se la co ac sq0 le0 tl0 mo0 st0 np0 lev h
    exact qb_op (MD := 0) ho hx (by rw [show qmf 7 = 1 from by decide]; exact hst) (by rw [show qmf 7 = 1 from by decide]; exact hmd) (by decide) (by decide) (by decide) h
  · intro post co se la sq0 ac lin h
    refine yp_mem hy (by decide) (if_pos hw) hyd ?_
    unfold wY_operate_50
    refine br_f (by decide) (nm_e (br_f (by decide) (br_f (by decide) ?_)))
    unfold wY_operate_140
    unfold wY_operate_141
    refine ya_8n ?_
    exact yo_s (by decide) h
  · refine fu_m2 (by decide) (by decide) (by decide) hM rfl (qP_o hO (by decide) (fun _ => rfl)) ⟨by decide, by decide⟩ ?_
    refine fu_a7 (qlf_n (by decide)) (by decide) hM rfl (qP_o hO (by decide) (fun _ => rfl)) ⟨by decide, by decide⟩ ?_
    refine fu_u7 (by decide) hM rfl (qP_o hO (by decide) (fun _ => rfl)) ⟨by decide, by decide⟩ ?_
    exact fe_ts ⟨by decide, by decide⟩ (by decide) (by decide) (by decide) hR.1.1 hR.1.2.1 hR.1.2.2.1 hb rfl (qP_o hO (by decide) (fun _ => rfl)) ⟨by decide, by decide⟩ (qf_no (by unfold qMd; decide) h68 (by decide) hR.1.2.2.2 rfl rfl rfl rfl rfl rfl)
theorem bg_8r {now mem lg : Nat → Int32} {o lo hi pt ea uf op : Int32} (hR : qR now) (hM : qM mem) (ho : mem (now 5 &&& 255).toNatClampNeg = o) (hx : qxm o = 8) (hy : qym o = 9) (hO : qOr o 8) (h68 : ¬ o = 104) (hw : ¬ (o >>> ((5 : Int32) &&& 31)) = 4) (hmd : qmd o (o >>> ((5 : Int32) &&& 31)) 1 = 0) (hyd : qyd (o >>> ((5 : Int32) &&& 31)) (o &&& 3) = 0) (hOO : qO (o >>> ((5 : Int32) &&& 31)) (o &&& 3)) : Bg now mem lg 0 o o lo hi pt ea uf op := by
  obtain ⟨F, hRF, h3, h5, hX, hYJ⟩ := qJ_all (m := mem ((256 * (mem (((((mem ((now 5 + 1) &&& 255).toNatClampNeg) + now 1) + 1) &&& 255) &&& 255).toNatClampNeg) + mem ((((mem ((now 5 + 1) &&& 255).toNatClampNeg) + now 1) &&& 255) &&& 255).toNatClampNeg) &&& 255).toNatClampNeg) (n := (now 5 + 2) &&& 65535) hR (hM.1 _) (qb_64 _) hOO
  refine ⟨6, 1, 8, 0, now 5 + 2, nI 6, upd (upd (upd (upd (upd (upd lg 0 (rd o (now 5))) 1 (rd (mem ((now 5 + 1) &&& 255).toNatClampNeg) (now 5 + 1))) 2 (rd (mem ((mem ((now 5 + 1) &&& 255).toNatClampNeg) &&& 255).toNatClampNeg) (mem ((now 5 + 1) &&& 255).toNatClampNeg))) 3 (rd (mem ((((mem ((now 5 + 1) &&& 255).toNatClampNeg) + now 1) &&& 255) &&& 255).toNatClampNeg) (((mem ((now 5 + 1) &&& 255).toNatClampNeg) + now 1) &&& 255))) 4 (rd (mem (((((mem ((now 5 + 1) &&& 255).toNatClampNeg) + now 1) + 1) &&& 255) &&& 255).toNatClampNeg) ((((mem ((now 5 + 1) &&& 255).toNatClampNeg) + now 1) + 1) &&& 255))) 5 (rd (mem ((256 * (mem (((((mem ((now 5 + 1) &&& 255).toNatClampNeg) + now 1) + 1) &&& 255) &&& 255).toNatClampNeg) + mem ((((mem ((now 5 + 1) &&& 255).toNatClampNeg) + now 1) &&& 255) &&& 255).toNatClampNeg) &&& 255).toNatClampNeg) (256 * (mem (((((mem ((now 5 + 1) &&& 255).toNatClampNeg) + now 1) + 1) &&& 255) &&& 255).toNatClampNeg) + mem ((((mem ((now 5 + 1) &&& 255).toNatClampNeg) + now 1) &&& 255) &&& 255).toNatClampNeg)), F, mem, 7, ?_, ?_, rfl, hRF, hM.2, (qP_o hO (by decide) (fun _ => rfl)), ⟨by decide, by decide⟩, ?_⟩
  · intro post se la co ac sq0 le0 tl0 mo0 st0 np0 lev h
    exact qb_op (MD := 0) ho hx (by rw [show qmf 8 = 1 from by decide]; exact qst_n hw) (by rw [show qmf 8 = 1 from by decide]; exact hmd) (by decide) (by decide) (by decide) h
  · intro post co se la sq0 ac lin h
    refine yp_mem hy (by decide) (if_neg hw) hyd ?_
    unfold wY_operate_50
    refine br_f (by decide) (nm_e (br_f (by decide) (br_t (by decide) (br_t (by decide) ?_))))
    unfold wY_operate_141
    refine ya_9 ?_
    exact yo_r (by decide) hYJ rfl h
  · refine fu_m2 (by decide) (by decide) (by decide) hM rfl (qP_o hO (by decide) (fun _ => rfl)) ⟨by decide, by decide⟩ ?_
    refine fu_x3 (by decide) hM rfl (qP_o hO (by decide) (fun _ => rfl)) ⟨by decide, by decide⟩ ?_
    refine fu_x4 (by decide) hM rfl (qP_o hO (by decide) (fun _ => rfl)) ⟨by decide, by decide⟩ ?_
    refine fu_x5 (qlf_e (q_hl1 (hM.1 _) (hM.1 _))) (by decide) hM rfl (qP_o hO (by decide) (fun _ => rfl)) ⟨by decide, by decide⟩ ?_
    rw [q_hl0 (hM.1 _) (hM.1 _)]
    exact fe_tr ⟨by decide, by decide⟩ (by decide) (by decide) (by decide) hM rfl (qP_o hO (by decide) (fun _ => rfl)) ⟨by decide, by decide⟩ (qf_rd (by unfold qMd; decide) h68 hR.1.2.2.2 h3 h5 rfl hX)
theorem bg_8s {now mem lg : Nat → Int32} {o lo hi pt ea uf op : Int32} (hR : qR now) (hM : qM mem) (ho : mem (now 5 &&& 255).toNatClampNeg = o) (hx : qxm o = 8) (hy : qym o = 9) (hO : qOr o 8) (h68 : ¬ o = 104) (hw : (o >>> ((5 : Int32) &&& 31)) = 4) (hmd : qmd o (o >>> ((5 : Int32) &&& 31)) 1 = 0) (hyd : qyd (o >>> ((5 : Int32) &&& 31)) (o &&& 3) = 0) (hst : qst (o >>> ((5 : Int32) &&& 31)) 1 = 1) : Bg now mem lg 0 o o lo hi pt ea uf op := by
  have hb : qsv (o &&& 3) (now 0) (now 1) (now 2) &&& 255 = qsv (o &&& 3) (now 0) (now 1) (now 2) := qsv_b hR.1.1 hR.1.2.1 hR.1.2.2.1
  refine ⟨6, 1, 8, 1, now 5 + 2, nI 6, upd (upd (upd (upd (upd (upd lg 0 (rd o (now 5))) 1 (rd (mem ((now 5 + 1) &&& 255).toNatClampNeg) (now 5 + 1))) 2 (rd (mem ((mem ((now 5 + 1) &&& 255).toNatClampNeg) &&& 255).toNatClampNeg) (mem ((now 5 + 1) &&& 255).toNatClampNeg))) 3 (rd (mem ((((mem ((now 5 + 1) &&& 255).toNatClampNeg) + now 1) &&& 255) &&& 255).toNatClampNeg) (((mem ((now 5 + 1) &&& 255).toNatClampNeg) + now 1) &&& 255))) 4 (rd (mem (((((mem ((now 5 + 1) &&& 255).toNatClampNeg) + now 1) + 1) &&& 255) &&& 255).toNatClampNeg) ((((mem ((now 5 + 1) &&& 255).toNatClampNeg) + now 1) + 1) &&& 255))) 5 (wr (qsv (o &&& 3) (now 0) (now 1) (now 2)) (256 * (mem (((((mem ((now 5 + 1) &&& 255).toNatClampNeg) + now 1) + 1) &&& 255) &&& 255).toNatClampNeg) + mem ((((mem ((now 5 + 1) &&& 255).toNatClampNeg) + now 1) &&& 255) &&& 255).toNatClampNeg)), upd now 5 ((now 5 + 2) &&& 65535), upd mem ((256 * (mem (((((mem ((now 5 + 1) &&& 255).toNatClampNeg) + now 1) + 1) &&& 255) &&& 255).toNatClampNeg) + mem ((((mem ((now 5 + 1) &&& 255).toNatClampNeg) + now 1) &&& 255) &&& 255).toNatClampNeg) &&& 255).toNatClampNeg (qsv (o &&& 3) (now 0) (now 1) (now 2)), 7, ?_, ?_, rfl, qR_5 hR (qb_64 _), (qM_u (256 * (mem (((((mem ((now 5 + 1) &&& 255).toNatClampNeg) + now 1) + 1) &&& 255) &&& 255).toNatClampNeg) + mem ((((mem ((now 5 + 1) &&& 255).toNatClampNeg) + now 1) &&& 255) &&& 255).toNatClampNeg) hM hb).2, (qP_o hO (by decide) (fun _ => rfl)), ⟨by decide, by decide⟩, ?_⟩
  · intro post se la co ac sq0 le0 tl0 mo0 st0 np0 lev h
    exact qb_op (MD := 0) ho hx (by rw [show qmf 8 = 1 from by decide]; exact hst) (by rw [show qmf 8 = 1 from by decide]; exact hmd) (by decide) (by decide) (by decide) h
  · intro post co se la sq0 ac lin h
    refine yp_mem hy (by decide) (if_pos hw) hyd ?_
    unfold wY_operate_50
    refine br_f (by decide) (nm_e (br_f (by decide) (br_f (by decide) ?_)))
    unfold wY_operate_140
    unfold wY_operate_141
    refine ya_9 ?_
    exact yo_s (by decide) h
  · refine fu_m2 (by decide) (by decide) (by decide) hM rfl (qP_o hO (by decide) (fun _ => rfl)) ⟨by decide, by decide⟩ ?_
    refine fu_x3 (by decide) hM rfl (qP_o hO (by decide) (fun _ => rfl)) ⟨by decide, by decide⟩ ?_
    refine fu_x4 (by decide) hM rfl (qP_o hO (by decide) (fun _ => rfl)) ⟨by decide, by decide⟩ ?_
    refine fu_x5 (qlf_e (q_hl1 (hM.1 _) (hM.1 _))) (by decide) hM rfl (qP_o hO (by decide) (fun _ => rfl)) ⟨by decide, by decide⟩ ?_
    rw [q_hl0 (hM.1 _) (hM.1 _)]
    exact fe_ts ⟨by decide, by decide⟩ (by decide) (by decide) (by decide) hR.1.1 hR.1.2.1 hR.1.2.2.1 hb rfl (qP_o hO (by decide) (fun _ => rfl)) ⟨by decide, by decide⟩ (qf_no (by unfold qMd; decide) h68 (by decide) hR.1.2.2.2 rfl rfl rfl rfl rfl rfl)
theorem bg_9re {now mem lg : Nat → Int32} {o lo hi pt ea uf op : Int32} (hR : qR now) (hM : qM mem) (ho : mem (now 5 &&& 255).toNatClampNeg = o) (hx : qxm o = 9) (hy : qym o = 10) (hO : qOr o 9) (h68 : ¬ o = 104) (hw : ¬ (o >>> ((5 : Int32) &&& 31)) = 4) (hmd : qmd o (o >>> ((5 : Int32) &&& 31)) 1 = 0) (hyd : qyd (o >>> ((5 : Int32) &&& 31)) (o &&& 3) = 0) (hOO : qO (o >>> ((5 : Int32) &&& 31)) (o &&& 3)) (hu : 256 * (mem ((((mem ((now 5 + 1) &&& 255).toNatClampNeg) + 1) &&& 255) &&& 255).toNatClampNeg) + ((mem ((mem ((now 5 + 1) &&& 255).toNatClampNeg) &&& 255).toNatClampNeg + now 2) &&& 255) = (256 * (mem ((((mem ((now 5 + 1) &&& 255).toNatClampNeg) + 1) &&& 255) &&& 255).toNatClampNeg) + mem ((mem ((now 5 + 1) &&& 255).toNatClampNeg) &&& 255).toNatClampNeg + now 2) &&& 65535) : Bg now mem lg 0 o o lo hi pt ea uf op := by
  obtain ⟨F, hRF, h3, h5, hX, hYJ⟩ := qJ_all (m := mem (((256 * (mem ((((mem ((now 5 + 1) &&& 255).toNatClampNeg) + 1) &&& 255) &&& 255).toNatClampNeg) + mem ((mem ((now 5 + 1) &&& 255).toNatClampNeg) &&& 255).toNatClampNeg + now 2) &&& 65535) &&& 255).toNatClampNeg) (n := (now 5 + 2) &&& 65535) hR (hM.1 _) (qb_64 _) hOO
  refine ⟨5, 1, 9, 0, now 5 + 2, nI 5, upd (upd (upd (upd (upd lg 0 (rd o (now 5))) 1 (rd (mem ((now 5 + 1) &&& 255).toNatClampNeg) (now 5 + 1))) 2 (rd (mem ((mem ((now 5 + 1) &&& 255).toNatClampNeg) &&& 255).toNatClampNeg) (mem ((now 5 + 1) &&& 255).toNatClampNeg))) 3 (rd (mem ((((mem ((now 5 + 1) &&& 255).toNatClampNeg) + 1) &&& 255) &&& 255).toNatClampNeg) (((mem ((now 5 + 1) &&& 255).toNatClampNeg) + 1) &&& 255))) 4 (rd (mem (((256 * (mem ((((mem ((now 5 + 1) &&& 255).toNatClampNeg) + 1) &&& 255) &&& 255).toNatClampNeg) + mem ((mem ((now 5 + 1) &&& 255).toNatClampNeg) &&& 255).toNatClampNeg + now 2) &&& 65535) &&& 255).toNatClampNeg) ((256 * (mem ((((mem ((now 5 + 1) &&& 255).toNatClampNeg) + 1) &&& 255) &&& 255).toNatClampNeg) + mem ((mem ((now 5 + 1) &&& 255).toNatClampNeg) &&& 255).toNatClampNeg + now 2) &&& 65535)), F, mem, 7, ?_, ?_, rfl, hRF, hM.2, (qP_o hO (by decide) (fun _ => rfl)), ⟨by decide, by decide⟩, ?_⟩
  · intro post se la co ac sq0 le0 tl0 mo0 st0 np0 lev h
    exact qb_op (MD := 0) ho hx (by rw [show qmf 9 = 1 from by decide]; exact qst_n hw) (by rw [show qmf 9 = 1 from by decide]; exact hmd) (by decide) (by decide) (by decide) h
  · intro post co se la sq0 ac lin h
    refine yp_mem hy (by decide) (if_neg hw) hyd ?_
    unfold wY_operate_50
    refine br_f (by decide) (nm_e (br_f (by decide) (br_t (by decide) (br_t (by decide) ?_))))
    unfold wY_operate_141
    refine ya_10e hu ?_
    exact yo_r (by decide) hYJ rfl h
  · refine fu_m2 (by decide) (by decide) (by decide) hM rfl (qP_o hO (by decide) (fun _ => rfl)) ⟨by decide, by decide⟩ ?_
    refine fu_y3 (by decide) hM rfl (qP_o hO (by decide) (fun _ => rfl)) ⟨by decide, by decide⟩ ?_
    refine fu_y4 (qlf_e hu) (by decide) hM rfl (qP_o hO (by decide) (fun _ => rfl)) ⟨by decide, by decide⟩ ?_
    exact fe_tr ⟨by decide, by decide⟩ (by decide) (by decide) (by decide) hM rfl (qP_o hO (by decide) (fun _ => rfl)) ⟨by decide, by decide⟩ (qf_rd (by unfold qMd; decide) h68 hR.1.2.2.2 h3 h5 rfl hX)
theorem bg_9rc {now mem lg : Nat → Int32} {o lo hi pt ea uf op : Int32} (hR : qR now) (hM : qM mem) (ho : mem (now 5 &&& 255).toNatClampNeg = o) (hx : qxm o = 9) (hy : qym o = 10) (hO : qOr o 9) (h68 : ¬ o = 104) (hw : ¬ (o >>> ((5 : Int32) &&& 31)) = 4) (hmd : qmd o (o >>> ((5 : Int32) &&& 31)) 1 = 0) (hyd : qyd (o >>> ((5 : Int32) &&& 31)) (o &&& 3) = 0) (hOO : qO (o >>> ((5 : Int32) &&& 31)) (o &&& 3)) (hu : ¬ 256 * (mem ((((mem ((now 5 + 1) &&& 255).toNatClampNeg) + 1) &&& 255) &&& 255).toNatClampNeg) + ((mem ((mem ((now 5 + 1) &&& 255).toNatClampNeg) &&& 255).toNatClampNeg + now 2) &&& 255) = (256 * (mem ((((mem ((now 5 + 1) &&& 255).toNatClampNeg) + 1) &&& 255) &&& 255).toNatClampNeg) + mem ((mem ((now 5 + 1) &&& 255).toNatClampNeg) &&& 255).toNatClampNeg + now 2) &&& 65535) : Bg now mem lg 0 o o lo hi pt ea uf op := by
  obtain ⟨F, hRF, h3, h5, hX, hYJ⟩ := qJ_all (m := mem (((256 * (mem ((((mem ((now 5 + 1) &&& 255).toNatClampNeg) + 1) &&& 255) &&& 255).toNatClampNeg) + mem ((mem ((now 5 + 1) &&& 255).toNatClampNeg) &&& 255).toNatClampNeg + now 2) &&& 65535) &&& 255).toNatClampNeg) (n := (now 5 + 2) &&& 65535) hR (hM.1 _) (qb_64 _) hOO
  refine ⟨5, 1, 9, 0, now 5 + 2, nI 6, upd (upd (upd (upd (upd (upd lg 0 (rd o (now 5))) 1 (rd (mem ((now 5 + 1) &&& 255).toNatClampNeg) (now 5 + 1))) 2 (rd (mem ((mem ((now 5 + 1) &&& 255).toNatClampNeg) &&& 255).toNatClampNeg) (mem ((now 5 + 1) &&& 255).toNatClampNeg))) 3 (rd (mem ((((mem ((now 5 + 1) &&& 255).toNatClampNeg) + 1) &&& 255) &&& 255).toNatClampNeg) (((mem ((now 5 + 1) &&& 255).toNatClampNeg) + 1) &&& 255))) 4 (rd (mem ((256 * (mem ((((mem ((now 5 + 1) &&& 255).toNatClampNeg) + 1) &&& 255) &&& 255).toNatClampNeg) + ((mem ((mem ((now 5 + 1) &&& 255).toNatClampNeg) &&& 255).toNatClampNeg + now 2) &&& 255)) &&& 255).toNatClampNeg) (256 * (mem ((((mem ((now 5 + 1) &&& 255).toNatClampNeg) + 1) &&& 255) &&& 255).toNatClampNeg) + ((mem ((mem ((now 5 + 1) &&& 255).toNatClampNeg) &&& 255).toNatClampNeg + now 2) &&& 255)))) 5 (rd (mem (((256 * (mem ((((mem ((now 5 + 1) &&& 255).toNatClampNeg) + 1) &&& 255) &&& 255).toNatClampNeg) + mem ((mem ((now 5 + 1) &&& 255).toNatClampNeg) &&& 255).toNatClampNeg + now 2) &&& 65535) &&& 255).toNatClampNeg) ((256 * (mem ((((mem ((now 5 + 1) &&& 255).toNatClampNeg) + 1) &&& 255) &&& 255).toNatClampNeg) + mem ((mem ((now 5 + 1) &&& 255).toNatClampNeg) &&& 255).toNatClampNeg + now 2) &&& 65535)), F, mem, 7, ?_, ?_, rfl, hRF, hM.2, (qP_o hO (by decide) (fun _ => rfl)), ⟨by decide, by decide⟩, ?_⟩
  · intro post se la co ac sq0 le0 tl0 mo0 st0 np0 lev h
    exact qb_op (MD := 0) ho hx (by rw [show qmf 9 = 1 from by decide]; exact qst_n hw) (by rw [show qmf 9 = 1 from by decide]; exact hmd) (by decide) (by decide) (by decide) h
  · intro post co se la sq0 ac lin h
    refine yp_mem hy (by decide) (if_neg hw) hyd ?_
    unfold wY_operate_50
    refine br_f (by decide) (nm_e (br_f (by decide) (br_t (by decide) (br_t (by decide) ?_))))
    unfold wY_operate_141
    refine ya_10c hu ?_
    exact yo_r (by decide) hYJ rfl h
  · refine fu_m2 (by decide) (by decide) (by decide) hM rfl (qP_o hO (by decide) (fun _ => rfl)) ⟨by decide, by decide⟩ ?_
    refine fu_y3 (by decide) hM rfl (qP_o hO (by decide) (fun _ => rfl)) ⟨by decide, by decide⟩ ?_
    refine fu_y4 (le' := 6) ((qlf_c hu).trans (by decide)) (by decide) hM rfl (qP_o hO (by decide) (fun _ => rfl)) ⟨by decide, by decide⟩ ?_
    refine fu_y5 (by decide) hM rfl (qP_o hO (by decide) (fun _ => rfl)) ⟨by decide, by decide⟩ ?_
    exact fe_tr ⟨by decide, by decide⟩ (by decide) (by decide) (by decide) hM rfl (qP_o hO (by decide) (fun _ => rfl)) ⟨by decide, by decide⟩ (qf_rd (by unfold qMd; decide) h68 hR.1.2.2.2 h3 h5 rfl hX)
theorem bg_9sn {now mem lg : Nat → Int32} {o lo hi pt ea uf op : Int32} (hR : qR now) (hM : qM mem) (ho : mem (now 5 &&& 255).toNatClampNeg = o) (hx : qxm o = 9) (hy : qym o = 10) (hO : qOr o 9) (h68 : ¬ o = 104) (hw : (o >>> ((5 : Int32) &&& 31)) = 4) (hmd : qmd o (o >>> ((5 : Int32) &&& 31)) 1 = 0) (hyd : qyd (o >>> ((5 : Int32) &&& 31)) (o &&& 3) = 0) (hst : qst (o >>> ((5 : Int32) &&& 31)) 1 = 1) : Bg now mem lg 0 o o lo hi pt ea uf op := by
  have hb : qsv (o &&& 3) (now 0) (now 1) (now 2) &&& 255 = qsv (o &&& 3) (now 0) (now 1) (now 2) := qsv_b hR.1.1 hR.1.2.1 hR.1.2.2.1
  refine ⟨6, 1, 9, 1, now 5 + 2, nI 6, upd (upd (upd (upd (upd (upd lg 0 (rd o (now 5))) 1 (rd (mem ((now 5 + 1) &&& 255).toNatClampNeg) (now 5 + 1))) 2 (rd (mem ((mem ((now 5 + 1) &&& 255).toNatClampNeg) &&& 255).toNatClampNeg) (mem ((now 5 + 1) &&& 255).toNatClampNeg))) 3 (rd (mem ((((mem ((now 5 + 1) &&& 255).toNatClampNeg) + 1) &&& 255) &&& 255).toNatClampNeg) (((mem ((now 5 + 1) &&& 255).toNatClampNeg) + 1) &&& 255))) 4 (rd (mem ((256 * (mem ((((mem ((now 5 + 1) &&& 255).toNatClampNeg) + 1) &&& 255) &&& 255).toNatClampNeg) + ((mem ((mem ((now 5 + 1) &&& 255).toNatClampNeg) &&& 255).toNatClampNeg + now 2) &&& 255)) &&& 255).toNatClampNeg) (256 * (mem ((((mem ((now 5 + 1) &&& 255).toNatClampNeg) + 1) &&& 255) &&& 255).toNatClampNeg) + ((mem ((mem ((now 5 + 1) &&& 255).toNatClampNeg) &&& 255).toNatClampNeg + now 2) &&& 255)))) 5 (wr (qsv (o &&& 3) (now 0) (now 1) (now 2)) ((256 * (mem ((((mem ((now 5 + 1) &&& 255).toNatClampNeg) + 1) &&& 255) &&& 255).toNatClampNeg) + mem ((mem ((now 5 + 1) &&& 255).toNatClampNeg) &&& 255).toNatClampNeg + now 2) &&& 65535)), upd now 5 ((now 5 + 2) &&& 65535), upd mem (((256 * (mem ((((mem ((now 5 + 1) &&& 255).toNatClampNeg) + 1) &&& 255) &&& 255).toNatClampNeg) + mem ((mem ((now 5 + 1) &&& 255).toNatClampNeg) &&& 255).toNatClampNeg + now 2) &&& 65535) &&& 255).toNatClampNeg (qsv (o &&& 3) (now 0) (now 1) (now 2)), 7, ?_, ?_, rfl, qR_5 hR (qb_64 _), (qM_u ((256 * (mem ((((mem ((now 5 + 1) &&& 255).toNatClampNeg) + 1) &&& 255) &&& 255).toNatClampNeg) + mem ((mem ((now 5 + 1) &&& 255).toNatClampNeg) &&& 255).toNatClampNeg + now 2) &&& 65535) hM hb).2, (qP_o hO (by decide) (fun _ => rfl)), ⟨by decide, by decide⟩, ?_⟩
  · intro post se la co ac sq0 le0 tl0 mo0 st0 np0 lev h
    exact qb_op (MD := 0) ho hx (by rw [show qmf 9 = 1 from by decide]; exact hst) (by rw [show qmf 9 = 1 from by decide]; exact hmd) (by decide) (by decide) (by decide) h
  · intro post co se la sq0 ac lin h
    refine yp_mem hy (by decide) (if_pos hw) hyd ?_
    unfold wY_operate_50
    refine br_f (by decide) (nm_e (br_f (by decide) (br_f (by decide) ?_)))
    unfold wY_operate_140
    unfold wY_operate_141
    refine ya_10n ?_
    exact yo_s (by decide) h
  · refine fu_m2 (by decide) (by decide) (by decide) hM rfl (qP_o hO (by decide) (fun _ => rfl)) ⟨by decide, by decide⟩ ?_
    refine fu_y3 (by decide) hM rfl (qP_o hO (by decide) (fun _ => rfl)) ⟨by decide, by decide⟩ ?_
    refine fu_y4 (qlf_n (by decide)) (by decide) hM rfl (qP_o hO (by decide) (fun _ => rfl)) ⟨by decide, by decide⟩ ?_
    refine fu_y5 (by decide) hM rfl (qP_o hO (by decide) (fun _ => rfl)) ⟨by decide, by decide⟩ ?_
    exact fe_ts ⟨by decide, by decide⟩ (by decide) (by decide) (by decide) hR.1.1 hR.1.2.1 hR.1.2.2.1 hb rfl (qP_o hO (by decide) (fun _ => rfl)) ⟨by decide, by decide⟩ (qf_no (by unfold qMd; decide) h68 (by decide) hR.1.2.2.2 rfl rfl rfl rfl rfl rfl)
end
section
/-! sequences with lists of accesses of their own -/
theorem q_s0 {s : Int32} (h : s &&& 255 = s) : s = (s + 0) &&& 255 := by rw [Int32.add_zero, h]
theorem q_s1 (s : Int32) : (s - 1) &&& 255 = (s + -1) &&& 255 := by rw [Int32.sub_eq_add_neg]
theorem q_s2 (s : Int32) : (s - 2) &&& 255 = (s + -2) &&& 255 := by rw [Int32.sub_eq_add_neg]
theorem q_s3 (s : Int32) : (s - 3) &&& 255 = (s + -3) &&& 255 := by rw [Int32.sub_eq_add_neg]
theorem q_pb : ∀ i, i < 32 → (bt 207 i && bt 239 i) = bt 207 i ∧ (bt 32 i && bt 239 i) = bt 32 i ∧ (bt 207 i && bt 4 i) = bt 4 i ∧ (bt 32 i && bt 4 i) = false := by decide +kernel
theorem q_pl (v : Int32) : ((v &&& 207) ||| 32) &&& 239 = (v &&& 207) ||| 32 := by
  apply b_ext; intro i hi
  obtain ⟨h1, h2, _, _⟩ := q_pb i hi
  rw [b_and, b_or, b_and]
  revert h1 h2
  cases bt v i <;> cases bt 207 i <;> cases bt 32 i <;> cases bt 239 i <;> decide
theorem q_p4 (v : Int32) : v &&& 4 = ((v &&& 207) ||| 32) &&& 4 := by
  apply b_ext; intro i hi
  obtain ⟨_, _, h1, h2⟩ := q_pb i hi
  rw [b_and, b_and, b_or, b_and]
  revert h1 h2
  cases bt v i <;> cases bt 207 i <;> cases bt 32 i <;> cases bt 4 i <;> decide
theorem qf_h {F : Nat → Int32} {a x y s p pc se la ne co ac sq dn le tl mo st lo hi pt ea uf op np N C : Int32} {mem lev : Nat → Int32} {post : SX → Prop} (hN : qnp mo np hi lo = N) (hC : qsc mo = C) (e0 : F 0 = a) (e1 : F 1 = x) (e2 : F 2 = y) (e3 : F 3 = (s + C) &&& 255) (e4 : F 4 = p) (e5 : F 5 = N &&& 65535) (h : post (qx (F 0) (F 1) (F 2) (F 3) (F 4) (F 5) se la ne co ac sq dn le tl mo st lo hi pt ea uf op (qnp mo np hi lo) mem lev)) : wX_finish_129 post 0 1 2 3 4 5 6 7 8 9 10 11 12 13 14 15 16 17 18 19 1 2 4 8 64 128 a x y s p pc se la ne co ac sq dn le tl mo st lo hi pt ea uf op np mem lev := by
  rw [hN] at h
  refine qf_129 hN hC ?_
  rw [e0, e1, e2, e3, e4, e5] at h
  exact h
theorem qP_b {now F : Nat → Int32} {sq dn le len op : Int32} (h64 : ¬ sq = 64) (hc : qpx 18 dn le = qpy sq dn len) : qP now F sq 18 dn le len (now 4) op := by
  refine ⟨hc, fun _ => ?_⟩
  rw [if_neg (by decide), if_neg h64]
theorem yp_sp {dn co se la ne sq ac : Int32} {mem work now fin lin log : Nat → Int32} {post : SY → Prop} {o : Int32} (hy : qym o = 0) (hb : ¬ o &&& 31 = 16) (h : wY_special_92 post o ((now 5 + 2) &&& 65535) (now 3) (now 4) (now 1) (now 2) (work ((now 5 + 1) &&& 255).toNatClampNeg) (nI 2) dn co se la ne o ac mem work now (upd fin 5 ((now 5 + 1) &&& 65535)) lin (upd log 1 (rd (work ((now 5 + 1) &&& 255).toNatClampNeg) (now 5 + 1)))) : wY_plan_95 post 0 (now 5) o o (nI 1) dn co se la ne sq ac mem work now fin lin log := by
  unfold wY_plan_95
  refine qy_mode ?_
  rw [hy]
  refine br_t (by decide) (br_t (by decide) ?_)
  refine nm_e (nm_e (nm_e (nm_e (nm_e (nm_e ?_)))))
  refine qy_read (by decide) ?_
  refine nm_e ?_
  exact br_f hb h
theorem yp_vec {dn co se la ne sq ac : Int32} {mem work now fin lin log : Nat → Int32} {post : SY → Prop} {t : Int32} {k : Nat} (hk : k + 1 < 8) (hf : fin 4 = now 4) (h : post (qy (nI (k + 2)) dn co se la ne sq ac mem work now (upd (upd (upd fin 3 ((now 3 - 3) &&& 255)) 4 (qg (now 4) 4 1)) 5 (256 * (work ((t + 1) &&& 255).toNatClampNeg) + work (t &&& 255).toNatClampNeg)) lin (upd (upd log k (rd (work (t &&& 255).toNatClampNeg) t)) (k + 1) (rd (work ((t + 1) &&& 255).toNatClampNeg) (t + 1))))) : wpY_vector post (qy (nI k) dn co se la ne sq ac mem work now fin lin log) t := by
  unfold wpY_vector
  refine qy_read (k := k) (by omega) ?_
  refine qy_read (k := k + 1) hk ?_
  refine nm_e ?_
  refine qy_flag ?_
  refine nm_e ?_
  rw [pk_un (by decide), hf]
  exact h
theorem bg_pha {now mem lg : Nat → Int32} {lo hi pt ea uf op : Int32} (hR : qR now) (hM : qM mem) (ho : mem (now 5 &&& 255).toNatClampNeg = 72) : Bg now mem lg 0 72 72 lo hi pt ea uf op := by
  refine ⟨3, 1, 10, 0, now 5 + 1, nI 3, upd (upd (upd lg 0 (rd 72 (now 5))) 1 (rd (mem ((now 5 + 1) &&& 255).toNatClampNeg) (now 5 + 1))) 2 (wr (now 0) (256 + ((now 3 + 0) &&& 255))), upd (upd now 5 ((now 5 + 1) &&& 65535)) 3 ((now 3 - 1) &&& 255), upd (mem) ((256 + ((now 3 + 0) &&& 255)) &&& 255).toNatClampNeg (now 0), 7, ?_, ?_, rfl, qR_3 (qR_5 hR (qb_64 _)) (qb_and _), (qM_u (256 + ((now 3 + 0) &&& 255)) hM hR.1.1).2, (qP_o (by unfold qOr; decide) (by decide) (fun _ => rfl)), ⟨by decide, by decide⟩, ?_⟩
  · intro post se la co ac sq0 le0 tl0 mo0 st0 np0 lev h
    exact qb_op (MD := 0) ho (by decide) (by decide) (by decide) (by decide) (by decide) (by decide) h
  · intro post co se la sq0 ac lin h
    refine yp_sp (by decide) (by decide) ?_
    unfold wY_special_92
    refine br_f (by decide) (br_f (by decide) (br_f (by decide) (br_f (by decide) (br_f (by decide) (br_f (by decide) (br_f (by decide) (br_t (by decide) (?_))))))))
    refine qy_push (by decide) ?_
    exact nm_e h
  · refine fu_o10 hM rfl (qP_o (by unfold qOr; decide) (by decide) (fun _ => rfl)) ⟨by decide, by decide⟩ ?_
    refine fe_pha hR.1.1 hR.1.1 rfl (qP_o (by unfold qOr; decide) (by decide) (fun _ => rfl)) ⟨by decide, by decide⟩ ?_
    intro post se la ne co ac lev h
    unfold wpX_finish
    refine br_f (by decide) (br_f (by decide) (br_f (by decide) (br_f (by decide) (br_f (by decide) (br_f (by decide) (br_t (by decide) (?_)))))))
    exact qf_h (F := upd (upd now 5 ((now 5 + 1) &&& 65535)) 3 ((now 3 - 1) &&& 255)) (N := now 5 + 1) (C := -1) (by unfold qnp; rw [if_neg (by decide), if_pos (by decide)]) (by decide) rfl rfl rfl (q_s1 _) rfl rfl h
theorem bg_php {now mem lg : Nat → Int32} {lo hi pt ea uf op : Int32} (hR : qR now) (hM : qM mem) (ho : mem (now 5 &&& 255).toNatClampNeg = 8) : Bg now mem lg 0 8 8 lo hi pt ea uf op := by
  refine ⟨3, 1, 10, 0, now 5 + 1, nI 3, upd (upd (upd lg 0 (rd 8 (now 5))) 1 (rd (mem ((now 5 + 1) &&& 255).toNatClampNeg) (now 5 + 1))) 2 (wr (now 4 + 16) (256 + ((now 3 + 0) &&& 255))), upd (upd now 5 ((now 5 + 1) &&& 65535)) 3 ((now 3 - 1) &&& 255), upd (mem) ((256 + ((now 3 + 0) &&& 255)) &&& 255).toNatClampNeg (now 4 + 16), 7, ?_, ?_, rfl, qR_3 (qR_5 hR (qb_64 _)) (qb_and _), (qM_u (256 + ((now 3 + 0) &&& 255)) hM (qp_c16 hR.2.1.1)).2, (qP_o (by unfold qOr; decide) (by decide) (fun _ => rfl)), ⟨by decide, by decide⟩, ?_⟩
  · intro post se la co ac sq0 le0 tl0 mo0 st0 np0 lev h
    exact qb_op (MD := 0) ho (by decide) (by decide) (by decide) (by decide) (by decide) (by decide) h
  · intro post co se la sq0 ac lin h
    refine yp_sp (by decide) (by decide) ?_
    unfold wY_special_92
    refine br_f (by decide) (br_t (by decide) (?_))
    refine qy_push (by decide) ?_
    exact nm_e h
  · refine fu_o10 hM rfl (qP_o (by unfold qOr; decide) (by decide) (fun _ => rfl)) ⟨by decide, by decide⟩ ?_
    refine fe_php hR.2.1.1 (qp_c16 hR.2.1.1) rfl (qP_o (by unfold qOr; decide) (by decide) (fun _ => rfl)) ⟨by decide, by decide⟩ ?_
    intro post se la ne co ac lev h
    unfold wpX_finish
    refine br_f (by decide) (br_f (by decide) (br_f (by decide) (br_f (by decide) (br_f (by decide) (br_f (by decide) (br_t (by decide) (?_)))))))
    exact qf_h (F := upd (upd now 5 ((now 5 + 1) &&& 65535)) 3 ((now 3 - 1) &&& 255)) (N := now 5 + 1) (C := -1) (by unfold qnp; rw [if_neg (by decide), if_pos (by decide)]) (by decide) rfl rfl rfl (q_s1 _) rfl rfl h
theorem bg_pla {now mem lg : Nat → Int32} {lo hi pt ea uf op : Int32} (hR : qR now) (hM : qM mem) (ho : mem (now 5 &&& 255).toNatClampNeg = 104) : Bg now mem lg 0 104 104 lo hi pt ea uf op := by
  refine ⟨4, 1, 11, 0, now 5 + 1, nI 4, upd (upd (upd (upd lg 0 (rd 104 (now 5))) 1 (rd (mem ((now 5 + 1) &&& 255).toNatClampNeg) (now 5 + 1))) 2 (rd (mem ((256 + ((now 3 + 0) &&& 255)) &&& 255).toNatClampNeg) (256 + ((now 3 + 0) &&& 255)))) 3 (rd (mem ((256 + ((now 3 + 1) &&& 255)) &&& 255).toNatClampNeg) (256 + ((now 3 + 1) &&& 255))), upd (upd (upd (upd now 5 ((now 5 + 1) &&& 65535)) 3 ((now 3 + 1) &&& 255)) 0 (mem ((256 + ((now 3 + 1) &&& 255)) &&& 255).toNatClampNeg &&& 255)) 4 (qz (now 4) (mem ((256 + ((now 3 + 1) &&& 255)) &&& 255).toNatClampNeg)), mem, 7, ?_, ?_, rfl, qR_4 (qR_0 (qR_3 (qR_5 hR (qb_64 _)) (qb_and _)) (qb_and _)) (qz_p _ hR.2.1.1), hM.2, (qP_o (by unfold qOr; decide) (by decide) (fun _ => rfl)), ⟨by decide, by decide⟩, ?_⟩
  · intro post se la co ac sq0 le0 tl0 mo0 st0 np0 lev h
    exact qb_op (MD := 0) ho (by decide) (by decide) (by decide) (by decide) (by decide) (by decide) h
  · intro post co se la sq0 ac lin h
    refine yp_sp (by decide) (by decide) ?_
    unfold wY_special_92
    refine br_f (by decide) (br_f (by decide) (br_f (by decide) (br_f (by decide) (br_f (by decide) (br_f (by decide) (br_f (by decide) (br_f (by decide) (br_f (by decide) (br_f (by decide) (br_f (by decide) (br_t (by decide) (?_))))))))))))
    refine qy_pull (by decide) ?_
    refine qy_pull (by decide) ?_
    refine nm_e ?_
    exact qy_set0 (q := now 4) h rfl
  · refine fu_pl2 hM rfl (qP_o (by unfold qOr; decide) (by decide) (fun _ => rfl)) ⟨by decide, by decide⟩ ?_
    refine fu_pl3 hM rfl (qP_o (by unfold qOr; decide) (by decide) (fun _ => rfl)) ⟨by decide, by decide⟩ ?_
    refine fe_pl4 hM rfl (qP_o (by unfold qOr; decide) (by decide) (fun _ => rfl)) ⟨by decide, by decide⟩ ?_
    intro post se la ne co ac lev h
    unfold wpX_finish
    refine br_f (by decide) (br_t (by decide) (?_))
    refine qx_flagged hR.2.1.1 ?_
    exact qf_h (F := upd (upd (upd (upd now 5 ((now 5 + 1) &&& 65535)) 3 ((now 3 + 1) &&& 255)) 0 (mem ((256 + ((now 3 + 1) &&& 255)) &&& 255).toNatClampNeg &&& 255)) 4 (qz (now 4) (mem ((256 + ((now 3 + 1) &&& 255)) &&& 255).toNatClampNeg))) (N := now 5 + 1) (C := 1) (by unfold qnp; rw [if_neg (by decide), if_pos (by decide)]) (by decide) rfl rfl rfl rfl rfl rfl h
theorem bg_plp {now mem lg : Nat → Int32} {lo hi pt ea uf op : Int32} (hR : qR now) (hM : qM mem) (ho : mem (now 5 &&& 255).toNatClampNeg = 40) : Bg now mem lg 0 40 40 lo hi pt ea uf op := by
  refine ⟨4, 1, 11, 0, now 5 + 1, nI 4, upd (upd (upd (upd lg 0 (rd 40 (now 5))) 1 (rd (mem ((now 5 + 1) &&& 255).toNatClampNeg) (now 5 + 1))) 2 (rd (mem ((256 + ((now 3 + 0) &&& 255)) &&& 255).toNatClampNeg) (256 + ((now 3 + 0) &&& 255)))) 3 (rd (mem ((256 + ((now 3 + 1) &&& 255)) &&& 255).toNatClampNeg) (256 + ((now 3 + 1) &&& 255))), upd (upd (upd now 5 ((now 5 + 1) &&& 65535)) 3 ((now 3 + 1) &&& 255)) 4 ((mem ((256 + ((now 3 + 1) &&& 255)) &&& 255).toNatClampNeg &&& 207) ||| 32), mem, 7, ?_, ?_, rfl, qR_4 (qR_3 (qR_5 hR (qb_64 _)) (qb_and _)) (q_pl _), hM.2, (qP_o (by unfold qOr; decide) (by decide) (fun _ => rfl)), ⟨by decide, by decide⟩, ?_⟩
  · intro post se la co ac sq0 le0 tl0 mo0 st0 np0 lev h
    exact qb_op (MD := 0) ho (by decide) (by decide) (by decide) (by decide) (by decide) (by decide) h
  · intro post co se la sq0 ac lin h
    refine yp_sp (by decide) (by decide) ?_
    unfold wY_special_92
    refine br_f (by decide) (br_f (by decide) (br_f (by decide) (br_f (by decide) (br_t (by decide) (?_)))))
    refine qy_pull (by decide) ?_
    refine qy_pull (by decide) ?_
    exact nm_e (nm_e h)
  · refine fu_pl2 hM rfl (qP_o (by unfold qOr; decide) (by decide) (fun _ => rfl)) ⟨by decide, by decide⟩ ?_
    refine fu_pl3 hM rfl (qP_o (by unfold qOr; decide) (by decide) (fun _ => rfl)) ⟨by decide, by decide⟩ ?_
    refine fe_pl4 hM rfl (qP_o (by unfold qOr; decide) (by decide) (fun _ => rfl)) ⟨by decide, by decide⟩ ?_
    intro post se la ne co ac lev h
    unfold wpX_finish
    refine br_f (by decide) (br_f (by decide) (br_t (by decide) (?_)))
    unfold wX_finish_56
    refine nm_e ?_
    exact qf_h (F := upd (upd (upd now 5 ((now 5 + 1) &&& 65535)) 3 ((now 3 + 1) &&& 255)) 4 ((mem ((256 + ((now 3 + 1) &&& 255)) &&& 255).toNatClampNeg &&& 207) ||| 32)) (N := now 5 + 1) (C := 1) (by unfold qnp; rw [if_neg (by decide), if_pos (by decide)]) (by decide) rfl rfl rfl rfl rfl rfl h
theorem bg_jsr {now mem lg : Nat → Int32} {lo hi pt ea uf op : Int32} (hR : qR now) (hM : qM mem) (ho : mem (now 5 &&& 255).toNatClampNeg = 32) : Bg now mem lg 0 32 32 lo hi pt ea uf op := by
  have hM2 : qM (upd (upd (mem) ((256 + ((now 3 + 0) &&& 255)) &&& 255).toNatClampNeg (((now 5 + 2) &&& 65535) >>> ((8 : Int32) &&& 31))) ((256 + ((now 3 + -1) &&& 255)) &&& 255).toNatClampNeg (((now 5 + 2) &&& 65535) &&& 255)) := qM_u (256 + ((now 3 + -1) &&& 255)) (qM_u (256 + ((now 3 + 0) &&& 255)) hM (qb_s8b _)) (qb_and _)
  refine ⟨6, 1, 12, 0, now 5 + 1, nI 6, upd (upd (upd (upd (upd (upd lg 0 (rd 32 (now 5))) 1 (rd (mem ((now 5 + 1) &&& 255).toNatClampNeg) (now 5 + 1))) 2 (rd (mem ((256 + ((now 3 + 0) &&& 255)) &&& 255).toNatClampNeg) (256 + ((now 3 + 0) &&& 255)))) 3 (wr (((now 5 + 2) &&& 65535) >>> ((8 : Int32) &&& 31)) (256 + ((now 3 + 0) &&& 255)))) 4 (wr (((now 5 + 2) &&& 65535) &&& 255) (256 + ((now 3 + -1) &&& 255)))) 5 (rd ((upd (upd (mem) ((256 + ((now 3 + 0) &&& 255)) &&& 255).toNatClampNeg (((now 5 + 2) &&& 65535) >>> ((8 : Int32) &&& 31))) ((256 + ((now 3 + -1) &&& 255)) &&& 255).toNatClampNeg (((now 5 + 2) &&& 65535) &&& 255)) (((now 5 + 2) &&& 65535) &&& 255).toNatClampNeg) ((now 5 + 2) &&& 65535)), upd (upd (upd now 5 ((now 5 + 1) &&& 65535)) 3 ((now 3 - 2) &&& 255)) 5 (256 * ((upd (upd (mem) ((256 + ((now 3 + 0) &&& 255)) &&& 255).toNatClampNeg (((now 5 + 2) &&& 65535) >>> ((8 : Int32) &&& 31))) ((256 + ((now 3 + -1) &&& 255)) &&& 255).toNatClampNeg (((now 5 + 2) &&& 65535) &&& 255)) (((now 5 + 2) &&& 65535) &&& 255).toNatClampNeg) + mem ((now 5 + 1) &&& 255).toNatClampNeg), upd (upd (mem) ((256 + ((now 3 + 0) &&& 255)) &&& 255).toNatClampNeg (((now 5 + 2) &&& 65535) >>> ((8 : Int32) &&& 31))) ((256 + ((now 3 + -1) &&& 255)) &&& 255).toNatClampNeg (((now 5 + 2) &&& 65535) &&& 255), 7, ?_, ?_, rfl, qR_5 (qR_3 (qR_5 hR (qb_64 _)) (qb_and _)) (qb_hl (hM2.1 _) (hM.1 _)), hM2.2, (qP_o (by unfold qOr; decide) (by decide) (fun _ => rfl)), ⟨by decide, by decide⟩, ?_⟩
  · intro post se la co ac sq0 le0 tl0 mo0 st0 np0 lev h
    exact qb_op (MD := 0) ho (by decide) (by decide) (by decide) (by decide) (by decide) (by decide) h
  · intro post co se la sq0 ac lin h
    refine yp_sp (by decide) (by decide) ?_
    unfold wY_special_92
    refine br_f (by decide) (br_f (by decide) (br_f (by decide) (br_t (by decide) (?_))))
    refine qy_pull (by decide) ?_
    refine qy_push (by decide) ?_
    refine qy_push (by decide) ?_
    refine qy_read (by decide) ?_
    exact nm_e (nm_e h)
  · refine fu_js2 hM rfl (qP_o (by unfold qOr; decide) (by decide) (fun _ => rfl)) ⟨by decide, by decide⟩ ?_
    refine fu_js3 hM rfl (qP_o (by unfold qOr; decide) (by decide) (fun _ => rfl)) ⟨by decide, by decide⟩ ?_
    refine fu_js4 (qb_s8b _) rfl (qP_o (by unfold qOr; decide) (by decide) (fun _ => rfl)) ⟨by decide, by decide⟩ ?_
    refine fu_js5 (qb_and _) rfl (qP_o (by unfold qOr; decide) (by decide) (fun _ => rfl)) ⟨by decide, by decide⟩ ?_
    refine fe_js6 hM2 rfl (qP_o (by unfold qOr; decide) (by decide) (fun _ => rfl)) ⟨by decide, by decide⟩ ?_
    intro post se la ne co ac lev h
    unfold wpX_finish
    refine br_f (by decide) (br_f (by decide) (br_f (by decide) (br_f (by decide) (br_f (by decide) (br_f (by decide) (br_t (by decide) (?_)))))))
    exact qf_h (F := upd (upd (upd now 5 ((now 5 + 1) &&& 65535)) 3 ((now 3 - 2) &&& 255)) 5 (256 * ((upd (upd (mem) ((256 + ((now 3 + 0) &&& 255)) &&& 255).toNatClampNeg (((now 5 + 2) &&& 65535) >>> ((8 : Int32) &&& 31))) ((256 + ((now 3 + -1) &&& 255)) &&& 255).toNatClampNeg (((now 5 + 2) &&& 65535) &&& 255)) (((now 5 + 2) &&& 65535) &&& 255).toNatClampNeg) + mem ((now 5 + 1) &&& 255).toNatClampNeg)) (N := 256 * ((upd (upd (mem) ((256 + ((now 3 + 0) &&& 255)) &&& 255).toNatClampNeg (((now 5 + 2) &&& 65535) >>> ((8 : Int32) &&& 31))) ((256 + ((now 3 + -1) &&& 255)) &&& 255).toNatClampNeg (((now 5 + 2) &&& 65535) &&& 255)) (((now 5 + 2) &&& 65535) &&& 255).toNatClampNeg) + mem ((now 5 + 1) &&& 255).toNatClampNeg) (C := -2) (by unfold qnp; rw [if_neg (by decide), if_neg (by decide), if_neg (by decide)]) (by decide) rfl rfl rfl (q_s2 _) rfl (qb_hl (hM2.1 _) (hM.1 _)).symm h
theorem bg_rts {now mem lg : Nat → Int32} {lo hi pt ea uf op : Int32} (hR : qR now) (hM : qM mem) (ho : mem (now 5 &&& 255).toNatClampNeg = 96) : Bg now mem lg 0 96 96 lo hi pt ea uf op := by
  refine ⟨6, 1, 13, 0, now 5 + 1, nI 6, upd (upd (upd (upd (upd (upd lg 0 (rd 96 (now 5))) 1 (rd (mem ((now 5 + 1) &&& 255).toNatClampNeg) (now 5 + 1))) 2 (rd (mem ((256 + ((now 3 + 0) &&& 255)) &&& 255).toNatClampNeg) (256 + ((now 3 + 0) &&& 255)))) 3 (rd (mem ((256 + ((now 3 + 1) &&& 255)) &&& 255).toNatClampNeg) (256 + ((now 3 + 1) &&& 255)))) 4 (rd (mem ((256 + ((now 3 + 2) &&& 255)) &&& 255).toNatClampNeg) (256 + ((now 3 + 2) &&& 255)))) 5 (rd (mem ((256 * (mem ((256 + ((now 3 + 2) &&& 255)) &&& 255).toNatClampNeg) + mem ((256 + ((now 3 + 1) &&& 255)) &&& 255).toNatClampNeg) &&& 255).toNatClampNeg) (256 * (mem ((256 + ((now 3 + 2) &&& 255)) &&& 255).toNatClampNeg) + mem ((256 + ((now 3 + 1) &&& 255)) &&& 255).toNatClampNeg)), upd (upd (upd now 5 ((now 5 + 1) &&& 65535)) 3 ((now 3 + 2) &&& 255)) 5 ((256 * (mem ((256 + ((now 3 + 2) &&& 255)) &&& 255).toNatClampNeg) + mem ((256 + ((now 3 + 1) &&& 255)) &&& 255).toNatClampNeg + 1) &&& 65535), mem, 7, ?_, ?_, rfl, qR_5 (qR_3 (qR_5 hR (qb_64 _)) (qb_and _)) (qb_64 _), hM.2, (qP_o (by unfold qOr; decide) (by decide) (fun _ => rfl)), ⟨by decide, by decide⟩, ?_⟩
  · intro post se la co ac sq0 le0 tl0 mo0 st0 np0 lev h
    exact qb_op (MD := 0) ho (by decide) (by decide) (by decide) (by decide) (by decide) (by decide) h
  · intro post co se la sq0 ac lin h
    refine yp_sp (by decide) (by decide) ?_
    unfold wY_special_92
    refine br_f (by decide) (br_f (by decide) (br_f (by decide) (br_f (by decide) (br_f (by decide) (br_f (by decide) (br_f (by decide) (br_f (by decide) (br_f (by decide) (br_f (by decide) (br_t (by decide) (?_)))))))))))
    refine qy_pull (by decide) ?_
    refine qy_pull (by decide) ?_
    refine qy_pull (by decide) ?_
    refine qy_read (by decide) ?_
    exact nm_e (nm_e h)
  · refine fu_rs2 hM rfl (qP_o (by unfold qOr; decide) (by decide) (fun _ => rfl)) ⟨by decide, by decide⟩ ?_
    refine fu_rs3 hM rfl (qP_o (by unfold qOr; decide) (by decide) (fun _ => rfl)) ⟨by decide, by decide⟩ ?_
    refine fu_rs4 hM rfl (qP_o (by unfold qOr; decide) (by decide) (fun _ => rfl)) ⟨by decide, by decide⟩ ?_
    refine fu_rs5 hM rfl (qP_o (by unfold qOr; decide) (by decide) (fun _ => rfl)) ⟨by decide, by decide⟩ ?_
    refine fe_rs6 hM rfl (qP_o (by unfold qOr; decide) (by decide) (fun _ => rfl)) ⟨by decide, by decide⟩ ?_
    intro post se la ne co ac lev h
    unfold wpX_finish
    refine br_f (by decide) (br_f (by decide) (br_f (by decide) (br_f (by decide) (br_f (by decide) (br_f (by decide) (br_t (by decide) (?_)))))))
    exact qf_h (F := upd (upd (upd now 5 ((now 5 + 1) &&& 65535)) 3 ((now 3 + 2) &&& 255)) 5 ((256 * (mem ((256 + ((now 3 + 2) &&& 255)) &&& 255).toNatClampNeg) + mem ((256 + ((now 3 + 1) &&& 255)) &&& 255).toNatClampNeg + 1) &&& 65535)) (N := 256 * (mem ((256 + ((now 3 + 2) &&& 255)) &&& 255).toNatClampNeg) + mem ((256 + ((now 3 + 1) &&& 255)) &&& 255).toNatClampNeg + 1) (C := 2) (by unfold qnp; rw [if_pos (by decide)]) (by decide) rfl rfl rfl rfl rfl rfl h
theorem bg_rti {now mem lg : Nat → Int32} {lo hi pt ea uf op : Int32} (hR : qR now) (hM : qM mem) (ho : mem (now 5 &&& 255).toNatClampNeg = 64) : Bg now mem lg 0 64 64 lo hi pt ea uf op := by
  refine ⟨6, 1, 14, 0, now 5 + 1, nI 6, upd (upd (upd (upd (upd (upd lg 0 (rd 64 (now 5))) 1 (rd (mem ((now 5 + 1) &&& 255).toNatClampNeg) (now 5 + 1))) 2 (rd (mem ((256 + ((now 3 + 0) &&& 255)) &&& 255).toNatClampNeg) (256 + ((now 3 + 0) &&& 255)))) 3 (rd (mem ((256 + ((now 3 + 1) &&& 255)) &&& 255).toNatClampNeg) (256 + ((now 3 + 1) &&& 255)))) 4 (rd (mem ((256 + ((now 3 + 2) &&& 255)) &&& 255).toNatClampNeg) (256 + ((now 3 + 2) &&& 255)))) 5 (rd (mem ((256 + ((now 3 + 3) &&& 255)) &&& 255).toNatClampNeg) (256 + ((now 3 + 3) &&& 255))), upd (upd (upd (upd now 5 ((now 5 + 1) &&& 65535)) 3 ((now 3 + 3) &&& 255)) 4 ((mem ((256 + ((now 3 + 1) &&& 255)) &&& 255).toNatClampNeg &&& 207) ||| 32)) 5 (256 * (mem ((256 + ((now 3 + 3) &&& 255)) &&& 255).toNatClampNeg) + mem ((256 + ((now 3 + 2) &&& 255)) &&& 255).toNatClampNeg), mem, 7, ?_, ?_, rfl, qR_5 (qR_4 (qR_3 (qR_5 hR (qb_64 _)) (qb_and _)) (q_pl _)) (qb_hl (hM.1 _) (hM.1 _)), hM.2, (qP_0 (by decide) (by decide)), ⟨by decide, by decide⟩, ?_⟩
  · intro post se la co ac sq0 le0 tl0 mo0 st0 np0 lev h
    exact qb_op (MD := 0) ho (by decide) (by decide) (by decide) (by decide) (by decide) (by decide) h
  · intro post co se la sq0 ac lin h
    refine yp_sp (by decide) (by decide) ?_
    unfold wY_special_92
    refine br_f (by decide) (br_f (by decide) (br_f (by decide) (br_f (by decide) (br_f (by decide) (br_f (by decide) (br_t (by decide) (?_)))))))
    refine qy_pull (by decide) ?_
    refine qy_pull (by decide) ?_
    refine qy_pull (by decide) ?_
    refine qy_pull (by decide) ?_
    exact nm_e (nm_e (nm_e h))
  · refine fu_ri2 hM rfl (qP_0 (by decide) (by decide)) ⟨by decide, by decide⟩ ?_
    refine fu_ri3 hM rfl (qP_0 (by decide) (by decide)) ⟨by decide, by decide⟩ ?_
    refine fu_ri4 hM rfl (qP_0 (by decide) (by decide)) ⟨by decide, by decide⟩ ?_
    refine fu_ri5 hM rfl ⟨by decide, fun _ => q_p4 _⟩ ⟨by decide, by decide⟩ ?_
    refine fe_ri6 hM rfl (qP_0 (by decide) (by decide)) ⟨by decide, by decide⟩ ?_
    intro post se la ne co ac lev h
    unfold wpX_finish
    refine br_f (by decide) (br_f (by decide) (br_f (by decide) (br_t (by decide) (?_))))
    unfold wX_finish_56
    refine nm_e ?_
    exact qf_h (F := upd (upd (upd (upd now 5 ((now 5 + 1) &&& 65535)) 3 ((now 3 + 3) &&& 255)) 4 ((mem ((256 + ((now 3 + 1) &&& 255)) &&& 255).toNatClampNeg &&& 207) ||| 32)) 5 (256 * (mem ((256 + ((now 3 + 3) &&& 255)) &&& 255).toNatClampNeg) + mem ((256 + ((now 3 + 2) &&& 255)) &&& 255).toNatClampNeg)) (N := 256 * (mem ((256 + ((now 3 + 3) &&& 255)) &&& 255).toNatClampNeg) + mem ((256 + ((now 3 + 2) &&& 255)) &&& 255).toNatClampNeg) (C := 3) (by unfold qnp; rw [if_neg (by decide), if_neg (by decide), if_neg (by decide)]) (by decide) rfl rfl rfl rfl rfl (qb_hl (hM.1 _) (hM.1 _)).symm h
theorem bg_jmp {now mem lg : Nat → Int32} {lo hi pt ea uf op : Int32} (hR : qR now) (hM : qM mem) (ho : mem (now 5 &&& 255).toNatClampNeg = 76) : Bg now mem lg 0 76 76 lo hi pt ea uf op := by
  refine ⟨3, 1, 15, 0, now 5 + 1, nI 3, upd (upd (upd lg 0 (rd 76 (now 5))) 1 (rd (mem ((now 5 + 1) &&& 255).toNatClampNeg) (now 5 + 1))) 2 (rd (mem (((now 5 + 2) &&& 65535) &&& 255).toNatClampNeg) ((now 5 + 2) &&& 65535)), upd (upd now 5 ((now 5 + 1) &&& 65535)) 5 (256 * (mem (((now 5 + 2) &&& 65535) &&& 255).toNatClampNeg) + mem ((now 5 + 1) &&& 255).toNatClampNeg), mem, 7, ?_, ?_, rfl, qR_5 (qR_5 hR (qb_64 _)) (qb_hl (hM.1 _) (hM.1 _)), hM.2, (qP_o (by unfold qOr; decide) (by decide) (fun _ => rfl)), ⟨by decide, by decide⟩, ?_⟩
  · intro post se la co ac sq0 le0 tl0 mo0 st0 np0 lev h
    exact qb_op (MD := 0) ho (by decide) (by decide) (by decide) (by decide) (by decide) (by decide) h
  · intro post co se la sq0 ac lin h
    refine yp_sp (by decide) (by decide) ?_
    unfold wY_special_92
    refine br_f (by decide) (br_f (by decide) (br_f (by decide) (br_f (by decide) (br_f (by decide) (br_f (by decide) (br_f (by decide) (br_f (by decide) (br_t (by decide) (?_)))))))))
    refine qy_read (by decide) ?_
    exact nm_e h
  · refine fu_jm2 hM rfl (qP_o (by unfold qOr; decide) (by decide) (fun _ => rfl)) ⟨by decide, by decide⟩ ?_
    refine fe_jm3 hM rfl (qP_o (by unfold qOr; decide) (by decide) (fun _ => rfl)) ⟨by decide, by decide⟩ ?_
    intro post se la ne co ac lev h
    unfold wpX_finish
    refine br_f (by decide) (br_f (by decide) (br_f (by decide) (br_f (by decide) (br_f (by decide) (br_f (by decide) (br_t (by decide) (?_)))))))
    exact qf_h (F := upd (upd now 5 ((now 5 + 1) &&& 65535)) 5 (256 * (mem (((now 5 + 2) &&& 65535) &&& 255).toNatClampNeg) + mem ((now 5 + 1) &&& 255).toNatClampNeg)) (N := 256 * (mem (((now 5 + 2) &&& 65535) &&& 255).toNatClampNeg) + mem ((now 5 + 1) &&& 255).toNatClampNeg) (C := 0) (by unfold qnp; rw [if_neg (by decide), if_neg (by decide), if_neg (by decide)]) (by decide) rfl rfl rfl (q_s0 hR.1.2.2.2) rfl (qb_hl (hM.1 _) (hM.1 _)).symm h
theorem bg_jmi {now mem lg : Nat → Int32} {lo hi pt ea uf op : Int32} (hR : qR now) (hM : qM mem) (ho : mem (now 5 &&& 255).toNatClampNeg = 108) : Bg now mem lg 0 108 108 lo hi pt ea uf op := by
  refine ⟨5, 1, 16, 0, now 5 + 1, nI 5, upd (upd (upd (upd (upd lg 0 (rd 108 (now 5))) 1 (rd (mem ((now 5 + 1) &&& 255).toNatClampNeg) (now 5 + 1))) 2 (rd (mem (((now 5 + 2) &&& 65535) &&& 255).toNatClampNeg) ((now 5 + 2) &&& 65535))) 3 (rd (mem ((256 * (mem (((now 5 + 2) &&& 65535) &&& 255).toNatClampNeg) + mem ((now 5 + 1) &&& 255).toNatClampNeg) &&& 255).toNatClampNeg) (256 * (mem (((now 5 + 2) &&& 65535) &&& 255).toNatClampNeg) + mem ((now 5 + 1) &&& 255).toNatClampNeg))) 4 (rd (mem ((256 * (mem (((now 5 + 2) &&& 65535) &&& 255).toNatClampNeg) + ((mem ((now 5 + 1) &&& 255).toNatClampNeg + 1) &&& 255)) &&& 255).toNatClampNeg) (256 * (mem (((now 5 + 2) &&& 65535) &&& 255).toNatClampNeg) + ((mem ((now 5 + 1) &&& 255).toNatClampNeg + 1) &&& 255))), upd (upd now 5 ((now 5 + 1) &&& 65535)) 5 (256 * (mem ((256 * (mem (((now 5 + 2) &&& 65535) &&& 255).toNatClampNeg) + ((mem ((now 5 + 1) &&& 255).toNatClampNeg + 1) &&& 255)) &&& 255).toNatClampNeg) + mem ((256 * (mem (((now 5 + 2) &&& 65535) &&& 255).toNatClampNeg) + mem ((now 5 + 1) &&& 255).toNatClampNeg) &&& 255).toNatClampNeg), mem, 7, ?_, ?_, rfl, qR_5 (qR_5 hR (qb_64 _)) (qb_hl (hM.1 _) (hM.1 _)), hM.2, (qP_o (by unfold qOr; decide) (by decide) (fun _ => rfl)), ⟨by decide, by decide⟩, ?_⟩
  · intro post se la co ac sq0 le0 tl0 mo0 st0 np0 lev h
    exact qb_op (MD := 0) ho (by decide) (by decide) (by decide) (by decide) (by decide) (by decide) h
  · intro post co se la sq0 ac lin h
    refine yp_sp (by decide) (by decide) ?_
    unfold wY_special_92
    refine br_f (by decide) (br_f (by decide) (br_f (by decide) (br_f (by decide) (br_f (by decide) (br_f (by decide) (br_f (by decide) (br_f (by decide) (br_f (by decide) (br_f (by decide) (br_f (by decide) (br_f (by decide) (br_t (by decide) (?_)))))))))))))
    refine qy_read (by decide) ?_
    refine qy_read (by decide) ?_
    refine qy_read (by decide) ?_
    exact nm_e h
  · refine fu_ji2 hM rfl (qP_o (by unfold qOr; decide) (by decide) (fun _ => rfl)) ⟨by decide, by decide⟩ ?_
    refine fu_ji3 hM rfl (qP_o (by unfold qOr; decide) (by decide) (fun _ => rfl)) ⟨by decide, by decide⟩ ?_
    refine fu_ji4 hM rfl (qP_o (by unfold qOr; decide) (by decide) (fun _ => rfl)) ⟨by decide, by decide⟩ ?_
    refine fe_ji5 hM rfl (qP_o (by unfold qOr; decide) (by decide) (fun _ => rfl)) ⟨by decide, by decide⟩ ?_
    intro post se la ne co ac lev h
    unfold wpX_finish
    refine br_f (by decide) (br_f (by decide) (br_f (by decide) (br_f (by decide) (br_f (by decide) (br_f (by decide) (br_t (by decide) (?_)))))))
    exact qf_h (F := upd (upd now 5 ((now 5 + 1) &&& 65535)) 5 (256 * (mem ((256 * (mem (((now 5 + 2) &&& 65535) &&& 255).toNatClampNeg) + ((mem ((now 5 + 1) &&& 255).toNatClampNeg + 1) &&& 255)) &&& 255).toNatClampNeg) + mem ((256 * (mem (((now 5 + 2) &&& 65535) &&& 255).toNatClampNeg) + mem ((now 5 + 1) &&& 255).toNatClampNeg) &&& 255).toNatClampNeg)) (N := 256 * (mem ((256 * (mem (((now 5 + 2) &&& 65535) &&& 255).toNatClampNeg) + ((mem ((now 5 + 1) &&& 255).toNatClampNeg + 1) &&& 255)) &&& 255).toNatClampNeg) + mem ((256 * (mem (((now 5 + 2) &&& 65535) &&& 255).toNatClampNeg) + mem ((now 5 + 1) &&& 255).toNatClampNeg) &&& 255).toNatClampNeg) (C := 0) (by unfold qnp; rw [if_neg (by decide), if_neg (by decide), if_neg (by decide)]) (by decide) rfl rfl rfl (q_s0 hR.1.2.2.2) rfl (qb_hl (hM.1 _) (hM.1 _)).symm h
theorem bg_brk {now mem lg : Nat → Int32} {lo hi pt ea uf op : Int32} (hR : qR now) (hM : qM mem) (ho : mem (now 5 &&& 255).toNatClampNeg = 0) : Bg now mem lg 0 0 0 lo hi pt ea uf op := by
  have hM3 : qM (upd (upd (upd (mem) ((256 + ((now 3 + 0) &&& 255)) &&& 255).toNatClampNeg (((now 5 + 2) &&& 65535) >>> ((8 : Int32) &&& 31))) ((256 + ((now 3 + -1) &&& 255)) &&& 255).toNatClampNeg (((now 5 + 2) &&& 65535) &&& 255)) ((256 + ((now 3 + -2) &&& 255)) &&& 255).toNatClampNeg (now 4 + 16)) := qM_u (256 + ((now 3 + -2) &&& 255)) (qM_u (256 + ((now 3 + -1) &&& 255)) (qM_u (256 + ((now 3 + 0) &&& 255)) hM (qb_s8b _)) (qb_and _)) (qp_c16 hR.2.1.1)
  refine ⟨7, 1, 17, 0, now 5 + 1, nI 7, upd (upd (upd (upd (upd (upd (upd lg 0 (rd 0 (now 5))) 1 (rd (mem ((now 5 + 1) &&& 255).toNatClampNeg) (now 5 + 1))) 2 (wr (((now 5 + 2) &&& 65535) >>> ((8 : Int32) &&& 31)) (256 + ((now 3 + 0) &&& 255)))) 3 (wr (((now 5 + 2) &&& 65535) &&& 255) (256 + ((now 3 + -1) &&& 255)))) 4 (wr (now 4 + 16) (256 + ((now 3 + -2) &&& 255)))) 5 (rd ((upd (upd (upd (mem) ((256 + ((now 3 + 0) &&& 255)) &&& 255).toNatClampNeg (((now 5 + 2) &&& 65535) >>> ((8 : Int32) &&& 31))) ((256 + ((now 3 + -1) &&& 255)) &&& 255).toNatClampNeg (((now 5 + 2) &&& 65535) &&& 255)) ((256 + ((now 3 + -2) &&& 255)) &&& 255).toNatClampNeg (now 4 + 16)) (((65534 : Int32)) &&& 255).toNatClampNeg) 65534)) 6 (rd ((upd (upd (upd (mem) ((256 + ((now 3 + 0) &&& 255)) &&& 255).toNatClampNeg (((now 5 + 2) &&& 65535) >>> ((8 : Int32) &&& 31))) ((256 + ((now 3 + -1) &&& 255)) &&& 255).toNatClampNeg (((now 5 + 2) &&& 65535) &&& 255)) ((256 + ((now 3 + -2) &&& 255)) &&& 255).toNatClampNeg (now 4 + 16)) (((65534 : Int32) + 1) &&& 255).toNatClampNeg) (65534 + 1)), upd (upd (upd (upd now 5 ((now 5 + 1) &&& 65535)) 3 ((now 3 - 3) &&& 255)) 4 (qg (now 4) 4 1)) 5 (256 * ((upd (upd (upd (mem) ((256 + ((now 3 + 0) &&& 255)) &&& 255).toNatClampNeg (((now 5 + 2) &&& 65535) >>> ((8 : Int32) &&& 31))) ((256 + ((now 3 + -1) &&& 255)) &&& 255).toNatClampNeg (((now 5 + 2) &&& 65535) &&& 255)) ((256 + ((now 3 + -2) &&& 255)) &&& 255).toNatClampNeg (now 4 + 16)) (((65534 : Int32) + 1) &&& 255).toNatClampNeg) + (upd (upd (upd (mem) ((256 + ((now 3 + 0) &&& 255)) &&& 255).toNatClampNeg (((now 5 + 2) &&& 65535) >>> ((8 : Int32) &&& 31))) ((256 + ((now 3 + -1) &&& 255)) &&& 255).toNatClampNeg (((now 5 + 2) &&& 65535) &&& 255)) ((256 + ((now 3 + -2) &&& 255)) &&& 255).toNatClampNeg (now 4 + 16)) (((65534 : Int32)) &&& 255).toNatClampNeg), upd (upd (upd (mem) ((256 + ((now 3 + 0) &&& 255)) &&& 255).toNatClampNeg (((now 5 + 2) &&& 65535) >>> ((8 : Int32) &&& 31))) ((256 + ((now 3 + -1) &&& 255)) &&& 255).toNatClampNeg (((now 5 + 2) &&& 65535) &&& 255)) ((256 + ((now 3 + -2) &&& 255)) &&& 255).toNatClampNeg (now 4 + 16), 7, ?_, ?_, rfl, qR_5 (qR_4 (qR_3 (qR_5 hR (qb_64 _)) (qb_and _)) (qg_p _ hR.2.1.1 q_B4)) (qb_hl (hM3.1 _) (hM3.1 _)), hM3.2, (qP_0 (by decide) (by decide)), ⟨by decide, by decide⟩, ?_⟩
  · intro post se la co ac sq0 le0 tl0 mo0 st0 np0 lev h
    exact qb_op (MD := 0) ho (by decide) (by decide) (by decide) (by decide) (by decide) (by decide) h
  · intro post co se la sq0 ac lin h
    refine yp_sp (by decide) (by decide) ?_
    unfold wY_special_92
    refine br_t (by decide) (?_)
    refine qy_push (by decide) ?_
    refine qy_push (by decide) ?_
    refine qy_push (by decide) ?_
    exact yp_vec (by decide) rfl h
  · refine fu_bk2 hM rfl (qP_0 (by decide) (by decide)) ⟨by decide, by decide⟩ ?_
    refine fu_bk3 (qb_s8b _) rfl (qP_0 (by decide) (by decide)) ⟨by decide, by decide⟩ ?_
    refine fu_bk4 (qb_and _) rfl (qP_0 (by decide) (by decide)) ⟨by decide, by decide⟩ ?_
    refine fu_bk5 hR.2.1.1 (qp_c16 hR.2.1.1) rfl (qP_0 (by decide) (by decide)) ⟨by decide, by decide⟩ ?_
    refine fu_bk6 hM3 rfl (qP_0 (by decide) (by decide)) ⟨by decide, by decide⟩ ?_
    refine fe_bk7 hM3 rfl (qP_0 (by decide) (by decide)) ⟨by decide, by decide⟩ ?_
    intro post se la ne co ac lev h
    unfold wpX_finish
    refine br_f (by decide) (br_f (by decide) (br_f (by decide) (br_f (by decide) (br_t (by decide) (?_)))))
    unfold wX_finish_92
    refine qx_flag hR.2.1.1 q_B4 ?_
    exact qf_h (F := upd (upd (upd (upd now 5 ((now 5 + 1) &&& 65535)) 3 ((now 3 - 3) &&& 255)) 4 (qg (now 4) 4 1)) 5 (256 * ((upd (upd (upd (mem) ((256 + ((now 3 + 0) &&& 255)) &&& 255).toNatClampNeg (((now 5 + 2) &&& 65535) >>> ((8 : Int32) &&& 31))) ((256 + ((now 3 + -1) &&& 255)) &&& 255).toNatClampNeg (((now 5 + 2) &&& 65535) &&& 255)) ((256 + ((now 3 + -2) &&& 255)) &&& 255).toNatClampNeg (now 4 + 16)) (((65534 : Int32) + 1) &&& 255).toNatClampNeg) + (upd (upd (upd (mem) ((256 + ((now 3 + 0) &&& 255)) &&& 255).toNatClampNeg (((now 5 + 2) &&& 65535) >>> ((8 : Int32) &&& 31))) ((256 + ((now 3 + -1) &&& 255)) &&& 255).toNatClampNeg (((now 5 + 2) &&& 65535) &&& 255)) ((256 + ((now 3 + -2) &&& 255)) &&& 255).toNatClampNeg (now 4 + 16)) (((65534 : Int32)) &&& 255).toNatClampNeg)) (N := 256 * ((upd (upd (upd (mem) ((256 + ((now 3 + 0) &&& 255)) &&& 255).toNatClampNeg (((now 5 + 2) &&& 65535) >>> ((8 : Int32) &&& 31))) ((256 + ((now 3 + -1) &&& 255)) &&& 255).toNatClampNeg (((now 5 + 2) &&& 65535) &&& 255)) ((256 + ((now 3 + -2) &&& 255)) &&& 255).toNatClampNeg (now 4 + 16)) (((65534 : Int32) + 1) &&& 255).toNatClampNeg) + (upd (upd (upd (mem) ((256 + ((now 3 + 0) &&& 255)) &&& 255).toNatClampNeg (((now 5 + 2) &&& 65535) >>> ((8 : Int32) &&& 31))) ((256 + ((now 3 + -1) &&& 255)) &&& 255).toNatClampNeg (((now 5 + 2) &&& 65535) &&& 255)) ((256 + ((now 3 + -2) &&& 255)) &&& 255).toNatClampNeg (now 4 + 16)) (((65534 : Int32)) &&& 255).toNatClampNeg) (C := -3) (by unfold qnp; rw [if_neg (by decide), if_neg (by decide), if_neg (by decide)]) (by decide) rfl rfl rfl (q_s3 _) rfl (qb_hl (hM3.1 _) (hM3.1 _)).symm h
theorem bg_irq {now mem lg : Nat → Int32} {o lo hi pt ea uf op : Int32} (hR : qR now) (hM : qM mem) (ho : mem (now 5 &&& 255).toNatClampNeg = o) : Bg now mem lg 1 o 257 lo hi pt ea uf op := by
  have hb1 : (now 5 >>> ((8 : Int32) &&& 31)) &&& 255 = now 5 >>> ((8 : Int32) &&& 31) := by rw [qb_s8, hR.2.1.2]
  have hb3 : now 4 &&& 255 = now 4 := qp_b hR.2.1.1
  have hM3 : qM (upd (upd (upd (mem) ((256 + ((now 3 + 0) &&& 255)) &&& 255).toNatClampNeg (now 5 >>> ((8 : Int32) &&& 31))) ((256 + ((now 3 + -1) &&& 255)) &&& 255).toNatClampNeg (now 5 &&& 255)) ((256 + ((now 3 + -2) &&& 255)) &&& 255).toNatClampNeg (now 4)) := qM_u (256 + ((now 3 + -2) &&& 255)) (qM_u (256 + ((now 3 + -1) &&& 255)) (qM_u (256 + ((now 3 + 0) &&& 255)) hM hb1) (qb_and _)) hb3
  refine ⟨7, 1, 19, 0, now 5 + 1, nI 7, upd (upd (upd (upd (upd (upd (upd lg 0 (rd o (now 5))) 1 (rd (mem ((now 5) &&& 255).toNatClampNeg) (now 5))) 2 (wr (now 5 >>> ((8 : Int32) &&& 31)) (256 + ((now 3 + 0) &&& 255)))) 3 (wr (now 5 &&& 255) (256 + ((now 3 + -1) &&& 255)))) 4 (wr (now 4) (256 + ((now 3 + -2) &&& 255)))) 5 (rd ((upd (upd (upd (mem) ((256 + ((now 3 + 0) &&& 255)) &&& 255).toNatClampNeg (now 5 >>> ((8 : Int32) &&& 31))) ((256 + ((now 3 + -1) &&& 255)) &&& 255).toNatClampNeg (now 5 &&& 255)) ((256 + ((now 3 + -2) &&& 255)) &&& 255).toNatClampNeg (now 4)) (((65534 : Int32)) &&& 255).toNatClampNeg) 65534)) 6 (rd ((upd (upd (upd (mem) ((256 + ((now 3 + 0) &&& 255)) &&& 255).toNatClampNeg (now 5 >>> ((8 : Int32) &&& 31))) ((256 + ((now 3 + -1) &&& 255)) &&& 255).toNatClampNeg (now 5 &&& 255)) ((256 + ((now 3 + -2) &&& 255)) &&& 255).toNatClampNeg (now 4)) (((65534 : Int32) + 1) &&& 255).toNatClampNeg) (65534 + 1)), upd (upd (upd now 3 ((now 3 - 3) &&& 255)) 4 (qg (now 4) 4 1)) 5 (256 * ((upd (upd (upd (mem) ((256 + ((now 3 + 0) &&& 255)) &&& 255).toNatClampNeg (now 5 >>> ((8 : Int32) &&& 31))) ((256 + ((now 3 + -1) &&& 255)) &&& 255).toNatClampNeg (now 5 &&& 255)) ((256 + ((now 3 + -2) &&& 255)) &&& 255).toNatClampNeg (now 4)) (((65534 : Int32) + 1) &&& 255).toNatClampNeg) + (upd (upd (upd (mem) ((256 + ((now 3 + 0) &&& 255)) &&& 255).toNatClampNeg (now 5 >>> ((8 : Int32) &&& 31))) ((256 + ((now 3 + -1) &&& 255)) &&& 255).toNatClampNeg (now 5 &&& 255)) ((256 + ((now 3 + -2) &&& 255)) &&& 255).toNatClampNeg (now 4)) (((65534 : Int32)) &&& 255).toNatClampNeg), upd (upd (upd (mem) ((256 + ((now 3 + 0) &&& 255)) &&& 255).toNatClampNeg (now 5 >>> ((8 : Int32) &&& 31))) ((256 + ((now 3 + -1) &&& 255)) &&& 255).toNatClampNeg (now 5 &&& 255)) ((256 + ((now 3 + -2) &&& 255)) &&& 255).toNatClampNeg (now 4), 7, ?_, ?_, rfl, qR_5 (qR_4 (qR_3 hR (qb_and _)) (qg_p _ hR.2.1.1 q_B4)) (qb_hl (hM3.1 _) (hM3.1 _)), hM3.2, (qP_0 (by decide) (by decide)), ⟨by decide, by decide⟩, ?_⟩
  · intro post se la co ac sq0 le0 tl0 mo0 st0 np0 lev h
    exact qb_en ho (by decide) h
  · intro post co se la sq0 ac lin h
    unfold wY_plan_95
    refine qy_mode ?_
    refine br_f (by decide) ?_
    refine qy_read (by decide) ?_
    refine br_f (by decide) ?_
    refine qy_push (by decide) ?_
    refine qy_push (by decide) ?_
    refine qy_push (by decide) ?_
    unfold wY_plan_173
    refine br_f (by decide) (br_f (by decide) (?_))
    unfold wY_plan_196
    exact yp_vec (by decide) rfl h
  · refine fu_eq2 hM rfl (qP_0 (by decide) (by decide)) ⟨by decide, by decide⟩ ?_
    refine fu_eq3 hR.2.1.2 hb1 rfl (qP_0 (by decide) (by decide)) ⟨by decide, by decide⟩ ?_
    refine fu_eq4 (qb_and _) rfl (qP_0 (by decide) (by decide)) ⟨by decide, by decide⟩ ?_
    refine fu_eq5 hR.2.1.1 hb3 rfl (qP_0 (by decide) (by decide)) ⟨by decide, by decide⟩ ?_
    refine fu_eq6 hM3 rfl (qP_0 (by decide) (by decide)) ⟨by decide, by decide⟩ ?_
    refine fe_eq7 hM3 rfl (qP_0 (by decide) (by decide)) ⟨by decide, by decide⟩ ?_
    intro post se la ne co ac lev h
    unfold wpX_finish
    refine br_f (by decide) (br_f (by decide) (br_f (by decide) (br_f (by decide) (br_f (by decide) (br_t (by decide) (?_))))))
    unfold wX_finish_92
    refine qx_flag hR.2.1.1 q_B4 ?_
    exact qf_h (F := upd (upd (upd now 3 ((now 3 - 3) &&& 255)) 4 (qg (now 4) 4 1)) 5 (256 * ((upd (upd (upd (mem) ((256 + ((now 3 + 0) &&& 255)) &&& 255).toNatClampNeg (now 5 >>> ((8 : Int32) &&& 31))) ((256 + ((now 3 + -1) &&& 255)) &&& 255).toNatClampNeg (now 5 &&& 255)) ((256 + ((now 3 + -2) &&& 255)) &&& 255).toNatClampNeg (now 4)) (((65534 : Int32) + 1) &&& 255).toNatClampNeg) + (upd (upd (upd (mem) ((256 + ((now 3 + 0) &&& 255)) &&& 255).toNatClampNeg (now 5 >>> ((8 : Int32) &&& 31))) ((256 + ((now 3 + -1) &&& 255)) &&& 255).toNatClampNeg (now 5 &&& 255)) ((256 + ((now 3 + -2) &&& 255)) &&& 255).toNatClampNeg (now 4)) (((65534 : Int32)) &&& 255).toNatClampNeg)) (N := 256 * ((upd (upd (upd (mem) ((256 + ((now 3 + 0) &&& 255)) &&& 255).toNatClampNeg (now 5 >>> ((8 : Int32) &&& 31))) ((256 + ((now 3 + -1) &&& 255)) &&& 255).toNatClampNeg (now 5 &&& 255)) ((256 + ((now 3 + -2) &&& 255)) &&& 255).toNatClampNeg (now 4)) (((65534 : Int32) + 1) &&& 255).toNatClampNeg) + (upd (upd (upd (mem) ((256 + ((now 3 + 0) &&& 255)) &&& 255).toNatClampNeg (now 5 >>> ((8 : Int32) &&& 31))) ((256 + ((now 3 + -1) &&& 255)) &&& 255).toNatClampNeg (now 5 &&& 255)) ((256 + ((now 3 + -2) &&& 255)) &&& 255).toNatClampNeg (now 4)) (((65534 : Int32)) &&& 255).toNatClampNeg) (C := -3) (by unfold qnp; rw [if_neg (by decide), if_neg (by decide), if_neg (by decide)]) (by decide) rfl rfl rfl (q_s3 _) rfl (qb_hl (hM3.1 _) (hM3.1 _)).symm h
theorem bg_nmi {now mem lg : Nat → Int32} {o lo hi pt ea uf op : Int32} (hR : qR now) (hM : qM mem) (ho : mem (now 5 &&& 255).toNatClampNeg = o) : Bg now mem lg 2 o 258 lo hi pt ea uf op := by
  have hb1 : (now 5 >>> ((8 : Int32) &&& 31)) &&& 255 = now 5 >>> ((8 : Int32) &&& 31) := by rw [qb_s8, hR.2.1.2]
  have hb3 : now 4 &&& 255 = now 4 := qp_b hR.2.1.1
  have hM3 : qM (upd (upd (upd (mem) ((256 + ((now 3 + 0) &&& 255)) &&& 255).toNatClampNeg (now 5 >>> ((8 : Int32) &&& 31))) ((256 + ((now 3 + -1) &&& 255)) &&& 255).toNatClampNeg (now 5 &&& 255)) ((256 + ((now 3 + -2) &&& 255)) &&& 255).toNatClampNeg (now 4)) := qM_u (256 + ((now 3 + -2) &&& 255)) (qM_u (256 + ((now 3 + -1) &&& 255)) (qM_u (256 + ((now 3 + 0) &&& 255)) hM hb1) (qb_and _)) hb3
  refine ⟨7, 1, 19, 0, now 5 + 1, nI 7, upd (upd (upd (upd (upd (upd (upd lg 0 (rd o (now 5))) 1 (rd (mem ((now 5) &&& 255).toNatClampNeg) (now 5))) 2 (wr (now 5 >>> ((8 : Int32) &&& 31)) (256 + ((now 3 + 0) &&& 255)))) 3 (wr (now 5 &&& 255) (256 + ((now 3 + -1) &&& 255)))) 4 (wr (now 4) (256 + ((now 3 + -2) &&& 255)))) 5 (rd ((upd (upd (upd (mem) ((256 + ((now 3 + 0) &&& 255)) &&& 255).toNatClampNeg (now 5 >>> ((8 : Int32) &&& 31))) ((256 + ((now 3 + -1) &&& 255)) &&& 255).toNatClampNeg (now 5 &&& 255)) ((256 + ((now 3 + -2) &&& 255)) &&& 255).toNatClampNeg (now 4)) (((65530 : Int32)) &&& 255).toNatClampNeg) 65530)) 6 (rd ((upd (upd (upd (mem) ((256 + ((now 3 + 0) &&& 255)) &&& 255).toNatClampNeg (now 5 >>> ((8 : Int32) &&& 31))) ((256 + ((now 3 + -1) &&& 255)) &&& 255).toNatClampNeg (now 5 &&& 255)) ((256 + ((now 3 + -2) &&& 255)) &&& 255).toNatClampNeg (now 4)) (((65530 : Int32) + 1) &&& 255).toNatClampNeg) (65530 + 1)), upd (upd (upd now 3 ((now 3 - 3) &&& 255)) 4 (qg (now 4) 4 1)) 5 (256 * ((upd (upd (upd (mem) ((256 + ((now 3 + 0) &&& 255)) &&& 255).toNatClampNeg (now 5 >>> ((8 : Int32) &&& 31))) ((256 + ((now 3 + -1) &&& 255)) &&& 255).toNatClampNeg (now 5 &&& 255)) ((256 + ((now 3 + -2) &&& 255)) &&& 255).toNatClampNeg (now 4)) (((65530 : Int32) + 1) &&& 255).toNatClampNeg) + (upd (upd (upd (mem) ((256 + ((now 3 + 0) &&& 255)) &&& 255).toNatClampNeg (now 5 >>> ((8 : Int32) &&& 31))) ((256 + ((now 3 + -1) &&& 255)) &&& 255).toNatClampNeg (now 5 &&& 255)) ((256 + ((now 3 + -2) &&& 255)) &&& 255).toNatClampNeg (now 4)) (((65530 : Int32)) &&& 255).toNatClampNeg), upd (upd (upd (mem) ((256 + ((now 3 + 0) &&& 255)) &&& 255).toNatClampNeg (now 5 >>> ((8 : Int32) &&& 31))) ((256 + ((now 3 + -1) &&& 255)) &&& 255).toNatClampNeg (now 5 &&& 255)) ((256 + ((now 3 + -2) &&& 255)) &&& 255).toNatClampNeg (now 4), 7, ?_, ?_, rfl, qR_5 (qR_4 (qR_3 hR (qb_and _)) (qg_p _ hR.2.1.1 q_B4)) (qb_hl (hM3.1 _) (hM3.1 _)), hM3.2, (qP_0 (by decide) (by decide)), ⟨by decide, by decide⟩, ?_⟩
  · intro post se la co ac sq0 le0 tl0 mo0 st0 np0 lev h
    exact qb_en ho (by decide) h
  · intro post co se la sq0 ac lin h
    unfold wY_plan_95
    refine qy_mode ?_
    refine br_f (by decide) ?_
    refine qy_read (by decide) ?_
    refine br_f (by decide) ?_
    refine qy_push (by decide) ?_
    refine qy_push (by decide) ?_
    refine qy_push (by decide) ?_
    unfold wY_plan_173
    refine br_f (by decide) (br_t (by decide) (?_))
    unfold wY_plan_196
    exact yp_vec (by decide) rfl h
  · refine fu_en2 hM rfl (qP_0 (by decide) (by decide)) ⟨by decide, by decide⟩ ?_
    refine fu_en3 hR.2.1.2 hb1 rfl (qP_0 (by decide) (by decide)) ⟨by decide, by decide⟩ ?_
    refine fu_en4 (qb_and _) rfl (qP_0 (by decide) (by decide)) ⟨by decide, by decide⟩ ?_
    refine fu_en5 hR.2.1.1 hb3 rfl (qP_0 (by decide) (by decide)) ⟨by decide, by decide⟩ ?_
    refine fu_en6 hM3 rfl (qP_0 (by decide) (by decide)) ⟨by decide, by decide⟩ ?_
    refine fe_en7 hM3 rfl (qP_0 (by decide) (by decide)) ⟨by decide, by decide⟩ ?_
    intro post se la ne co ac lev h
    unfold wpX_finish
    refine br_f (by decide) (br_f (by decide) (br_f (by decide) (br_f (by decide) (br_f (by decide) (br_t (by decide) (?_))))))
    unfold wX_finish_92
    refine qx_flag hR.2.1.1 q_B4 ?_
    exact qf_h (F := upd (upd (upd now 3 ((now 3 - 3) &&& 255)) 4 (qg (now 4) 4 1)) 5 (256 * ((upd (upd (upd (mem) ((256 + ((now 3 + 0) &&& 255)) &&& 255).toNatClampNeg (now 5 >>> ((8 : Int32) &&& 31))) ((256 + ((now 3 + -1) &&& 255)) &&& 255).toNatClampNeg (now 5 &&& 255)) ((256 + ((now 3 + -2) &&& 255)) &&& 255).toNatClampNeg (now 4)) (((65530 : Int32) + 1) &&& 255).toNatClampNeg) + (upd (upd (upd (mem) ((256 + ((now 3 + 0) &&& 255)) &&& 255).toNatClampNeg (now 5 >>> ((8 : Int32) &&& 31))) ((256 + ((now 3 + -1) &&& 255)) &&& 255).toNatClampNeg (now 5 &&& 255)) ((256 + ((now 3 + -2) &&& 255)) &&& 255).toNatClampNeg (now 4)) (((65530 : Int32)) &&& 255).toNatClampNeg)) (N := 256 * ((upd (upd (upd (mem) ((256 + ((now 3 + 0) &&& 255)) &&& 255).toNatClampNeg (now 5 >>> ((8 : Int32) &&& 31))) ((256 + ((now 3 + -1) &&& 255)) &&& 255).toNatClampNeg (now 5 &&& 255)) ((256 + ((now 3 + -2) &&& 255)) &&& 255).toNatClampNeg (now 4)) (((65530 : Int32) + 1) &&& 255).toNatClampNeg) + (upd (upd (upd (mem) ((256 + ((now 3 + 0) &&& 255)) &&& 255).toNatClampNeg (now 5 >>> ((8 : Int32) &&& 31))) ((256 + ((now 3 + -1) &&& 255)) &&& 255).toNatClampNeg (now 5 &&& 255)) ((256 + ((now 3 + -2) &&& 255)) &&& 255).toNatClampNeg (now 4)) (((65530 : Int32)) &&& 255).toNatClampNeg) (C := -3) (by unfold qnp; rw [if_neg (by decide), if_neg (by decide), if_neg (by decide)]) (by decide) rfl rfl rfl (q_s3 _) rfl (qb_hl (hM3.1 _) (hM3.1 _)).symm h
theorem bg_rst {now mem lg : Nat → Int32} {o lo hi pt ea uf op : Int32} (hR : qR now) (hM : qM mem) (ho : mem (now 5 &&& 255).toNatClampNeg = o) : Bg now mem lg 3 o 259 lo hi pt ea uf op := by
  have hb1 : (now 5 >>> ((8 : Int32) &&& 31)) &&& 255 = now 5 >>> ((8 : Int32) &&& 31) := by rw [qb_s8, hR.2.1.2]
  have hb3 : now 4 &&& 255 = now 4 := qp_b hR.2.1.1
  have hM3 : qM mem := hM
  refine ⟨7, 1, 19, 0, now 5 + 1, nI 7, upd (upd (upd (upd (upd (upd (upd lg 0 (rd o (now 5))) 1 (rd (mem ((now 5) &&& 255).toNatClampNeg) (now 5))) 2 (rd (mem ((256 + ((now 3 + 0) &&& 255)) &&& 255).toNatClampNeg) (256 + ((now 3 + 0) &&& 255)))) 3 (rd (mem ((256 + ((now 3 + -1) &&& 255)) &&& 255).toNatClampNeg) (256 + ((now 3 + -1) &&& 255)))) 4 (rd (mem ((256 + ((now 3 + -2) &&& 255)) &&& 255).toNatClampNeg) (256 + ((now 3 + -2) &&& 255)))) 5 (rd (mem (((65532 : Int32)) &&& 255).toNatClampNeg) 65532)) 6 (rd (mem (((65532 : Int32) + 1) &&& 255).toNatClampNeg) (65532 + 1)), upd (upd (upd now 3 ((now 3 - 3) &&& 255)) 4 (qg (now 4) 4 1)) 5 (256 * (mem (((65532 : Int32) + 1) &&& 255).toNatClampNeg) + mem (((65532 : Int32)) &&& 255).toNatClampNeg), mem, 7, ?_, ?_, rfl, qR_5 (qR_4 (qR_3 hR (qb_and _)) (qg_p _ hR.2.1.1 q_B4)) (qb_hl (hM3.1 _) (hM3.1 _)), hM3.2, (qP_0 (by decide) (by decide)), ⟨by decide, by decide⟩, ?_⟩
  · intro post se la co ac sq0 le0 tl0 mo0 st0 np0 lev h
    exact qb_en ho (by decide) h
  · intro post co se la sq0 ac lin h
    unfold wY_plan_95
    refine qy_mode ?_
    refine br_f (by decide) ?_
    refine qy_read (by decide) ?_
    refine br_t (by decide) ?_
    refine qy_pull (by decide) ?_
    refine qy_pull (by decide) ?_
    refine qy_pull (by decide) ?_
    unfold wY_plan_173
    refine br_t (by decide) (?_)
    unfold wY_plan_196
    exact yp_vec (by decide) rfl h
  · refine fu_er2 hM rfl (qP_0 (by decide) (by decide)) ⟨by decide, by decide⟩ ?_
    refine fu_er3 hM rfl (qP_0 (by decide) (by decide)) ⟨by decide, by decide⟩ ?_
    refine fu_er4 hM rfl (qP_0 (by decide) (by decide)) ⟨by decide, by decide⟩ ?_
    refine fu_er5 hM rfl (qP_0 (by decide) (by decide)) ⟨by decide, by decide⟩ ?_
    refine fu_er6 hM3 rfl (qP_0 (by decide) (by decide)) ⟨by decide, by decide⟩ ?_
    refine fe_er7 hM3 rfl (qP_0 (by decide) (by decide)) ⟨by decide, by decide⟩ ?_
    intro post se la ne co ac lev h
    unfold wpX_finish
    refine br_f (by decide) (br_f (by decide) (br_f (by decide) (br_f (by decide) (br_f (by decide) (br_t (by decide) (?_))))))
    unfold wX_finish_92
    refine qx_flag hR.2.1.1 q_B4 ?_
    exact qf_h (F := upd (upd (upd now 3 ((now 3 - 3) &&& 255)) 4 (qg (now 4) 4 1)) 5 (256 * (mem (((65532 : Int32) + 1) &&& 255).toNatClampNeg) + mem (((65532 : Int32)) &&& 255).toNatClampNeg)) (N := 256 * (mem (((65532 : Int32) + 1) &&& 255).toNatClampNeg) + mem (((65532 : Int32)) &&& 255).toNatClampNeg) (C := -3) (by unfold qnp; rw [if_neg (by decide), if_neg (by decide), if_neg (by decide)]) (by decide) rfl rfl rfl (q_s3 _) rfl (qb_hl (hM3.1 _) (hM3.1 _)).symm h
end
section
/-! sequences without an address: immediate, accumulator, flags, registers, nothing, branches -/
theorem bg_imm {now mem lg : Nat → Int32} {o lo hi pt ea uf op : Int32} (hR : qR now) (hM : qM mem) (ho : mem (now 5 &&& 255).toNatClampNeg = o) (hx : qxm o = 1) (hy : qym o = 2) (hO : qOr o 1) (h68 : ¬ o = 104) (hw : ¬ (o >>> ((5 : Int32) &&& 31)) = 4) (hyd : qyd (o >>> ((5 : Int32) &&& 31)) (o &&& 3) = 0) (hOO : qO (o >>> ((5 : Int32) &&& 31)) (o &&& 3)) : Bg now mem lg 0 o o lo hi pt ea uf op := by
  obtain ⟨F, hRF, h3, h5, hX, hYJ⟩ := qJ_all (m := mem ((now 5 + 1) &&& 255).toNatClampNeg) (n := (now 5 + 2) &&& 65535) hR (hM.1 _) (qb_64 _) hOO
  refine ⟨2, 1, 1, 0, now 5 + 2, nI 2, upd (upd lg 0 (rd o (now 5))) 1 (rd (mem ((now 5 + 1) &&& 255).toNatClampNeg) (now 5 + 1)), F, mem, 7, ?_, ?_, rfl, hRF, hM.2, (qP_o hO (by decide) (fun _ => rfl)), ⟨by decide, by decide⟩, ?_⟩
  · intro post se la co ac sq0 le0 tl0 mo0 st0 np0 lev h
    exact qb_op (MD := 0) ho hx (if_pos (by decide)) (if_pos (by decide)) (by decide) (by decide) (by decide) h
  · intro post co se la sq0 ac lin h
    refine yp_mem hy (by decide) (if_neg hw) hyd ?_
    unfold wY_operate_50
    refine br_f (by decide) (nm_e (br_t (by decide) (nm_e ?_)))
    exact yo_r (by decide) hYJ rfl h
  · exact fe_o1 hM rfl (qP_o hO (by decide) (fun _ => rfl)) ⟨by decide, by decide⟩ (qf_rd (by unfold qMd; decide) h68 hR.1.2.2.2 h3 h5 rfl hX)
theorem bg_o10 {now mem lg : Nat → Int32} {lo hi pt ea uf op : Int32} (hR : qR now) (hM : qM mem) (ho : mem (now 5 &&& 255).toNatClampNeg = 10) : Bg now mem lg 0 10 10 lo hi pt ea uf op := by
  refine ⟨2, 1, 0, 0, now 5 + 1, nI 2, upd (upd lg 0 (rd 10 (now 5))) 1 (rd (mem ((now 5 + 1) &&& 255).toNatClampNeg) (now 5 + 1)), upd (upd (upd now 5 ((now 5 + 1) &&& 65535)) 4 (qmp ((10 : Int32) >>> ((5 : Int32) &&& 31)) (now 4) (now 0))) 0 (qmv ((10 : Int32) >>> ((5 : Int32) &&& 31)) (now 4) (now 0) &&& 255), mem, 7, ?_, ?_, rfl, qR_0 (qR_4 (qR_5 hR (qb_64 _)) (qmp_p _ _ hR.2.1.1)) (qb_and _), hM.2, (qP_o (by unfold qOr; decide) (by decide) (fun _ => rfl)), ⟨by decide, by decide⟩, ?_⟩
  · intro post se la co ac sq0 le0 tl0 mo0 st0 np0 lev h
    exact qb_op (MD := 0) ho (by decide) (by decide) (by decide) (by decide) (by decide) (by decide) h
  · intro post co se la sq0 ac lin h
    refine yp_mem (M := 1) (MD := 1) (by decide) (by decide) (if_neg (by decide)) (by decide) ?_
    unfold wY_operate_50
    refine br_t (by decide) ?_
    refine qy_read (by decide) ?_
    refine nm_e ?_
    refine qy_modify rfl (by decide) ?_
    exact nm_e h
  · refine fe_o0 hM rfl (qP_o (by unfold qOr; decide) (by decide) (fun _ => rfl)) ⟨by decide, by decide⟩ ?_
    intro post se la ne co ac lev h
    unfold wpX_finish
    refine br_t (by decide) (?_)
    unfold wpX_implied
    refine br_t (by decide) ?_
    refine qx_shift hR.2.1.1 hR.1.1 rfl (by decide) ?_
    exact qf_h (F := upd (upd (upd now 5 ((now 5 + 1) &&& 65535)) 4 (qmp ((10 : Int32) >>> ((5 : Int32) &&& 31)) (now 4) (now 0))) 0 (qmv ((10 : Int32) >>> ((5 : Int32) &&& 31)) (now 4) (now 0) &&& 255)) (N := now 5 + 1) (C := 0) (by unfold qnp; rw [if_neg (by decide), if_pos (by decide)]) (by decide) rfl rfl rfl (q_s0 hR.1.2.2.2) rfl rfl h
theorem bg_o42 {now mem lg : Nat → Int32} {lo hi pt ea uf op : Int32} (hR : qR now) (hM : qM mem) (ho : mem (now 5 &&& 255).toNatClampNeg = 42) : Bg now mem lg 0 42 42 lo hi pt ea uf op := by
  refine ⟨2, 1, 0, 0, now 5 + 1, nI 2, upd (upd lg 0 (rd 42 (now 5))) 1 (rd (mem ((now 5 + 1) &&& 255).toNatClampNeg) (now 5 + 1)), upd (upd (upd now 5 ((now 5 + 1) &&& 65535)) 4 (qmp ((42 : Int32) >>> ((5 : Int32) &&& 31)) (now 4) (now 0))) 0 (qmv ((42 : Int32) >>> ((5 : Int32) &&& 31)) (now 4) (now 0) &&& 255), mem, 7, ?_, ?_, rfl, qR_0 (qR_4 (qR_5 hR (qb_64 _)) (qmp_p _ _ hR.2.1.1)) (qb_and _), hM.2, (qP_o (by unfold qOr; decide) (by decide) (fun _ => rfl)), ⟨by decide, by decide⟩, ?_⟩
  · intro post se la co ac sq0 le0 tl0 mo0 st0 np0 lev h
    exact qb_op (MD := 0) ho (by decide) (by decide) (by decide) (by decide) (by decide) (by decide) h
  · intro post co se la sq0 ac lin h
    refine yp_mem (M := 1) (MD := 1) (by decide) (by decide) (if_neg (by decide)) (by decide) ?_
    unfold wY_operate_50
    refine br_t (by decide) ?_
    refine qy_read (by decide) ?_
    refine nm_e ?_
    refine qy_modify rfl (by decide) ?_
    exact nm_e h
  · refine fe_o0 hM rfl (qP_o (by unfold qOr; decide) (by decide) (fun _ => rfl)) ⟨by decide, by decide⟩ ?_
    intro post se la ne co ac lev h
    unfold wpX_finish
    refine br_t (by decide) (?_)
    unfold wpX_implied
    refine br_t (by decide) ?_
    refine qx_shift hR.2.1.1 hR.1.1 rfl (by decide) ?_
    exact qf_h (F := upd (upd (upd now 5 ((now 5 + 1) &&& 65535)) 4 (qmp ((42 : Int32) >>> ((5 : Int32) &&& 31)) (now 4) (now 0))) 0 (qmv ((42 : Int32) >>> ((5 : Int32) &&& 31)) (now 4) (now 0) &&& 255)) (N := now 5 + 1) (C := 0) (by unfold qnp; rw [if_neg (by decide), if_pos (by decide)]) (by decide) rfl rfl rfl (q_s0 hR.1.2.2.2) rfl rfl h
theorem bg_o74 {now mem lg : Nat → Int32} {lo hi pt ea uf op : Int32} (hR : qR now) (hM : qM mem) (ho : mem (now 5 &&& 255).toNatClampNeg = 74) : Bg now mem lg 0 74 74 lo hi pt ea uf op := by
  refine ⟨2, 1, 0, 0, now 5 + 1, nI 2, upd (upd lg 0 (rd 74 (now 5))) 1 (rd (mem ((now 5 + 1) &&& 255).toNatClampNeg) (now 5 + 1)), upd (upd (upd now 5 ((now 5 + 1) &&& 65535)) 4 (qmp ((74 : Int32) >>> ((5 : Int32) &&& 31)) (now 4) (now 0))) 0 (qmv ((74 : Int32) >>> ((5 : Int32) &&& 31)) (now 4) (now 0) &&& 255), mem, 7, ?_, ?_, rfl, qR_0 (qR_4 (qR_5 hR (qb_64 _)) (qmp_p _ _ hR.2.1.1)) (qb_and _), hM.2, (qP_o (by unfold qOr; decide) (by decide) (fun _ => rfl)), ⟨by decide, by decide⟩, ?_⟩
  · intro post se la co ac sq0 le0 tl0 mo0 st0 np0 lev h
    exact qb_op (MD := 0) ho (by decide) (by decide) (by decide) (by decide) (by decide) (by decide) h
  · intro post co se la sq0 ac lin h
    refine yp_mem (M := 1) (MD := 1) (by decide) (by decide) (if_neg (by decide)) (by decide) ?_
    unfold wY_operate_50
    refine br_t (by decide) ?_
    refine qy_read (by decide) ?_
    refine nm_e ?_
    refine qy_modify rfl (by decide) ?_
    exact nm_e h
  · refine fe_o0 hM rfl (qP_o (by unfold qOr; decide) (by decide) (fun _ => rfl)) ⟨by decide, by decide⟩ ?_
    intro post se la ne co ac lev h
    unfold wpX_finish
    refine br_t (by decide) (?_)
    unfold wpX_implied
    refine br_t (by decide) ?_
    refine qx_shift hR.2.1.1 hR.1.1 rfl (by decide) ?_
    exact qf_h (F := upd (upd (upd now 5 ((now 5 + 1) &&& 65535)) 4 (qmp ((74 : Int32) >>> ((5 : Int32) &&& 31)) (now 4) (now 0))) 0 (qmv ((74 : Int32) >>> ((5 : Int32) &&& 31)) (now 4) (now 0) &&& 255)) (N := now 5 + 1) (C := 0) (by unfold qnp; rw [if_neg (by decide), if_pos (by decide)]) (by decide) rfl rfl rfl (q_s0 hR.1.2.2.2) rfl rfl h
theorem bg_o106 {now mem lg : Nat → Int32} {lo hi pt ea uf op : Int32} (hR : qR now) (hM : qM mem) (ho : mem (now 5 &&& 255).toNatClampNeg = 106) : Bg now mem lg 0 106 106 lo hi pt ea uf op := by
  refine ⟨2, 1, 0, 0, now 5 + 1, nI 2, upd (upd lg 0 (rd 106 (now 5))) 1 (rd (mem ((now 5 + 1) &&& 255).toNatClampNeg) (now 5 + 1)), upd (upd (upd now 5 ((now 5 + 1) &&& 65535)) 4 (qmp ((106 : Int32) >>> ((5 : Int32) &&& 31)) (now 4) (now 0))) 0 (qmv ((106 : Int32) >>> ((5 : Int32) &&& 31)) (now 4) (now 0) &&& 255), mem, 7, ?_, ?_, rfl, qR_0 (qR_4 (qR_5 hR (qb_64 _)) (qmp_p _ _ hR.2.1.1)) (qb_and _), hM.2, (qP_o (by unfold qOr; decide) (by decide) (fun _ => rfl)), ⟨by decide, by decide⟩, ?_⟩
  · intro post se la co ac sq0 le0 tl0 mo0 st0 np0 lev h
    exact qb_op (MD := 0) ho (by decide) (by decide) (by decide) (by decide) (by decide) (by decide) h
  · intro post co se la sq0 ac lin h
    refine yp_mem (M := 1) (MD := 1) (by decide) (by decide) (if_neg (by decide)) (by decide) ?_
    unfold wY_operate_50
    refine br_t (by decide) ?_
    refine qy_read (by decide) ?_
    refine nm_e ?_
    refine qy_modify rfl (by decide) ?_
    exact nm_e h
  · refine fe_o0 hM rfl (qP_o (by unfold qOr; decide) (by decide) (fun _ => rfl)) ⟨by decide, by decide⟩ ?_
    intro post se la ne co ac lev h
    unfold wpX_finish
    refine br_t (by decide) (?_)
    unfold wpX_implied
    refine br_t (by decide) ?_
    refine qx_shift hR.2.1.1 hR.1.1 rfl (by decide) ?_
    exact qf_h (F := upd (upd (upd now 5 ((now 5 + 1) &&& 65535)) 4 (qmp ((106 : Int32) >>> ((5 : Int32) &&& 31)) (now 4) (now 0))) 0 (qmv ((106 : Int32) >>> ((5 : Int32) &&& 31)) (now 4) (now 0) &&& 255)) (N := now 5 + 1) (C := 0) (by unfold qnp; rw [if_neg (by decide), if_pos (by decide)]) (by decide) rfl rfl rfl (q_s0 hR.1.2.2.2) rfl rfl h
theorem bg_o24 {now mem lg : Nat → Int32} {lo hi pt ea uf op : Int32} (hR : qR now) (hM : qM mem) (ho : mem (now 5 &&& 255).toNatClampNeg = 24) : Bg now mem lg 0 24 24 lo hi pt ea uf op := by
  refine ⟨2, 1, 0, 0, now 5 + 1, nI 2, upd (upd lg 0 (rd 24 (now 5))) 1 (rd (mem ((now 5 + 1) &&& 255).toNatClampNeg) (now 5 + 1)), upd (upd now 5 ((now 5 + 1) &&& 65535)) 4 (qg (now 4) 1 0), mem, 7, ?_, ?_, rfl, qR_4 (qR_5 hR (qb_64 _)) (qg_p _ hR.2.1.1 q_B1), hM.2, (qP_o (by unfold qOr; decide) (by decide) (fun _ => rfl)), ⟨by decide, by decide⟩, ?_⟩
  · intro post se la co ac sq0 le0 tl0 mo0 st0 np0 lev h
    exact qb_op (MD := 0) ho (by decide) (by decide) (by decide) (by decide) (by decide) (by decide) h
  · intro post co se la sq0 ac lin h
    refine yp_sp (by decide) (by decide) ?_
    unfold wY_special_92
    refine br_f (by decide) (br_f (by decide) (br_t (by decide) (?_)))
    unfold wY_special_791
    refine br_f (by decide) ?_
    unfold wY_special_804
    exact qy_flag h
  · refine fe_o0 hM rfl (qP_o (by unfold qOr; decide) (by decide) (fun _ => rfl)) ⟨by decide, by decide⟩ ?_
    intro post se la ne co ac lev h
    unfold wpX_finish
    refine br_t (by decide) (?_)
    unfold wpX_implied
    refine br_f (by decide) (br_t (by decide) (br_f (by decide) ?_))
    unfold wpX_flagInstruction
    refine nm_e (br_t (by decide) (?_))
    unfold wX_flagInstruction_38
    refine br_t (by decide) ?_
    unfold wX_flagInstruction_60
    unfold wX_flagInstruction_61
    refine qx_flag hR.2.1.1 q_B1 ?_
    exact qf_h (F := upd (upd now 5 ((now 5 + 1) &&& 65535)) 4 (qg (now 4) 1 0)) (N := now 5 + 1) (C := 0) (by unfold qnp; rw [if_neg (by decide), if_pos (by decide)]) (by decide) rfl rfl rfl (q_s0 hR.1.2.2.2) rfl rfl h
theorem bg_o56 {now mem lg : Nat → Int32} {lo hi pt ea uf op : Int32} (hR : qR now) (hM : qM mem) (ho : mem (now 5 &&& 255).toNatClampNeg = 56) : Bg now mem lg 0 56 56 lo hi pt ea uf op := by
  refine ⟨2, 1, 0, 0, now 5 + 1, nI 2, upd (upd lg 0 (rd 56 (now 5))) 1 (rd (mem ((now 5 + 1) &&& 255).toNatClampNeg) (now 5 + 1)), upd (upd now 5 ((now 5 + 1) &&& 65535)) 4 (qg (now 4) 1 1), mem, 7, ?_, ?_, rfl, qR_4 (qR_5 hR (qb_64 _)) (qg_p _ hR.2.1.1 q_B1), hM.2, (qP_o (by unfold qOr; decide) (by decide) (fun _ => rfl)), ⟨by decide, by decide⟩, ?_⟩
  · intro post se la co ac sq0 le0 tl0 mo0 st0 np0 lev h
    exact qb_op (MD := 0) ho (by decide) (by decide) (by decide) (by decide) (by decide) (by decide) h
  · intro post co se la sq0 ac lin h
    refine yp_sp (by decide) (by decide) ?_
    unfold wY_special_92
    refine br_f (by decide) (br_f (by decide) (br_f (by decide) (br_f (by decide) (br_f (by decide) (br_t (by decide) (?_))))))
    unfold wY_special_791
    refine br_t (by decide) ?_
    unfold wY_special_804
    exact qy_flag h
  · refine fe_o0 hM rfl (qP_o (by unfold qOr; decide) (by decide) (fun _ => rfl)) ⟨by decide, by decide⟩ ?_
    intro post se la ne co ac lev h
    unfold wpX_finish
    refine br_t (by decide) (?_)
    unfold wpX_implied
    refine br_f (by decide) (br_t (by decide) (br_f (by decide) ?_))
    unfold wpX_flagInstruction
    refine nm_e (br_t (by decide) (?_))
    unfold wX_flagInstruction_38
    refine br_f (by decide) (br_f (by decide) ?_)
    unfold wX_flagInstruction_61
    refine qx_flag hR.2.1.1 q_B1 ?_
    exact qf_h (F := upd (upd now 5 ((now 5 + 1) &&& 65535)) 4 (qg (now 4) 1 1)) (N := now 5 + 1) (C := 0) (by unfold qnp; rw [if_neg (by decide), if_pos (by decide)]) (by decide) rfl rfl rfl (q_s0 hR.1.2.2.2) rfl rfl h
theorem bg_o88 {now mem lg : Nat → Int32} {lo hi pt ea uf op : Int32} (hR : qR now) (hM : qM mem) (ho : mem (now 5 &&& 255).toNatClampNeg = 88) : Bg now mem lg 0 88 88 lo hi pt ea uf op := by
  refine ⟨2, 1, 0, 0, now 5 + 1, nI 2, upd (upd lg 0 (rd 88 (now 5))) 1 (rd (mem ((now 5 + 1) &&& 255).toNatClampNeg) (now 5 + 1)), upd (upd now 5 ((now 5 + 1) &&& 65535)) 4 (qg (now 4) 4 0), mem, 7, ?_, ?_, rfl, qR_4 (qR_5 hR (qb_64 _)) (qg_p _ hR.2.1.1 q_B4), hM.2, (qP_o (by unfold qOr; decide) (by decide) (fun _ => rfl)), ⟨by decide, by decide⟩, ?_⟩
  · intro post se la co ac sq0 le0 tl0 mo0 st0 np0 lev h
    exact qb_op (MD := 0) ho (by decide) (by decide) (by decide) (by decide) (by decide) (by decide) h
  · intro post co se la sq0 ac lin h
    refine yp_sp (by decide) (by decide) ?_
    unfold wY_special_92
    refine br_f (by decide) (br_f (by decide) (br_f (by decide) (br_f (by decide) (br_f (by decide) (br_f (by decide) (br_f (by decide) (br_f (by decide) (br_f (by decide) (br_t (by decide) (?_))))))))))
    unfold wY_special_810
    refine br_f (by decide) ?_
    unfold wY_special_823
    exact qy_flag h
  · refine fe_o0 hM rfl (qP_o (by unfold qOr; decide) (by decide) (fun _ => rfl)) ⟨by decide, by decide⟩ ?_
    intro post se la ne co ac lev h
    unfold wpX_finish
    refine br_t (by decide) (?_)
    unfold wpX_implied
    refine br_f (by decide) (br_t (by decide) (br_f (by decide) ?_))
    unfold wpX_flagInstruction
    refine nm_e (br_f (by decide) (br_t (by decide) (?_)))
    unfold wX_flagInstruction_38
    refine br_t (by decide) ?_
    unfold wX_flagInstruction_60
    unfold wX_flagInstruction_61
    refine qx_flag hR.2.1.1 q_B4 ?_
    exact qf_h (F := upd (upd now 5 ((now 5 + 1) &&& 65535)) 4 (qg (now 4) 4 0)) (N := now 5 + 1) (C := 0) (by unfold qnp; rw [if_neg (by decide), if_pos (by decide)]) (by decide) rfl rfl rfl (q_s0 hR.1.2.2.2) rfl rfl h
theorem bg_o120 {now mem lg : Nat → Int32} {lo hi pt ea uf op : Int32} (hR : qR now) (hM : qM mem) (ho : mem (now 5 &&& 255).toNatClampNeg = 120) : Bg now mem lg 0 120 120 lo hi pt ea uf op := by
  refine ⟨2, 1, 0, 0, now 5 + 1, nI 2, upd (upd lg 0 (rd 120 (now 5))) 1 (rd (mem ((now 5 + 1) &&& 255).toNatClampNeg) (now 5 + 1)), upd (upd now 5 ((now 5 + 1) &&& 65535)) 4 (qg (now 4) 4 1), mem, 7, ?_, ?_, rfl, qR_4 (qR_5 hR (qb_64 _)) (qg_p _ hR.2.1.1 q_B4), hM.2, (qP_o (by unfold qOr; decide) (by decide) (fun _ => rfl)), ⟨by decide, by decide⟩, ?_⟩
  · intro post se la co ac sq0 le0 tl0 mo0 st0 np0 lev h
    exact qb_op (MD := 0) ho (by decide) (by decide) (by decide) (by decide) (by decide) (by decide) h
  · intro post co se la sq0 ac lin h
    refine yp_sp (by decide) (by decide) ?_
    unfold wY_special_92
    refine br_f (by decide) (br_f (by decide) (br_f (by decide) (br_f (by decide) (br_f (by decide) (br_f (by decide) (br_f (by decide) (br_f (by decide) (br_f (by decide) (br_f (by decide) (br_f (by decide) (br_f (by decide) (br_f (by decide) (br_t (by decide) (?_))))))))))))))
    unfold wY_special_810
    refine br_t (by decide) ?_
    unfold wY_special_823
    exact qy_flag h
  · refine fe_o0 hM rfl (qP_o (by unfold qOr; decide) (by decide) (fun _ => rfl)) ⟨by decide, by decide⟩ ?_
    intro post se la ne co ac lev h
    unfold wpX_finish
    refine br_t (by decide) (?_)
    unfold wpX_implied
    refine br_f (by decide) (br_t (by decide) (br_f (by decide) ?_))
    unfold wpX_flagInstruction
    refine nm_e (br_f (by decide) (br_t (by decide) (?_)))
    unfold wX_flagInstruction_38
    refine br_f (by decide) (br_f (by decide) ?_)
    unfold wX_flagInstruction_61
    refine qx_flag hR.2.1.1 q_B4 ?_
    exact qf_h (F := upd (upd now 5 ((now 5 + 1) &&& 65535)) 4 (qg (now 4) 4 1)) (N := now 5 + 1) (C := 0) (by unfold qnp; rw [if_neg (by decide), if_pos (by decide)]) (by decide) rfl rfl rfl (q_s0 hR.1.2.2.2) rfl rfl h
theorem bg_o216 {now mem lg : Nat → Int32} {lo hi pt ea uf op : Int32} (hR : qR now) (hM : qM mem) (ho : mem (now 5 &&& 255).toNatClampNeg = 216) : Bg now mem lg 0 216 216 lo hi pt ea uf op := by
  refine ⟨2, 1, 0, 0, now 5 + 1, nI 2, upd (upd lg 0 (rd 216 (now 5))) 1 (rd (mem ((now 5 + 1) &&& 255).toNatClampNeg) (now 5 + 1)), upd (upd now 5 ((now 5 + 1) &&& 65535)) 4 (qg (now 4) 8 0), mem, 7, ?_, ?_, rfl, qR_4 (qR_5 hR (qb_64 _)) (qg_p _ hR.2.1.1 q_B8), hM.2, (qP_o (by unfold qOr; decide) (by decide) (fun _ => rfl)), ⟨by decide, by decide⟩, ?_⟩
  · intro post se la co ac sq0 le0 tl0 mo0 st0 np0 lev h
    exact qb_op (MD := 0) ho (by decide) (by decide) (by decide) (by decide) (by decide) (by decide) h
  · intro post co se la sq0 ac lin h
    refine yp_sp (by decide) (by decide) ?_
    unfold wY_special_92
    refine br_f (by decide) (br_f (by decide) (br_f (by decide) (br_f (by decide) (br_f (by decide) (br_f (by decide) (br_f (by decide) (br_f (by decide) (br_f (by decide) (br_f (by decide) (br_f (by decide) (br_f (by decide) (br_f (by decide) (br_f (by decide) (br_f (by decide) (br_f (by decide) (br_f (by decide) (br_f (by decide) (br_f (by decide) (br_f (by decide) (br_f (by decide) (br_f (by decide) (br_f (by decide) (br_f (by decide) (br_t (by decide) (?_)))))))))))))))))))))))))
    unfold wY_special_829
    refine br_f (by decide) ?_
    unfold wY_special_844
    exact qy_flag h
  · refine fe_o0 hM rfl (qP_o (by unfold qOr; decide) (by decide) (fun _ => rfl)) ⟨by decide, by decide⟩ ?_
    intro post se la ne co ac lev h
    unfold wpX_finish
    refine br_t (by decide) (?_)
    unfold wpX_implied
    refine br_f (by decide) (br_t (by decide) (br_f (by decide) ?_))
    unfold wpX_flagInstruction
    refine nm_e (br_f (by decide) (br_f (by decide) (br_f (by decide) (?_))))
    unfold wX_flagInstruction_38
    refine br_t (by decide) ?_
    unfold wX_flagInstruction_60
    unfold wX_flagInstruction_61
    refine qx_flag hR.2.1.1 q_B8 ?_
    exact qf_h (F := upd (upd now 5 ((now 5 + 1) &&& 65535)) 4 (qg (now 4) 8 0)) (N := now 5 + 1) (C := 0) (by unfold qnp; rw [if_neg (by decide), if_pos (by decide)]) (by decide) rfl rfl rfl (q_s0 hR.1.2.2.2) rfl rfl h
theorem bg_o248 {now mem lg : Nat → Int32} {lo hi pt ea uf op : Int32} (hR : qR now) (hM : qM mem) (ho : mem (now 5 &&& 255).toNatClampNeg = 248) : Bg now mem lg 0 248 248 lo hi pt ea uf op := by
  refine ⟨2, 1, 0, 0, now 5 + 1, nI 2, upd (upd lg 0 (rd 248 (now 5))) 1 (rd (mem ((now 5 + 1) &&& 255).toNatClampNeg) (now 5 + 1)), upd (upd now 5 ((now 5 + 1) &&& 65535)) 4 (qg (now 4) 8 1), mem, 7, ?_, ?_, rfl, qR_4 (qR_5 hR (qb_64 _)) (qg_p _ hR.2.1.1 q_B8), hM.2, (qP_o (by unfold qOr; decide) (by decide) (fun _ => rfl)), ⟨by decide, by decide⟩, ?_⟩
  · intro post se la co ac sq0 le0 tl0 mo0 st0 np0 lev h
    exact qb_op (MD := 0) ho (by decide) (by decide) (by decide) (by decide) (by decide) (by decide) h
  · intro post co se la sq0 ac lin h
    refine yp_sp (by decide) (by decide) ?_
    unfold wY_special_92
    refine br_f (by decide) (br_f (by decide) (br_f (by decide) (br_f (by decide) (br_f (by decide) (br_f (by decide) (br_f (by decide) (br_f (by decide) (br_f (by decide) (br_f (by decide) (br_f (by decide) (br_f (by decide) (br_f (by decide) (br_f (by decide) (br_f (by decide) (br_f (by decide) (br_f (by decide) (br_f (by decide) (br_f (by decide) (br_f (by decide) (br_f (by decide) (br_f (by decide) (br_f (by decide) (br_f (by decide) (br_f (by decide) (br_f (by decide) (br_t (by decide) (?_)))))))))))))))))))))))))))
    unfold wY_special_829
    refine br_t (by decide) ?_
    unfold wY_special_844
    exact qy_flag h
  · refine fe_o0 hM rfl (qP_o (by unfold qOr; decide) (by decide) (fun _ => rfl)) ⟨by decide, by decide⟩ ?_
    intro post se la ne co ac lev h
    unfold wpX_finish
    refine br_t (by decide) (?_)
    unfold wpX_implied
    refine br_f (by decide) (br_t (by decide) (br_f (by decide) ?_))
    unfold wpX_flagInstruction
    refine nm_e (br_f (by decide) (br_f (by decide) (br_f (by decide) (?_))))
    unfold wX_flagInstruction_38
    refine br_f (by decide) (br_f (by decide) ?_)
    unfold wX_flagInstruction_61
    refine qx_flag hR.2.1.1 q_B8 ?_
    exact qf_h (F := upd (upd now 5 ((now 5 + 1) &&& 65535)) 4 (qg (now 4) 8 1)) (N := now 5 + 1) (C := 0) (by unfold qnp; rw [if_neg (by decide), if_pos (by decide)]) (by decide) rfl rfl rfl (q_s0 hR.1.2.2.2) rfl rfl h
theorem bg_o184 {now mem lg : Nat → Int32} {lo hi pt ea uf op : Int32} (hR : qR now) (hM : qM mem) (ho : mem (now 5 &&& 255).toNatClampNeg = 184) : Bg now mem lg 0 184 184 lo hi pt ea uf op := by
  refine ⟨2, 1, 0, 0, now 5 + 1, nI 2, upd (upd lg 0 (rd 184 (now 5))) 1 (rd (mem ((now 5 + 1) &&& 255).toNatClampNeg) (now 5 + 1)), upd (upd now 5 ((now 5 + 1) &&& 65535)) 4 (qg (now 4) 64 0), mem, 7, ?_, ?_, rfl, qR_4 (qR_5 hR (qb_64 _)) (qg_p _ hR.2.1.1 q_B64), hM.2, (qP_o (by unfold qOr; decide) (by decide) (fun _ => rfl)), ⟨by decide, by decide⟩, ?_⟩
  · intro post se la co ac sq0 le0 tl0 mo0 st0 np0 lev h
    exact qb_op (MD := 0) ho (by decide) (by decide) (by decide) (by decide) (by decide) (by decide) h
  · intro post co se la sq0 ac lin h
    refine yp_sp (by decide) (by decide) ?_
    unfold wY_special_92
    refine br_f (by decide) (br_f (by decide) (br_f (by decide) (br_f (by decide) (br_f (by decide) (br_f (by decide) (br_f (by decide) (br_f (by decide) (br_f (by decide) (br_f (by decide) (br_f (by decide) (br_f (by decide) (br_f (by decide) (br_f (by decide) (br_f (by decide) (br_f (by decide) (br_f (by decide) (br_f (by decide) (br_f (by decide) (br_f (by decide) (br_t (by decide) (?_)))))))))))))))))))))
    exact qy_flag h
  · refine fe_o0 hM rfl (qP_o (by unfold qOr; decide) (by decide) (fun _ => rfl)) ⟨by decide, by decide⟩ ?_
    intro post se la ne co ac lev h
    unfold wpX_finish
    refine br_t (by decide) (?_)
    unfold wpX_implied
    refine br_f (by decide) (br_t (by decide) (br_f (by decide) ?_))
    unfold wpX_flagInstruction
    refine nm_e (br_f (by decide) (br_f (by decide) (br_t (by decide) (?_))))
    unfold wX_flagInstruction_38
    refine br_f (by decide) (br_t (by decide) ?_)
    unfold wX_flagInstruction_60
    unfold wX_flagInstruction_61
    refine qx_flag hR.2.1.1 q_B64 ?_
    exact qf_h (F := upd (upd now 5 ((now 5 + 1) &&& 65535)) 4 (qg (now 4) 64 0)) (N := now 5 + 1) (C := 0) (by unfold qnp; rw [if_neg (by decide), if_pos (by decide)]) (by decide) rfl rfl rfl (q_s0 hR.1.2.2.2) rfl rfl h
theorem bg_o170 {now mem lg : Nat → Int32} {lo hi pt ea uf op : Int32} (hR : qR now) (hM : qM mem) (ho : mem (now 5 &&& 255).toNatClampNeg = 170) : Bg now mem lg 0 170 170 lo hi pt ea uf op := by
  refine ⟨2, 1, 0, 0, now 5 + 1, nI 2, upd (upd lg 0 (rd 170 (now 5))) 1 (rd (mem ((now 5 + 1) &&& 255).toNatClampNeg) (now 5 + 1)), upd (upd (upd now 5 ((now 5 + 1) &&& 65535)) 1 ((now 0) &&& 255)) 4 (qz (now 4) (now 0)), mem, 7, ?_, ?_, rfl, qR_4 (qR_1 (qR_5 hR (qb_64 _)) (qb_and _)) (qz_p _ hR.2.1.1), hM.2, (qP_o (by unfold qOr; decide) (by decide) (fun _ => rfl)), ⟨by decide, by decide⟩, ?_⟩
  · intro post se la co ac sq0 le0 tl0 mo0 st0 np0 lev h
    exact qb_op (MD := 0) ho (by decide) (by decide) (by decide) (by decide) (by decide) (by decide) h
  · intro post co se la sq0 ac lin h
    refine yp_sp (by decide) (by decide) ?_
    unfold wY_special_92
    refine br_f (by decide) (br_f (by decide) (br_f (by decide) (br_f (by decide) (br_f (by decide) (br_f (by decide) (br_f (by decide) (br_f (by decide) (br_f (by decide) (br_f (by decide) (br_f (by decide) (br_f (by decide) (br_f (by decide) (br_f (by decide) (br_f (by decide) (br_f (by decide) (br_f (by decide) (br_f (by decide) (br_f (by decide) (br_t (by decide) (?_))))))))))))))))))))
    exact qy_set1 (q := now 4) h rfl
  · refine fe_o0 hM rfl (qP_o (by unfold qOr; decide) (by decide) (fun _ => rfl)) ⟨by decide, by decide⟩ ?_
    intro post se la ne co ac lev h
    unfold wpX_finish
    refine br_t (by decide) (?_)
    unfold wpX_implied
    refine br_f (by decide) (br_f (by decide) (?_))
    unfold wX_implied_57
    unfold wpX_registerInstruction
    refine br_t (by decide) (?_)
    refine qx_flagged hR.2.1.1 ?_
    exact qf_h (F := upd (upd (upd now 5 ((now 5 + 1) &&& 65535)) 1 ((now 0) &&& 255)) 4 (qz (now 4) (now 0))) (N := now 5 + 1) (C := 0) (by unfold qnp; rw [if_neg (by decide), if_pos (by decide)]) (by decide) rfl rfl rfl (q_s0 hR.1.2.2.2) rfl rfl h
theorem bg_o168 {now mem lg : Nat → Int32} {lo hi pt ea uf op : Int32} (hR : qR now) (hM : qM mem) (ho : mem (now 5 &&& 255).toNatClampNeg = 168) : Bg now mem lg 0 168 168 lo hi pt ea uf op := by
  refine ⟨2, 1, 0, 0, now 5 + 1, nI 2, upd (upd lg 0 (rd 168 (now 5))) 1 (rd (mem ((now 5 + 1) &&& 255).toNatClampNeg) (now 5 + 1)), upd (upd (upd now 5 ((now 5 + 1) &&& 65535)) 2 ((now 0) &&& 255)) 4 (qz (now 4) (now 0)), mem, 7, ?_, ?_, rfl, qR_4 (qR_2 (qR_5 hR (qb_64 _)) (qb_and _)) (qz_p _ hR.2.1.1), hM.2, (qP_o (by unfold qOr; decide) (by decide) (fun _ => rfl)), ⟨by decide, by decide⟩, ?_⟩
  · intro post se la co ac sq0 le0 tl0 mo0 st0 np0 lev h
    exact qb_op (MD := 0) ho (by decide) (by decide) (by decide) (by decide) (by decide) (by decide) h
  · intro post co se la sq0 ac lin h
    refine yp_sp (by decide) (by decide) ?_
    unfold wY_special_92
    refine br_f (by decide) (br_f (by decide) (br_f (by decide) (br_f (by decide) (br_f (by decide) (br_f (by decide) (br_f (by decide) (br_f (by decide) (br_f (by decide) (br_f (by decide) (br_f (by decide) (br_f (by decide) (br_f (by decide) (br_f (by decide) (br_f (by decide) (br_f (by decide) (br_f (by decide) (br_f (by decide) (br_t (by decide) (?_)))))))))))))))))))
    exact qy_set2 (q := now 4) h rfl
  · refine fe_o0 hM rfl (qP_o (by unfold qOr; decide) (by decide) (fun _ => rfl)) ⟨by decide, by decide⟩ ?_
    intro post se la ne co ac lev h
    unfold wpX_finish
    refine br_t (by decide) (?_)
    unfold wpX_implied
    refine br_f (by decide) (br_f (by decide) (?_))
    unfold wX_implied_57
    unfold wpX_registerInstruction
    refine br_f (by decide) (br_t (by decide) (?_))
    refine qx_flagged hR.2.1.1 ?_
    exact qf_h (F := upd (upd (upd now 5 ((now 5 + 1) &&& 65535)) 2 ((now 0) &&& 255)) 4 (qz (now 4) (now 0))) (N := now 5 + 1) (C := 0) (by unfold qnp; rw [if_neg (by decide), if_pos (by decide)]) (by decide) rfl rfl rfl (q_s0 hR.1.2.2.2) rfl rfl h
theorem bg_o138 {now mem lg : Nat → Int32} {lo hi pt ea uf op : Int32} (hR : qR now) (hM : qM mem) (ho : mem (now 5 &&& 255).toNatClampNeg = 138) : Bg now mem lg 0 138 138 lo hi pt ea uf op := by
  refine ⟨2, 1, 0, 0, now 5 + 1, nI 2, upd (upd lg 0 (rd 138 (now 5))) 1 (rd (mem ((now 5 + 1) &&& 255).toNatClampNeg) (now 5 + 1)), upd (upd (upd now 5 ((now 5 + 1) &&& 65535)) 0 ((now 1) &&& 255)) 4 (qz (now 4) (now 1)), mem, 7, ?_, ?_, rfl, qR_4 (qR_0 (qR_5 hR (qb_64 _)) (qb_and _)) (qz_p _ hR.2.1.1), hM.2, (qP_o (by unfold qOr; decide) (by decide) (fun _ => rfl)), ⟨by decide, by decide⟩, ?_⟩
  · intro post se la co ac sq0 le0 tl0 mo0 st0 np0 lev h
    exact qb_op (MD := 0) ho (by decide) (by decide) (by decide) (by decide) (by decide) (by decide) h
  · intro post co se la sq0 ac lin h
    refine yp_sp (by decide) (by decide) ?_
    unfold wY_special_92
    refine br_f (by decide) (br_f (by decide) (br_f (by decide) (br_f (by decide) (br_f (by decide) (br_f (by decide) (br_f (by decide) (br_f (by decide) (br_f (by decide) (br_f (by decide) (br_f (by decide) (br_f (by decide) (br_f (by decide) (br_f (by decide) (br_f (by decide) (br_t (by decide) (?_))))))))))))))))
    exact qy_set0 (q := now 4) h rfl
  · refine fe_o0 hM rfl (qP_o (by unfold qOr; decide) (by decide) (fun _ => rfl)) ⟨by decide, by decide⟩ ?_
    intro post se la ne co ac lev h
    unfold wpX_finish
    refine br_t (by decide) (?_)
    unfold wpX_implied
    refine br_f (by decide) (br_f (by decide) (?_))
    unfold wX_implied_57
    unfold wpX_registerInstruction
    refine br_f (by decide) (br_f (by decide) (br_t (by decide) (?_)))
    refine qx_flagged hR.2.1.1 ?_
    exact qf_h (F := upd (upd (upd now 5 ((now 5 + 1) &&& 65535)) 0 ((now 1) &&& 255)) 4 (qz (now 4) (now 1))) (N := now 5 + 1) (C := 0) (by unfold qnp; rw [if_neg (by decide), if_pos (by decide)]) (by decide) rfl rfl rfl (q_s0 hR.1.2.2.2) rfl rfl h
theorem bg_o152 {now mem lg : Nat → Int32} {lo hi pt ea uf op : Int32} (hR : qR now) (hM : qM mem) (ho : mem (now 5 &&& 255).toNatClampNeg = 152) : Bg now mem lg 0 152 152 lo hi pt ea uf op := by
  refine ⟨2, 1, 0, 0, now 5 + 1, nI 2, upd (upd lg 0 (rd 152 (now 5))) 1 (rd (mem ((now 5 + 1) &&& 255).toNatClampNeg) (now 5 + 1)), upd (upd (upd now 5 ((now 5 + 1) &&& 65535)) 0 ((now 2) &&& 255)) 4 (qz (now 4) (now 2)), mem, 7, ?_, ?_, rfl, qR_4 (qR_0 (qR_5 hR (qb_64 _)) (qb_and _)) (qz_p _ hR.2.1.1), hM.2, (qP_o (by unfold qOr; decide) (by decide) (fun _ => rfl)), ⟨by decide, by decide⟩, ?_⟩
  · intro post se la co ac sq0 le0 tl0 mo0 st0 np0 lev h
    exact qb_op (MD := 0) ho (by decide) (by decide) (by decide) (by decide) (by decide) (by decide) h
  · intro post co se la sq0 ac lin h
    refine yp_sp (by decide) (by decide) ?_
    unfold wY_special_92
    refine br_f (by decide) (br_f (by decide) (br_f (by decide) (br_f (by decide) (br_f (by decide) (br_f (by decide) (br_f (by decide) (br_f (by decide) (br_f (by decide) (br_f (by decide) (br_f (by decide) (br_f (by decide) (br_f (by decide) (br_f (by decide) (br_f (by decide) (br_f (by decide) (br_t (by decide) (?_)))))))))))))))))
    exact qy_set0 (q := now 4) h rfl
  · refine fe_o0 hM rfl (qP_o (by unfold qOr; decide) (by decide) (fun _ => rfl)) ⟨by decide, by decide⟩ ?_
    intro post se la ne co ac lev h
    unfold wpX_finish
    refine br_t (by decide) (?_)
    unfold wpX_implied
    refine br_f (by decide) (br_t (by decide) (br_t (by decide) (?_)))
    unfold wX_implied_57
    unfold wpX_registerInstruction
    refine br_f (by decide) (br_f (by decide) (br_f (by decide) (br_t (by decide) (?_))))
    refine qx_flagged hR.2.1.1 ?_
    exact qf_h (F := upd (upd (upd now 5 ((now 5 + 1) &&& 65535)) 0 ((now 2) &&& 255)) 4 (qz (now 4) (now 2))) (N := now 5 + 1) (C := 0) (by unfold qnp; rw [if_neg (by decide), if_pos (by decide)]) (by decide) rfl rfl rfl (q_s0 hR.1.2.2.2) rfl rfl h
theorem bg_o186 {now mem lg : Nat → Int32} {lo hi pt ea uf op : Int32} (hR : qR now) (hM : qM mem) (ho : mem (now 5 &&& 255).toNatClampNeg = 186) : Bg now mem lg 0 186 186 lo hi pt ea uf op := by
  refine ⟨2, 1, 0, 0, now 5 + 1, nI 2, upd (upd lg 0 (rd 186 (now 5))) 1 (rd (mem ((now 5 + 1) &&& 255).toNatClampNeg) (now 5 + 1)), upd (upd (upd now 5 ((now 5 + 1) &&& 65535)) 1 ((now 3) &&& 255)) 4 (qz (now 4) (now 3)), mem, 7, ?_, ?_, rfl, qR_4 (qR_1 (qR_5 hR (qb_64 _)) (qb_and _)) (qz_p _ hR.2.1.1), hM.2, (qP_o (by unfold qOr; decide) (by decide) (fun _ => rfl)), ⟨by decide, by decide⟩, ?_⟩
  · intro post se la co ac sq0 le0 tl0 mo0 st0 np0 lev h
    exact qb_op (MD := 0) ho (by decide) (by decide) (by decide) (by decide) (by decide) (by decide) h
  · intro post co se la sq0 ac lin h
    refine yp_sp (by decide) (by decide) ?_
    unfold wY_special_92
    refine br_f (by decide) (br_f (by decide) (br_f (by decide) (br_f (by decide) (br_f (by decide) (br_f (by decide) (br_f (by decide) (br_f (by decide) (br_f (by decide) (br_f (by decide) (br_f (by decide) (br_f (by decide) (br_f (by decide) (br_f (by decide) (br_f (by decide) (br_f (by decide) (br_f (by decide) (br_f (by decide) (br_f (by decide) (br_f (by decide) (br_f (by decide) (br_t (by decide) (?_))))))))))))))))))))))
    exact qy_set1 (q := now 4) h rfl
  · refine fe_o0 hM rfl (qP_o (by unfold qOr; decide) (by decide) (fun _ => rfl)) ⟨by decide, by decide⟩ ?_
    intro post se la ne co ac lev h
    unfold wpX_finish
    refine br_t (by decide) (?_)
    unfold wpX_implied
    refine br_f (by decide) (br_f (by decide) (?_))
    unfold wX_implied_57
    unfold wpX_registerInstruction
    refine br_f (by decide) (br_f (by decide) (br_f (by decide) (br_f (by decide) (br_t (by decide) (?_)))))
    refine qx_flagged hR.2.1.1 ?_
    exact qf_h (F := upd (upd (upd now 5 ((now 5 + 1) &&& 65535)) 1 ((now 3) &&& 255)) 4 (qz (now 4) (now 3))) (N := now 5 + 1) (C := 0) (by unfold qnp; rw [if_neg (by decide), if_pos (by decide)]) (by decide) rfl rfl rfl (q_s0 hR.1.2.2.2) rfl rfl h
theorem bg_o232 {now mem lg : Nat → Int32} {lo hi pt ea uf op : Int32} (hR : qR now) (hM : qM mem) (ho : mem (now 5 &&& 255).toNatClampNeg = 232) : Bg now mem lg 0 232 232 lo hi pt ea uf op := by
  refine ⟨2, 1, 0, 0, now 5 + 1, nI 2, upd (upd lg 0 (rd 232 (now 5))) 1 (rd (mem ((now 5 + 1) &&& 255).toNatClampNeg) (now 5 + 1)), upd (upd (upd now 5 ((now 5 + 1) &&& 65535)) 1 ((now 1 + 1) &&& 255)) 4 (qz (now 4) (now 1 + 1)), mem, 7, ?_, ?_, rfl, qR_4 (qR_1 (qR_5 hR (qb_64 _)) (qb_and _)) (qz_p _ hR.2.1.1), hM.2, (qP_o (by unfold qOr; decide) (by decide) (fun _ => rfl)), ⟨by decide, by decide⟩, ?_⟩
  · intro post se la co ac sq0 le0 tl0 mo0 st0 np0 lev h
    exact qb_op (MD := 0) ho (by decide) (by decide) (by decide) (by decide) (by decide) (by decide) h
  · intro post co se la sq0 ac lin h
    refine yp_sp (by decide) (by decide) ?_
    unfold wY_special_92
    refine br_f (by decide) (br_f (by decide) (br_f (by decide) (br_f (by decide) (br_f (by decide) (br_f (by decide) (br_f (by decide) (br_f (by decide) (br_f (by decide) (br_f (by decide) (br_f (by decide) (br_f (by decide) (br_f (by decide) (br_f (by decide) (br_f (by decide) (br_f (by decide) (br_f (by decide) (br_f (by decide) (br_f (by decide) (br_f (by decide) (br_f (by decide) (br_f (by decide) (br_f (by decide) (br_f (by decide) (br_f (by decide) (br_t (by decide) (?_))))))))))))))))))))))))))
    exact qy_set1 (q := now 4) h rfl
  · refine fe_o0 hM rfl (qP_o (by unfold qOr; decide) (by decide) (fun _ => rfl)) ⟨by decide, by decide⟩ ?_
    intro post se la ne co ac lev h
    unfold wpX_finish
    refine br_t (by decide) (?_)
    unfold wpX_implied
    refine br_f (by decide) (br_f (by decide) (?_))
    unfold wX_implied_57
    unfold wpX_registerInstruction
    refine br_f (by decide) (br_f (by decide) (br_f (by decide) (br_f (by decide) (br_f (by decide) (br_t (by decide) (?_))))))
    refine qx_flagged hR.2.1.1 ?_
    exact qf_h (F := upd (upd (upd now 5 ((now 5 + 1) &&& 65535)) 1 ((now 1 + 1) &&& 255)) 4 (qz (now 4) (now 1 + 1))) (N := now 5 + 1) (C := 0) (by unfold qnp; rw [if_neg (by decide), if_pos (by decide)]) (by decide) rfl rfl rfl (q_s0 hR.1.2.2.2) rfl rfl h
theorem bg_o200 {now mem lg : Nat → Int32} {lo hi pt ea uf op : Int32} (hR : qR now) (hM : qM mem) (ho : mem (now 5 &&& 255).toNatClampNeg = 200) : Bg now mem lg 0 200 200 lo hi pt ea uf op := by
  refine ⟨2, 1, 0, 0, now 5 + 1, nI 2, upd (upd lg 0 (rd 200 (now 5))) 1 (rd (mem ((now 5 + 1) &&& 255).toNatClampNeg) (now 5 + 1)), upd (upd (upd now 5 ((now 5 + 1) &&& 65535)) 2 ((now 2 + 1) &&& 255)) 4 (qz (now 4) (now 2 + 1)), mem, 7, ?_, ?_, rfl, qR_4 (qR_2 (qR_5 hR (qb_64 _)) (qb_and _)) (qz_p _ hR.2.1.1), hM.2, (qP_o (by unfold qOr; decide) (by decide) (fun _ => rfl)), ⟨by decide, by decide⟩, ?_⟩
  · intro post se la co ac sq0 le0 tl0 mo0 st0 np0 lev h
    exact qb_op (MD := 0) ho (by decide) (by decide) (by decide) (by decide) (by decide) (by decide) h
  · intro post co se la sq0 ac lin h
    refine yp_sp (by decide) (by decide) ?_
    unfold wY_special_92
    refine br_f (by decide) (br_f (by decide) (br_f (by decide) (br_f (by decide) (br_f (by decide) (br_f (by decide) (br_f (by decide) (br_f (by decide) (br_f (by decide) (br_f (by decide) (br_f (by decide) (br_f (by decide) (br_f (by decide) (br_f (by decide) (br_f (by decide) (br_f (by decide) (br_f (by decide) (br_f (by decide) (br_f (by decide) (br_f (by decide) (br_f (by decide) (br_f (by decide) (br_t (by decide) (?_)))))))))))))))))))))))
    exact qy_set2 (q := now 4) h rfl
  · refine fe_o0 hM rfl (qP_o (by unfold qOr; decide) (by decide) (fun _ => rfl)) ⟨by decide, by decide⟩ ?_
    intro post se la ne co ac lev h
    unfold wpX_finish
    refine br_t (by decide) (?_)
    unfold wpX_implied
    refine br_f (by decide) (br_f (by decide) (?_))
    unfold wX_implied_57
    unfold wpX_registerInstruction
    refine br_f (by decide) (br_f (by decide) (br_f (by decide) (br_f (by decide) (br_f (by decide) (br_f (by decide) (br_t (by decide) (?_)))))))
    refine qx_flagged hR.2.1.1 ?_
    exact qf_h (F := upd (upd (upd now 5 ((now 5 + 1) &&& 65535)) 2 ((now 2 + 1) &&& 255)) 4 (qz (now 4) (now 2 + 1))) (N := now 5 + 1) (C := 0) (by unfold qnp; rw [if_neg (by decide), if_pos (by decide)]) (by decide) rfl rfl rfl (q_s0 hR.1.2.2.2) rfl rfl h
theorem bg_o202 {now mem lg : Nat → Int32} {lo hi pt ea uf op : Int32} (hR : qR now) (hM : qM mem) (ho : mem (now 5 &&& 255).toNatClampNeg = 202) : Bg now mem lg 0 202 202 lo hi pt ea uf op := by
  refine ⟨2, 1, 0, 0, now 5 + 1, nI 2, upd (upd lg 0 (rd 202 (now 5))) 1 (rd (mem ((now 5 + 1) &&& 255).toNatClampNeg) (now 5 + 1)), upd (upd (upd now 5 ((now 5 + 1) &&& 65535)) 1 ((now 1 - 1) &&& 255)) 4 (qz (now 4) (now 1 - 1)), mem, 7, ?_, ?_, rfl, qR_4 (qR_1 (qR_5 hR (qb_64 _)) (qb_and _)) (qz_p _ hR.2.1.1), hM.2, (qP_o (by unfold qOr; decide) (by decide) (fun _ => rfl)), ⟨by decide, by decide⟩, ?_⟩
  · intro post se la co ac sq0 le0 tl0 mo0 st0 np0 lev h
    exact qb_op (MD := 0) ho (by decide) (by decide) (by decide) (by decide) (by decide) (by decide) h
  · intro post co se la sq0 ac lin h
    refine yp_sp (by decide) (by decide) ?_
    unfold wY_special_92
    refine br_f (by decide) (br_f (by decide) (br_f (by decide) (br_f (by decide) (br_f (by decide) (br_f (by decide) (br_f (by decide) (br_f (by decide) (br_f (by decide) (br_f (by decide) (br_f (by decide) (br_f (by decide) (br_f (by decide) (br_f (by decide) (br_f (by decide) (br_f (by decide) (br_f (by decide) (br_f (by decide) (br_f (by decide) (br_f (by decide) (br_f (by decide) (br_f (by decide) (br_f (by decide) (br_t (by decide) (?_))))))))))))))))))))))))
    exact qy_set1 (q := now 4) h rfl
  · refine fe_o0 hM rfl (qP_o (by unfold qOr; decide) (by decide) (fun _ => rfl)) ⟨by decide, by decide⟩ ?_
    intro post se la ne co ac lev h
    unfold wpX_finish
    refine br_t (by decide) (?_)
    unfold wpX_implied
    refine br_f (by decide) (br_f (by decide) (?_))
    unfold wX_implied_57
    unfold wpX_registerInstruction
    refine br_f (by decide) (br_f (by decide) (br_f (by decide) (br_f (by decide) (br_f (by decide) (br_f (by decide) (br_f (by decide) (br_t (by decide) (?_))))))))
    refine qx_flagged hR.2.1.1 ?_
    exact qf_h (F := upd (upd (upd now 5 ((now 5 + 1) &&& 65535)) 1 ((now 1 - 1) &&& 255)) 4 (qz (now 4) (now 1 - 1))) (N := now 5 + 1) (C := 0) (by unfold qnp; rw [if_neg (by decide), if_pos (by decide)]) (by decide) rfl rfl rfl (q_s0 hR.1.2.2.2) rfl rfl h
theorem bg_o136 {now mem lg : Nat → Int32} {lo hi pt ea uf op : Int32} (hR : qR now) (hM : qM mem) (ho : mem (now 5 &&& 255).toNatClampNeg = 136) : Bg now mem lg 0 136 136 lo hi pt ea uf op := by
  refine ⟨2, 1, 0, 0, now 5 + 1, nI 2, upd (upd lg 0 (rd 136 (now 5))) 1 (rd (mem ((now 5 + 1) &&& 255).toNatClampNeg) (now 5 + 1)), upd (upd (upd now 5 ((now 5 + 1) &&& 65535)) 2 ((now 2 - 1) &&& 255)) 4 (qz (now 4) (now 2 - 1)), mem, 7, ?_, ?_, rfl, qR_4 (qR_2 (qR_5 hR (qb_64 _)) (qb_and _)) (qz_p _ hR.2.1.1), hM.2, (qP_o (by unfold qOr; decide) (by decide) (fun _ => rfl)), ⟨by decide, by decide⟩, ?_⟩
  · intro post se la co ac sq0 le0 tl0 mo0 st0 np0 lev h
    exact qb_op (MD := 0) ho (by decide) (by decide) (by decide) (by decide) (by decide) (by decide) h
  · intro post co se la sq0 ac lin h
    refine yp_sp (by decide) (by decide) ?_
    unfold wY_special_92
    refine br_f (by decide) (br_f (by decide) (br_f (by decide) (br_f (by decide) (br_f (by decide) (br_f (by decide) (br_f (by decide) (br_f (by decide) (br_f (by decide) (br_f (by decide) (br_f (by decide) (br_f (by decide) (br_f (by decide) (br_f (by decide) (br_t (by decide) (?_)))))))))))))))
    exact qy_set2 (q := now 4) h rfl
  · refine fe_o0 hM rfl (qP_o (by unfold qOr; decide) (by decide) (fun _ => rfl)) ⟨by decide, by decide⟩ ?_
    intro post se la ne co ac lev h
    unfold wpX_finish
    refine br_t (by decide) (?_)
    unfold wpX_implied
    refine br_f (by decide) (br_f (by decide) (?_))
    unfold wX_implied_57
    unfold wpX_registerInstruction
    refine br_f (by decide) (br_f (by decide) (br_f (by decide) (br_f (by decide) (br_f (by decide) (br_f (by decide) (br_f (by decide) (br_f (by decide) (br_t (by decide) (?_)))))))))
    refine qx_flagged hR.2.1.1 ?_
    exact qf_h (F := upd (upd (upd now 5 ((now 5 + 1) &&& 65535)) 2 ((now 2 - 1) &&& 255)) 4 (qz (now 4) (now 2 - 1))) (N := now 5 + 1) (C := 0) (by unfold qnp; rw [if_neg (by decide), if_pos (by decide)]) (by decide) rfl rfl rfl (q_s0 hR.1.2.2.2) rfl rfl h
theorem bg_o154 {now mem lg : Nat → Int32} {lo hi pt ea uf op : Int32} (hR : qR now) (hM : qM mem) (ho : mem (now 5 &&& 255).toNatClampNeg = 154) : Bg now mem lg 0 154 154 lo hi pt ea uf op := by
  refine ⟨2, 1, 0, 0, now 5 + 1, nI 2, upd (upd lg 0 (rd 154 (now 5))) 1 (rd (mem ((now 5 + 1) &&& 255).toNatClampNeg) (now 5 + 1)), upd (upd now 5 ((now 5 + 1) &&& 65535)) 3 (now 1), mem, 7, ?_, ?_, rfl, qR_3 (qR_5 hR (qb_64 _)) hR.1.2.1, hM.2, (qP_o (by unfold qOr; decide) (by decide) (fun _ => rfl)), ⟨by decide, by decide⟩, ?_⟩
  · intro post se la co ac sq0 le0 tl0 mo0 st0 np0 lev h
    exact qb_op (MD := 0) ho (by decide) (by decide) (by decide) (by decide) (by decide) (by decide) h
  · intro post co se la sq0 ac lin h
    refine yp_sp (by decide) (by decide) ?_
    unfold wY_special_92
    refine br_f (by decide) (br_f (by decide) (br_f (by decide) (br_f (by decide) (br_f (by decide) (br_f (by decide) (br_f (by decide) (br_f (by decide) (br_f (by decide) (br_f (by decide) (br_f (by decide) (br_f (by decide) (br_f (by decide) (br_f (by decide) (br_f (by decide) (br_f (by decide) (br_f (by decide) (br_t (by decide) (?_))))))))))))))))))
    exact nm_e h
  · refine fe_o0 hM rfl (qP_o (by unfold qOr; decide) (by decide) (fun _ => rfl)) ⟨by decide, by decide⟩ ?_
    intro post se la ne co ac lev h
    unfold wpX_finish
    refine br_t (by decide) (?_)
    unfold wpX_implied
    refine br_f (by decide) (br_f (by decide) (?_))
    unfold wX_implied_57
    unfold wpX_registerInstruction
    refine br_f (by decide) (br_f (by decide) (br_f (by decide) (br_f (by decide) (br_f (by decide) (br_f (by decide) (br_f (by decide) (br_f (by decide) (br_f (by decide) (br_t (by decide) (?_))))))))))
    exact qf_h (F := upd (upd now 5 ((now 5 + 1) &&& 65535)) 3 (now 1)) (N := now 5 + 1) (C := 0) (by unfold qnp; rw [if_neg (by decide), if_pos (by decide)]) (by decide) rfl rfl rfl (q_s0 hR.1.2.1) rfl rfl h
theorem bg_nop {now mem lg : Nat → Int32} {o lo hi pt ea uf op : Int32} (hR : qR now) (hM : qM mem) (ho : mem (now 5 &&& 255).toNatClampNeg = o) (hx : qxm o = 0) (hy : qym o = 0) (hO : qOr o 0) (h159 : ¬ o &&& 159 = 10) (h24 : ¬ o &&& 31 = 24) (h16 : ¬ o &&& 31 = 16) (hnl : ¬ o ∈ ([0, 8, 24, 32, 40, 56, 64, 72, 76, 88, 96, 104, 108, 120, 136, 138, 152, 154, 168, 170, 184, 186, 200, 202, 216, 232, 248] : List Int32)) : Bg now mem lg 0 o o lo hi pt ea uf op := by
  refine ⟨2, 1, 0, 0, now 5 + 1, nI 2, upd (upd lg 0 (rd o (now 5))) 1 (rd (mem ((now 5 + 1) &&& 255).toNatClampNeg) (now 5 + 1)), upd now 5 ((now 5 + 1) &&& 65535), mem, 7, ?_, ?_, rfl, qR_5 hR (qb_64 _), hM.2, (qP_o hO (by decide) (fun _ => rfl)), ⟨by decide, by decide⟩, ?_⟩
  · intro post se la co ac sq0 le0 tl0 mo0 st0 np0 lev h
    exact qb_op (MD := 0) ho hx (if_pos (by decide)) (if_pos (by decide)) (by decide) (by decide) (by decide) h
  · intro post co se la sq0 ac lin h
    refine yp_sp hy h16 ?_
    unfold wY_special_92
    exact br_f (fun z => hnl (by rw [z]; decide)) (br_f (fun z => hnl (by rw [z]; decide)) (br_f (fun z => hnl (by rw [z]; decide)) (br_f (fun z => hnl (by rw [z]; decide)) (br_f (fun z => hnl (by rw [z]; decide)) (br_f (fun z => hnl (by rw [z]; decide)) (br_f (fun z => hnl (by rw [z]; decide)) (br_f (fun z => hnl (by rw [z]; decide)) (br_f (fun z => hnl (by rw [z]; decide)) (br_f (fun z => hnl (by rw [z]; decide)) (br_f (fun z => hnl (by rw [z]; decide)) (br_f (fun z => hnl (by rw [z]; decide)) (br_f (fun z => hnl (by rw [z]; decide)) (br_f (fun z => hnl (by rw [z]; decide)) (br_f (fun z => hnl (by rw [z]; decide)) (br_f (fun z => hnl (by rw [z]; decide)) (br_f (fun z => hnl (by rw [z]; decide)) (br_f (fun z => hnl (by rw [z]; decide)) (br_f (fun z => hnl (by rw [z]; decide)) (br_f (fun z => hnl (by rw [z]; decide)) (br_f (fun z => hnl (by rw [z]; decide)) (br_f (fun z => hnl (by rw [z]; decide)) (br_f (fun z => hnl (by rw [z]; decide)) (br_f (fun z => hnl (by rw [z]; decide)) (br_f (fun z => hnl (by rw [z]; decide)) (br_f (fun z => hnl (by rw [z]; decide)) (br_f (fun z => hnl (by rw [z]; decide)) (h)))))))))))))))))))))))))))
  · refine fe_o0 hM rfl (qP_o hO (by decide) (fun _ => rfl)) ⟨by decide, by decide⟩ ?_
    intro post se la ne co ac lev h
    unfold wpX_finish
    refine br_t (by decide) (?_)
    unfold wpX_implied
    refine br_f h159 (br_f h24 ?_)
    unfold wX_implied_57
    unfold wpX_registerInstruction
    refine br_f (fun z => hnl (by rw [z]; decide)) (br_f (fun z => hnl (by rw [z]; decide)) (br_f (fun z => hnl (by rw [z]; decide)) (br_f (fun z => hnl (by rw [z]; decide)) (br_f (fun z => hnl (by rw [z]; decide)) (br_f (fun z => hnl (by rw [z]; decide)) (br_f (fun z => hnl (by rw [z]; decide)) (br_f (fun z => hnl (by rw [z]; decide)) (br_f (fun z => hnl (by rw [z]; decide)) (br_f (fun z => hnl (by rw [z]; decide)) (?_))))))))))
    exact qf_h (F := upd now 5 ((now 5 + 1) &&& 65535)) (N := now 5 + 1) (C := 0) (by unfold qnp; rw [if_neg (by decide), if_pos (by decide)]) (by decide) rfl rfl rfl (q_s0 hR.1.2.2.2) rfl rfl h
section
variable {dn co se la ne sq ac : Int32} {mem work now fin lin log : Nat → Int32}
theorem yb_51 {P : SY → Prop} {k : Nat} {w q v bit want t : Int32} (ht : (q + v) &&& 65535 = t) (hw : (if w &&& 1 = 1 then (1 : Int32) else 0) = want)
    (hn : ¬ (if now 4 &&& bit = 0 then (0 : Int32) else 1) = want → P (qy (nI k) dn co se la ne sq ac mem work now (upd fin 5 q) lin log))
    (he : (if now 4 &&& bit = 0 then (0 : Int32) else 1) = want → wpY_read (fun _ u => match u with | (len, dn, co, se, la, ne, sq, ac, mem, work, now, fin, lin, log) => ((t >>> ((8 : Int32) &&& 31)) = (q >>> ((8 : Int32) &&& 31)) → (∀ f : Nat → Int32, f = upd fin 5 t → P (qy len dn co se la ne sq ac mem work now f lin log))) ∧ (¬ (t >>> ((8 : Int32) &&& 31)) = (q >>> ((8 : Int32) &&& 31)) → wpY_read (fun _ u => match u with | (len, dn, co, se, la, ne, sq, ac, mem, work, now, fin, lin, log) => ∀ f : Nat → Int32, f = upd fin 5 t → P (qy len dn co se la ne sq ac mem work now f lin log)) (qy len dn co se la ne sq ac mem work now fin lin log) ((q &&& 65280) + (t &&& 255)))) (qy (nI k) dn co se la ne sq ac mem work now (upd fin 5 q) lin log) q) : wY_branch_51 P w q bit v q (nI k) dn co se la ne sq ac mem work now fin lin log := by
  have k88 : ∀ x6, x6 = (if now 4 &&& bit = 0 then (0 : Int32) else 1) → wY_branch_88 P q t x6 want (nI k) dn co se la ne sq ac mem work now fin lin log := by
    intro x6 e6
    subst e6
    unfold wY_branch_88
    refine nm_e ?_
    by_cases c : (if now 4 &&& bit = 0 then (0 : Int32) else 1) = want
    · exact br_t c (he c)
    · exact br_f c (hn c)
  have k74 : ∀ x6, x6 = (if now 4 &&& bit = 0 then (0 : Int32) else 1) → wY_branch_74 P w q t x6 (nI k) dn co se la ne sq ac mem work now fin lin log := by
    intro x6 e6
    unfold wY_branch_74
    by_cases c : w &&& 1 = 1
    · rw [if_pos c] at hw
      subst hw
      exact br_t c (k88 x6 e6)
    · rw [if_neg c] at hw
      subst hw
      exact br_f c (k88 x6 e6)
  unfold wY_branch_51
  refine nm_r ht ?_
  by_cases c : now 4 &&& bit = 0
  · exact br_t c (k74 0 (if_pos c).symm)
  · exact br_f c (k74 1 (if_neg c).symm)
theorem yb_n {P : SY → Prop} {k : Nat} {w q d bit want : Int32} (hw : (if w &&& 1 = 1 then (1 : Int32) else 0) = want) (ht : ¬ (if now 4 &&& bit = 0 then (0 : Int32) else 1) = want) (h : P (qy (nI k) dn co se la ne sq ac mem work now (upd fin 5 q) lin log)) : wY_branch_32 P w q d bit (nI k) dn co se la ne sq ac mem work now fin lin log := by
  unfold wY_branch_32
  by_cases c : 128 ≤ d
  · exact br_t c (yb_51 rfl hw (fun _ => h) (fun z => absurd z ht))
  · exact br_f c (yb_51 rfl hw (fun _ => h) (fun z => absurd z ht))
theorem yb_e {P : SY → Prop} {k : Nat} {w q d bit want : Int32} (hk : k < 8) (hw : (if w &&& 1 = 1 then (1 : Int32) else 0) = want) (ht : (if now 4 &&& bit = 0 then (0 : Int32) else 1) = want) (hc : (qbn q d) >>> ((8 : Int32) &&& 31) = q >>> ((8 : Int32) &&& 31)) (h : P (qy (nI (k + 1)) dn co se la ne sq ac mem work now (upd (upd fin 5 q) 5 (qbn q d)) lin (upd log k (rd (work (q &&& 255).toNatClampNeg) q)))) : wY_branch_32 P w q d bit (nI k) dn co se la ne sq ac mem work now fin lin log := by
  unfold wY_branch_32
  by_cases c : 128 ≤ d
  · refine br_t c (yb_51 (t := qbn q d) (by unfold qbn; rw [if_pos c]) hw (fun z => absurd ht z) (fun _ => ?_))
    refine qy_read hk ?_
    exact br_t hc (nm_e h)
  · refine br_f c (yb_51 (t := qbn q d) (by unfold qbn; rw [if_neg c]) hw (fun z => absurd ht z) (fun _ => ?_))
    refine qy_read hk ?_
    exact br_t hc (nm_e h)
theorem yb_c {P : SY → Prop} {k : Nat} {w q d bit want : Int32} (hk : k + 1 < 8) (hw : (if w &&& 1 = 1 then (1 : Int32) else 0) = want) (ht : (if now 4 &&& bit = 0 then (0 : Int32) else 1) = want) (hc : ¬ (qbn q d) >>> ((8 : Int32) &&& 31) = q >>> ((8 : Int32) &&& 31)) (h : P (qy (nI (k + 2)) dn co se la ne sq ac mem work now (upd (upd fin 5 q) 5 (qbn q d)) lin (upd (upd log k (rd (work (q &&& 255).toNatClampNeg) q)) (k + 1) (rd (work (((q &&& 65280) + (qbn q d &&& 255)) &&& 255).toNatClampNeg) ((q &&& 65280) + (qbn q d &&& 255)))))) : wY_branch_32 P w q d bit (nI k) dn co se la ne sq ac mem work now fin lin log := by
  unfold wY_branch_32
  by_cases c : 128 ≤ d
  · refine br_t c (yb_51 (t := qbn q d) (by unfold qbn; rw [if_pos c]) hw (fun z => absurd ht z) (fun _ => ?_))
    refine qy_read (k := k) (by omega) ?_
    refine br_f hc ?_
    refine qy_read (k := k + 1) hk ?_
    exact nm_e h
  · refine br_f c (yb_51 (t := qbn q d) (by unfold qbn; rw [if_neg c]) hw (fun z => absurd ht z) (fun _ => ?_))
    refine qy_read (k := k) (by omega) ?_
    refine br_f hc ?_
    refine qy_read (k := k + 1) hk ?_
    exact nm_e h
theorem yp_br {work0 : Nat → Int32} {post : SY → Prop} {o : Int32} (hy : qym o = 0) (hb : o &&& 31 = 16) (h : wpY_branch (fun u => match u with | (len, dn, co, se, la, ne, sq, ac, mem, work, now', fin, lin, log) => wY_special_92 post o ((now 5 + 2) &&& 65535) (now 3) (now 4) (now 1) (now 2) (work0 ((now 5 + 1) &&& 255).toNatClampNeg) len dn co se la ne sq ac mem work now' fin lin log) (qy (nI 2) dn co se la ne o ac mem work0 now (upd fin 5 ((now 5 + 1) &&& 65535)) lin (upd log 1 (rd (work0 ((now 5 + 1) &&& 255).toNatClampNeg) (now 5 + 1)))) (o >>> ((5 : Int32) &&& 31)) ((now 5 + 2) &&& 65535) (work0 ((now 5 + 1) &&& 255).toNatClampNeg)) : wY_plan_95 post 0 (now 5) o o (nI 1) dn co se la ne sq ac mem work0 now fin lin log := by
  unfold wY_plan_95
  refine qy_mode ?_
  rw [hy]
  refine br_t (by decide) (br_t (by decide) ?_)
  refine nm_e (nm_e (nm_e (nm_e (nm_e (nm_e ?_)))))
  refine qy_read (by decide) ?_
  refine nm_e ?_
  exact br_t hb h
end
theorem qbt_16 (p : Int32) : qbt 16 p = if (if p &&& 128 = 0 then (0 : Int32) else 1) = 0 then 1 else 0 := by
  unfold qbt
  rw [show (if (16 : Int32) >>> ((6 : Int32) &&& 31) = 0 then (128 : Int32) else if (16 : Int32) >>> ((6 : Int32) &&& 31) = 1 then 64 else if (16 : Int32) >>> ((6 : Int32) &&& 31) = 2 then 1 else 2) = 128 from by decide, show (if (16 : Int32) &&& 32 = 0 then 0 else (1 : Int32)) = 0 from by decide]
theorem bg_b16n {now mem lg : Nat → Int32} {lo hi pt ea uf op : Int32} (hR : qR now) (hM : qM mem) (ho : mem (now 5 &&& 255).toNatClampNeg = 16) (ht : qbt 16 (now 4) = 0) : Bg now mem lg 0 16 16 lo hi pt ea uf op := by
  have ht' : ¬ (if now 4 &&& 128 = 0 then (0 : Int32) else 1) = 0 := fun z => absurd (((qbt_16 (now 4)).trans (if_pos z)).symm.trans ht) (by decide)
  refine ⟨2, 1, 18, 0, now 5 + 2, nI 2, upd (upd lg 0 (rd 16 (now 5))) 1 (rd (mem ((now 5 + 1) &&& 255).toNatClampNeg) (now 5 + 1)), upd (upd now 5 ((now 5 + 1) &&& 65535)) 5 ((now 5 + 2) &&& 65535), mem, 7, ?_, ?_, rfl, qR_5 (qR_5 hR (qb_64 _)) (qb_64 _), hM.2, (qP_b (by decide) (by decide)), ⟨by decide, by decide⟩, ?_⟩
  · intro post se la co ac sq0 le0 tl0 mo0 st0 np0 lev h
    exact qb_op (MD := 0) ho (by decide) (by decide) (by decide) (by decide) (by decide) (by decide) h
  · intro post co se la sq0 ac lin h
    refine yp_br (by decide) (by decide) ?_
    refine br_f (by decide) (?_)
    refine yb_n (want := 0) (by decide) ht' ?_
    unfold wY_special_92
    exact br_f (by decide) (br_f (by decide) (br_f (by decide) (br_f (by decide) (br_f (by decide) (br_f (by decide) (br_f (by decide) (br_f (by decide) (br_f (by decide) (br_f (by decide) (br_f (by decide) (br_f (by decide) (br_f (by decide) (br_f (by decide) (br_f (by decide) (br_f (by decide) (br_f (by decide) (br_f (by decide) (br_f (by decide) (br_f (by decide) (br_f (by decide) (br_f (by decide) (br_f (by decide) (br_f (by decide) (br_f (by decide) (br_f (by decide) (br_f (by decide) (h)))))))))))))))))))))))))))
  · refine fe_bn2 ht hM rfl (qP_b (by decide) (by decide)) ⟨by decide, by decide⟩ ?_
    intro post se la ne co ac lev h
    unfold wpX_finish
    refine br_f (by decide) (br_f (by decide) (br_f (by decide) (br_f (by decide) (br_f (by decide) (br_f (by decide) (br_t (by decide) (?_)))))))
    exact qf_h (F := upd (upd now 5 ((now 5 + 1) &&& 65535)) 5 ((now 5 + 2) &&& 65535)) (N := now 5 + 2) (C := 0) (by unfold qnp; rw [if_neg (by decide), if_neg (by decide), if_pos (by decide)]) (by decide) rfl rfl rfl (q_s0 hR.1.2.2.2) rfl rfl h
theorem bg_b16e {now mem lg : Nat → Int32} {lo hi pt ea uf op : Int32} (hR : qR now) (hM : qM mem) (ho : mem (now 5 &&& 255).toNatClampNeg = 16) (ht : ¬ qbt 16 (now 4) = 0) (hc : (qbn ((now 5 + 2) &&& 65535) (mem ((now 5 + 1) &&& 255).toNatClampNeg)) >>> ((8 : Int32) &&& 31) = ((now 5 + 2) &&& 65535) >>> ((8 : Int32) &&& 31)) : Bg now mem lg 0 16 16 lo hi pt ea uf op := by
  have ht' : (if now 4 &&& 128 = 0 then (0 : Int32) else 1) = 0 := Decidable.byContradiction (fun z => ht ((qbt_16 (now 4)).trans (if_neg z)))
  refine ⟨2, 1, 18, 0, now 5 + 2, nI 3, upd (upd (upd lg 0 (rd 16 (now 5))) 1 (rd (mem ((now 5 + 1) &&& 255).toNatClampNeg) (now 5 + 1))) 2 (rd (mem (((now 5 + 2) &&& 65535) &&& 255).toNatClampNeg) ((now 5 + 2) &&& 65535)), upd (upd (upd now 5 ((now 5 + 1) &&& 65535)) 5 ((now 5 + 2) &&& 65535)) 5 (qbn ((now 5 + 2) &&& 65535) (mem ((now 5 + 1) &&& 255).toNatClampNeg)), mem, 7, ?_, ?_, rfl, qR_5 (qR_5 (qR_5 hR (qb_64 _)) (qb_64 _)) (qb_64 _), hM.2, (qP_b (by decide) (by decide)), ⟨by decide, by decide⟩, ?_⟩
  · intro post se la co ac sq0 le0 tl0 mo0 st0 np0 lev h
    exact qb_op (MD := 0) ho (by decide) (by decide) (by decide) (by decide) (by decide) (by decide) h
  · intro post co se la sq0 ac lin h
    refine yp_br (by decide) (by decide) ?_
    refine br_f (by decide) (?_)
    refine yb_e (by decide) (want := 0) (by decide) ht' hc ?_
    unfold wY_special_92
    exact br_f (by decide) (br_f (by decide) (br_f (by decide) (br_f (by decide) (br_f (by decide) (br_f (by decide) (br_f (by decide) (br_f (by decide) (br_f (by decide) (br_f (by decide) (br_f (by decide) (br_f (by decide) (br_f (by decide) (br_f (by decide) (br_f (by decide) (br_f (by decide) (br_f (by decide) (br_f (by decide) (br_f (by decide) (br_f (by decide) (br_f (by decide) (br_f (by decide) (br_f (by decide) (br_f (by decide) (br_f (by decide) (br_f (by decide) (br_f (by decide) (h)))))))))))))))))))))))))))
  · refine fu_bt2 (if_pos hc) ht hM rfl (qP_b (by decide) (by decide)) ⟨by decide, by decide⟩ ?_
    refine fe_b3 hM rfl (qP_b (by decide) (by decide)) ⟨by decide, by decide⟩ ?_
    intro post se la ne co ac lev h
    unfold wpX_finish
    refine br_f (by decide) (br_f (by decide) (br_f (by decide) (br_f (by decide) (br_f (by decide) (br_f (by decide) (br_t (by decide) (?_)))))))
    exact qf_h (F := upd (upd (upd now 5 ((now 5 + 1) &&& 65535)) 5 ((now 5 + 2) &&& 65535)) 5 (qbn ((now 5 + 2) &&& 65535) (mem ((now 5 + 1) &&& 255).toNatClampNeg))) (N := qbn ((now 5 + 2) &&& 65535) (mem ((now 5 + 1) &&& 255).toNatClampNeg)) (C := 0) (by unfold qnp; rw [if_neg (by decide), if_neg (by decide), if_pos (by decide)]) (by decide) rfl rfl rfl (q_s0 hR.1.2.2.2) rfl (qb_64 _).symm h
theorem bg_b16c {now mem lg : Nat → Int32} {lo hi pt ea uf op : Int32} (hR : qR now) (hM : qM mem) (ho : mem (now 5 &&& 255).toNatClampNeg = 16) (ht : ¬ qbt 16 (now 4) = 0) (hc : ¬ (qbn ((now 5 + 2) &&& 65535) (mem ((now 5 + 1) &&& 255).toNatClampNeg)) >>> ((8 : Int32) &&& 31) = ((now 5 + 2) &&& 65535) >>> ((8 : Int32) &&& 31)) : Bg now mem lg 0 16 16 lo hi pt ea uf op := by
  have ht' : (if now 4 &&& 128 = 0 then (0 : Int32) else 1) = 0 := Decidable.byContradiction (fun z => ht ((qbt_16 (now 4)).trans (if_neg z)))
  refine ⟨2, 1, 18, 0, now 5 + 2, nI 4, upd (upd (upd (upd lg 0 (rd 16 (now 5))) 1 (rd (mem ((now 5 + 1) &&& 255).toNatClampNeg) (now 5 + 1))) 2 (rd (mem (((now 5 + 2) &&& 65535) &&& 255).toNatClampNeg) ((now 5 + 2) &&& 65535))) 3 (rd (mem (((((now 5 + 2) &&& 65535) &&& 65280) + ((qbn ((now 5 + 2) &&& 65535) (mem ((now 5 + 1) &&& 255).toNatClampNeg)) &&& 255)) &&& 255).toNatClampNeg) ((((now 5 + 2) &&& 65535) &&& 65280) + ((qbn ((now 5 + 2) &&& 65535) (mem ((now 5 + 1) &&& 255).toNatClampNeg)) &&& 255))), upd (upd (upd now 5 ((now 5 + 1) &&& 65535)) 5 ((now 5 + 2) &&& 65535)) 5 (qbn ((now 5 + 2) &&& 65535) (mem ((now 5 + 1) &&& 255).toNatClampNeg)), mem, 7, ?_, ?_, rfl, qR_5 (qR_5 (qR_5 hR (qb_64 _)) (qb_64 _)) (qb_64 _), hM.2, (qP_b (by decide) (by decide)), ⟨by decide, by decide⟩, ?_⟩
  · intro post se la co ac sq0 le0 tl0 mo0 st0 np0 lev h
    exact qb_op (MD := 0) ho (by decide) (by decide) (by decide) (by decide) (by decide) (by decide) h
  · intro post co se la sq0 ac lin h
    refine yp_br (by decide) (by decide) ?_
    refine br_f (by decide) (?_)
    refine yb_c (by decide) (want := 0) (by decide) ht' hc ?_
    unfold wY_special_92
    exact br_f (by decide) (br_f (by decide) (br_f (by decide) (br_f (by decide) (br_f (by decide) (br_f (by decide) (br_f (by decide) (br_f (by decide) (br_f (by decide) (br_f (by decide) (br_f (by decide) (br_f (by decide) (br_f (by decide) (br_f (by decide) (br_f (by decide) (br_f (by decide) (br_f (by decide) (br_f (by decide) (br_f (by decide) (br_f (by decide) (br_f (by decide) (br_f (by decide) (br_f (by decide) (br_f (by decide) (br_f (by decide) (br_f (by decide) (br_f (by decide) (h)))))))))))))))))))))))))))
  · refine fu_bt2 (if_neg hc) ht hM rfl (qP_b (by decide) (by decide)) ⟨by decide, by decide⟩ ?_
    refine fu_b3 hM rfl (qP_b (by decide) (by decide)) ⟨by decide, by decide⟩ ?_
    refine fe_b4 hM rfl (qP_b (by decide) (by decide)) ⟨by decide, by decide⟩ ?_
    intro post se la ne co ac lev h
    unfold wpX_finish
    refine br_f (by decide) (br_f (by decide) (br_f (by decide) (br_f (by decide) (br_f (by decide) (br_f (by decide) (br_t (by decide) (?_)))))))
    exact qf_h (F := upd (upd (upd now 5 ((now 5 + 1) &&& 65535)) 5 ((now 5 + 2) &&& 65535)) 5 (qbn ((now 5 + 2) &&& 65535) (mem ((now 5 + 1) &&& 255).toNatClampNeg))) (N := qbn ((now 5 + 2) &&& 65535) (mem ((now 5 + 1) &&& 255).toNatClampNeg)) (C := 0) (by unfold qnp; rw [if_neg (by decide), if_neg (by decide), if_pos (by decide)]) (by decide) rfl rfl rfl (q_s0 hR.1.2.2.2) rfl (qb_64 _).symm h
theorem qbt_48 (p : Int32) : qbt 48 p = if (if p &&& 128 = 0 then (0 : Int32) else 1) = 1 then 1 else 0 := by
  unfold qbt
  rw [show (if (48 : Int32) >>> ((6 : Int32) &&& 31) = 0 then (128 : Int32) else if (48 : Int32) >>> ((6 : Int32) &&& 31) = 1 then 64 else if (48 : Int32) >>> ((6 : Int32) &&& 31) = 2 then 1 else 2) = 128 from by decide, show (if (48 : Int32) &&& 32 = 0 then 0 else (1 : Int32)) = 1 from by decide]
theorem bg_b48n {now mem lg : Nat → Int32} {lo hi pt ea uf op : Int32} (hR : qR now) (hM : qM mem) (ho : mem (now 5 &&& 255).toNatClampNeg = 48) (ht : qbt 48 (now 4) = 0) : Bg now mem lg 0 48 48 lo hi pt ea uf op := by
  have ht' : ¬ (if now 4 &&& 128 = 0 then (0 : Int32) else 1) = 1 := fun z => absurd (((qbt_48 (now 4)).trans (if_pos z)).symm.trans ht) (by decide)
  refine ⟨2, 1, 18, 0, now 5 + 2, nI 2, upd (upd lg 0 (rd 48 (now 5))) 1 (rd (mem ((now 5 + 1) &&& 255).toNatClampNeg) (now 5 + 1)), upd (upd now 5 ((now 5 + 1) &&& 65535)) 5 ((now 5 + 2) &&& 65535), mem, 7, ?_, ?_, rfl, qR_5 (qR_5 hR (qb_64 _)) (qb_64 _), hM.2, (qP_b (by decide) (by decide)), ⟨by decide, by decide⟩, ?_⟩
  · intro post se la co ac sq0 le0 tl0 mo0 st0 np0 lev h
    exact qb_op (MD := 0) ho (by decide) (by decide) (by decide) (by decide) (by decide) (by decide) h
  · intro post co se la sq0 ac lin h
    refine yp_br (by decide) (by decide) ?_
    refine br_f (by decide) (?_)
    refine yb_n (want := 1) (by decide) ht' ?_
    unfold wY_special_92
    exact br_f (by decide) (br_f (by decide) (br_f (by decide) (br_f (by decide) (br_f (by decide) (br_f (by decide) (br_f (by decide) (br_f (by decide) (br_f (by decide) (br_f (by decide) (br_f (by decide) (br_f (by decide) (br_f (by decide) (br_f (by decide) (br_f (by decide) (br_f (by decide) (br_f (by decide) (br_f (by decide) (br_f (by decide) (br_f (by decide) (br_f (by decide) (br_f (by decide) (br_f (by decide) (br_f (by decide) (br_f (by decide) (br_f (by decide) (br_f (by decide) (h)))))))))))))))))))))))))))
  · refine fe_bn2 ht hM rfl (qP_b (by decide) (by decide)) ⟨by decide, by decide⟩ ?_
    intro post se la ne co ac lev h
    unfold wpX_finish
    refine br_f (by decide) (br_f (by decide) (br_f (by decide) (br_f (by decide) (br_f (by decide) (br_f (by decide) (br_t (by decide) (?_)))))))
    exact qf_h (F := upd (upd now 5 ((now 5 + 1) &&& 65535)) 5 ((now 5 + 2) &&& 65535)) (N := now 5 + 2) (C := 0) (by unfold qnp; rw [if_neg (by decide), if_neg (by decide), if_pos (by decide)]) (by decide) rfl rfl rfl (q_s0 hR.1.2.2.2) rfl rfl h
theorem bg_b48e {now mem lg : Nat → Int32} {lo hi pt ea uf op : Int32} (hR : qR now) (hM : qM mem) (ho : mem (now 5 &&& 255).toNatClampNeg = 48) (ht : ¬ qbt 48 (now 4) = 0) (hc : (qbn ((now 5 + 2) &&& 65535) (mem ((now 5 + 1) &&& 255).toNatClampNeg)) >>> ((8 : Int32) &&& 31) = ((now 5 + 2) &&& 65535) >>> ((8 : Int32) &&& 31)) : Bg now mem lg 0 48 48 lo hi pt ea uf op := by
  have ht' : (if now 4 &&& 128 = 0 then (0 : Int32) else 1) = 1 := Decidable.byContradiction (fun z => ht ((qbt_48 (now 4)).trans (if_neg z)))
  refine ⟨2, 1, 18, 0, now 5 + 2, nI 3, upd (upd (upd lg 0 (rd 48 (now 5))) 1 (rd (mem ((now 5 + 1) &&& 255).toNatClampNeg) (now 5 + 1))) 2 (rd (mem (((now 5 + 2) &&& 65535) &&& 255).toNatClampNeg) ((now 5 + 2) &&& 65535)), upd (upd (upd now 5 ((now 5 + 1) &&& 65535)) 5 ((now 5 + 2) &&& 65535)) 5 (qbn ((now 5 + 2) &&& 65535) (mem ((now 5 + 1) &&& 255).toNatClampNeg)), mem, 7, ?_, ?_, rfl, qR_5 (qR_5 (qR_5 hR (qb_64 _)) (qb_64 _)) (qb_64 _), hM.2, (qP_b (by decide) (by decide)), ⟨by decide, by decide⟩, ?_⟩
  · intro post se la co ac sq0 le0 tl0 mo0 st0 np0 lev h
    exact qb_op (MD := 0) ho (by decide) (by decide) (by decide) (by decide) (by decide) (by decide) h
  · intro post co se la sq0 ac lin h
    refine yp_br (by decide) (by decide) ?_
    refine br_f (by decide) (?_)
    refine yb_e (by decide) (want := 1) (by decide) ht' hc ?_
    unfold wY_special_92
    exact br_f (by decide) (br_f (by decide) (br_f (by decide) (br_f (by decide) (br_f (by decide) (br_f (by decide) (br_f (by decide) (br_f (by decide) (br_f (by decide) (br_f (by decide) (br_f (by decide) (br_f (by decide) (br_f (by decide) (br_f (by decide) (br_f (by decide) (br_f (by decide) (br_f (by decide) (br_f (by decide) (br_f (by decide) (br_f (by decide) (br_f (by decide) (br_f (by decide) (br_f (by decide) (br_f (by decide) (br_f (by decide) (br_f (by decide) (br_f (by decide) (h)))))))))))))))))))))))))))
  · refine fu_bt2 (if_pos hc) ht hM rfl (qP_b (by decide) (by decide)) ⟨by decide, by decide⟩ ?_
    refine fe_b3 hM rfl (qP_b (by decide) (by decide)) ⟨by decide, by decide⟩ ?_
    intro post se la ne co ac lev h
    unfold wpX_finish
    refine br_f (by decide) (br_f (by decide) (br_f (by decide) (br_f (by decide) (br_f (by decide) (br_f (by decide) (br_t (by decide) (?_)))))))
    exact qf_h (F := upd (upd (upd now 5 ((now 5 + 1) &&& 65535)) 5 ((now 5 + 2) &&& 65535)) 5 (qbn ((now 5 + 2) &&& 65535) (mem ((now 5 + 1) &&& 255).toNatClampNeg))) (N := qbn ((now 5 + 2) &&& 65535) (mem ((now 5 + 1) &&& 255).toNatClampNeg)) (C := 0) (by unfold qnp; rw [if_neg (by decide), if_neg (by decide), if_pos (by decide)]) (by decide) rfl rfl rfl (q_s0 hR.1.2.2.2) rfl (qb_64 _).symm h
theorem bg_b48c {now mem lg : Nat → Int32} {lo hi pt ea uf op : Int32} (hR : qR now) (hM : qM mem) (ho : mem (now 5 &&& 255).toNatClampNeg = 48) (ht : ¬ qbt 48 (now 4) = 0) (hc : ¬ (qbn ((now 5 + 2) &&& 65535) (mem ((now 5 + 1) &&& 255).toNatClampNeg)) >>> ((8 : Int32) &&& 31) = ((now 5 + 2) &&& 65535) >>> ((8 : Int32) &&& 31)) : Bg now mem lg 0 48 48 lo hi pt ea uf op := by
  have ht' : (if now 4 &&& 128 = 0 then (0 : Int32) else 1) = 1 := Decidable.byContradiction (fun z => ht ((qbt_48 (now 4)).trans (if_neg z)))
  refine ⟨2, 1, 18, 0, now 5 + 2, nI 4, upd (upd (upd (upd lg 0 (rd 48 (now 5))) 1 (rd (mem ((now 5 + 1) &&& 255).toNatClampNeg) (now 5 + 1))) 2 (rd (mem (((now 5 + 2) &&& 65535) &&& 255).toNatClampNeg) ((now 5 + 2) &&& 65535))) 3 (rd (mem (((((now 5 + 2) &&& 65535) &&& 65280) + ((qbn ((now 5 + 2) &&& 65535) (mem ((now 5 + 1) &&& 255).toNatClampNeg)) &&& 255)) &&& 255).toNatClampNeg) ((((now 5 + 2) &&& 65535) &&& 65280) + ((qbn ((now 5 + 2) &&& 65535) (mem ((now 5 + 1) &&& 255).toNatClampNeg)) &&& 255))), upd (upd (upd now 5 ((now 5 + 1) &&& 65535)) 5 ((now 5 + 2) &&& 65535)) 5 (qbn ((now 5 + 2) &&& 65535) (mem ((now 5 + 1) &&& 255).toNatClampNeg)), mem, 7, ?_, ?_, rfl, qR_5 (qR_5 (qR_5 hR (qb_64 _)) (qb_64 _)) (qb_64 _), hM.2, (qP_b (by decide) (by decide)), ⟨by decide, by decide⟩, ?_⟩
  · intro post se la co ac sq0 le0 tl0 mo0 st0 np0 lev h
    exact qb_op (MD := 0) ho (by decide) (by decide) (by decide) (by decide) (by decide) (by decide) h
  · intro post co se la sq0 ac lin h
    refine yp_br (by decide) (by decide) ?_
    refine br_f (by decide) (?_)
    refine yb_c (by decide) (want := 1) (by decide) ht' hc ?_
    unfold wY_special_92
    exact br_f (by decide) (br_f (by decide) (br_f (by decide) (br_f (by decide) (br_f (by decide) (br_f (by decide) (br_f (by decide) (br_f (by decide) (br_f (by decide) (br_f (by decide) (br_f (by decide) (br_f (by decide) (br_f (by decide) (br_f (by decide) (br_f (by decide) (br_f (by decide) (br_f (by decide) (br_f (by decide) (br_f (by decide) (br_f (by decide) (br_f (by decide) (br_f (by decide) (br_f (by decide) (br_f (by decide) (br_f (by decide) (br_f (by decide) (br_f (by decide) (h)))))))))))))))))))))))))))
  · refine fu_bt2 (if_neg hc) ht hM rfl (qP_b (by decide) (by decide)) ⟨by decide, by decide⟩ ?_
    refine fu_b3 hM rfl (qP_b (by decide) (by decide)) ⟨by decide, by decide⟩ ?_
    refine fe_b4 hM rfl (qP_b (by decide) (by decide)) ⟨by decide, by decide⟩ ?_
    intro post se la ne co ac lev h
    unfold wpX_finish
    refine br_f (by decide) (br_f (by decide) (br_f (by decide) (br_f (by decide) (br_f (by decide) (br_f (by decide) (br_t (by decide) (?_)))))))
    exact qf_h (F := upd (upd (upd now 5 ((now 5 + 1) &&& 65535)) 5 ((now 5 + 2) &&& 65535)) 5 (qbn ((now 5 + 2) &&& 65535) (mem ((now 5 + 1) &&& 255).toNatClampNeg))) (N := qbn ((now 5 + 2) &&& 65535) (mem ((now 5 + 1) &&& 255).toNatClampNeg)) (C := 0) (by unfold qnp; rw [if_neg (by decide), if_neg (by decide), if_pos (by decide)]) (by decide) rfl rfl rfl (q_s0 hR.1.2.2.2) rfl (qb_64 _).symm h
theorem qbt_80 (p : Int32) : qbt 80 p = if (if p &&& 64 = 0 then (0 : Int32) else 1) = 0 then 1 else 0 := by
  unfold qbt
  rw [show (if (80 : Int32) >>> ((6 : Int32) &&& 31) = 0 then (128 : Int32) else if (80 : Int32) >>> ((6 : Int32) &&& 31) = 1 then 64 else if (80 : Int32) >>> ((6 : Int32) &&& 31) = 2 then 1 else 2) = 64 from by decide, show (if (80 : Int32) &&& 32 = 0 then 0 else (1 : Int32)) = 0 from by decide]
theorem bg_b80n {now mem lg : Nat → Int32} {lo hi pt ea uf op : Int32} (hR : qR now) (hM : qM mem) (ho : mem (now 5 &&& 255).toNatClampNeg = 80) (ht : qbt 80 (now 4) = 0) : Bg now mem lg 0 80 80 lo hi pt ea uf op := by
  have ht' : ¬ (if now 4 &&& 64 = 0 then (0 : Int32) else 1) = 0 := fun z => absurd (((qbt_80 (now 4)).trans (if_pos z)).symm.trans ht) (by decide)
  refine ⟨2, 1, 18, 0, now 5 + 2, nI 2, upd (upd lg 0 (rd 80 (now 5))) 1 (rd (mem ((now 5 + 1) &&& 255).toNatClampNeg) (now 5 + 1)), upd (upd now 5 ((now 5 + 1) &&& 65535)) 5 ((now 5 + 2) &&& 65535), mem, 7, ?_, ?_, rfl, qR_5 (qR_5 hR (qb_64 _)) (qb_64 _), hM.2, (qP_b (by decide) (by decide)), ⟨by decide, by decide⟩, ?_⟩
  · intro post se la co ac sq0 le0 tl0 mo0 st0 np0 lev h
    exact qb_op (MD := 0) ho (by decide) (by decide) (by decide) (by decide) (by decide) (by decide) h
  · intro post co se la sq0 ac lin h
    refine yp_br (by decide) (by decide) ?_
    refine br_t (by decide) (br_f (by decide) (?_))
    refine yb_n (want := 0) (by decide) ht' ?_
    unfold wY_special_92
    exact br_f (by decide) (br_f (by decide) (br_f (by decide) (br_f (by decide) (br_f (by decide) (br_f (by decide) (br_f (by decide) (br_f (by decide) (br_f (by decide) (br_f (by decide) (br_f (by decide) (br_f (by decide) (br_f (by decide) (br_f (by decide) (br_f (by decide) (br_f (by decide) (br_f (by decide) (br_f (by decide) (br_f (by decide) (br_f (by decide) (br_f (by decide) (br_f (by decide) (br_f (by decide) (br_f (by decide) (br_f (by decide) (br_f (by decide) (br_f (by decide) (h)))))))))))))))))))))))))))
  · refine fe_bn2 ht hM rfl (qP_b (by decide) (by decide)) ⟨by decide, by decide⟩ ?_
    intro post se la ne co ac lev h
    unfold wpX_finish
    refine br_f (by decide) (br_f (by decide) (br_f (by decide) (br_f (by decide) (br_f (by decide) (br_f (by decide) (br_t (by decide) (?_)))))))
    exact qf_h (F := upd (upd now 5 ((now 5 + 1) &&& 65535)) 5 ((now 5 + 2) &&& 65535)) (N := now 5 + 2) (C := 0) (by unfold qnp; rw [if_neg (by decide), if_neg (by decide), if_pos (by decide)]) (by decide) rfl rfl rfl (q_s0 hR.1.2.2.2) rfl rfl h
theorem bg_b80e {now mem lg : Nat → Int32} {lo hi pt ea uf op : Int32} (hR : qR now) (hM : qM mem) (ho : mem (now 5 &&& 255).toNatClampNeg = 80) (ht : ¬ qbt 80 (now 4) = 0) (hc : (qbn ((now 5 + 2) &&& 65535) (mem ((now 5 + 1) &&& 255).toNatClampNeg)) >>> ((8 : Int32) &&& 31) = ((now 5 + 2) &&& 65535) >>> ((8 : Int32) &&& 31)) : Bg now mem lg 0 80 80 lo hi pt ea uf op := by
  have ht' : (if now 4 &&& 64 = 0 then (0 : Int32) else 1) = 0 := Decidable.byContradiction (fun z => ht ((qbt_80 (now 4)).trans (if_neg z)))
  refine ⟨2, 1, 18, 0, now 5 + 2, nI 3, upd (upd (upd lg 0 (rd 80 (now 5))) 1 (rd (mem ((now 5 + 1) &&& 255).toNatClampNeg) (now 5 + 1))) 2 (rd (mem (((now 5 + 2) &&& 65535) &&& 255).toNatClampNeg) ((now 5 + 2) &&& 65535)), upd (upd (upd now 5 ((now 5 + 1) &&& 65535)) 5 ((now 5 + 2) &&& 65535)) 5 (qbn ((now 5 + 2) &&& 65535) (mem ((now 5 + 1) &&& 255).toNatClampNeg)), mem, 7, ?_, ?_, rfl, qR_5 (qR_5 (qR_5 hR (qb_64 _)) (qb_64 _)) (qb_64 _), hM.2, (qP_b (by decide) (by decide)), ⟨by decide, by decide⟩, ?_⟩
  · intro post se la co ac sq0 le0 tl0 mo0 st0 np0 lev h
    exact qb_op (MD := 0) ho (by decide) (by decide) (by decide) (by decide) (by decide) (by decide) h
  · intro post co se la sq0 ac lin h
    refine yp_br (by decide) (by decide) ?_
    refine br_t (by decide) (br_f (by decide) (?_))
    refine yb_e (by decide) (want := 0) (by decide) ht' hc ?_
    unfold wY_special_92
    exact br_f (by decide) (br_f (by decide) (br_f (by decide) (br_f (by decide) (br_f (by decide) (br_f (by decide) (br_f (by decide) (br_f (by decide) (br_f (by decide) (br_f (by decide) (br_f (by decide) (br_f (by decide) (br_f (by decide) (br_f (by decide) (br_f (by decide) (br_f (by decide) (br_f (by decide) (br_f (by decide) (br_f (by decide) (br_f (by decide) (br_f (by decide) (br_f (by decide) (br_f (by decide) (br_f (by decide) (br_f (by decide) (br_f (by decide) (br_f (by decide) (h)))))))))))))))))))))))))))
  · refine fu_bt2 (if_pos hc) ht hM rfl (qP_b (by decide) (by decide)) ⟨by decide, by decide⟩ ?_
    refine fe_b3 hM rfl (qP_b (by decide) (by decide)) ⟨by decide, by decide⟩ ?_
    intro post se la ne co ac lev h
    unfold wpX_finish
    refine br_f (by decide) (br_f (by decide) (br_f (by decide) (br_f (by decide) (br_f (by decide) (br_f (by decide) (br_t (by decide) (?_)))))))
    exact qf_h (F := upd (upd (upd now 5 ((now 5 + 1) &&& 65535)) 5 ((now 5 + 2) &&& 65535)) 5 (qbn ((now 5 + 2) &&& 65535) (mem ((now 5 + 1) &&& 255).toNatClampNeg))) (N := qbn ((now 5 + 2) &&& 65535) (mem ((now 5 + 1) &&& 255).toNatClampNeg)) (C := 0) (by unfold qnp; rw [if_neg (by decide), if_neg (by decide), if_pos (by decide)]) (by decide) rfl rfl rfl (q_s0 hR.1.2.2.2) rfl (qb_64 _).symm h
theorem bg_b80c {now mem lg : Nat → Int32} {lo hi pt ea uf op : Int32} (hR : qR now) (hM : qM mem) (ho : mem (now 5 &&& 255).toNatClampNeg = 80) (ht : ¬ qbt 80 (now 4) = 0) (hc : ¬ (qbn ((now 5 + 2) &&& 65535) (mem ((now 5 + 1) &&& 255).toNatClampNeg)) >>> ((8 : Int32) &&& 31) = ((now 5 + 2) &&& 65535) >>> ((8 : Int32) &&& 31)) : Bg now mem lg 0 80 80 lo hi pt ea uf op := by
  have ht' : (if now 4 &&& 64 = 0 then (0 : Int32) else 1) = 0 := Decidable.byContradiction (fun z => ht ((qbt_80 (now 4)).trans (if_neg z)))
  refine ⟨2, 1, 18, 0, now 5 + 2, nI 4, upd (upd (upd (upd lg 0 (rd 80 (now 5))) 1 (rd (mem ((now 5 + 1) &&& 255).toNatClampNeg) (now 5 + 1))) 2 (rd (mem (((now 5 + 2) &&& 65535) &&& 255).toNatClampNeg) ((now 5 + 2) &&& 65535))) 3 (rd (mem (((((now 5 + 2) &&& 65535) &&& 65280) + ((qbn ((now 5 + 2) &&& 65535) (mem ((now 5 + 1) &&& 255).toNatClampNeg)) &&& 255)) &&& 255).toNatClampNeg) ((((now 5 + 2) &&& 65535) &&& 65280) + ((qbn ((now 5 + 2) &&& 65535) (mem ((now 5 + 1) &&& 255).toNatClampNeg)) &&& 255))), upd (upd (upd now 5 ((now 5 + 1) &&& 65535)) 5 ((now 5 + 2) &&& 65535)) 5 (qbn ((now 5 + 2) &&& 65535) (mem ((now 5 + 1) &&& 255).toNatClampNeg)), mem, 7, ?_, ?_, rfl, qR_5 (qR_5 (qR_5 hR (qb_64 _)) (qb_64 _)) (qb_64 _), hM.2, (qP_b (by decide) (by decide)), ⟨by decide, by decide⟩, ?_⟩
  · intro post se la co ac sq0 le0 tl0 mo0 st0 np0 lev h
    exact qb_op (MD := 0) ho (by decide) (by decide) (by decide) (by decide) (by decide) (by decide) h
  · intro post co se la sq0 ac lin h
    refine yp_br (by decide) (by decide) ?_
    refine br_t (by decide) (br_f (by decide) (?_))
    refine yb_c (by decide) (want := 0) (by decide) ht' hc ?_
    unfold wY_special_92
    exact br_f (by decide) (br_f (by decide) (br_f (by decide) (br_f (by decide) (br_f (by decide) (br_f (by decide) (br_f (by decide) (br_f (by decide) (br_f (by decide) (br_f (by decide) (br_f (by decide) (br_f (by decide) (br_f (by decide) (br_f (by decide) (br_f (by decide) (br_f (by decide) (br_f (by decide) (br_f (by decide) (br_f (by decide) (br_f (by decide) (br_f (by decide) (br_f (by decide) (br_f (by decide) (br_f (by decide) (br_f (by decide) (br_f (by decide) (br_f (by decide) (h)))))))))))))))))))))))))))
  · refine fu_bt2 (if_neg hc) ht hM rfl (qP_b (by decide) (by decide)) ⟨by decide, by decide⟩ ?_
    refine fu_b3 hM rfl (qP_b (by decide) (by decide)) ⟨by decide, by decide⟩ ?_
    refine fe_b4 hM rfl (qP_b (by decide) (by decide)) ⟨by decide, by decide⟩ ?_
    intro post se la ne co ac lev h
    unfold wpX_finish
    refine br_f (by decide) (br_f (by decide) (br_f (by decide) (br_f (by decide) (br_f (by decide) (br_f (by decide) (br_t (by decide) (?_)))))))
    exact qf_h (F := upd (upd (upd now 5 ((now 5 + 1) &&& 65535)) 5 ((now 5 + 2) &&& 65535)) 5 (qbn ((now 5 + 2) &&& 65535) (mem ((now 5 + 1) &&& 255).toNatClampNeg))) (N := qbn ((now 5 + 2) &&& 65535) (mem ((now 5 + 1) &&& 255).toNatClampNeg)) (C := 0) (by unfold qnp; rw [if_neg (by decide), if_neg (by decide), if_pos (by decide)]) (by decide) rfl rfl rfl (q_s0 hR.1.2.2.2) rfl (qb_64 _).symm h
theorem qbt_112 (p : Int32) : qbt 112 p = if (if p &&& 64 = 0 then (0 : Int32) else 1) = 1 then 1 else 0 := by
  unfold qbt
  rw [show (if (112 : Int32) >>> ((6 : Int32) &&& 31) = 0 then (128 : Int32) else if (112 : Int32) >>> ((6 : Int32) &&& 31) = 1 then 64 else if (112 : Int32) >>> ((6 : Int32) &&& 31) = 2 then 1 else 2) = 64 from by decide, show (if (112 : Int32) &&& 32 = 0 then 0 else (1 : Int32)) = 1 from by decide]
theorem bg_b112n {now mem lg : Nat → Int32} {lo hi pt ea uf op : Int32} (hR : qR now) (hM : qM mem) (ho : mem (now 5 &&& 255).toNatClampNeg = 112) (ht : qbt 112 (now 4) = 0) : Bg now mem lg 0 112 112 lo hi pt ea uf op := by
  have ht' : ¬ (if now 4 &&& 64 = 0 then (0 : Int32) else 1) = 1 := fun z => absurd (((qbt_112 (now 4)).trans (if_pos z)).symm.trans ht) (by decide)
  refine ⟨2, 1, 18, 0, now 5 + 2, nI 2, upd (upd lg 0 (rd 112 (now 5))) 1 (rd (mem ((now 5 + 1) &&& 255).toNatClampNeg) (now 5 + 1)), upd (upd now 5 ((now 5 + 1) &&& 65535)) 5 ((now 5 + 2) &&& 65535), mem, 7, ?_, ?_, rfl, qR_5 (qR_5 hR (qb_64 _)) (qb_64 _), hM.2, (qP_b (by decide) (by decide)), ⟨by decide, by decide⟩, ?_⟩
  · intro post se la co ac sq0 le0 tl0 mo0 st0 np0 lev h
    exact qb_op (MD := 0) ho (by decide) (by decide) (by decide) (by decide) (by decide) (by decide) h
  · intro post co se la sq0 ac lin h
    refine yp_br (by decide) (by decide) ?_
    refine br_t (by decide) (br_f (by decide) (?_))
    refine yb_n (want := 1) (by decide) ht' ?_
    unfold wY_special_92
    exact br_f (by decide) (br_f (by decide) (br_f (by decide) (br_f (by decide) (br_f (by decide) (br_f (by decide) (br_f (by decide) (br_f (by decide) (br_f (by decide) (br_f (by decide) (br_f (by decide) (br_f (by decide) (br_f (by decide) (br_f (by decide) (br_f (by decide) (br_f (by decide) (br_f (by decide) (br_f (by decide) (br_f (by decide) (br_f (by decide) (br_f (by decide) (br_f (by decide) (br_f (by decide) (br_f (by decide) (br_f (by decide) (br_f (by decide) (br_f (by decide) (h)))))))))))))))))))))))))))
  · refine fe_bn2 ht hM rfl (qP_b (by decide) (by decide)) ⟨by decide, by decide⟩ ?_
    intro post se la ne co ac lev h
    unfold wpX_finish
    refine br_f (by decide) (br_f (by decide) (br_f (by decide) (br_f (by decide) (br_f (by decide) (br_f (by decide) (br_t (by decide) (?_)))))))
    exact qf_h (F := upd (upd now 5 ((now 5 + 1) &&& 65535)) 5 ((now 5 + 2) &&& 65535)) (N := now 5 + 2) (C := 0) (by unfold qnp; rw [if_neg (by decide), if_neg (by decide), if_pos (by decide)]) (by decide) rfl rfl rfl (q_s0 hR.1.2.2.2) rfl rfl h
theorem bg_b112e {now mem lg : Nat → Int32} {lo hi pt ea uf op : Int32} (hR : qR now) (hM : qM mem) (ho : mem (now 5 &&& 255).toNatClampNeg = 112) (ht : ¬ qbt 112 (now 4) = 0) (hc : (qbn ((now 5 + 2) &&& 65535) (mem ((now 5 + 1) &&& 255).toNatClampNeg)) >>> ((8 : Int32) &&& 31) = ((now 5 + 2) &&& 65535) >>> ((8 : Int32) &&& 31)) : Bg now mem lg 0 112 112 lo hi pt ea uf op := by
  have ht' : (if now 4 &&& 64 = 0 then (0 : Int32) else 1) = 1 := Decidable.byContradiction (fun z => ht ((qbt_112 (now 4)).trans (if_neg z)))
  refine ⟨2, 1, 18, 0, now 5 + 2, nI 3, upd (upd (upd lg 0 (rd 112 (now 5))) 1 (rd (mem ((now 5 + 1) &&& 255).toNatClampNeg) (now 5 + 1))) 2 (rd (mem (((now 5 + 2) &&& 65535) &&& 255).toNatClampNeg) ((now 5 + 2) &&& 65535)), upd (upd (upd now 5 ((now 5 + 1) &&& 65535)) 5 ((now 5 + 2) &&& 65535)) 5 (qbn ((now 5 + 2) &&& 65535) (mem ((now 5 + 1) &&& 255).toNatClampNeg)), mem, 7, ?_, ?_, rfl, qR_5 (qR_5 (qR_5 hR (qb_64 _)) (qb_64 _)) (qb_64 _), hM.2, (qP_b (by decide) (by decide)), ⟨by decide, by decide⟩, ?_⟩
  · intro post se la co ac sq0 le0 tl0 mo0 st0 np0 lev h
    exact qb_op (MD := 0) ho (by decide) (by decide) (by decide) (by decide) (by decide) (by decide) h
  · intro post co se la sq0 ac lin h
    refine yp_br (by decide) (by decide) ?_
    refine br_t (by decide) (br_f (by decide) (?_))
    refine yb_e (by decide) (want := 1) (by decide) ht' hc ?_
    unfold wY_special_92
    exact br_f (by decide) (br_f (by decide) (br_f (by decide) (br_f (by decide) (br_f (by decide) (br_f (by decide) (br_f (by decide) (br_f (by decide) (br_f (by decide) (br_f (by decide) (br_f (by decide) (br_f (by decide) (br_f (by decide) (br_f (by decide) (br_f (by decide) (br_f (by decide) (br_f (by decide) (br_f (by decide) (br_f (by decide) (br_f (by decide) (br_f (by decide) (br_f (by decide) (br_f (by decide) (br_f (by decide) (br_f (by decide) (br_f (by decide) (br_f (by decide) (h)))))))))))))))))))))))))))
  · refine fu_bt2 (if_pos hc) ht hM rfl (qP_b (by decide) (by decide)) ⟨by decide, by decide⟩ ?_
    refine fe_b3 hM rfl (qP_b (by decide) (by decide)) ⟨by decide, by decide⟩ ?_
    intro post se la ne co ac lev h
    unfold wpX_finish
    refine br_f (by decide) (br_f (by decide) (br_f (by decide) (br_f (by decide) (br_f (by decide) (br_f (by decide) (br_t (by decide) (?_)))))))
    exact qf_h (F := upd (upd (upd now 5 ((now 5 + 1) &&& 65535)) 5 ((now 5 + 2) &&& 65535)) 5 (qbn ((now 5 + 2) &&& 65535) (mem ((now 5 + 1) &&& 255).toNatClampNeg))) (N := qbn ((now 5 + 2) &&& 65535) (mem ((now 5 + 1) &&& 255).toNatClampNeg)) (C := 0) (by unfold qnp; rw [if_neg (by decide), if_neg (by decide), if_pos (by decide)]) (by decide) rfl rfl rfl (q_s0 hR.1.2.2.2) rfl (qb_64 _).symm h
theorem bg_b112c {now mem lg : Nat → Int32} {lo hi pt ea uf op : Int32} (hR : qR now) (hM : qM mem) (ho : mem (now 5 &&& 255).toNatClampNeg = 112) (ht : ¬ qbt 112 (now 4) = 0) (hc : ¬ (qbn ((now 5 + 2) &&& 65535) (mem ((now 5 + 1) &&& 255).toNatClampNeg)) >>> ((8 : Int32) &&& 31) = ((now 5 + 2) &&& 65535) >>> ((8 : Int32) &&& 31)) : Bg now mem lg 0 112 112 lo hi pt ea uf op := by
  have ht' : (if now 4 &&& 64 = 0 then (0 : Int32) else 1) = 1 := Decidable.byContradiction (fun z => ht ((qbt_112 (now 4)).trans (if_neg z)))
  refine ⟨2, 1, 18, 0, now 5 + 2, nI 4, upd (upd (upd (upd lg 0 (rd 112 (now 5))) 1 (rd (mem ((now 5 + 1) &&& 255).toNatClampNeg) (now 5 + 1))) 2 (rd (mem (((now 5 + 2) &&& 65535) &&& 255).toNatClampNeg) ((now 5 + 2) &&& 65535))) 3 (rd (mem (((((now 5 + 2) &&& 65535) &&& 65280) + ((qbn ((now 5 + 2) &&& 65535) (mem ((now 5 + 1) &&& 255).toNatClampNeg)) &&& 255)) &&& 255).toNatClampNeg) ((((now 5 + 2) &&& 65535) &&& 65280) + ((qbn ((now 5 + 2) &&& 65535) (mem ((now 5 + 1) &&& 255).toNatClampNeg)) &&& 255))), upd (upd (upd now 5 ((now 5 + 1) &&& 65535)) 5 ((now 5 + 2) &&& 65535)) 5 (qbn ((now 5 + 2) &&& 65535) (mem ((now 5 + 1) &&& 255).toNatClampNeg)), mem, 7, ?_, ?_, rfl, qR_5 (qR_5 (qR_5 hR (qb_64 _)) (qb_64 _)) (qb_64 _), hM.2, (qP_b (by decide) (by decide)), ⟨by decide, by decide⟩, ?_⟩
  · intro post se la co ac sq0 le0 tl0 mo0 st0 np0 lev h
    exact qb_op (MD := 0) ho (by decide) (by decide) (by decide) (by decide) (by decide) (by decide) h
  · intro post co se la sq0 ac lin h
    refine yp_br (by decide) (by decide) ?_
    refine br_t (by decide) (br_f (by decide) (?_))
    refine yb_c (by decide) (want := 1) (by decide) ht' hc ?_
    unfold wY_special_92
    exact br_f (by decide) (br_f (by decide) (br_f (by decide) (br_f (by decide) (br_f (by decide) (br_f (by decide) (br_f (by decide) (br_f (by decide) (br_f (by decide) (br_f (by decide) (br_f (by decide) (br_f (by decide) (br_f (by decide) (br_f (by decide) (br_f (by decide) (br_f (by decide) (br_f (by decide) (br_f (by decide) (br_f (by decide) (br_f (by decide) (br_f (by decide) (br_f (by decide) (br_f (by decide) (br_f (by decide) (br_f (by decide) (br_f (by decide) (br_f (by decide) (h)))))))))))))))))))))))))))
  · refine fu_bt2 (if_neg hc) ht hM rfl (qP_b (by decide) (by decide)) ⟨by decide, by decide⟩ ?_
    refine fu_b3 hM rfl (qP_b (by decide) (by decide)) ⟨by decide, by decide⟩ ?_
    refine fe_b4 hM rfl (qP_b (by decide) (by decide)) ⟨by decide, by decide⟩ ?_
    intro post se la ne co ac lev h
    unfold wpX_finish
    refine br_f (by decide) (br_f (by decide) (br_f (by decide) (br_f (by decide) (br_f (by decide) (br_f (by decide) (br_t (by decide) (?_)))))))
    exact qf_h (F := upd (upd (upd now 5 ((now 5 + 1) &&& 65535)) 5 ((now 5 + 2) &&& 65535)) 5 (qbn ((now 5 + 2) &&& 65535) (mem ((now 5 + 1) &&& 255).toNatClampNeg))) (N := qbn ((now 5 + 2) &&& 65535) (mem ((now 5 + 1) &&& 255).toNatClampNeg)) (C := 0) (by unfold qnp; rw [if_neg (by decide), if_neg (by decide), if_pos (by decide)]) (by decide) rfl rfl rfl (q_s0 hR.1.2.2.2) rfl (qb_64 _).symm h
theorem qbt_144 (p : Int32) : qbt 144 p = if (if p &&& 1 = 0 then (0 : Int32) else 1) = 0 then 1 else 0 := by
  unfold qbt
  rw [show (if (144 : Int32) >>> ((6 : Int32) &&& 31) = 0 then (128 : Int32) else if (144 : Int32) >>> ((6 : Int32) &&& 31) = 1 then 64 else if (144 : Int32) >>> ((6 : Int32) &&& 31) = 2 then 1 else 2) = 1 from by decide, show (if (144 : Int32) &&& 32 = 0 then 0 else (1 : Int32)) = 0 from by decide]
theorem bg_b144n {now mem lg : Nat → Int32} {lo hi pt ea uf op : Int32} (hR : qR now) (hM : qM mem) (ho : mem (now 5 &&& 255).toNatClampNeg = 144) (ht : qbt 144 (now 4) = 0) : Bg now mem lg 0 144 144 lo hi pt ea uf op := by
  have ht' : ¬ (if now 4 &&& 1 = 0 then (0 : Int32) else 1) = 0 := fun z => absurd (((qbt_144 (now 4)).trans (if_pos z)).symm.trans ht) (by decide)
  refine ⟨2, 1, 18, 0, now 5 + 2, nI 2, upd (upd lg 0 (rd 144 (now 5))) 1 (rd (mem ((now 5 + 1) &&& 255).toNatClampNeg) (now 5 + 1)), upd (upd now 5 ((now 5 + 1) &&& 65535)) 5 ((now 5 + 2) &&& 65535), mem, 7, ?_, ?_, rfl, qR_5 (qR_5 hR (qb_64 _)) (qb_64 _), hM.2, (qP_b (by decide) (by decide)), ⟨by decide, by decide⟩, ?_⟩
  · intro post se la co ac sq0 le0 tl0 mo0 st0 np0 lev h
    exact qb_op (MD := 0) ho (by decide) (by decide) (by decide) (by decide) (by decide) (by decide) h
  · intro post co se la sq0 ac lin h
    refine yp_br (by decide) (by decide) ?_
    refine br_t (by decide) (br_t (by decide) (br_f (by decide) (?_)))
    refine yb_n (want := 0) (by decide) ht' ?_
    unfold wY_special_92
    exact br_f (by decide) (br_f (by decide) (br_f (by decide) (br_f (by decide) (br_f (by decide) (br_f (by decide) (br_f (by decide) (br_f (by decide) (br_f (by decide) (br_f (by decide) (br_f (by decide) (br_f (by decide) (br_f (by decide) (br_f (by decide) (br_f (by decide) (br_f (by decide) (br_f (by decide) (br_f (by decide) (br_f (by decide) (br_f (by decide) (br_f (by decide) (br_f (by decide) (br_f (by decide) (br_f (by decide) (br_f (by decide) (br_f (by decide) (br_f (by decide) (h)))))))))))))))))))))))))))
  · refine fe_bn2 ht hM rfl (qP_b (by decide) (by decide)) ⟨by decide, by decide⟩ ?_
    intro post se la ne co ac lev h
    unfold wpX_finish
    refine br_f (by decide) (br_f (by decide) (br_f (by decide) (br_f (by decide) (br_f (by decide) (br_f (by decide) (br_t (by decide) (?_)))))))
    exact qf_h (F := upd (upd now 5 ((now 5 + 1) &&& 65535)) 5 ((now 5 + 2) &&& 65535)) (N := now 5 + 2) (C := 0) (by unfold qnp; rw [if_neg (by decide), if_neg (by decide), if_pos (by decide)]) (by decide) rfl rfl rfl (q_s0 hR.1.2.2.2) rfl rfl h
theorem bg_b144e {now mem lg : Nat → Int32} {lo hi pt ea uf op : Int32} (hR : qR now) (hM : qM mem) (ho : mem (now 5 &&& 255).toNatClampNeg = 144) (ht : ¬ qbt 144 (now 4) = 0) (hc : (qbn ((now 5 + 2) &&& 65535) (mem ((now 5 + 1) &&& 255).toNatClampNeg)) >>> ((8 : Int32) &&& 31) = ((now 5 + 2) &&& 65535) >>> ((8 : Int32) &&& 31)) : Bg now mem lg 0 144 144 lo hi pt ea uf op := by
  have ht' : (if now 4 &&& 1 = 0 then (0 : Int32) else 1) = 0 := Decidable.byContradiction (fun z => ht ((qbt_144 (now 4)).trans (if_neg z)))
  refine ⟨2, 1, 18, 0, now 5 + 2, nI 3, upd (upd (upd lg 0 (rd 144 (now 5))) 1 (rd (mem ((now 5 + 1) &&& 255).toNatClampNeg) (now 5 + 1))) 2 (rd (mem (((now 5 + 2) &&& 65535) &&& 255).toNatClampNeg) ((now 5 + 2) &&& 65535)), upd (upd (upd now 5 ((now 5 + 1) &&& 65535)) 5 ((now 5 + 2) &&& 65535)) 5 (qbn ((now 5 + 2) &&& 65535) (mem ((now 5 + 1) &&& 255).toNatClampNeg)), mem, 7, ?_, ?_, rfl, qR_5 (qR_5 (qR_5 hR (qb_64 _)) (qb_64 _)) (qb_64 _), hM.2, (qP_b (by decide) (by decide)), ⟨by decide, by decide⟩, ?_⟩
  · intro post se la co ac sq0 le0 tl0 mo0 st0 np0 lev h
    exact qb_op (MD := 0) ho (by decide) (by decide) (by decide) (by decide) (by decide) (by decide) h
  · intro post co se la sq0 ac lin h
    refine yp_br (by decide) (by decide) ?_
    refine br_t (by decide) (br_t (by decide) (br_f (by decide) (?_)))
    refine yb_e (by decide) (want := 0) (by decide) ht' hc ?_
    unfold wY_special_92
    exact br_f (by decide) (br_f (by decide) (br_f (by decide) (br_f (by decide) (br_f (by decide) (br_f (by decide) (br_f (by decide) (br_f (by decide) (br_f (by decide) (br_f (by decide) (br_f (by decide) (br_f (by decide) (br_f (by decide) (br_f (by decide) (br_f (by decide) (br_f (by decide) (br_f (by decide) (br_f (by decide) (br_f (by decide) (br_f (by decide) (br_f (by decide) (br_f (by decide) (br_f (by decide) (br_f (by decide) (br_f (by decide) (br_f (by decide) (br_f (by decide) (h)))))))))))))))))))))))))))
  · refine fu_bt2 (if_pos hc) ht hM rfl (qP_b (by decide) (by decide)) ⟨by decide, by decide⟩ ?_
    refine fe_b3 hM rfl (qP_b (by decide) (by decide)) ⟨by decide, by decide⟩ ?_
    intro post se la ne co ac lev h
    unfold wpX_finish
    refine br_f (by decide) (br_f (by decide) (br_f (by decide) (br_f (by decide) (br_f (by decide) (br_f (by decide) (br_t (by decide) (?_)))))))
    exact qf_h (F := upd (upd (upd now 5 ((now 5 + 1) &&& 65535)) 5 ((now 5 + 2) &&& 65535)) 5 (qbn ((now 5 + 2) &&& 65535) (mem ((now 5 + 1) &&& 255).toNatClampNeg))) (N := qbn ((now 5 + 2) &&& 65535) (mem ((now 5 + 1) &&& 255).toNatClampNeg)) (C := 0) (by unfold qnp; rw [if_neg (by decide), if_neg (by decide), if_pos (by decide)]) (by decide) rfl rfl rfl (q_s0 hR.1.2.2.2) rfl (qb_64 _).symm h
theorem bg_b144c {now mem lg : Nat → Int32} {lo hi pt ea uf op : Int32} (hR : qR now) (hM : qM mem) (ho : mem (now 5 &&& 255).toNatClampNeg = 144) (ht : ¬ qbt 144 (now 4) = 0) (hc : ¬ (qbn ((now 5 + 2) &&& 65535) (mem ((now 5 + 1) &&& 255).toNatClampNeg)) >>> ((8 : Int32) &&& 31) = ((now 5 + 2) &&& 65535) >>> ((8 : Int32) &&& 31)) : Bg now mem lg 0 144 144 lo hi pt ea uf op := by
  have ht' : (if now 4 &&& 1 = 0 then (0 : Int32) else 1) = 0 := Decidable.byContradiction (fun z => ht ((qbt_144 (now 4)).trans (if_neg z)))
  refine ⟨2, 1, 18, 0, now 5 + 2, nI 4, upd (upd (upd (upd lg 0 (rd 144 (now 5))) 1 (rd (mem ((now 5 + 1) &&& 255).toNatClampNeg) (now 5 + 1))) 2 (rd (mem (((now 5 + 2) &&& 65535) &&& 255).toNatClampNeg) ((now 5 + 2) &&& 65535))) 3 (rd (mem (((((now 5 + 2) &&& 65535) &&& 65280) + ((qbn ((now 5 + 2) &&& 65535) (mem ((now 5 + 1) &&& 255).toNatClampNeg)) &&& 255)) &&& 255).toNatClampNeg) ((((now 5 + 2) &&& 65535) &&& 65280) + ((qbn ((now 5 + 2) &&& 65535) (mem ((now 5 + 1) &&& 255).toNatClampNeg)) &&& 255))), upd (upd (upd now 5 ((now 5 + 1) &&& 65535)) 5 ((now 5 + 2) &&& 65535)) 5 (qbn ((now 5 + 2) &&& 65535) (mem ((now 5 + 1) &&& 255).toNatClampNeg)), mem, 7, ?_, ?_, rfl, qR_5 (qR_5 (qR_5 hR (qb_64 _)) (qb_64 _)) (qb_64 _), hM.2, (qP_b (by decide) (by decide)), ⟨by decide, by decide⟩, ?_⟩
  · intro post se la co ac sq0 le0 tl0 mo0 st0 np0 lev h
    exact qb_op (MD := 0) ho (by decide) (by decide) (by decide) (by decide) (by decide) (by decide) h
  · intro post co se la sq0 ac lin h
    refine yp_br (by decide) (by decide) ?_
    refine br_t (by decide) (br_t (by decide) (br_f (by decide) (?_)))
    refine yb_c (by decide) (want := 0) (by decide) ht' hc ?_
    unfold wY_special_92
    exact br_f (by decide) (br_f (by decide) (br_f (by decide) (br_f (by decide) (br_f (by decide) (br_f (by decide) (br_f (by decide) (br_f (by decide) (br_f (by decide) (br_f (by decide) (br_f (by decide) (br_f (by decide) (br_f (by decide) (br_f (by decide) (br_f (by decide) (br_f (by decide) (br_f (by decide) (br_f (by decide) (br_f (by decide) (br_f (by decide) (br_f (by decide) (br_f (by decide) (br_f (by decide) (br_f (by decide) (br_f (by decide) (br_f (by decide) (br_f (by decide) (h)))))))))))))))))))))))))))
  · refine fu_bt2 (if_neg hc) ht hM rfl (qP_b (by decide) (by decide)) ⟨by decide, by decide⟩ ?_
    refine fu_b3 hM rfl (qP_b (by decide) (by decide)) ⟨by decide, by decide⟩ ?_
    refine fe_b4 hM rfl (qP_b (by decide) (by decide)) ⟨by decide, by decide⟩ ?_
    intro post se la ne co ac lev h
    unfold wpX_finish
    refine br_f (by decide) (br_f (by decide) (br_f (by decide) (br_f (by decide) (br_f (by decide) (br_f (by decide) (br_t (by decide) (?_)))))))
    exact qf_h (F := upd (upd (upd now 5 ((now 5 + 1) &&& 65535)) 5 ((now 5 + 2) &&& 65535)) 5 (qbn ((now 5 + 2) &&& 65535) (mem ((now 5 + 1) &&& 255).toNatClampNeg))) (N := qbn ((now 5 + 2) &&& 65535) (mem ((now 5 + 1) &&& 255).toNatClampNeg)) (C := 0) (by unfold qnp; rw [if_neg (by decide), if_neg (by decide), if_pos (by decide)]) (by decide) rfl rfl rfl (q_s0 hR.1.2.2.2) rfl (qb_64 _).symm h
theorem qbt_176 (p : Int32) : qbt 176 p = if (if p &&& 1 = 0 then (0 : Int32) else 1) = 1 then 1 else 0 := by
  unfold qbt
  rw [show (if (176 : Int32) >>> ((6 : Int32) &&& 31) = 0 then (128 : Int32) else if (176 : Int32) >>> ((6 : Int32) &&& 31) = 1 then 64 else if (176 : Int32) >>> ((6 : Int32) &&& 31) = 2 then 1 else 2) = 1 from by decide, show (if (176 : Int32) &&& 32 = 0 then 0 else (1 : Int32)) = 1 from by decide]
theorem bg_b176n {now mem lg : Nat → Int32} {lo hi pt ea uf op : Int32} (hR : qR now) (hM : qM mem) (ho : mem (now 5 &&& 255).toNatClampNeg = 176) (ht : qbt 176 (now 4) = 0) : Bg now mem lg 0 176 176 lo hi pt ea uf op := by
  have ht' : ¬ (if now 4 &&& 1 = 0 then (0 : Int32) else 1) = 1 := fun z => absurd (((qbt_176 (now 4)).trans (if_pos z)).symm.trans ht) (by decide)
  refine ⟨2, 1, 18, 0, now 5 + 2, nI 2, upd (upd lg 0 (rd 176 (now 5))) 1 (rd (mem ((now 5 + 1) &&& 255).toNatClampNeg) (now 5 + 1)), upd (upd now 5 ((now 5 + 1) &&& 65535)) 5 ((now 5 + 2) &&& 65535), mem, 7, ?_, ?_, rfl, qR_5 (qR_5 hR (qb_64 _)) (qb_64 _), hM.2, (qP_b (by decide) (by decide)), ⟨by decide, by decide⟩, ?_⟩
  · intro post se la co ac sq0 le0 tl0 mo0 st0 np0 lev h
    exact qb_op (MD := 0) ho (by decide) (by decide) (by decide) (by decide) (by decide) (by decide) h
  · intro post co se la sq0 ac lin h
    refine yp_br (by decide) (by decide) ?_
    refine br_t (by decide) (br_t (by decide) (br_f (by decide) (?_)))
    refine yb_n (want := 1) (by decide) ht' ?_
    unfold wY_special_92
    exact br_f (by decide) (br_f (by decide) (br_f (by decide) (br_f (by decide) (br_f (by decide) (br_f (by decide) (br_f (by decide) (br_f (by decide) (br_f (by decide) (br_f (by decide) (br_f (by decide) (br_f (by decide) (br_f (by decide) (br_f (by decide) (br_f (by decide) (br_f (by decide) (br_f (by decide) (br_f (by decide) (br_f (by decide) (br_f (by decide) (br_f (by decide) (br_f (by decide) (br_f (by decide) (br_f (by decide) (br_f (by decide) (br_f (by decide) (br_f (by decide) (h)))))))))))))))))))))))))))
  · refine fe_bn2 ht hM rfl (qP_b (by decide) (by decide)) ⟨by decide, by decide⟩ ?_
    intro post se la ne co ac lev h
    unfold wpX_finish
    refine br_f (by decide) (br_f (by decide) (br_f (by decide) (br_f (by decide) (br_f (by decide) (br_f (by decide) (br_t (by decide) (?_)))))))
    exact qf_h (F := upd (upd now 5 ((now 5 + 1) &&& 65535)) 5 ((now 5 + 2) &&& 65535)) (N := now 5 + 2) (C := 0) (by unfold qnp; rw [if_neg (by decide), if_neg (by decide), if_pos (by decide)]) (by decide) rfl rfl rfl (q_s0 hR.1.2.2.2) rfl rfl h
theorem bg_b176e {now mem lg : Nat → Int32} {lo hi pt ea uf op : Int32} (hR : qR now) (hM : qM mem) (ho : mem (now 5 &&& 255).toNatClampNeg = 176) (ht : ¬ qbt 176 (now 4) = 0) (hc : (qbn ((now 5 + 2) &&& 65535) (mem ((now 5 + 1) &&& 255).toNatClampNeg)) >>> ((8 : Int32) &&& 31) = ((now 5 + 2) &&& 65535) >>> ((8 : Int32) &&& 31)) : Bg now mem lg 0 176 176 lo hi pt ea uf op := by
  have ht' : (if now 4 &&& 1 = 0 then (0 : Int32) else 1) = 1 := Decidable.byContradiction (fun z => ht ((qbt_176 (now 4)).trans (if_neg z)))
  refine ⟨2, 1, 18, 0, now 5 + 2, nI 3, upd (upd (upd lg 0 (rd 176 (now 5))) 1 (rd (mem ((now 5 + 1) &&& 255).toNatClampNeg) (now 5 + 1))) 2 (rd (mem (((now 5 + 2) &&& 65535) &&& 255).toNatClampNeg) ((now 5 + 2) &&& 65535)), upd (upd (upd now 5 ((now 5 + 1) &&& 65535)) 5 ((now 5 + 2) &&& 65535)) 5 (qbn ((now 5 + 2) &&& 65535) (mem ((now 5 + 1) &&& 255).toNatClampNeg)), mem, 7, ?_, ?_, rfl, qR_5 (qR_5 (qR_5 hR (qb_64 _)) (qb_64 _)) (qb_64 _), hM.2, (qP_b (by decide) (by decide)), ⟨by decide, by decide⟩, ?_⟩
  · intro post se la co ac sq0 le0 tl0 mo0 st0 np0 lev h
    exact qb_op (MD := 0) ho (by decide) (by decide) (by decide) (by decide) (by decide) (by decide) h
  · intro post co se la sq0 ac lin h
    refine yp_br (by decide) (by decide) ?_
    refine br_t (by decide) (br_t (by decide) (br_f (by decide) (?_)))
    refine yb_e (by decide) (want := 1) (by decide) ht' hc ?_
    unfold wY_special_92
    exact br_f (by decide) (br_f (by decide) (br_f (by decide) (br_f (by decide) (br_f (by decide) (br_f (by decide) (br_f (by decide) (br_f (by decide) (br_f (by decide) (br_f (by decide) (br_f (by decide) (br_f (by decide) (br_f (by decide) (br_f (by decide) (br_f (by decide) (br_f (by decide) (br_f (by decide) (br_f (by decide) (br_f (by decide) (br_f (by decide) (br_f (by decide) (br_f (by decide) (br_f (by decide) (br_f (by decide) (br_f (by decide) (br_f (by decide) (br_f (by decide) (h)))))))))))))))))))))))))))
  · refine fu_bt2 (if_pos hc) ht hM rfl (qP_b (by decide) (by decide)) ⟨by decide, by decide⟩ ?_
    refine fe_b3 hM rfl (qP_b (by decide) (by decide)) ⟨by decide, by decide⟩ ?_
    intro post se la ne co ac lev h
    unfold wpX_finish
    refine br_f (by decide) (br_f (by decide) (br_f (by decide) (br_f (by decide) (br_f (by decide) (br_f (by decide) (br_t (by decide) (?_)))))))
    exact qf_h (F := upd (upd (upd now 5 ((now 5 + 1) &&& 65535)) 5 ((now 5 + 2) &&& 65535)) 5 (qbn ((now 5 + 2) &&& 65535) (mem ((now 5 + 1) &&& 255).toNatClampNeg))) (N := qbn ((now 5 + 2) &&& 65535) (mem ((now 5 + 1) &&& 255).toNatClampNeg)) (C := 0) (by unfold qnp; rw [if_neg (by decide), if_neg (by decide), if_pos (by decide)]) (by decide) rfl rfl rfl (q_s0 hR.1.2.2.2) rfl (qb_64 _).symm h
theorem bg_b176c {now mem lg : Nat → Int32} {lo hi pt ea uf op : Int32} (hR : qR now) (hM : qM mem) (ho : mem (now 5 &&& 255).toNatClampNeg = 176) (ht : ¬ qbt 176 (now 4) = 0) (hc : ¬ (qbn ((now 5 + 2) &&& 65535) (mem ((now 5 + 1) &&& 255).toNatClampNeg)) >>> ((8 : Int32) &&& 31) = ((now 5 + 2) &&& 65535) >>> ((8 : Int32) &&& 31)) : Bg now mem lg 0 176 176 lo hi pt ea uf op := by
  have ht' : (if now 4 &&& 1 = 0 then (0 : Int32) else 1) = 1 := Decidable.byContradiction (fun z => ht ((qbt_176 (now 4)).trans (if_neg z)))
  refine ⟨2, 1, 18, 0, now 5 + 2, nI 4, upd (upd (upd (upd lg 0 (rd 176 (now 5))) 1 (rd (mem ((now 5 + 1) &&& 255).toNatClampNeg) (now 5 + 1))) 2 (rd (mem (((now 5 + 2) &&& 65535) &&& 255).toNatClampNeg) ((now 5 + 2) &&& 65535))) 3 (rd (mem (((((now 5 + 2) &&& 65535) &&& 65280) + ((qbn ((now 5 + 2) &&& 65535) (mem ((now 5 + 1) &&& 255).toNatClampNeg)) &&& 255)) &&& 255).toNatClampNeg) ((((now 5 + 2) &&& 65535) &&& 65280) + ((qbn ((now 5 + 2) &&& 65535) (mem ((now 5 + 1) &&& 255).toNatClampNeg)) &&& 255))), upd (upd (upd now 5 ((now 5 + 1) &&& 65535)) 5 ((now 5 + 2) &&& 65535)) 5 (qbn ((now 5 + 2) &&& 65535) (mem ((now 5 + 1) &&& 255).toNatClampNeg)), mem, 7, ?_, ?_, rfl, qR_5 (qR_5 (qR_5 hR (qb_64 _)) (qb_64 _)) (qb_64 _), hM.2, (qP_b (by decide) (by decide)), ⟨by decide, by decide⟩, ?_⟩
  · intro post se la co ac sq0 le0 tl0 mo0 st0 np0 lev h
    exact qb_op (MD := 0) ho (by decide) (by decide) (by decide) (by decide) (by decide) (by decide) h
  · intro post co se la sq0 ac lin h
    refine yp_br (by decide) (by decide) ?_
    refine br_t (by decide) (br_t (by decide) (br_f (by decide) (?_)))
    refine yb_c (by decide) (want := 1) (by decide) ht' hc ?_
    unfold wY_special_92
    exact br_f (by decide) (br_f (by decide) (br_f (by decide) (br_f (by decide) (br_f (by decide) (br_f (by decide) (br_f (by decide) (br_f (by decide) (br_f (by decide) (br_f (by decide) (br_f (by decide) (br_f (by decide) (br_f (by decide) (br_f (by decide) (br_f (by decide) (br_f (by decide) (br_f (by decide) (br_f (by decide) (br_f (by decide) (br_f (by decide) (br_f (by decide) (br_f (by decide) (br_f (by decide) (br_f (by decide) (br_f (by decide) (br_f (by decide) (br_f (by decide) (h)))))))))))))))))))))))))))
  · refine fu_bt2 (if_neg hc) ht hM rfl (qP_b (by decide) (by decide)) ⟨by decide, by decide⟩ ?_
    refine fu_b3 hM rfl (qP_b (by decide) (by decide)) ⟨by decide, by decide⟩ ?_
    refine fe_b4 hM rfl (qP_b (by decide) (by decide)) ⟨by decide, by decide⟩ ?_
    intro post se la ne co ac lev h
    unfold wpX_finish
    refine br_f (by decide) (br_f (by decide) (br_f (by decide) (br_f (by decide) (br_f (by decide) (br_f (by decide) (br_t (by decide) (?_)))))))
    exact qf_h (F := upd (upd (upd now 5 ((now 5 + 1) &&& 65535)) 5 ((now 5 + 2) &&& 65535)) 5 (qbn ((now 5 + 2) &&& 65535) (mem ((now 5 + 1) &&& 255).toNatClampNeg))) (N := qbn ((now 5 + 2) &&& 65535) (mem ((now 5 + 1) &&& 255).toNatClampNeg)) (C := 0) (by unfold qnp; rw [if_neg (by decide), if_neg (by decide), if_pos (by decide)]) (by decide) rfl rfl rfl (q_s0 hR.1.2.2.2) rfl (qb_64 _).symm h
theorem qbt_208 (p : Int32) : qbt 208 p = if (if p &&& 2 = 0 then (0 : Int32) else 1) = 0 then 1 else 0 := by
  unfold qbt
  rw [show (if (208 : Int32) >>> ((6 : Int32) &&& 31) = 0 then (128 : Int32) else if (208 : Int32) >>> ((6 : Int32) &&& 31) = 1 then 64 else if (208 : Int32) >>> ((6 : Int32) &&& 31) = 2 then 1 else 2) = 2 from by decide, show (if (208 : Int32) &&& 32 = 0 then 0 else (1 : Int32)) = 0 from by decide]
theorem bg_b208n {now mem lg : Nat → Int32} {lo hi pt ea uf op : Int32} (hR : qR now) (hM : qM mem) (ho : mem (now 5 &&& 255).toNatClampNeg = 208) (ht : qbt 208 (now 4) = 0) : Bg now mem lg 0 208 208 lo hi pt ea uf op := by
  have ht' : ¬ (if now 4 &&& 2 = 0 then (0 : Int32) else 1) = 0 := fun z => absurd (((qbt_208 (now 4)).trans (if_pos z)).symm.trans ht) (by decide)
  refine ⟨2, 1, 18, 0, now 5 + 2, nI 2, upd (upd lg 0 (rd 208 (now 5))) 1 (rd (mem ((now 5 + 1) &&& 255).toNatClampNeg) (now 5 + 1)), upd (upd now 5 ((now 5 + 1) &&& 65535)) 5 ((now 5 + 2) &&& 65535), mem, 7, ?_, ?_, rfl, qR_5 (qR_5 hR (qb_64 _)) (qb_64 _), hM.2, (qP_b (by decide) (by decide)), ⟨by decide, by decide⟩, ?_⟩
  · intro post se la co ac sq0 le0 tl0 mo0 st0 np0 lev h
    exact qb_op (MD := 0) ho (by decide) (by decide) (by decide) (by decide) (by decide) (by decide) h
  · intro post co se la sq0 ac lin h
    refine yp_br (by decide) (by decide) ?_
    refine br_t (by decide) (br_t (by decide) (br_t (by decide) (?_)))
    refine yb_n (want := 0) (by decide) ht' ?_
    unfold wY_special_92
    exact br_f (by decide) (br_f (by decide) (br_f (by decide) (br_f (by decide) (br_f (by decide) (br_f (by decide) (br_f (by decide) (br_f (by decide) (br_f (by decide) (br_f (by decide) (br_f (by decide) (br_f (by decide) (br_f (by decide) (br_f (by decide) (br_f (by decide) (br_f (by decide) (br_f (by decide) (br_f (by decide) (br_f (by decide) (br_f (by decide) (br_f (by decide) (br_f (by decide) (br_f (by decide) (br_f (by decide) (br_f (by decide) (br_f (by decide) (br_f (by decide) (h)))))))))))))))))))))))))))
  · refine fe_bn2 ht hM rfl (qP_b (by decide) (by decide)) ⟨by decide, by decide⟩ ?_
    intro post se la ne co ac lev h
    unfold wpX_finish
    refine br_f (by decide) (br_f (by decide) (br_f (by decide) (br_f (by decide) (br_f (by decide) (br_f (by decide) (br_t (by decide) (?_)))))))
    exact qf_h (F := upd (upd now 5 ((now 5 + 1) &&& 65535)) 5 ((now 5 + 2) &&& 65535)) (N := now 5 + 2) (C := 0) (by unfold qnp; rw [if_neg (by decide), if_neg (by decide), if_pos (by decide)]) (by decide) rfl rfl rfl (q_s0 hR.1.2.2.2) rfl rfl h
theorem bg_b208e {now mem lg : Nat → Int32} {lo hi pt ea uf op : Int32} (hR : qR now) (hM : qM mem) (ho : mem (now 5 &&& 255).toNatClampNeg = 208) (ht : ¬ qbt 208 (now 4) = 0) (hc : (qbn ((now 5 + 2) &&& 65535) (mem ((now 5 + 1) &&& 255).toNatClampNeg)) >>> ((8 : Int32) &&& 31) = ((now 5 + 2) &&& 65535) >>> ((8 : Int32) &&& 31)) : Bg now mem lg 0 208 208 lo hi pt ea uf op := by
  have ht' : (if now 4 &&& 2 = 0 then (0 : Int32) else 1) = 0 := Decidable.byContradiction (fun z => ht ((qbt_208 (now 4)).trans (if_neg z)))
  refine ⟨2, 1, 18, 0, now 5 + 2, nI 3, upd (upd (upd lg 0 (rd 208 (now 5))) 1 (rd (mem ((now 5 + 1) &&& 255).toNatClampNeg) (now 5 + 1))) 2 (rd (mem (((now 5 + 2) &&& 65535) &&& 255).toNatClampNeg) ((now 5 + 2) &&& 65535)), upd (upd (upd now 5 ((now 5 + 1) &&& 65535)) 5 ((now 5 + 2) &&& 65535)) 5 (qbn ((now 5 + 2) &&& 65535) (mem ((now 5 + 1) &&& 255).toNatClampNeg)), mem, 7, ?_, ?_, rfl, qR_5 (qR_5 (qR_5 hR (qb_64 _)) (qb_64 _)) (qb_64 _), hM.2, (qP_b (by decide) (by decide)), ⟨by decide, by decide⟩, ?_⟩
  · intro post se la co ac sq0 le0 tl0 mo0 st0 np0 lev h
    exact qb_op (MD := 0) ho (by decide) (by decide) (by decide) (by decide) (by decide) (by decide) h
  · intro post co se la sq0 ac lin h
    refine yp_br (by decide) (by decide) ?_
    refine br_t (by decide) (br_t (by decide) (br_t (by decide) (?_)))
    refine yb_e (by decide) (want := 0) (by decide) ht' hc ?_
    unfold wY_special_92
    exact br_f (by decide) (br_f (by decide) (br_f (by decide) (br_f (by decide) (br_f (by decide) (br_f (by decide) (br_f (by decide) (br_f (by decide) (br_f (by decide) (br_f (by decide) (br_f (by decide) (br_f (by decide) (br_f (by decide) (br_f (by decide) (br_f (by decide) (br_f (by decide) (br_f (by decide) (br_f (by decide) (br_f (by decide) (br_f (by decide) (br_f (by decide) (br_f (by decide) (br_f (by decide) (br_f (by decide) (br_f (by decide) (br_f (by decide) (br_f (by decide) (h)))))))))))))))))))))))))))
  · refine fu_bt2 (if_pos hc) ht hM rfl (qP_b (by decide) (by decide)) ⟨by decide, by decide⟩ ?_
    refine fe_b3 hM rfl (qP_b (by decide) (by decide)) ⟨by decide, by decide⟩ ?_
    intro post se la ne co ac lev h
    unfold wpX_finish
    refine br_f (by decide) (br_f (by decide) (br_f (by decide) (br_f (by decide) (br_f (by decide) (br_f (by decide) (br_t (by decide) (?_)))))))
    exact qf_h (F := upd (upd (upd now 5 ((now 5 + 1) &&& 65535)) 5 ((now 5 + 2) &&& 65535)) 5 (qbn ((now 5 + 2) &&& 65535) (mem ((now 5 + 1) &&& 255).toNatClampNeg))) (N := qbn ((now 5 + 2) &&& 65535) (mem ((now 5 + 1) &&& 255).toNatClampNeg)) (C := 0) (by unfold qnp; rw [if_neg (by decide), if_neg (by decide), if_pos (by decide)]) (by decide) rfl rfl rfl (q_s0 hR.1.2.2.2) rfl (qb_64 _).symm h
theorem bg_b208c {now mem lg : Nat → Int32} {lo hi pt ea uf op : Int32} (hR : qR now) (hM : qM mem) (ho : mem (now 5 &&& 255).toNatClampNeg = 208) (ht : ¬ qbt 208 (now 4) = 0) (hc : ¬ (qbn ((now 5 + 2) &&& 65535) (mem ((now 5 + 1) &&& 255).toNatClampNeg)) >>> ((8 : Int32) &&& 31) = ((now 5 + 2) &&& 65535) >>> ((8 : Int32) &&& 31)) : Bg now mem lg 0 208 208 lo hi pt ea uf op := by
  have ht' : (if now 4 &&& 2 = 0 then (0 : Int32) else 1) = 0 := Decidable.byContradiction (fun z => ht ((qbt_208 (now 4)).trans (if_neg z)))
  refine ⟨2, 1, 18, 0, now 5 + 2, nI 4, upd (upd (upd (upd lg 0 (rd 208 (now 5))) 1 (rd (mem ((now 5 + 1) &&& 255).toNatClampNeg) (now 5 + 1))) 2 (rd (mem (((now 5 + 2) &&& 65535) &&& 255).toNatClampNeg) ((now 5 + 2) &&& 65535))) 3 (rd (mem (((((now 5 + 2) &&& 65535) &&& 65280) + ((qbn ((now 5 + 2) &&& 65535) (mem ((now 5 + 1) &&& 255).toNatClampNeg)) &&& 255)) &&& 255).toNatClampNeg) ((((now 5 + 2) &&& 65535) &&& 65280) + ((qbn ((now 5 + 2) &&& 65535) (mem ((now 5 + 1) &&& 255).toNatClampNeg)) &&& 255))), upd (upd (upd now 5 ((now 5 + 1) &&& 65535)) 5 ((now 5 + 2) &&& 65535)) 5 (qbn ((now 5 + 2) &&& 65535) (mem ((now 5 + 1) &&& 255).toNatClampNeg)), mem, 7, ?_, ?_, rfl, qR_5 (qR_5 (qR_5 hR (qb_64 _)) (qb_64 _)) (qb_64 _), hM.2, (qP_b (by decide) (by decide)), ⟨by decide, by decide⟩, ?_⟩
  · intro post se la co ac sq0 le0 tl0 mo0 st0 np0 lev h
    exact qb_op (MD := 0) ho (by decide) (by decide) (by decide) (by decide) (by decide) (by decide) h
  · intro post co se la sq0 ac lin h
    refine yp_br (by decide) (by decide) ?_
    refine br_t (by decide) (br_t (by decide) (br_t (by decide) (?_)))
    refine yb_c (by decide) (want := 0) (by decide) ht' hc ?_
    unfold wY_special_92
    exact br_f (by decide) (br_f (by decide) (br_f (by decide) (br_f (by decide) (br_f (by decide) (br_f (by decide) (br_f (by decide) (br_f (by decide) (br_f (by decide) (br_f (by decide) (br_f (by decide) (br_f (by decide) (br_f (by decide) (br_f (by decide) (br_f (by decide) (br_f (by decide) (br_f (by decide) (br_f (by decide) (br_f (by decide) (br_f (by decide) (br_f (by decide) (br_f (by decide) (br_f (by decide) (br_f (by decide) (br_f (by decide) (br_f (by decide) (br_f (by decide) (h)))))))))))))))))))))))))))
  · refine fu_bt2 (if_neg hc) ht hM rfl (qP_b (by decide) (by decide)) ⟨by decide, by decide⟩ ?_
    refine fu_b3 hM rfl (qP_b (by decide) (by decide)) ⟨by decide, by decide⟩ ?_
    refine fe_b4 hM rfl (qP_b (by decide) (by decide)) ⟨by decide, by decide⟩ ?_
    intro post se la ne co ac lev h
    unfold wpX_finish
    refine br_f (by decide) (br_f (by decide) (br_f (by decide) (br_f (by decide) (br_f (by decide) (br_f (by decide) (br_t (by decide) (?_)))))))
    exact qf_h (F := upd (upd (upd now 5 ((now 5 + 1) &&& 65535)) 5 ((now 5 + 2) &&& 65535)) 5 (qbn ((now 5 + 2) &&& 65535) (mem ((now 5 + 1) &&& 255).toNatClampNeg))) (N := qbn ((now 5 + 2) &&& 65535) (mem ((now 5 + 1) &&& 255).toNatClampNeg)) (C := 0) (by unfold qnp; rw [if_neg (by decide), if_neg (by decide), if_pos (by decide)]) (by decide) rfl rfl rfl (q_s0 hR.1.2.2.2) rfl (qb_64 _).symm h
theorem qbt_240 (p : Int32) : qbt 240 p = if (if p &&& 2 = 0 then (0 : Int32) else 1) = 1 then 1 else 0 := by
  unfold qbt
  rw [show (if (240 : Int32) >>> ((6 : Int32) &&& 31) = 0 then (128 : Int32) else if (240 : Int32) >>> ((6 : Int32) &&& 31) = 1 then 64 else if (240 : Int32) >>> ((6 : Int32) &&& 31) = 2 then 1 else 2) = 2 from by decide, show (if (240 : Int32) &&& 32 = 0 then 0 else (1 : Int32)) = 1 from by decide]
theorem bg_b240n {now mem lg : Nat → Int32} {lo hi pt ea uf op : Int32} (hR : qR now) (hM : qM mem) (ho : mem (now 5 &&& 255).toNatClampNeg = 240) (ht : qbt 240 (now 4) = 0) : Bg now mem lg 0 240 240 lo hi pt ea uf op := by
  have ht' : ¬ (if now 4 &&& 2 = 0 then (0 : Int32) else 1) = 1 := fun z => absurd (((qbt_240 (now 4)).trans (if_pos z)).symm.trans ht) (by decide)
  refine ⟨2, 1, 18, 0, now 5 + 2, nI 2, upd (upd lg 0 (rd 240 (now 5))) 1 (rd (mem ((now 5 + 1) &&& 255).toNatClampNeg) (now 5 + 1)), upd (upd now 5 ((now 5 + 1) &&& 65535)) 5 ((now 5 + 2) &&& 65535), mem, 7, ?_, ?_, rfl, qR_5 (qR_5 hR (qb_64 _)) (qb_64 _), hM.2, (qP_b (by decide) (by decide)), ⟨by decide, by decide⟩, ?_⟩
  · intro post se la co ac sq0 le0 tl0 mo0 st0 np0 lev h
    exact qb_op (MD := 0) ho (by decide) (by decide) (by decide) (by decide) (by decide) (by decide) h
  · intro post co se la sq0 ac lin h
    refine yp_br (by decide) (by decide) ?_
    refine br_t (by decide) (br_t (by decide) (br_t (by decide) (?_)))
    refine yb_n (want := 1) (by decide) ht' ?_
    unfold wY_special_92
    exact br_f (by decide) (br_f (by decide) (br_f (by decide) (br_f (by decide) (br_f (by decide) (br_f (by decide) (br_f (by decide) (br_f (by decide) (br_f (by decide) (br_f (by decide) (br_f (by decide) (br_f (by decide) (br_f (by decide) (br_f (by decide) (br_f (by decide) (br_f (by decide) (br_f (by decide) (br_f (by decide) (br_f (by decide) (br_f (by decide) (br_f (by decide) (br_f (by decide) (br_f (by decide) (br_f (by decide) (br_f (by decide) (br_f (by decide) (br_f (by decide) (h)))))))))))))))))))))))))))
  · refine fe_bn2 ht hM rfl (qP_b (by decide) (by decide)) ⟨by decide, by decide⟩ ?_
    intro post se la ne co ac lev h
    unfold wpX_finish
    refine br_f (by decide) (br_f (by decide) (br_f (by decide) (br_f (by decide) (br_f (by decide) (br_f (by decide) (br_t (by decide) (?_)))))))
    exact qf_h (F := upd (upd now 5 ((now 5 + 1) &&& 65535)) 5 ((now 5 + 2) &&& 65535)) (N := now 5 + 2) (C := 0) (by unfold qnp; rw [if_neg (by decide), if_neg (by decide), if_pos (by decide)]) (by decide) rfl rfl rfl (q_s0 hR.1.2.2.2) rfl rfl h
theorem bg_b240e {now mem lg : Nat → Int32} {lo hi pt ea uf op : Int32} (hR : qR now) (hM : qM mem) (ho : mem (now 5 &&& 255).toNatClampNeg = 240) (ht : ¬ qbt 240 (now 4) = 0) (hc : (qbn ((now 5 + 2) &&& 65535) (mem ((now 5 + 1) &&& 255).toNatClampNeg)) >>> ((8 : Int32) &&& 31) = ((now 5 + 2) &&& 65535) >>> ((8 : Int32) &&& 31)) : Bg now mem lg 0 240 240 lo hi pt ea uf op := by
  have ht' : (if now 4 &&& 2 = 0 then (0 : Int32) else 1) = 1 := Decidable.byContradiction (fun z => ht ((qbt_240 (now 4)).trans (if_neg z)))
  refine ⟨2, 1, 18, 0, now 5 + 2, nI 3, upd (upd (upd lg 0 (rd 240 (now 5))) 1 (rd (mem ((now 5 + 1) &&& 255).toNatClampNeg) (now 5 + 1))) 2 (rd (mem (((now 5 + 2) &&& 65535) &&& 255).toNatClampNeg) ((now 5 + 2) &&& 65535)), upd (upd (upd now 5 ((now 5 + 1) &&& 65535)) 5 ((now 5 + 2) &&& 65535)) 5 (qbn ((now 5 + 2) &&& 65535) (mem ((now 5 + 1) &&& 255).toNatClampNeg)), mem, 7, ?_, ?_, rfl, qR_5 (qR_5 (qR_5 hR (qb_64 _)) (qb_64 _)) (qb_64 _), hM.2, (qP_b (by decide) (by decide)), ⟨by decide, by decide⟩, ?_⟩
  · intro post se la co ac sq0 le0 tl0 mo0 st0 np0 lev h
    exact qb_op (MD := 0) ho (by decide) (by decide) (by decide) (by decide) (by decide) (by decide) h
  · intro post co se la sq0 ac lin h
    refine yp_br (by decide) (by decide) ?_
    refine br_t (by decide) (br_t (by decide) (br_t (by decide) (?_)))
    refine yb_e (by decide) (want := 1) (by decide) ht' hc ?_
    unfold wY_special_92
    exact br_f (by decide) (br_f (by decide) (br_f (by decide) (br_f (by decide) (br_f (by decide) (br_f (by decide) (br_f (by decide) (br_f (by decide) (br_f (by decide) (br_f (by decide) (br_f (by decide) (br_f (by decide) (br_f (by decide) (br_f (by decide) (br_f (by decide) (br_f (by decide) (br_f (by decide) (br_f (by decide) (br_f (by decide) (br_f (by decide) (br_f (by decide) (br_f (by decide) (br_f (by decide) (br_f (by decide) (br_f (by decide) (br_f (by decide) (br_f (by decide) (h)))))))))))))))))))))))))))
  · refine fu_bt2 (if_pos hc) ht hM rfl (qP_b (by decide) (by decide)) ⟨by decide, by decide⟩ ?_
    refine fe_b3 hM rfl (qP_b (by decide) (by decide)) ⟨by decide, by decide⟩ ?_
    intro post se la ne co ac lev h
    unfold wpX_finish
    refine br_f (by decide) (br_f (by decide) (br_f (by decide) (br_f (by decide) (br_f (by decide) (br_f (by decide) (br_t (by decide) (?_)))))))
    exact qf_h (F := upd (upd (upd now 5 ((now 5 + 1) &&& 65535)) 5 ((now 5 + 2) &&& 65535)) 5 (qbn ((now 5 + 2) &&& 65535) (mem ((now 5 + 1) &&& 255).toNatClampNeg))) (N := qbn ((now 5 + 2) &&& 65535) (mem ((now 5 + 1) &&& 255).toNatClampNeg)) (C := 0) (by unfold qnp; rw [if_neg (by decide), if_neg (by decide), if_pos (by decide)]) (by decide) rfl rfl rfl (q_s0 hR.1.2.2.2) rfl (qb_64 _).symm h
theorem bg_b240c {now mem lg : Nat → Int32} {lo hi pt ea uf op : Int32} (hR : qR now) (hM : qM mem) (ho : mem (now 5 &&& 255).toNatClampNeg = 240) (ht : ¬ qbt 240 (now 4) = 0) (hc : ¬ (qbn ((now 5 + 2) &&& 65535) (mem ((now 5 + 1) &&& 255).toNatClampNeg)) >>> ((8 : Int32) &&& 31) = ((now 5 + 2) &&& 65535) >>> ((8 : Int32) &&& 31)) : Bg now mem lg 0 240 240 lo hi pt ea uf op := by
  have ht' : (if now 4 &&& 2 = 0 then (0 : Int32) else 1) = 1 := Decidable.byContradiction (fun z => ht ((qbt_240 (now 4)).trans (if_neg z)))
  refine ⟨2, 1, 18, 0, now 5 + 2, nI 4, upd (upd (upd (upd lg 0 (rd 240 (now 5))) 1 (rd (mem ((now 5 + 1) &&& 255).toNatClampNeg) (now 5 + 1))) 2 (rd (mem (((now 5 + 2) &&& 65535) &&& 255).toNatClampNeg) ((now 5 + 2) &&& 65535))) 3 (rd (mem (((((now 5 + 2) &&& 65535) &&& 65280) + ((qbn ((now 5 + 2) &&& 65535) (mem ((now 5 + 1) &&& 255).toNatClampNeg)) &&& 255)) &&& 255).toNatClampNeg) ((((now 5 + 2) &&& 65535) &&& 65280) + ((qbn ((now 5 + 2) &&& 65535) (mem ((now 5 + 1) &&& 255).toNatClampNeg)) &&& 255))), upd (upd (upd now 5 ((now 5 + 1) &&& 65535)) 5 ((now 5 + 2) &&& 65535)) 5 (qbn ((now 5 + 2) &&& 65535) (mem ((now 5 + 1) &&& 255).toNatClampNeg)), mem, 7, ?_, ?_, rfl, qR_5 (qR_5 (qR_5 hR (qb_64 _)) (qb_64 _)) (qb_64 _), hM.2, (qP_b (by decide) (by decide)), ⟨by decide, by decide⟩, ?_⟩
  · intro post se la co ac sq0 le0 tl0 mo0 st0 np0 lev h
    exact qb_op (MD := 0) ho (by decide) (by decide) (by decide) (by decide) (by decide) (by decide) h
  · intro post co se la sq0 ac lin h
    refine yp_br (by decide) (by decide) ?_
    refine br_t (by decide) (br_t (by decide) (br_t (by decide) (?_)))
    refine yb_c (by decide) (want := 1) (by decide) ht' hc ?_
    unfold wY_special_92
    exact br_f (by decide) (br_f (by decide) (br_f (by decide) (br_f (by decide) (br_f (by decide) (br_f (by decide) (br_f (by decide) (br_f (by decide) (br_f (by decide) (br_f (by decide) (br_f (by decide) (br_f (by decide) (br_f (by decide) (br_f (by decide) (br_f (by decide) (br_f (by decide) (br_f (by decide) (br_f (by decide) (br_f (by decide) (br_f (by decide) (br_f (by decide) (br_f (by decide) (br_f (by decide) (br_f (by decide) (br_f (by decide) (br_f (by decide) (br_f (by decide) (h)))))))))))))))))))))))))))
  · refine fu_bt2 (if_neg hc) ht hM rfl (qP_b (by decide) (by decide)) ⟨by decide, by decide⟩ ?_
    refine fu_b3 hM rfl (qP_b (by decide) (by decide)) ⟨by decide, by decide⟩ ?_
    refine fe_b4 hM rfl (qP_b (by decide) (by decide)) ⟨by decide, by decide⟩ ?_
    intro post se la ne co ac lev h
    unfold wpX_finish
    refine br_f (by decide) (br_f (by decide) (br_f (by decide) (br_f (by decide) (br_f (by decide) (br_f (by decide) (br_t (by decide) (?_)))))))
    exact qf_h (F := upd (upd (upd now 5 ((now 5 + 1) &&& 65535)) 5 ((now 5 + 2) &&& 65535)) 5 (qbn ((now 5 + 2) &&& 65535) (mem ((now 5 + 1) &&& 255).toNatClampNeg))) (N := qbn ((now 5 + 2) &&& 65535) (mem ((now 5 + 1) &&& 255).toNatClampNeg)) (C := 0) (by unfold qnp; rw [if_neg (by decide), if_neg (by decide), if_pos (by decide)]) (by decide) rfl rfl rfl (q_s0 hR.1.2.2.2) rfl (qb_64 _).symm h
end
section
/-! every sequence at its beginning -/
theorem qOr_of {n : Nat} {M : Int32} (hn : n < 256) (hx : qxm (nI n) = M) (hM : (¬ M = 19 ∧ ¬ M = 17 ∧ ¬ M = 18 ∧ ¬ M = 14)) : qOr (nI n) M := by
  obtain ⟨h255, h0, h16, h64⟩ := qt_or n hn
  rw [hx] at h0 h16 h64
  exact ⟨⟨h0 hM.2.1, h255, h16 hM.2.2.1, h64 hM.2.2.2⟩, hM⟩
section
variable {now mem lg : Nat → Int32} {lo hi pt ea uf op : Int32} {n : Nat}
theorem bg_m2 (hR : qR now) (hM : qM mem) (hn : n < 256) (ho : mem (now 5 &&& 255).toNatClampNeg = nI n) (hx : qxm (nI n) = 2) : Bg now mem lg 0 (nI n) (nI n) lo hi pt ea uf op := by
  have hy : qym (nI n) = 3 := by
    have h := (qt_ym n hn).1
    rw [hx] at h
    exact h (by decide) (by decide)
  have hv := qt_vr n hn (by rw [hx]; decide) (by rw [hx]; decide)
  simp only [List.mem_cons, List.not_mem_nil, or_false] at hv
  rcases hv with hv | hv | hv
  · obtain ⟨hyd, hmd, hw⟩ := qt_rd n hn hv
    have hO := qO_of (qt_rO n hn hv)
    exact bg_2r hR hM ho hx hy (qOr_of hn hx (by decide)) (by have := qt_68 n hn; rw [hx] at this; exact this (by decide)) hw hmd hyd hO
  · obtain ⟨⟨hyd, hmd⟩, hst, hw⟩ := qt_st n hn hv
    exact bg_2s hR hM ho hx hy (qOr_of hn hx (by decide)) (by have := qt_68 n hn; rw [hx] at this; exact this (by decide)) hw hmd hyd hst
  · obtain ⟨⟨hyd, hmd⟩, hw⟩ := qt_md n hn hv
    have hc := qt_mw n hn hv
    simp only [List.mem_cons, List.not_mem_nil, or_false] at hc
    exact bg_2m hR hM ho hx hy (qOr_of hn hx (by decide)) (by have := qt_68 n hn; rw [hx] at this; exact this (by decide)) hw hmd hyd hc
theorem bg_m3 (hR : qR now) (hM : qM mem) (hn : n < 256) (ho : mem (now 5 &&& 255).toNatClampNeg = nI n) (hx : qxm (nI n) = 3) : Bg now mem lg 0 (nI n) (nI n) lo hi pt ea uf op := by
  have hy : qym (nI n) = 4 := by
    have h := (qt_ym n hn).1
    rw [hx] at h
    exact h (by decide) (by decide)
  have hv := qt_vr n hn (by rw [hx]; decide) (by rw [hx]; decide)
  simp only [List.mem_cons, List.not_mem_nil, or_false] at hv
  rcases hv with hv | hv | hv
  · obtain ⟨hyd, hmd, hw⟩ := qt_rd n hn hv
    have hO := qO_of (qt_rO n hn hv)
    exact bg_3r hR hM ho hx hy (qOr_of hn hx (by decide)) (by have := qt_68 n hn; rw [hx] at this; exact this (by decide)) hw hmd hyd hO
  · obtain ⟨⟨hyd, hmd⟩, hst, hw⟩ := qt_st n hn hv
    exact bg_3s hR hM ho hx hy (qOr_of hn hx (by decide)) (by have := qt_68 n hn; rw [hx] at this; exact this (by decide)) hw hmd hyd hst
  · obtain ⟨⟨hyd, hmd⟩, hw⟩ := qt_md n hn hv
    have hc := qt_mw n hn hv
    simp only [List.mem_cons, List.not_mem_nil, or_false] at hc
    exact bg_3m hR hM ho hx hy (qOr_of hn hx (by decide)) (by have := qt_68 n hn; rw [hx] at this; exact this (by decide)) hw hmd hyd hc
theorem bg_m4 (hR : qR now) (hM : qM mem) (hn : n < 256) (ho : mem (now 5 &&& 255).toNatClampNeg = nI n) (hx : qxm (nI n) = 4) : Bg now mem lg 0 (nI n) (nI n) lo hi pt ea uf op := by
  have hy : qym (nI n) = 5 := by
    have h := (qt_ym n hn).1
    rw [hx] at h
    exact h (by decide) (by decide)
  have hv := qt_vr n hn (by rw [hx]; decide) (by rw [hx]; decide)
  simp only [List.mem_cons, List.not_mem_nil, or_false] at hv
  rcases hv with hv | hv | hv
  · obtain ⟨hyd, hmd, hw⟩ := qt_rd n hn hv
    have hO := qO_of (qt_rO n hn hv)
    exact bg_4r hR hM ho hx hy (qOr_of hn hx (by decide)) (by have := qt_68 n hn; rw [hx] at this; exact this (by decide)) hw hmd hyd hO
  · obtain ⟨⟨hyd, hmd⟩, hst, hw⟩ := qt_st n hn hv
    exact bg_4s hR hM ho hx hy (qOr_of hn hx (by decide)) (by have := qt_68 n hn; rw [hx] at this; exact this (by decide)) hw hmd hyd hst
  · exact absurd (qt_mm n hn hv) (by rw [hx]; decide)
theorem bg_m5 (hR : qR now) (hM : qM mem) (hn : n < 256) (ho : mem (now 5 &&& 255).toNatClampNeg = nI n) (hx : qxm (nI n) = 5) : Bg now mem lg 0 (nI n) (nI n) lo hi pt ea uf op := by
  have hy : qym (nI n) = 6 := by
    have h := (qt_ym n hn).1
    rw [hx] at h
    exact h (by decide) (by decide)
  have hv := qt_vr n hn (by rw [hx]; decide) (by rw [hx]; decide)
  simp only [List.mem_cons, List.not_mem_nil, or_false] at hv
  rcases hv with hv | hv | hv
  · obtain ⟨hyd, hmd, hw⟩ := qt_rd n hn hv
    have hO := qO_of (qt_rO n hn hv)
    exact bg_5r hR hM ho hx hy (qOr_of hn hx (by decide)) (by have := qt_68 n hn; rw [hx] at this; exact this (by decide)) hw hmd hyd hO
  · obtain ⟨⟨hyd, hmd⟩, hst, hw⟩ := qt_st n hn hv
    exact bg_5s hR hM ho hx hy (qOr_of hn hx (by decide)) (by have := qt_68 n hn; rw [hx] at this; exact this (by decide)) hw hmd hyd hst
  · obtain ⟨⟨hyd, hmd⟩, hw⟩ := qt_md n hn hv
    have hc := qt_mw n hn hv
    simp only [List.mem_cons, List.not_mem_nil, or_false] at hc
    exact bg_5m hR hM ho hx hy (qOr_of hn hx (by decide)) (by have := qt_68 n hn; rw [hx] at this; exact this (by decide)) hw hmd hyd hc
theorem bg_m6 (hR : qR now) (hM : qM mem) (hn : n < 256) (ho : mem (now 5 &&& 255).toNatClampNeg = nI n) (hx : qxm (nI n) = 6) : Bg now mem lg 0 (nI n) (nI n) lo hi pt ea uf op := by
  have hy : qym (nI n) = 7 := by
    have h := (qt_ym n hn).1
    rw [hx] at h
    exact h (by decide) (by decide)
  have hv := qt_vr n hn (by rw [hx]; decide) (by rw [hx]; decide)
  simp only [List.mem_cons, List.not_mem_nil, or_false] at hv
  rcases hv with hv | hv | hv
  · obtain ⟨hyd, hmd, hw⟩ := qt_rd n hn hv
    have hO := qO_of (qt_rO n hn hv)
    by_cases hu : 256 * (mem ((now 5 + 2) &&& 255).toNatClampNeg) + ((mem ((now 5 + 1) &&& 255).toNatClampNeg + now 1) &&& 255) = (256 * (mem ((now 5 + 2) &&& 255).toNatClampNeg) + mem ((now 5 + 1) &&& 255).toNatClampNeg + now 1) &&& 65535
    · exact bg_6re hR hM ho hx hy (qOr_of hn hx (by decide)) (by have := qt_68 n hn; rw [hx] at this; exact this (by decide)) hw hmd hyd hO hu
    · exact bg_6rc hR hM ho hx hy (qOr_of hn hx (by decide)) (by have := qt_68 n hn; rw [hx] at this; exact this (by decide)) hw hmd hyd hO hu
  · obtain ⟨⟨hyd, hmd⟩, hst, hw⟩ := qt_st n hn hv
    exact bg_6sn hR hM ho hx hy (qOr_of hn hx (by decide)) (by have := qt_68 n hn; rw [hx] at this; exact this (by decide)) hw hmd hyd hst
  · obtain ⟨⟨hyd, hmd⟩, hw⟩ := qt_md n hn hv
    have hc := qt_mw n hn hv
    simp only [List.mem_cons, List.not_mem_nil, or_false] at hc
    exact bg_6mn hR hM ho hx hy (qOr_of hn hx (by decide)) (by have := qt_68 n hn; rw [hx] at this; exact this (by decide)) hw hmd hyd hc
theorem bg_m7 (hR : qR now) (hM : qM mem) (hn : n < 256) (ho : mem (now 5 &&& 255).toNatClampNeg = nI n) (hx : qxm (nI n) = 7) : Bg now mem lg 0 (nI n) (nI n) lo hi pt ea uf op := by
  have hy : qym (nI n) = 8 := by
    have h := (qt_ym n hn).1
    rw [hx] at h
    exact h (by decide) (by decide)
  have hv := qt_vr n hn (by rw [hx]; decide) (by rw [hx]; decide)
  simp only [List.mem_cons, List.not_mem_nil, or_false] at hv
  rcases hv with hv | hv | hv
  · obtain ⟨hyd, hmd, hw⟩ := qt_rd n hn hv
    have hO := qO_of (qt_rO n hn hv)
    by_cases hu : 256 * (mem ((now 5 + 2) &&& 255).toNatClampNeg) + ((mem ((now 5 + 1) &&& 255).toNatClampNeg + now 2) &&& 255) = (256 * (mem ((now 5 + 2) &&& 255).toNatClampNeg) + mem ((now 5 + 1) &&& 255).toNatClampNeg + now 2) &&& 65535
    · exact bg_7re hR hM ho hx hy (qOr_of hn hx (by decide)) (by have := qt_68 n hn; rw [hx] at this; exact this (by decide)) hw hmd hyd hO hu
    · exact bg_7rc hR hM ho hx hy (qOr_of hn hx (by decide)) (by have := qt_68 n hn; rw [hx] at this; exact this (by decide)) hw hmd hyd hO hu
  · obtain ⟨⟨hyd, hmd⟩, hst, hw⟩ := qt_st n hn hv
    exact bg_7sn hR hM ho hx hy (qOr_of hn hx (by decide)) (by have := qt_68 n hn; rw [hx] at this; exact this (by decide)) hw hmd hyd hst
  · exact absurd (qt_mm n hn hv) (by rw [hx]; decide)
theorem bg_m8 (hR : qR now) (hM : qM mem) (hn : n < 256) (ho : mem (now 5 &&& 255).toNatClampNeg = nI n) (hx : qxm (nI n) = 8) : Bg now mem lg 0 (nI n) (nI n) lo hi pt ea uf op := by
  have hy : qym (nI n) = 9 := by
    have h := (qt_ym n hn).1
    rw [hx] at h
    exact h (by decide) (by decide)
  have hv := qt_vr n hn (by rw [hx]; decide) (by rw [hx]; decide)
  simp only [List.mem_cons, List.not_mem_nil, or_false] at hv
  rcases hv with hv | hv | hv
  · obtain ⟨hyd, hmd, hw⟩ := qt_rd n hn hv
    have hO := qO_of (qt_rO n hn hv)
    exact bg_8r hR hM ho hx hy (qOr_of hn hx (by decide)) (by have := qt_68 n hn; rw [hx] at this; exact this (by decide)) hw hmd hyd hO
  · obtain ⟨⟨hyd, hmd⟩, hst, hw⟩ := qt_st n hn hv
    exact bg_8s hR hM ho hx hy (qOr_of hn hx (by decide)) (by have := qt_68 n hn; rw [hx] at this; exact this (by decide)) hw hmd hyd hst
  · exact absurd (qt_mm n hn hv) (by rw [hx]; decide)
theorem bg_m9 (hR : qR now) (hM : qM mem) (hn : n < 256) (ho : mem (now 5 &&& 255).toNatClampNeg = nI n) (hx : qxm (nI n) = 9) : Bg now mem lg 0 (nI n) (nI n) lo hi pt ea uf op := by
  have hy : qym (nI n) = 10 := by
    have h := (qt_ym n hn).1
    rw [hx] at h
    exact h (by decide) (by decide)
  have hv := qt_vr n hn (by rw [hx]; decide) (by rw [hx]; decide)
  simp only [List.mem_cons, List.not_mem_nil, or_false] at hv
  rcases hv with hv | hv | hv
  · obtain ⟨hyd, hmd, hw⟩ := qt_rd n hn hv
    have hO := qO_of (qt_rO n hn hv)
    by_cases hu : 256 * (mem ((((mem ((now 5 + 1) &&& 255).toNatClampNeg) + 1) &&& 255) &&& 255).toNatClampNeg) + ((mem ((mem ((now 5 + 1) &&& 255).toNatClampNeg) &&& 255).toNatClampNeg + now 2) &&& 255) = (256 * (mem ((((mem ((now 5 + 1) &&& 255).toNatClampNeg) + 1) &&& 255) &&& 255).toNatClampNeg) + mem ((mem ((now 5 + 1) &&& 255).toNatClampNeg) &&& 255).toNatClampNeg + now 2) &&& 65535
    · exact bg_9re hR hM ho hx hy (qOr_of hn hx (by decide)) (by have := qt_68 n hn; rw [hx] at this; exact this (by decide)) hw hmd hyd hO hu
    · exact bg_9rc hR hM ho hx hy (qOr_of hn hx (by decide)) (by have := qt_68 n hn; rw [hx] at this; exact this (by decide)) hw hmd hyd hO hu
  · obtain ⟨⟨hyd, hmd⟩, hst, hw⟩ := qt_st n hn hv
    exact bg_9sn hR hM ho hx hy (qOr_of hn hx (by decide)) (by have := qt_68 n hn; rw [hx] at this; exact this (by decide)) hw hmd hyd hst
  · exact absurd (qt_mm n hn hv) (by rw [hx]; decide)
theorem bg_m1 (hR : qR now) (hM : qM mem) (hn : n < 256) (ho : mem (now 5 &&& 255).toNatClampNeg = nI n) (hx : qxm (nI n) = 1) : Bg now mem lg 0 (nI n) (nI n) lo hi pt ea uf op := by
  have hy : qym (nI n) = 2 := by
    have h := (qt_ym n hn).1
    rw [hx] at h
    exact h (by decide) (by decide)
  have hv := qt_im n hn hx
  obtain ⟨hyd, hmd, hw⟩ := qt_rd n hn hv
  exact bg_imm hR hM ho hx hy (qOr_of hn hx (by decide)) (by have := qt_68 n hn; rw [hx] at this; exact this (by decide)) hw hyd (qO_of (qt_rO n hn hv))
theorem bg_m0 (hR : qR now) (hM : qM mem) (hn : n < 256) (ho : mem (now 5 &&& 255).toNatClampNeg = nI n) (hx : qxm (nI n) = 0) : Bg now mem lg 0 (nI n) (nI n) lo hi pt ea uf op := by
  rcases qt_im0 n hn hx with h | h | ⟨⟨hy, h159⟩, ⟨h24, h16⟩, hnl⟩
  · simp only [List.mem_cons, List.not_mem_nil, or_false] at h
    rcases h with h | h | h | h
    · rw [h] at ho ⊢; exact bg_o10 hR hM ho
    · rw [h] at ho ⊢; exact bg_o42 hR hM ho
    · rw [h] at ho ⊢; exact bg_o74 hR hM ho
    · rw [h] at ho ⊢; exact bg_o106 hR hM ho
  · simp only [List.mem_cons, List.not_mem_nil, or_false] at h
    rcases h with h | h | h | h | h | h | h | h | h | h | h | h | h | h | h | h | h
    · rw [h] at ho ⊢; exact bg_o24 hR hM ho
    · rw [h] at ho ⊢; exact bg_o56 hR hM ho
    · rw [h] at ho ⊢; exact bg_o88 hR hM ho
    · rw [h] at ho ⊢; exact bg_o120 hR hM ho
    · rw [h] at ho ⊢; exact bg_o136 hR hM ho
    · rw [h] at ho ⊢; exact bg_o138 hR hM ho
    · rw [h] at ho ⊢; exact bg_o152 hR hM ho
    · rw [h] at ho ⊢; exact bg_o154 hR hM ho
    · rw [h] at ho ⊢; exact bg_o168 hR hM ho
    · rw [h] at ho ⊢; exact bg_o170 hR hM ho
    · rw [h] at ho ⊢; exact bg_o184 hR hM ho
    · rw [h] at ho ⊢; exact bg_o186 hR hM ho
    · rw [h] at ho ⊢; exact bg_o200 hR hM ho
    · rw [h] at ho ⊢; exact bg_o202 hR hM ho
    · rw [h] at ho ⊢; exact bg_o216 hR hM ho
    · rw [h] at ho ⊢; exact bg_o232 hR hM ho
    · rw [h] at ho ⊢; exact bg_o248 hR hM ho
  · exact bg_nop hR hM ho hx hy (qOr_of hn hx (by decide)) h159 h24 h16 hnl
theorem bg_m18 (hR : qR now) (hM : qM mem) (hn : n < 256) (ho : mem (now 5 &&& 255).toNatClampNeg = nI n) (hx : qxm (nI n) = 18) : Bg now mem lg 0 (nI n) (nI n) lo hi pt ea uf op := by
  have h := qt_br n hn hx
  simp only [List.mem_cons, List.not_mem_nil, or_false] at h
  rcases h with h | h | h | h | h | h | h | h
  · rw [h] at ho ⊢
    by_cases ht : qbt 16 (now 4) = 0
    · exact bg_b16n hR hM ho ht
    · by_cases hc : (qbn ((now 5 + 2) &&& 65535) (mem ((now 5 + 1) &&& 255).toNatClampNeg)) >>> ((8 : Int32) &&& 31) = ((now 5 + 2) &&& 65535) >>> ((8 : Int32) &&& 31)
      · exact bg_b16e hR hM ho ht hc
      · exact bg_b16c hR hM ho ht hc
  · rw [h] at ho ⊢
    by_cases ht : qbt 48 (now 4) = 0
    · exact bg_b48n hR hM ho ht
    · by_cases hc : (qbn ((now 5 + 2) &&& 65535) (mem ((now 5 + 1) &&& 255).toNatClampNeg)) >>> ((8 : Int32) &&& 31) = ((now 5 + 2) &&& 65535) >>> ((8 : Int32) &&& 31)
      · exact bg_b48e hR hM ho ht hc
      · exact bg_b48c hR hM ho ht hc
  · rw [h] at ho ⊢
    by_cases ht : qbt 80 (now 4) = 0
    · exact bg_b80n hR hM ho ht
    · by_cases hc : (qbn ((now 5 + 2) &&& 65535) (mem ((now 5 + 1) &&& 255).toNatClampNeg)) >>> ((8 : Int32) &&& 31) = ((now 5 + 2) &&& 65535) >>> ((8 : Int32) &&& 31)
      · exact bg_b80e hR hM ho ht hc
      · exact bg_b80c hR hM ho ht hc
  · rw [h] at ho ⊢
    by_cases ht : qbt 112 (now 4) = 0
    · exact bg_b112n hR hM ho ht
    · by_cases hc : (qbn ((now 5 + 2) &&& 65535) (mem ((now 5 + 1) &&& 255).toNatClampNeg)) >>> ((8 : Int32) &&& 31) = ((now 5 + 2) &&& 65535) >>> ((8 : Int32) &&& 31)
      · exact bg_b112e hR hM ho ht hc
      · exact bg_b112c hR hM ho ht hc
  · rw [h] at ho ⊢
    by_cases ht : qbt 144 (now 4) = 0
    · exact bg_b144n hR hM ho ht
    · by_cases hc : (qbn ((now 5 + 2) &&& 65535) (mem ((now 5 + 1) &&& 255).toNatClampNeg)) >>> ((8 : Int32) &&& 31) = ((now 5 + 2) &&& 65535) >>> ((8 : Int32) &&& 31)
      · exact bg_b144e hR hM ho ht hc
      · exact bg_b144c hR hM ho ht hc
  · rw [h] at ho ⊢
    by_cases ht : qbt 176 (now 4) = 0
    · exact bg_b176n hR hM ho ht
    · by_cases hc : (qbn ((now 5 + 2) &&& 65535) (mem ((now 5 + 1) &&& 255).toNatClampNeg)) >>> ((8 : Int32) &&& 31) = ((now 5 + 2) &&& 65535) >>> ((8 : Int32) &&& 31)
      · exact bg_b176e hR hM ho ht hc
      · exact bg_b176c hR hM ho ht hc
  · rw [h] at ho ⊢
    by_cases ht : qbt 208 (now 4) = 0
    · exact bg_b208n hR hM ho ht
    · by_cases hc : (qbn ((now 5 + 2) &&& 65535) (mem ((now 5 + 1) &&& 255).toNatClampNeg)) >>> ((8 : Int32) &&& 31) = ((now 5 + 2) &&& 65535) >>> ((8 : Int32) &&& 31)
      · exact bg_b208e hR hM ho ht hc
      · exact bg_b208c hR hM ho ht hc
  · rw [h] at ho ⊢
    by_cases ht : qbt 240 (now 4) = 0
    · exact bg_b240n hR hM ho ht
    · by_cases hc : (qbn ((now 5 + 2) &&& 65535) (mem ((now 5 + 1) &&& 255).toNatClampNeg)) >>> ((8 : Int32) &&& 31) = ((now 5 + 2) &&& 65535) >>> ((8 : Int32) &&& 31)
      · exact bg_b240e hR hM ho ht hc
      · exact bg_b240c hR hM ho ht hc
theorem bg_op (hR : qR now) (hM : qM mem) (hn : n < 256) (ho : mem (now 5 &&& 255).toNatClampNeg = nI n) : Bg now mem lg 0 (nI n) (nI n) lo hi pt ea uf op := by
  have h := qt_cls n hn
  simp only [List.mem_cons, List.not_mem_nil, or_false] at h
  obtain ⟨s10, s11, s12, s13⟩ := qt_s1 n hn
  obtain ⟨s14, s15, s16, s17⟩ := qt_s2 n hn
  rcases h with hx | hx | hx | hx | hx | hx | hx | hx | hx | hx | hx | hx | hx | hx | hx | hx | hx | hx | hx
  · exact bg_m0 hR hM hn ho hx
  · exact bg_m1 hR hM hn ho hx
  · exact bg_m2 hR hM hn ho hx
  · exact bg_m3 hR hM hn ho hx
  · exact bg_m4 hR hM hn ho hx
  · exact bg_m5 hR hM hn ho hx
  · exact bg_m6 hR hM hn ho hx
  · exact bg_m7 hR hM hn ho hx
  · exact bg_m8 hR hM hn ho hx
  · exact bg_m9 hR hM hn ho hx
  · rcases s10 hx with h | h
    · rw [h] at ho ⊢; exact bg_php hR hM ho
    · rw [h] at ho ⊢; exact bg_pha hR hM ho
  · rcases s11 hx with h | h
    · rw [h] at ho ⊢; exact bg_plp hR hM ho
    · rw [h] at ho ⊢; exact bg_pla hR hM ho
  · rw [s12 hx] at ho ⊢; exact bg_jsr hR hM ho
  · rw [s13 hx] at ho ⊢; exact bg_rts hR hM ho
  · rw [s14 hx] at ho ⊢; exact bg_rti hR hM ho
  · rw [s15 hx] at ho ⊢; exact bg_jmp hR hM ho
  · rw [s16 hx] at ho ⊢; exact bg_jmi hR hM ho
  · rw [s17 hx] at ho ⊢; exact bg_brk hR hM ho
  · exact bg_m18 hR hM hn ho hx
theorem bg_all {ne : Int32} (hR : qR now) (hM : qM mem) (hne : ne = 0 ∨ ne = 1 ∨ ne = 2 ∨ ne = 3) : ∃ sq, sq = (if ne = 0 then mem (now 5 &&& 255).toNatClampNeg else 256 + ne) ∧ Bg now mem lg ne (mem (now 5 &&& 255).toNatClampNeg) sq lo hi pt ea uf op := by
  rcases hne with rfl | rfl | rfl | rfl
  · obtain ⟨n, hn, e⟩ := qb_of (hM.1 (now 5 &&& 255).toNatClampNeg)
    refine ⟨nI n, by rw [if_pos rfl, e], ?_⟩
    rw [e]
    exact bg_op hR hM hn e
  · exact ⟨257, by rw [if_neg (by decide)]; decide, bg_irq hR hM rfl⟩
  · exact ⟨258, by rw [if_neg (by decide)]; decide, bg_nmi hR hM rfl⟩
  · exact ⟨259, by rw [if_neg (by decide)]; decide, bg_rst hR hM rfl⟩
end
end
section
/-! Y's plan and tick -/
def qcy (f g : Nat → Int32) (i : Nat) : Nat → Int32 := fun j => if j < i then f j else g j
theorem qcy_0 (f g : Nat → Int32) : qcy f g 0 = g := by
  funext j; unfold qcy; rw [if_neg (by omega)]
theorem qcy_s (f g : Nat → Int32) (i : Nat) : upd (qcy f g i) i (f i) = qcy f g (i + 1) := by
  funext j; unfold upd qcy
  by_cases h : j = i
  · rw [if_pos h, if_pos (by omega), h]
  · rw [if_neg h]
    by_cases k : j < i
    · rw [if_pos k, if_pos (by omega)]
    · rw [if_neg k, if_neg (by omega)]
theorem qcy_e {f g : Nat → Int32} {N : Nat} (h : ∀ j, N ≤ j → g j = f j) : qcy f g N = f := by
  funext j; unfold qcy
  by_cases k : j < N
  · rw [if_pos k]
  · rw [if_neg k]; exact h j (by omega)
section
variable {len dn co se la ne sq ac : Int32} {mem work now fin lin log : Nat → Int32}
theorem yl_29 {post : SY → Prop} (h : ∀ n, wY_plan_29 post len dn co se la ne sq ac (n + 1) (nI 6) mem work now (qcy now fin 6) lin log) : ∀ k i n : Nat, i + k = 6 → wY_plan_29 post len dn co se la ne sq ac (n + k + 1) (nI i) mem work now (qcy now fin i) lin log := by
  intro k
  induction k with
  | zero =>
    intro i n e
    have e : i = 6 := by omega
    subst e
    exact h n
  | succ k ih =>
    intro i n e
    have hi : i < 6 := by omega
    refine br_f (nI_ge (b := 6) hi (by decide)) (And.intro (vp_in_nI hi (by decide)) (And.intro (vp_in_nI hi (by decide)) ?_))
    refine nm_r (e' := qcy now fin (i + 1)) (by rw [nI_clamp (by omega)]; exact qcy_s now fin i) ?_
    refine nm_r (nI_1 i) ?_
    exact ih (i + 1) n (by omega)
theorem yl_2 {post : SY → Prop} (h : ∃ n29, wY_plan_29 post len dn co se la ne sq ac n29 0 mem (qcy mem work 256) now fin lin log) : ∀ k i n : Nat, i + k = 256 → wY_plan_2 post len dn co se la ne sq ac (n + k + 1) (nI i) mem (qcy mem work i) now fin lin log := by
  intro k
  induction k with
  | zero =>
    intro i n e
    have e : i = 256 := by omega
    subst e
    exact br_t (nI_le (b := 256) (Nat.le_refl 256) (by decide)) h
  | succ k ih =>
    intro i n e
    have hi : i < 256 := by omega
    refine br_f (nI_ge (b := 256) hi (by decide)) (And.intro (vp_in_nI hi (by decide)) (And.intro (vp_in_nI hi (by decide)) ?_))
    refine nm_r (e' := qcy mem work (i + 1)) (by rw [nI_clamp (by omega)]; exact qcy_s mem work i) ?_
    refine nm_r (nI_1 i) ?_
    exact ih (i + 1) n (by omega)
theorem yl_plan {post : SY → Prop} {z : Int32} (hw : ∀ i, 256 ≤ i → work i = mem i) (hf : ∀ i, 6 ≤ i → fin i = now i) (hz : z = if ne = 0 then mem (now 5 &&& 255).toNatClampNeg else 256 + ne)
    (h : wY_plan_95 post ne (now 5) (mem (now 5 &&& 255).toNatClampNeg) z (nI 1) dn co se la 0 sq ac mem mem now now lin (upd log 0 (rd (mem (now 5 &&& 255).toNatClampNeg) (now 5)))) : wpY_plan post (qy len dn co se la ne sq ac mem work now fin lin log) := by
  have k29 : ∀ n, wY_plan_29 post len dn co se la ne sq ac (n + 1) (nI 6) mem mem now (qcy now fin 6) lin log := by
    intro n
    rw [qcy_e hf]
    refine br_t (nI_le (b := 6) (Nat.le_refl 6) (by decide)) ?_
    refine nm_e ?_
    refine qy_read (k := 0) (by decide) ?_
    by_cases c : ne = 0
    · rw [if_pos c] at hz
      subst hz
      exact br_t c h
    · rw [if_neg c] at hz
      subst hz
      exact br_f c h
  have k2 := yl_2 (post := post) (len := len) (dn := dn) (co := co) (se := se) (la := la) (ne := ne) (sq := sq) (ac := ac) (mem := mem) (work := work) (now := now) (fin := fin) (lin := lin) (log := log) (by
    rw [qcy_e hw]
    have k := yl_29 k29 6 0 0 rfl
    rw [qcy_0] at k
    exact ⟨_, k⟩) 256 0 0 rfl
  rw [qcy_0] at k2
  unfold wpY_plan
  exact ⟨_, k2⟩
/-- the end of a tick -/
theorem yt_352 {post : Int32 → SY → Prop} {x1 FI e x5 LA : Int32} (hfi : (x1 = 0 ∧ FI = 0) ∨ (¬ x1 = 0 ∧ FI = 33554432)) (hla : (x5 = 0 ∧ LA = 0) ∨ (¬ x5 = 0 ∧ LA = 67108864)) (h : post ((e + FI) + LA) (qy len dn co se la ne sq ((e + FI) + LA) mem work now fin lin log)) : wY_tick_352 post x1 e x5 len dn co se la ne sq ac mem work now fin lin log := by
  have k364 : wY_tick_364 post x5 FI e len dn co se la ne sq ac mem work now fin lin log := by
    unfold wY_tick_364
    rcases hla with ⟨c, rfl⟩ | ⟨c, rfl⟩
    · exact br_t c (nm_e h)
    · exact br_f c (nm_e h)
  unfold wY_tick_352
  rcases hfi with ⟨c, rfl⟩ | ⟨c, rfl⟩
  · exact br_t c k364
  · exact br_f c k364
theorem yt_320 {post : Int32 → SY → Prop} {x1 e x5 : Int32} (h : ∀ n, wY_tick_320 post x1 e x5 len dn co se la ne sq ac (n + 1) (nI 6) mem work (qcy fin now 6) fin lin log) : ∀ k i n : Nat, i + k = 6 → wY_tick_320 post x1 e x5 len dn co se la ne sq ac (n + k + 1) (nI i) mem work (qcy fin now i) fin lin log := by
  intro k
  induction k with
  | zero =>
    intro i n e
    have e : i = 6 := by omega
    subst e
    exact h n
  | succ k ih =>
    intro i n e
    have hi : i < 6 := by omega
    refine br_f (nI_ge (b := 6) hi (by decide)) (And.intro (vp_in_nI hi (by decide)) (And.intro (vp_in_nI hi (by decide)) ?_))
    refine nm_r (e' := qcy fin now (i + 1)) (by rw [nI_clamp (by omega)]; exact qcy_s fin now i) ?_
    refine nm_r (nI_1 i) ?_
    exact ih (i + 1) n (by omega)
theorem yt_294n {post : Int32 → SY → Prop} {x1 FI e : Int32} (hfi : (x1 = 0 ∧ FI = 0) ∨ (¬ x1 = 0 ∧ FI = 33554432)) (hd : ¬ dn = len) (h : post ((e + FI) + 0) (qy len dn co se la ne sq ((e + FI) + 0) mem work now fin lin log)) : wY_tick_294 post x1 e len dn co se la ne sq ac mem work now fin lin log := by
  unfold wY_tick_294
  refine br_f hd ?_
  unfold wY_tick_310
  exact br_t (by decide) (yt_352 hfi (Or.inl ⟨rfl, rfl⟩) h)
theorem yt_294e {post : Int32 → SY → Prop} {x1 FI e : Int32} (hfi : (x1 = 0 ∧ FI = 0) ∨ (¬ x1 = 0 ∧ FI = 33554432)) (hd : dn = len) (hf : ∀ i, 6 ≤ i → now i = fin i) (h : post ((e + FI) + 67108864) (qy len 0 co se la ne sq ((e + FI) + 67108864) mem work fin fin lin log)) : wY_tick_294 post x1 e len dn co se la ne sq ac mem work now fin lin log := by
  unfold wY_tick_294
  refine br_t hd ?_
  unfold wY_tick_310
  refine br_f (by decide) ?_
  have k6 : ∀ n, wY_tick_320 post x1 e 1 len dn co se la ne sq ac (n + 1) (nI 6) mem work (qcy fin now 6) fin lin log := by
    intro n
    rw [qcy_e hf]
    refine br_t (nI_le (b := 6) (Nat.le_refl 6) (by decide)) ?_
    exact yt_352 hfi (Or.inr ⟨by decide, rfl⟩) h
  have k := yt_320 k6 6 0 0 rfl
  rw [qcy_0] at k
  exact ⟨_, k⟩
theorem yt_253 {post : Int32 → SY → Prop} {x1 e m : Int32} (h : wY_tick_294 post x1 e len dn co se (if la = 1 then 0 else la) (if la = 1 then 2 else if lin 0 = 1 then (if m = 0 then 1 else ne) else ne) sq ac mem work now fin lin log) : wY_tick_253 post x1 e m len dn co se la ne sq ac mem work now fin lin log := by
  unfold wY_tick_253
  by_cases c : la = 1
  · rw [if_pos c, if_pos c] at h
    exact br_t c h
  · rw [if_neg c, if_neg c] at h
    refine br_f c ?_
    by_cases d : lin 0 = 1
    · rw [if_pos d] at h
      refine br_t d ?_
      by_cases f : m = 0
      · rw [if_pos f] at h
        exact br_t f h
      · rw [if_neg f] at h
        exact br_f f h
    · rw [if_neg d] at h
      exact br_f d h
theorem yt_230 {post : Int32 → SY → Prop} {x1 e x3 z : Int32} (h : wY_tick_294 post x1 e len dn co se (qpl x3 ne la) (qpn x3 ne la (lin 0) (z &&& 4)) sq ac mem work now fin lin log) : wY_tick_230 post x1 e x3 z len dn co se la ne sq ac mem work now fin lin log := by
  unfold wY_tick_230
  refine nm_e ?_
  unfold qpn qpl at h
  by_cases c : x3 = 0
  · rw [if_pos c, if_pos c] at h
    exact br_t c h
  · rw [if_neg c, if_neg c] at h
    refine br_f c ?_
    by_cases d : ne = 0
    · rw [if_pos (Or.inl d), if_pos (Or.inl d)] at h
      exact br_t d (yt_253 h)
    · refine br_f d ?_
      by_cases f : ne = 1
      · rw [if_pos (Or.inr f), if_pos (Or.inr f)] at h
        exact br_t f (yt_253 h)
      · rw [if_neg (fun z => z.elim d f), if_neg (fun z => z.elim d f)] at h
        exact br_f f h
theorem yt_206 {post : Int32 → SY → Prop} {x1 e x3 : Int32} (h : wY_tick_294 post x1 e len dn co se (qpl x3 ne la) (qpn x3 ne la (lin 0) ((if sq = 64 then fin 4 else now 4) &&& 4)) sq ac mem work now fin lin log) : wY_tick_206 post x1 e x3 len dn co se la ne sq ac mem work now fin lin log := by
  unfold wY_tick_206
  by_cases c : sq = 64
  · rw [if_pos c] at h
    exact br_t c (yt_230 h)
  · rw [if_neg c] at h
    exact br_f c (yt_230 h)
theorem yt_187 {post : Int32 → SY → Prop} {x1 e x3 pl : Int32} (hpl : (if sq = 0 then 0 else if sq ≤ 255 then x3 else 0) = pl) (h : wY_tick_294 post x1 e len dn co se (qpl pl ne la) (qpn pl ne la (lin 0) ((if sq = 64 then fin 4 else now 4) &&& 4)) sq ac mem work now fin lin log) : wY_tick_187 post x1 e x3 len dn co se la ne sq ac mem work now fin lin log := by
  subst hpl
  unfold wY_tick_187
  by_cases c : sq = 0
  · rw [if_pos c] at h
    refine br_t c ?_
    unfold wY_tick_204
    exact yt_206 h
  · rw [if_neg c] at h
    refine br_f c ?_
    by_cases d : sq ≤ 255
    · rw [if_pos d] at h
      exact br_t d (yt_206 h)
    · rw [if_neg d] at h
      refine br_f d ?_
      unfold wY_tick_204
      exact yt_206 h
theorem yt_126 {post : Int32 → SY → Prop} {x1 e : Int32} (h : wY_tick_294 post x1 e len dn co se (qpl (qpy sq dn len) ne la) (qpn (qpy sq dn len) ne la (lin 0) ((if sq = 64 then fin 4 else now 4) &&& 4)) sq ac mem work now fin lin log) : wY_tick_126 post x1 e len dn co se la ne sq ac mem work now fin lin log := by
  have k144 : ∀ z0, z0 = (if dn = len - 1 then (1 : Int32) else 0) → wY_tick_144 post x1 e z0 len dn co se la ne sq ac mem work now fin lin log := by
    intro z0 e0
    subst e0
    unfold wY_tick_144
    by_cases c : sq &&& 31 = 16
    · refine br_t c ?_
      by_cases d : dn = 1
      · refine br_t d ?_
        unfold wY_tick_181
        unfold wY_tick_186
        exact yt_187 (by unfold qpy; rw [if_pos c, if_pos d]) h
      · refine br_f d ?_
        by_cases f : len = 4
        · refine br_t f ?_
          by_cases g : dn = 3
          · refine br_t g ?_
            unfold wY_tick_181
            unfold wY_tick_186
            exact yt_187 (by unfold qpy; rw [if_pos c, if_neg d, if_pos f, if_pos g]) h
          · refine br_f g ?_
            unfold wY_tick_185
            unfold wY_tick_186
            exact yt_187 (by unfold qpy; rw [if_pos c, if_neg d, if_pos f, if_neg g]) h
        · refine br_f f ?_
          unfold wY_tick_185
          unfold wY_tick_186
          exact yt_187 (by unfold qpy; rw [if_pos c, if_neg d, if_neg f]) h
    · exact br_f c (yt_187 (by unfold qpy; rw [if_neg c]) h)
  unfold wY_tick_126
  by_cases c : dn = len - 1
  · exact br_t c (k144 1 (if_pos c).symm)
  · exact br_f c (k144 0 (if_neg c).symm)
def qrn (l ne : Int32) : Int32 := if l = 1 then 3 else ne
theorem yt_91 {post : Int32 → SY → Prop} {x1 e : Int32} (h : wY_tick_294 post x1 e len (dn + 1) (co + 1) se (qpl (qpy sq (dn + 1) len) (qrn (lin 2) ne) la) (qpn (qpy sq (dn + 1) len) (qrn (lin 2) ne) la (lin 0) ((if sq = 64 then fin 4 else now 4) &&& 4)) sq ac mem work now fin lin log) : wY_tick_91 post x1 e len dn co se la ne sq ac mem work now fin lin log := by
  unfold wY_tick_91
  refine nm_e (nm_e ?_)
  unfold qrn at h
  by_cases c : lin 2 = 1
  · rw [if_pos c] at h
    exact br_t c (yt_126 h)
  · rw [if_neg c] at h
    exact br_f c (yt_126 h)
theorem yt_43 {post : Int32 → SY → Prop} {x1 e : Int32} {d : Nat} {mem' : Nat → Int32} (hd : dn = nI d) (hd7 : d < 8) (he : log d = e) (hm : qm e mem mem') (h : wY_tick_294 post x1 e len (dn + 1) (co + 1) (lin 1) (qpl (qpy sq (dn + 1) len) (qrn (lin 2) ne) la) (qpn (qpy sq (dn + 1) len) (qrn (lin 2) ne) la (lin 0) ((if sq = 64 then fin 4 else now 4) &&& 4)) sq ac mem' work now fin lin log) : wY_tick_43 post x1 len dn co se la ne sq ac mem work now fin lin log := by
  have e7 : dn &&& 7 = nI d := by
    rw [hd, pk_andN (by omega) (m := 7) 3 (by decide), Nat.mod_eq_of_lt (by omega)]
  have ec : (dn &&& 7).toNatClampNeg = d := by rw [e7, nI_clamp (by omega)]
  unfold wY_tick_43
  refine nm_e (And.intro (by rw [e7]; exact vp_in_nI hd7 (by decide)) (nm_r (e' := e) (by rw [ec]; exact he) ?_))
  rcases hm with ⟨m, ad, e1, hb, e2⟩ | ⟨v, ad, e1, hb, e2⟩
  · subst e1 e2
    exact br_t (rd_w hb) (yt_91 h)
  · subst e1 e2
    refine br_f (wr_w hb) (And.intro (by rw [wr_a hb]; exact qb_in _) (nm_r (e' := upd mem (ad &&& 255).toNatClampNeg v) (by rw [wr_a hb, wr_v hb]) ?_))
    exact yt_91 h
theorem yt_21 {post : Int32 → SY → Prop} {x1 : Int32} (h : wY_tick_43 post x1 len dn co se (qwl (lin 1) se la) ne sq ac mem work now fin lin log) : wY_tick_21 post x1 len dn co se la ne sq ac mem work now fin lin log := by
  unfold wY_tick_21
  unfold qwl at h
  by_cases c : lin 1 = 1
  · rw [if_pos c] at h
    refine br_t c ?_
    by_cases d : se = 0
    · rw [if_pos d] at h
      exact br_t d h
    · rw [if_neg d] at h
      exact br_f d h
  · rw [if_neg c] at h
    exact br_f c h
end
end
section
/-! X's tick, the relation, both ticks -/
section
variable {a x y s p pc se la ne co ac sq dn le tl mo st lo hi pt ea uf op np : Int32} {mem lev : Nat → Int32}
theorem xt_69 {post : Int32 → SX → Prop} (h : wX_tick_80 post 0 1 2 3 4 5 6 7 8 9 10 11 12 13 14 15 16 17 18 19 1 2 4 8 64 128 a x y s p pc se (qpl (qpx mo dn le) ne la) (qpn (qpx mo dn le) ne la (lev 0) ((if mo = 14 then op else p) &&& 4)) co ac sq dn le tl mo st lo hi pt ea uf op np mem lev) : wX_tick_69 post 0 1 2 3 4 5 6 7 8 9 10 11 12 13 14 15 16 17 18 19 1 2 4 8 64 128 a x y s p pc se la ne co ac sq dn le tl mo st lo hi pt ea uf op np mem lev := by
  unfold wX_tick_69
  refine qx_isPoll ?_
  by_cases c : qpx mo dn le = 0
  · unfold qpn qpl at h
    rw [if_pos c, if_pos c] at h
    exact br_t c h
  · refine br_f c ?_
    refine qx_poll c ?_
    exact h
theorem xt_44 {post : Int32 → SX → Prop} (h : wX_tick_80 post 0 1 2 3 4 5 6 7 8 9 10 11 12 13 14 15 16 17 18 19 1 2 4 8 64 128 a x y s p pc se (qpl (qpx mo dn le) (qrn (lev 2) ne) la) (qpn (qpx mo dn le) (qrn (lev 2) ne) la (lev 0) ((if mo = 14 then op else p) &&& 4)) (co + 1) ac sq dn le tl mo st lo hi pt ea uf op np mem lev) : wX_tick_44 post 0 1 2 3 4 5 6 7 8 9 10 11 12 13 14 15 16 17 18 19 1 2 4 8 64 128 a x y s p pc se la ne co ac sq dn le tl mo st lo hi pt ea uf op np mem lev := by
  unfold wX_tick_44
  refine nm_e ?_
  unfold qrn at h
  by_cases c : lev 2 = 1
  · rw [if_pos c] at h
    exact br_t c (xt_69 h)
  · rw [if_neg c] at h
    exact br_f c (xt_69 h)
theorem xt_80n {post : Int32 → SX → Prop} (hd : ¬ dn = le) (h : post ac (qx a x y s p pc se la ne co ac sq dn le tl mo st lo hi pt ea uf op np mem lev)) : wX_tick_80 post 0 1 2 3 4 5 6 7 8 9 10 11 12 13 14 15 16 17 18 19 1 2 4 8 64 128 a x y s p pc se la ne co ac sq dn le tl mo st lo hi pt ea uf op np mem lev := by
  unfold wX_tick_80
  exact br_f hd h
theorem xt_80e {post : Int32 → SX → Prop} {F now : Nat → Int32} (hd : dn = le) (hF : qF now F sq dn le tl mo st lo hi pt ea uf op np p mem) (h : post (ac + 67108864) (qx (F 0) (F 1) (F 2) (F 3) (F 4) (F 5) se la ne co (ac + 67108864) sq 0 le tl mo st lo hi pt ea uf op (qnp mo np hi lo) mem lev)) : wX_tick_80 post 0 1 2 3 4 5 6 7 8 9 10 11 12 13 14 15 16 17 18 19 1 2 4 8 64 128 (now 0) (now 1) (now 2) (now 3) p (now 5) se la ne co ac sq dn le tl mo st lo hi pt ea uf op np mem lev := by
  unfold wX_tick_80
  refine br_t hd ?_
  refine hF _ _ _ _ _ _ _ ?_
  exact nm_e h
end
/-- the relation -/
def qI (u : SX) (v : SY) : Prop := ∃ (se la ne co ac sq dn le tl mo st lo hi pt ea uf op np len : Int32) (mem lev work now fin log : Nat → Int32), u = (qx (now 0) (now 1) (now 2) (now 3) (now 4) (now 5) se la ne co ac sq dn le tl mo st lo hi pt ea uf op np mem lev) ∧ v = (qy len dn co se la ne sq ac mem work now fin lev log) ∧ (qM mem ∧ (∀ i, 256 ≤ i → work i = 0) ∧ qR now ∧ (∀ i, 6 ≤ i → fin i = 0)) ∧ (ne = 0 ∨ ne = 1 ∨ ne = 2 ∨ ne = 3) ∧ (dn = 0 ∨ ∃ d r, dn = nI d ∧ qR fin ∧ Fu now log fin len sq tl mo st r d le lo hi pt ea uf op np mem)
theorem qI_el {P : SX → SY → Prop} (h : ∀ (se la ne co ac sq dn le tl mo st lo hi pt ea uf op np len : Int32) (mem lev work now fin log : Nat → Int32), (qM mem ∧ (∀ i, 256 ≤ i → work i = 0) ∧ qR now ∧ (∀ i, 6 ≤ i → fin i = 0)) → (ne = 0 ∨ ne = 1 ∨ ne = 2 ∨ ne = 3) → (dn = 0 ∨ ∃ d r, dn = nI d ∧ qR fin ∧ Fu now log fin len sq tl mo st r d le lo hi pt ea uf op np mem) → P (qx (now 0) (now 1) (now 2) (now 3) (now 4) (now 5) se la ne co ac sq dn le tl mo st lo hi pt ea uf op np mem lev) (qy len dn co se la ne sq ac mem work now fin lev log)) {u : SX} {v : SY} (I : qI u v) : P u v :=
  I.elim fun se I => I.elim fun la I => I.elim fun ne I => I.elim fun co I => I.elim fun ac I => I.elim fun sq I => I.elim fun dn I => I.elim fun le I => I.elim fun tl I => I.elim fun mo I => I.elim fun st I => I.elim fun lo I => I.elim fun hi I => I.elim fun pt I => I.elim fun ea I => I.elim fun uf I => I.elim fun op I => I.elim fun np I => I.elim fun len I => I.elim fun mem I => I.elim fun lev I => I.elim fun work I => I.elim fun now I => I.elim fun fin I => I.elim fun log I => by
    have k := h se la ne co ac sq dn le tl mo st lo hi pt ea uf op np len mem lev work now fin log I.2.2.1 I.2.2.2.1 I.2.2.2.2
    rw [I.1, I.2.1]
    exact k
theorem qn_n {pl ne la l0 m : Int32} (h : ne = 0 ∨ ne = 1 ∨ ne = 2 ∨ ne = 3) : qpn pl ne la l0 m = 0 ∨ qpn pl ne la l0 m = 1 ∨ qpn pl ne la l0 m = 2 ∨ qpn pl ne la l0 m = 3 := by
  unfold qpn
  by_cases c : pl = 0
  · rw [if_pos c]; exact h
  · rw [if_neg c]
    by_cases d : ne = 0 ∨ ne = 1
    · rw [if_pos d]
      by_cases e : la = 1
      · rw [if_pos e]; decide
      · rw [if_neg e]
        by_cases f : l0 = 1
        · rw [if_pos f]
          by_cases g : m = 0
          · rw [if_pos g]; decide
          · rw [if_neg g]; exact h
        · rw [if_neg f]; exact h
    · rw [if_neg d]; exact h
theorem qn_r {l ne : Int32} (h : ne = 0 ∨ ne = 1 ∨ ne = 2 ∨ ne = 3) : qrn l ne = 0 ∨ qrn l ne = 1 ∨ qrn l ne = 2 ∨ qrn l ne = 3 := by
  unfold qrn
  by_cases c : l = 1
  · rw [if_pos c]; decide
  · rw [if_neg c]; exact h
/-- one outcome of a tick for both -/
def qT (u : SX) (v : SY) : Prop := ∃ (r : Int32) (u' : SX) (v' : SY), qI u' v' ∧ (∀ post : Int32 → SX → Prop, post r u' → wpX_tick post u) ∧ (∀ post : Int32 → SY → Prop, post r v' → wpY_tick post v)
theorem q_pm {pl ne la l0 m m' : Int32} (h : ¬ pl = 0 → m = m') : qpn pl ne la l0 m = qpn pl ne la l0 m' := by
  unfold qpn
  by_cases c : pl = 0
  · rw [if_pos c, if_pos c]
  · rw [h c]
section
variable {se la ne co ac sq le tl mo st lo hi pt ea uf op np len : Int32} {mem lev work now fin log : Nat → Int32}
theorem qT_mid {r d : Nat} (hM : qM mem) (hw : ∀ i, 256 ≤ i → work i = 0) (hR : qR now) (hf : ∀ i, 6 ≤ i → fin i = 0) (hne : ne = 0 ∨ ne = 1 ∨ ne = 2 ∨ ne = 3) (hRf : qR fin) (hFu : Fu now log fin len sq tl mo st r d le lo hi pt ea uf op np mem) : qT (qx (now 0) (now 1) (now 2) (now 3) (now 4) (now 5) se la ne co ac sq (nI d) le tl mo st lo hi pt ea uf op np mem lev) (qy len (nI d) co se la ne sq ac mem work now fin lev log) := by
  cases r with
  | zero => exact hFu.elim
  | succ r =>
    obtain ⟨⟨hd1, hd7⟩, p', le', lo', hi', pt', ea', uf', op', np', mem', hX, hm, hP, hend⟩ := hFu
    have hd0 : ¬ nI d = 0 := nI_ne0 (by omega) (by omega)
    have hd1' : ¬ nI (d + 1) = 1 := fun z => absurd ((nI_eq (a := d + 1) (b := 1) (by omega) (by omega)).mp z) (by omega)
    have hn : qpn (qpx mo (nI (d + 1)) le') (qrn (lev 2) ne) (qwl (lev 1) se la) (lev 0) ((if mo = 14 then op' else p') &&& 4) = qpn (qpy sq (nI d + 1) len) (qrn (lev 2) ne) (qwl (lev 1) se la) (lev 0) ((if sq = 64 then fin 4 else now 4) &&& 4) := by
      rw [nI_1, ← hP.1]
      exact q_pm hP.2
    have hl : qpl (qpx mo (nI (d + 1)) le') (qrn (lev 2) ne) (qwl (lev 1) se la) = qpl (qpy sq (nI d + 1) len) (qrn (lev 2) ne) (qwl (lev 1) se la) := by
      rw [nI_1, ← hP.1]
    rcases hend with ⟨h1, h2, hF⟩ | ⟨h1, h2, hp, hFu⟩
    · refine ⟨(log d + 0) + 67108864, (qx (fin 0) (fin 1) (fin 2) (fin 3) (fin 4) (fin 5) (lev 1) (qpl (qpx mo (nI (d + 1)) le') (qrn (lev 2) ne) (qwl (lev 1) se la)) (qpn (qpx mo (nI (d + 1)) le') (qrn (lev 2) ne) (qwl (lev 1) se la) (lev 0) ((if mo = 14 then op' else p') &&& 4)) (co + 1) ((log d + 0) + 67108864) sq 0 le' tl mo st lo' hi' pt' ea' uf' op' (qnp mo np' hi' lo') mem' lev), (qy len 0 (co + 1) (lev 1) (qpl (qpx mo (nI (d + 1)) le') (qrn (lev 2) ne) (qwl (lev 1) se la)) (qpn (qpx mo (nI (d + 1)) le') (qrn (lev 2) ne) (qwl (lev 1) se la) (lev 0) ((if mo = 14 then op' else p') &&& 4)) sq ((log d + 0) + 67108864) mem' work fin fin lev log), ?_, ?_, ?_⟩
      · exact ⟨_, _, _, _, _, _, _, _, _, _, _, _, _, _, _, _, _, _, _, _, _, _, _, _, _, rfl, rfl, ⟨qM_m hM hm, hw, hRf, hf⟩, qn_n (qn_r hne), Or.inl rfl⟩
      · intro post h
        unfold wpX_tick
        refine qx_watch ?_
        refine nm_r (nI_1 d) ?_
        refine br_f hd1' ?_
        refine hX _ _ _ _ _ _ _ ?_
        refine xt_44 ?_
        refine xt_80e h1 hF ?_
        rw [Int32.add_zero] at h
        exact h
      · intro post h
        rw [hn, hl] at h
        unfold wpY_tick
        refine br_f hd0 ?_
        unfold wY_tick_12
        refine br_t (by decide) ?_
        refine yt_21 ?_
        refine yt_43 rfl (by omega) rfl hm ?_
        refine yt_294e (FI := 0) (Or.inl ⟨rfl, rfl⟩) ((nI_1 d).trans h2) (fun i hi => by rw [hR.2.2 i hi, hf i hi]) ?_
        exact h
    · subst hp
      refine ⟨(log d + 0) + 0, (qx (now 0) (now 1) (now 2) (now 3) (now 4) (now 5) (lev 1) (qpl (qpx mo (nI (d + 1)) le') (qrn (lev 2) ne) (qwl (lev 1) se la)) (qpn (qpx mo (nI (d + 1)) le') (qrn (lev 2) ne) (qwl (lev 1) se la) (lev 0) ((if mo = 14 then op' else now 4) &&& 4)) (co + 1) ((log d + 0) + 0) sq (nI (d + 1)) le' tl mo st lo' hi' pt' ea' uf' op' np' mem' lev), (qy len (nI (d + 1)) (co + 1) (lev 1) (qpl (qpx mo (nI (d + 1)) le') (qrn (lev 2) ne) (qwl (lev 1) se la)) (qpn (qpx mo (nI (d + 1)) le') (qrn (lev 2) ne) (qwl (lev 1) se la) (lev 0) ((if mo = 14 then op' else now 4) &&& 4)) sq ((log d + 0) + 0) mem' work now fin lev log), ?_, ?_, ?_⟩
      · exact ⟨_, _, _, _, _, _, _, _, _, _, _, _, _, _, _, _, _, _, _, _, _, _, _, _, _, rfl, rfl, ⟨qM_m hM hm, hw, hR, hf⟩, qn_n (qn_r hne), Or.inr ⟨d + 1, r, rfl, hRf, hFu⟩⟩
      · intro post h
        unfold wpX_tick
        refine qx_watch ?_
        refine nm_r (nI_1 d) ?_
        refine br_f hd1' ?_
        refine hX _ _ _ _ _ _ _ ?_
        refine xt_44 ?_
        refine xt_80n h1 ?_
        rw [Int32.add_zero, Int32.add_zero] at h
        exact h
      · intro post h
        rw [hn, hl] at h
        unfold wpY_tick
        refine br_f hd0 ?_
        unfold wY_tick_12
        refine br_t (by decide) ?_
        refine yt_21 ?_
        refine yt_43 rfl (by omega) rfl hm ?_
        refine yt_294n (FI := 0) (Or.inl ⟨rfl, rfl⟩) (fun z => h2 ((nI_1 d).symm.trans z)) ?_
        rw [nI_1]
        rw [nI_1] at h
        exact h
theorem qT_first (hM : qM mem) (hw : ∀ i, 256 ≤ i → work i = 0) (hR : qR now) (hf : ∀ i, 6 ≤ i → fin i = 0) (hne : ne = 0 ∨ ne = 1 ∨ ne = 2 ∨ ne = 3) : qT (qx (now 0) (now 1) (now 2) (now 3) (now 4) (now 5) se la ne co ac sq 0 le tl mo st lo hi pt ea uf op np mem lev) (qy len 0 co se la ne sq ac mem work now fin lev log) := by
  obtain ⟨sq', hsq, le', tl', mo', st', np', len', L, F, work', r, hX, hY, hL, hRF, hW, hP, ⟨h1, h2⟩, hFu⟩ := bg_all (now := now) (mem := mem) (lg := log) (lo := lo) (hi := hi) (pt := pt) (ea := ea) (uf := uf) (op := op) hR hM hne
  have hn : qpn (qpx mo' (nI 1) le') (qrn (lev 2) 0) (qwl (lev 1) se la) (lev 0) ((if mo' = 14 then op else now 4) &&& 4) = qpn (qpy sq' (0 + 1) len') (qrn (lev 2) 0) (qwl (lev 1) se la) (lev 0) ((if sq' = 64 then F 4 else now 4) &&& 4) := by
    rw [show (0 : Int32) + 1 = nI 1 from by decide, ← hP.1]
    exact q_pm hP.2
  have hl : qpl (qpx mo' (nI 1) le') (qrn (lev 2) 0) (qwl (lev 1) se la) = qpl (qpy sq' (0 + 1) len') (qrn (lev 2) 0) (qwl (lev 1) se la) := by
    rw [show (0 : Int32) + 1 = nI 1 from by decide, ← hP.1]
  refine ⟨(L 0 + 33554432) + 0, (qx (now 0) (now 1) (now 2) (now 3) (now 4) (now 5) (lev 1) (qpl (qpx mo' (nI 1) le') (qrn (lev 2) 0) (qwl (lev 1) se la)) (qpn (qpx mo' (nI 1) le') (qrn (lev 2) 0) (qwl (lev 1) se la) (lev 0) ((if mo' = 14 then op else now 4) &&& 4)) (co + 1) ((L 0 + 33554432) + 0) sq' (nI 1) le' tl' mo' st' lo hi pt ea uf op np' mem lev), (qy len' (nI 1) (co + 1) (lev 1) (qpl (qpx mo' (nI 1) le') (qrn (lev 2) 0) (qwl (lev 1) se la)) (qpn (qpx mo' (nI 1) le') (qrn (lev 2) 0) (qwl (lev 1) se la) (lev 0) ((if mo' = 14 then op else now 4) &&& 4)) sq' ((L 0 + 33554432) + 0) mem work' now F lev L), ?_, ?_, ?_⟩
  · exact ⟨_, _, _, _, _, _, _, _, _, _, _, _, _, _, _, _, _, _, _, _, _, _, _, _, _, rfl, rfl, ⟨hM, hW, hR, hRF.2.2⟩, qn_n (qn_r (Or.inl rfl)), Or.inr ⟨1, r, rfl, hRF, hFu⟩⟩
  · intro post h
    unfold wpX_tick
    refine qx_watch ?_
    refine nm_r (e' := nI 1) (by decide) ?_
    refine br_t (by decide) ?_
    refine hX _ _ _ _ _ _ _ _ _ _ _ _ ?_
    refine nm_e ?_
    refine xt_44 ?_
    refine xt_80n h1 ?_
    rw [Int32.add_zero, hL] at h
    exact h
  · intro post h
    rw [hn, hl] at h
    unfold wpY_tick
    refine br_t (by decide) ?_
    unfold wY_tick_12
    refine br_f (by decide) ?_
    refine yl_plan (fun i hi => by rw [hw i hi, hM.2 i hi]) (fun i hi => by rw [hf i hi, hR.2.2 i hi]) hsq ?_
    refine hY _ _ _ _ _ _ _ ?_
    refine yt_21 ?_
    have hm : qm (L 0) mem mem := by rw [hL]; exact qm_r (hM.1 _)
    refine yt_43 (d := 0) (by decide) (by decide) rfl hm ?_
    refine yt_294n (FI := 33554432) (Or.inr ⟨by decide, rfl⟩) (fun z => h2 (Eq.trans (by decide) z)) ?_
    rw [show (0 : Int32) + 1 = nI 1 from by decide]
    rw [show (0 : Int32) + 1 = nI 1 from by decide] at h
    exact h
end
theorem qT_all {u : SX} {v : SY} (I : qI u v) : qT u v := by
  refine qI_el (P := qT) ?_ I
  intro se la ne co ac sq dn le tl mo st lo hi pt ea uf op np len mem lev work now fin log ⟨hM, hw, hR, hf⟩ hne hdn
  rcases hdn with rfl | ⟨d, r, rfl, hRf, hFu⟩
  · exact qT_first hM hw hR hf hne
  · exact qT_mid hM hw hR hf hne hRf hFu
end
section
/-! loops over ticks, the constructors' and load's loops -/
def qXr (post : Int32 → SX → Prop) (p0 : Int32) (n : Nat) (acc i : Int32) (u : SX) : Prop := match u with
  | (c0_, c1_, c2_, c3_, c4_, c5_, c6_, c7_, c8_, c9_, c10_, c11_, c12_, c13_, c14_, c15_, c16_, c17_, c18_, c19_, c20_, c21_, c22_, c23_, c24_, c25_, a, x, y, s, p, pc, se, la, ne, co, ac, sq, dn, le, tl, mo, st, lo, hi, pt, ea, uf, op, np, mem, lev) => wX_run_4 post p0 n acc i c0_ c1_ c2_ c3_ c4_ c5_ c6_ c7_ c8_ c9_ c10_ c11_ c12_ c13_ c14_ c15_ c16_ c17_ c18_ c19_ c20_ c21_ c22_ c23_ c24_ c25_ a x y s p pc se la ne co ac sq dn le tl mo st lo hi pt ea uf op np mem lev
def qYr (post : Int32 → SY → Prop) (p0 : Int32) (n : Nat) (acc i : Int32) (v : SY) : Prop := match v with
  | (len, dn, co, se, la, ne, sq, ac, mem, work, now, fin, lin, log) => wY_run_26 post p0 n acc i len dn co se la ne sq ac mem work now fin lin log
def qXs (post : Int32 → SX → Prop) (n : Nat) (acc i : Int32) (u : SX) : Prop := match u with
  | (c0_, c1_, c2_, c3_, c4_, c5_, c6_, c7_, c8_, c9_, c10_, c11_, c12_, c13_, c14_, c15_, c16_, c17_, c18_, c19_, c20_, c21_, c22_, c23_, c24_, c25_, a, x, y, s, p, pc, se, la, ne, co, ac, sq, dn, le, tl, mo, st, lo, hi, pt, ea, uf, op, np, mem, lev) => wX_step_4 post n acc i c0_ c1_ c2_ c3_ c4_ c5_ c6_ c7_ c8_ c9_ c10_ c11_ c12_ c13_ c14_ c15_ c16_ c17_ c18_ c19_ c20_ c21_ c22_ c23_ c24_ c25_ a x y s p pc se la ne co ac sq dn le tl mo st lo hi pt ea uf op np mem lev
def qYs (post : Int32 → SY → Prop) (n : Nat) (i : Int32) (v : SY) : Prop := match v with
  | (len, dn, co, se, la, ne, sq, ac, mem, work, now, fin, lin, log) => wY_step_2 post n i len dn co se la ne sq ac mem work now fin lin log
theorem qXr_w {post : Int32 → SX → Prop} {p0 : Int32} {n : Nat} : ∀ (u : SX), qXr post p0 n 0 (nI 0) u → wpX_run post u p0
  | (c0_, c1_, c2_, c3_, c4_, c5_, c6_, c7_, c8_, c9_, c10_, c11_, c12_, c13_, c14_, c15_, c16_, c17_, c18_, c19_, c20_, c21_, c22_, c23_, c24_, c25_, a, x, y, s, p, pc, se, la, ne, co, ac, sq, dn, le, tl, mo, st, lo, hi, pt, ea, uf, op, np, mem, lev), h => ⟨n, h⟩
theorem qYr_w {post : Int32 → SY → Prop} {p0 : Int32} {n c : Nat} (hc : c ≤ 64) (h0 : (0 ≤ p0 ∧ p0 ≤ 64 ∧ p0 = nI c) ∨ (0 ≤ p0 ∧ ¬ p0 ≤ 64 ∧ c = 64) ∨ (¬ 0 ≤ p0 ∧ c = 0)) : ∀ (v : SY), qYr post (nI c) n 0 (nI 0) v → wpY_run post v p0
  | (len, dn, co, se, la, ne, sq, ac, mem, work, now, fin, lin, log), h => by
    rcases h0 with ⟨h1, h2, rfl⟩ | ⟨h1, h2, rfl⟩ | ⟨h1, rfl⟩
    · exact br_t h1 (br_t h2 ⟨n, h⟩)
    · exact br_t h1 (br_f h2 ⟨n, h⟩)
    · exact br_f h1 ⟨n, h⟩
theorem qXs_w {post : Int32 → SX → Prop} {n : Nat} : ∀ (u : SX), qXs post n (nI 0) (nI 0) u → wpX_step post u
  | (c0_, c1_, c2_, c3_, c4_, c5_, c6_, c7_, c8_, c9_, c10_, c11_, c12_, c13_, c14_, c15_, c16_, c17_, c18_, c19_, c20_, c21_, c22_, c23_, c24_, c25_, a, x, y, s, p, pc, se, la, ne, co, ac, sq, dn, le, tl, mo, st, lo, hi, pt, ea, uf, op, np, mem, lev), h => ⟨n, h⟩
theorem qYs_w {post : Int32 → SY → Prop} {n : Nat} : ∀ (v : SY), qYs post n (nI (0 + 1)) v → wpY_step post v
  | (len, dn, co, se, la, ne, sq, ac, mem, work, now, fin, lin, log), h => ⟨n, h⟩
section
variable {a x y s p pc se la ne co ac sq dn le tl mo st lo hi pt ea uf op np : Int32} {mem lev : Nat → Int32} {a' x' y' s' p' pc' se' la' ne' co' ac' sq' dn' le' tl' mo' st' lo' hi' pt' ea' uf' op' np' : Int32} {mem' lev' : Nat → Int32}
theorem qr_x {post : Int32 → SX → Prop} {p0 acc i r : Int32} {n : Nat} (h1 : ¬ p0 ≤ i) (h2 : ¬ 64 ≤ i) (ht : ∀ post : Int32 → SX → Prop, post r (qx a' x' y' s' p' pc' se' la' ne' co' ac' sq' dn' le' tl' mo' st' lo' hi' pt' ea' uf' op' np' mem' lev') → wpX_tick post (qx a x y s p pc se la ne co ac sq dn le tl mo st lo hi pt ea uf op np mem lev)) (h : qXr post p0 n (if dn' = 0 then acc + 1 else acc) (i + 1) (qx a' x' y' s' p' pc' se' la' ne' co' ac' sq' dn' le' tl' mo' st' lo' hi' pt' ea' uf' op' np' mem' lev')) : qXr post p0 (n + 1) acc i (qx a x y s p pc se la ne co ac sq dn le tl mo st lo hi pt ea uf op np mem lev) := by
  refine br_f h1 (br_f h2 (ht _ ?_))
  by_cases c : dn' = 0
  · rw [if_pos c] at h
    exact br_t c (nm_e (nm_e h))
  · rw [if_neg c] at h
    exact br_f c (nm_e h)
theorem qs_x {post : Int32 → SX → Prop} {acc i r : Int32} {n : Nat} (h2 : ¬ 7 ≤ i) (ht : ∀ post : Int32 → SX → Prop, post r (qx a' x' y' s' p' pc' se' la' ne' co' ac' sq' dn' le' tl' mo' st' lo' hi' pt' ea' uf' op' np' mem' lev') → wpX_tick post (qx a x y s p pc se la ne co ac sq dn le tl mo st lo hi pt ea uf op np mem lev)) (h0 : dn' = 0 → post (acc + 1) (qx a' x' y' s' p' pc' se' la' ne' co' ac' sq' dn' le' tl' mo' st' lo' hi' pt' ea' uf' op' np' mem' lev')) (h : ¬ dn' = 0 → qXs post n (acc + 1) (i + 1) (qx a' x' y' s' p' pc' se' la' ne' co' ac' sq' dn' le' tl' mo' st' lo' hi' pt' ea' uf' op' np' mem' lev')) : qXs post (n + 1) acc i (qx a x y s p pc se la ne co ac sq dn le tl mo st lo hi pt ea uf op np mem lev) := by
  refine br_f h2 (ht _ ?_)
  refine nm_e ?_
  exact ⟨fun c => h0 c, fun c => nm_e (h c)⟩
theorem xi_191 {post : SX → Prop} {v : Int32} {g : Nat → Int32} (h : post (qx a x y s 36 pc se la 3 co (-1) (-1) dn le tl mo st lo hi pt ea uf op np (qcy (fun _ => v) g 256) lev)) : ∀ k i n : Nat, i + k = 256 → wX_init_191 post v 0 1 2 3 4 5 6 7 8 9 10 11 12 13 14 15 16 17 18 19 1 2 4 8 64 128 a x y s p pc se la ne co ac sq dn le tl mo st lo hi pt ea uf op np (n + k + 1) (nI i) (qcy (fun _ => v) g i) lev := by
  intro k
  induction k with
  | zero =>
    intro i n e
    have e : i = 256 := by omega
    subst e
    exact br_t (nI_le (b := 256) (Nat.le_refl 256) (by decide)) h
  | succ k ih =>
    intro i n e
    have hi : i < 256 := by omega
    refine br_f (nI_ge (b := 256) hi (by decide)) (And.intro (vp_in_nI hi (by decide)) ?_)
    refine nm_r (e' := qcy (fun _ => v) g (i + 1)) (by rw [nI_clamp (by omega)]; exact qcy_s (fun _ => v) g i) ?_
    refine nm_r (nI_1 i) ?_
    exact ih (i + 1) n (by omega)
def qld (x1 x3 : Int32) (m : Nat → Int32) : Nat → Nat → Int32
  | 0 => m
  | k + 1 => upd (qld x1 x3 m k) ((x1 + nI k) &&& 255).toNatClampNeg ((x3 >>> ((8 * nI k) &&& 31)) &&& 255)
theorem qld_M {x1 x3 : Int32} {m : Nat → Int32} (h : qM m) : ∀ k, qM (qld x1 x3 m k) := by
  intro k
  induction k with
  | zero => exact h
  | succ k ih => exact qM_u _ ih (qb_and _)
theorem xl_35 {post : Int32 → SX → Prop} {x1 x3 : Int32} {c : Nat} (hc : c ≤ 4) (h : post 0 (qx a x y s p pc se la ne co ac sq dn le tl mo st lo hi pt ea uf op np (qld x1 x3 mem c) lev)) : ∀ k i n : Nat, i + k = c → wX_load_35 post x1 (nI c) x3 0 1 2 3 4 5 6 7 8 9 10 11 12 13 14 15 16 17 18 19 1 2 4 8 64 128 a x y s p pc se la ne co ac sq dn le tl mo st lo hi pt ea uf op np (n + k + 1) (nI i) (qld x1 x3 mem i) lev := by
  intro k
  induction k with
  | zero =>
    intro i n e
    have e : i = c := by omega
    subst e
    exact br_t (nI_le (Nat.le_refl i) (by omega)) h
  | succ k ih =>
    intro i n e
    refine br_f (nI_ge (by omega) (by omega)) (br_f (nI_ge (b := 4) (by omega) (by decide)) (And.intro (qb_in _) ?_))
    refine nm_e ?_
    refine nm_r (nI_1 i) ?_
    exact ih (i + 1) n (by omega)
end
section
variable {len dn co se la ne sq ac : Int32} {mem work now fin lin log : Nat → Int32} {len' dn' co' se' la' ne' sq' ac' : Int32} {mem' work' now' fin' lin' log' : Nat → Int32}
theorem qr_y {post : Int32 → SY → Prop} {p0 acc i r : Int32} {n : Nat} (h1 : ¬ p0 ≤ i) (ht : ∀ post : Int32 → SY → Prop, post r (qy len' dn' co' se' la' ne' sq' ac' mem' work' now' fin' lin' log') → wpY_tick post (qy len dn co se la ne sq ac mem work now fin lin log)) (h : qYr post p0 n (if dn' = 0 then acc + 1 else acc) (i + 1) (qy len' dn' co' se' la' ne' sq' ac' mem' work' now' fin' lin' log')) : qYr post p0 (n + 1) acc i (qy len dn co se la ne sq ac mem work now fin lin log) := by
  refine br_f h1 (ht _ ?_)
  by_cases c : dn' = 0
  · rw [if_pos c] at h
    exact br_t c (nm_e (nm_e h))
  · rw [if_neg c] at h
    exact br_f c (nm_e h)
theorem qs_y {post : Int32 → SY → Prop} {i r : Int32} {n : Nat} (h2 : ¬ 7 < i) (ht : ∀ post : Int32 → SY → Prop, post r (qy len' dn' co' se' la' ne' sq' ac' mem' work' now' fin' lin' log') → wpY_tick post (qy len dn co se la ne sq ac mem work now fin lin log)) (h0 : dn' = 0 → post i (qy len' dn' co' se' la' ne' sq' ac' mem' work' now' fin' lin' log')) (h : ¬ dn' = 0 → qYs post n (i + 1) (qy len' dn' co' se' la' ne' sq' ac' mem' work' now' fin' lin' log')) : qYs post (n + 1) i (qy len dn co se la ne sq ac mem work now fin lin log) := by
  refine br_f h2 (ht _ ?_)
  exact ⟨fun c => h0 c, fun c => nm_e (h c)⟩
theorem yi_78 {post : SY → Prop} {v : Int32} {g : Nat → Int32} (h : post (qy len dn co se la 3 (-1) (-1) (qcy (fun _ => v) g 256) work (upd now 4 36) fin lin log)) : ∀ k i n : Nat, i + k = 256 → wY_init_78 post v len dn co se la ne sq ac (n + k + 1) (nI i) (qcy (fun _ => v) g i) work now fin lin log := by
  intro k
  induction k with
  | zero =>
    intro i n e
    have e : i = 256 := by omega
    subst e
    exact br_t (nI_le (b := 256) (Nat.le_refl 256) (by decide)) (nm_e h)
  | succ k ih =>
    intro i n e
    have hi : i < 256 := by omega
    refine br_f (nI_ge (b := 256) hi (by decide)) (And.intro (vp_in_nI hi (by decide)) ?_)
    refine nm_r (e' := qcy (fun _ => v) g (i + 1)) (by rw [nI_clamp (by omega)]; exact qcy_s (fun _ => v) g i) ?_
    refine nm_r (nI_1 i) ?_
    exact ih (i + 1) n (by omega)
theorem yl_35 {post : Int32 → SY → Prop} {x1 x3 : Int32} {c : Nat} (hc : c ≤ 4) (h : post 0 (qy len dn co se la ne sq ac (qld x1 x3 mem c) work now fin lin log)) : ∀ k i n : Nat, i + k = c → wY_load_35 post x1 (nI c) x3 len dn co se la ne sq ac (n + k + 1) (nI i) (qld x1 x3 mem i) work now fin lin log := by
  intro k
  induction k with
  | zero =>
    intro i n e
    have e : i = c := by omega
    subst e
    exact br_t (nI_le (Nat.le_refl i) (by omega)) h
  | succ k ih =>
    intro i n e
    refine br_f (nI_ge (by omega) (by omega)) (And.intro (qb_in _) ?_)
    refine nm_e ?_
    refine nm_r (nI_1 i) ?_
    exact ih (i + 1) n (by omega)
end
theorem q_run {p0 : Int32} {c : Nat} (hc : c ≤ 64) (hX : ∀ j, j < c → ¬ p0 ≤ nI j) (hE : p0 ≤ nI c ∨ (¬ p0 ≤ nI c ∧ c = 64)) : ∀ (k i : Nat) (acc : Int32) (u : SX) (v : SY), i + k = c → qI u v → ∃ (r : Int32) (u' : SX) (v' : SY), qI u' v' ∧ (∀ (post : Int32 → SX → Prop) (n : Nat), post r u' → qXr post p0 (n + k + 1) acc (nI i) u) ∧ (∀ (post : Int32 → SY → Prop) (n : Nat), post r v' → qYr post (nI c) (n + k + 1) acc (nI i) v) := by
  intro k
  induction k with
  | zero =>
    intro i acc u v e I
    have e : i = c := by omega
    subst e
    refine qI_el (P := fun u v => qI u v → ∃ (r : Int32) (u' : SX) (v' : SY), qI u' v' ∧ (∀ (post : Int32 → SX → Prop) (n : Nat), post r u' → qXr post p0 (n + 0 + 1) acc (nI i) u) ∧ (∀ (post : Int32 → SY → Prop) (n : Nat), post r v' → qYr post (nI i) (n + 0 + 1) acc (nI i) v)) ?_ I I
    intro se la ne co ac sq dn le tl mo st lo hi pt ea uf op np len mem lev work now fin log _ _ _ I
    refine ⟨acc, _, _, I, fun post n h => ?_, fun post n h => br_t (nI_le (Nat.le_refl i) (by omega)) h⟩
    rcases hE with e | ⟨e, rfl⟩
    · exact br_t e h
    · exact br_f e (br_t (nI_le (b := 64) (Nat.le_refl 64) (by decide)) h)
  | succ k ih =>
    intro i acc u v e I
    have hlt : i < c := by omega
    obtain ⟨r, u1, v1, I1, hx, hy⟩ := qT_all I
    refine qI_el (P := fun u v => (∀ post : Int32 → SX → Prop, post r u1 → wpX_tick post u) → (∀ post : Int32 → SY → Prop, post r v1 → wpY_tick post v) → ∃ (r : Int32) (u' : SX) (v' : SY), qI u' v' ∧ (∀ (post : Int32 → SX → Prop) (n : Nat), post r u' → qXr post p0 (n + (k + 1) + 1) acc (nI i) u) ∧ (∀ (post : Int32 → SY → Prop) (n : Nat), post r v' → qYr post (nI c) (n + (k + 1) + 1) acc (nI i) v)) ?_ I hx hy
    intro se la ne co ac sq dn le tl mo st lo hi pt ea uf op np len mem lev work now fin log _ _ _ hx hy
    refine qI_el (P := fun u1 v1 => qI u1 v1 → (∀ post : Int32 → SX → Prop, post r u1 → wpX_tick post (qx (now 0) (now 1) (now 2) (now 3) (now 4) (now 5) se la ne co ac sq dn le tl mo st lo hi pt ea uf op np mem lev)) → (∀ post : Int32 → SY → Prop, post r v1 → wpY_tick post (qy len dn co se la ne sq ac mem work now fin lev log)) → ∃ (r : Int32) (u' : SX) (v' : SY), qI u' v' ∧ (∀ (post : Int32 → SX → Prop) (n : Nat), post r u' → qXr post p0 (n + (k + 1) + 1) acc (nI i) (qx (now 0) (now 1) (now 2) (now 3) (now 4) (now 5) se la ne co ac sq dn le tl mo st lo hi pt ea uf op np mem lev)) ∧ (∀ (post : Int32 → SY → Prop) (n : Nat), post r v' → qYr post (nI c) (n + (k + 1) + 1) acc (nI i) (qy len dn co se la ne sq ac mem work now fin lev log))) ?_ I1 I1 hx hy
    intro se' la' ne' co' ac' sq' dn' le' tl' mo' st' lo' hi' pt' ea' uf' op' np' len' mem' lev' work' now' fin' log' _ _ _ I1 hx hy
    obtain ⟨r2, u2, v2, I2, kx, ky⟩ := ih (i + 1) (if dn' = 0 then acc + 1 else acc) _ _ (by omega) I1
    refine ⟨r2, u2, v2, I2, fun post n h => ?_, fun post n h => ?_⟩
    · refine qr_x (hX i hlt) (nI_ge (b := 64) (by omega) (by decide)) hx ?_
      rw [nI_1]
      exact kx post n h
    · refine qr_y (nI_ge hlt (by omega)) hy ?_
      rw [nI_1]
      exact ky post n h
theorem q_step : ∀ (k i : Nat) (u : SX) (v : SY), i + k = 7 → qI u v → ∃ (r : Int32) (u' : SX) (v' : SY), qI u' v' ∧ (∀ (post : Int32 → SX → Prop) (n : Nat), post r u' → qXs post (n + k + 1) (nI i) (nI i) u) ∧ (∀ (post : Int32 → SY → Prop) (n : Nat), post r v' → qYs post (n + k + 1) (nI (i + 1)) v) := by
  intro k
  induction k with
  | zero =>
    intro i u v e I
    have e : i = 7 := by omega
    subst e
    refine qI_el (P := fun u v => qI u v → ∃ (r : Int32) (u' : SX) (v' : SY), qI u' v' ∧ (∀ (post : Int32 → SX → Prop) (n : Nat), post r u' → qXs post (n + 0 + 1) (nI 7) (nI 7) u) ∧ (∀ (post : Int32 → SY → Prop) (n : Nat), post r v' → qYs post (n + 0 + 1) (nI (7 + 1)) v)) ?_ I I
    intro se la ne co ac sq dn le tl mo st lo hi pt ea uf op np len mem lev work now fin log _ _ _ I
    exact ⟨nI 7, _, _, I, fun post n h => br_t (by decide) h, fun post n h => br_t (by decide) h⟩
  | succ k ih =>
    intro i u v e I
    have hlt : i < 7 := by omega
    obtain ⟨r, u1, v1, I1, hx, hy⟩ := qT_all I
    refine qI_el (P := fun u v => (∀ post : Int32 → SX → Prop, post r u1 → wpX_tick post u) → (∀ post : Int32 → SY → Prop, post r v1 → wpY_tick post v) → ∃ (r : Int32) (u' : SX) (v' : SY), qI u' v' ∧ (∀ (post : Int32 → SX → Prop) (n : Nat), post r u' → qXs post (n + (k + 1) + 1) (nI i) (nI i) u) ∧ (∀ (post : Int32 → SY → Prop) (n : Nat), post r v' → qYs post (n + (k + 1) + 1) (nI (i + 1)) v)) ?_ I hx hy
    intro se la ne co ac sq dn le tl mo st lo hi pt ea uf op np len mem lev work now fin log _ _ _ hx hy
    refine qI_el (P := fun u1 v1 => qI u1 v1 → (∀ post : Int32 → SX → Prop, post r u1 → wpX_tick post (qx (now 0) (now 1) (now 2) (now 3) (now 4) (now 5) se la ne co ac sq dn le tl mo st lo hi pt ea uf op np mem lev)) → (∀ post : Int32 → SY → Prop, post r v1 → wpY_tick post (qy len dn co se la ne sq ac mem work now fin lev log)) → ∃ (r : Int32) (u' : SX) (v' : SY), qI u' v' ∧ (∀ (post : Int32 → SX → Prop) (n : Nat), post r u' → qXs post (n + (k + 1) + 1) (nI i) (nI i) (qx (now 0) (now 1) (now 2) (now 3) (now 4) (now 5) se la ne co ac sq dn le tl mo st lo hi pt ea uf op np mem lev)) ∧ (∀ (post : Int32 → SY → Prop) (n : Nat), post r v' → qYs post (n + (k + 1) + 1) (nI (i + 1)) (qy len dn co se la ne sq ac mem work now fin lev log))) ?_ I1 I1 hx hy
    intro se' la' ne' co' ac' sq' dn' le' tl' mo' st' lo' hi' pt' ea' uf' op' np' len' mem' lev' work' now' fin' log' _ _ _ I1 hx hy
    by_cases c : dn' = 0
    · refine ⟨nI (i + 1), _, _, I1, fun post n h => ?_, fun post n h => ?_⟩
      · refine qs_x (nI_ge (b := 7) hlt (by decide)) hx (fun _ => ?_) (fun z => absurd c z)
        rw [nI_1]; exact h
      · exact qs_y (fun z => absurd ((nI_ltI (a := 7) (b := i + 1) (by decide) (by omega)).mp z) (by omega)) hy (fun _ => h) (fun z => absurd c z)
    · obtain ⟨r2, u2, v2, I2, kx, ky⟩ := ih (i + 1) _ _ (by omega) I1
      refine ⟨r2, u2, v2, I2, fun post n h => ?_, fun post n h => ?_⟩
      · refine qs_x (nI_ge (b := 7) hlt (by decide)) hx (fun z => absurd z c) (fun _ => ?_)
        rw [nI_1]
        exact kx post n h
      · refine qs_y (fun z => absurd ((nI_ltI (a := 7) (b := i + 1) (by decide) (by omega)).mp z) (by omega)) hy (fun z => absurd z c) (fun _ => ?_)
        rw [nI_1]
        exact ky post n h
end
section
/-! what is owed -/
def i_Rel (k : Nat) (u : SX) (v : SY) : Prop := qI u v
theorem i_up {k : Nat} {u : SX} {v : SY} (h : i_Rel k u v) : i_Rel (k + 4) u v := h
theorem qI_mk {se la ne co ac sq dn le tl mo st lo hi pt ea uf op np len : Int32} {mem lev work now fin log : Nat → Int32} (hM : qM mem) (hw : ∀ i, 256 ≤ i → work i = 0) (hR : qR now) (hf : ∀ i, 6 ≤ i → fin i = 0) (hne : ne = 0 ∨ ne = 1 ∨ ne = 2 ∨ ne = 3) (hdn : dn = 0 ∨ ∃ d r, dn = nI d ∧ qR fin ∧ Fu now log fin len sq tl mo st r d le lo hi pt ea uf op np mem) : qI (qx (now 0) (now 1) (now 2) (now 3) (now 4) (now 5) se la ne co ac sq dn le tl mo st lo hi pt ea uf op np mem lev) (qy len dn co se la ne sq ac mem work now fin lev log) :=
  ⟨se, la, ne, co, ac, sq, dn, le, tl, mo, st, lo, hi, pt, ea, uf, op, np, len, mem, lev, work, now, fin, log, rfl, rfl, ⟨hM, hw, hR, hf⟩, hne, hdn⟩
theorem qI_0 {v : Int32} (hv : v &&& 255 = v) : qI (qx 0 0 0 0 36 0 0 0 3 0 (-1) (-1) 0 0 0 0 0 0 0 0 0 0 0 0 (qcy (fun _ => v) (fun _ => 0) 256) (fun _ => 0)) (qy 0 0 0 0 0 3 (-1) (-1) (qcy (fun _ => v) (fun _ => 0) 256) (fun _ => 0) (upd (fun _ => 0) 4 36) (fun _ => 0) (fun _ => 0) (fun _ => 0)) := by
  refine qI_mk (now := upd (fun _ => 0) 4 36) ⟨fun i => ?_, fun i hi => ?_⟩ (fun _ _ => rfl) ⟨⟨?_, ?_, ?_, ?_⟩, ⟨?_, ?_⟩, fun i hi => ?_⟩ (fun _ _ => rfl) (by decide) (Or.inl rfl)
  · unfold qcy
    by_cases c : i < 256
    · rw [if_pos c]; exact hv
    · rw [if_neg c]; exact (by decide : (0 : Int32) &&& 255 = 0)
  · unfold qcy
    rw [if_neg (by omega)]
  · show (0 : Int32) &&& 255 = 0; decide
  · show (0 : Int32) &&& 255 = 0; decide
  · show (0 : Int32) &&& 255 = 0; decide
  · show (0 : Int32) &&& 255 = 0; decide
  · show (36 : Int32) &&& 239 = 36; decide
  · show (0 : Int32) &&& 65535 = 0; decide
  · rw [pk_un (by omega)]
theorem qi_x {post : SX → Prop} {v : Int32} (h : post (qx 0 0 0 0 36 0 0 0 3 0 (-1) (-1) 0 0 0 0 0 0 0 0 0 0 0 0 (qcy (fun _ => v) (fun _ => 0) 256) (fun _ => 0))) : ∃ n : Nat, wX_init_191 post v 0 1 2 3 4 5 6 7 8 9 10 11 12 13 14 15 16 17 18 19 1 2 4 8 64 128 0 0 0 0 0 0 0 0 0 0 0 0 0 0 0 0 0 0 0 0 0 0 0 0 n 0 (fun _ => 0) (fun _ => 0) := by
  have k := xi_191 (p := 0) (ne := 0) (ac := 0) (sq := 0) h 256 0 0 rfl
  rw [qcy_0] at k
  exact ⟨_, k⟩
theorem qi_y {post : SY → Prop} {v : Int32} (h : post (qy 0 0 0 0 0 3 (-1) (-1) (qcy (fun _ => v) (fun _ => 0) 256) (fun _ => 0) (upd (fun _ => 0) 4 36) (fun _ => 0) (fun _ => 0) (fun _ => 0))) : ∃ n : Nat, wY_init_78 post v 0 0 0 0 0 0 0 0 n 0 (fun _ => 0) (fun _ => 0) (fun _ => 0) (fun _ => 0) (fun _ => 0) (fun _ => 0) := by
  have k := yi_78 (now := fun _ => 0) (ne := 0) (sq := 0) (ac := 0) h 256 0 0 rfl
  rw [qcy_0] at k
  exact ⟨_, k⟩
theorem i_vc0 (k0 : Int32) : wpX_init (fun u => wpY_init (fun v => i_Rel 1 u v) k0) k0 := by
  unfold wpX_init
  by_cases h0 : 0 ≤ k0
  · refine br_t h0 ?_
    unfold wX_init_177
    by_cases h1 : k0 ≤ 255
    · refine br_t h1 (qi_x ?_)
      refine br_t h0 (br_t h1 (qi_y ?_))
      obtain ⟨j, hj, rfl⟩ := nI_of2 (n := 255) (by decide) (Int32.not_lt.mpr h0) h1
      exact qI_0 (qb_nI (by omega))
    · refine br_f h1 (qi_x ?_)
      refine br_t h0 (br_f h1 (qi_y ?_))
      exact qI_0 (by decide)
  · refine br_f h0 ?_
    unfold wX_init_177
    refine br_t (by decide) (qi_x ?_)
    refine br_f h0 (qi_y ?_)
    exact qI_0 (by decide)
theorem i_vc_load {k : Nat} {u : SX} {v : SY} (I : i_Rel k u v) (hk : k + 4 ≤ 2049) (v1 : Int32) (v2 : Int32) (v3 : Int32) : wpX_load (fun r u' => wpY_load (fun r' v' => r' = r ∧ i_Rel (k + 4) u' v') v v1 v2 v3) u v1 v2 v3 := by
  refine qI_el (P := fun u v => qI u v → wpX_load (fun r u' => wpY_load (fun r' v' => r' = r ∧ qI u' v') v v1 v2 v3) u v1 v2 v3) ?_ I I
  intro se la ne co ac sq dn le tl mo st lo hi pt ea uf op np len mem lev work now fin log hF hne hdn I
  unfold wpX_load wpY_load
  by_cases c0 : dn = 0
  · refine br_t c0 ?_
    by_cases c1 : v1 < 0
    · exact br_t c1 (br_t c0 (br_t c1 ⟨rfl, I⟩))
    · refine br_f c1 ?_
      by_cases c2 : 65535 < v1
      · exact br_t c2 (br_t c0 (br_f c1 (br_t c2 ⟨rfl, I⟩)))
      · refine br_f c2 ?_
        by_cases c3 : v2 < 1
        · exact br_t c3 (br_t c0 (br_f c1 (br_f c2 (br_t c3 ⟨rfl, I⟩))))
        · refine br_f c3 ?_
          by_cases c4 : v2 ≤ 4
          · refine br_t c4 ?_
            have c0' : ¬ v2 < 0 := by
              intro z
              apply c3
              rw [Int32.lt_iff_toInt_lt] at z ⊢
              rw [show (0 : Int32).toInt = 0 from by decide] at z
              rw [show (1 : Int32).toInt = 1 from by decide]
              omega
            obtain ⟨c, hc, e⟩ := nI_of2 (M := 4) (n := 4) (by decide) c0' c4
            subst e
            refine ⟨0 + c + 1, xl_35 hc ?_ c 0 0 (by omega)⟩
            refine br_t c0 (br_f c1 (br_f c2 (br_f c3 (br_t c4 ⟨0 + c + 1, yl_35 hc ?_ c 0 0 (by omega)⟩))))
            obtain ⟨hM, hw, hR, hf⟩ := hF
            exact ⟨rfl, qI_mk (qld_M hM c) hw hR hf hne (Or.inl c0)⟩
          · exact br_f c4 (br_t c0 (br_f c1 (br_f c2 (br_f c3 (br_f c4 ⟨rfl, I⟩)))))
  · exact br_f c0 (br_f c0 ⟨rfl, I⟩)
theorem i_vc_setReg {k : Nat} {u : SX} {v : SY} (I : i_Rel k u v) (hk : k + 4 ≤ 2049) (v1 : Int32) (v2 : Int32) : wpX_setReg (fun r u' => wpY_setReg (fun r' v' => r' = r ∧ i_Rel (k + 4) u' v') v v1 v2) u v1 v2 := by
  refine qI_el (P := fun u v => qI u v → wpX_setReg (fun r u' => wpY_setReg (fun r' v' => r' = r ∧ qI u' v') v v1 v2) u v1 v2) ?_ I I
  intro se la ne co ac sq dn le tl mo st lo hi pt ea uf op np len mem lev work now fin log hF hne hdn I
  unfold wpX_setReg wpY_setReg
  by_cases c0 : dn = 0
  · refine br_t c0 ?_
    by_cases c1 : v1 < 0
    · exact br_t c1 (br_t c0 (br_t c1 ⟨rfl, I⟩))
    · refine br_f c1 ?_
      by_cases c2 : v1 ≤ 5
      · refine br_t c2 ?_
        obtain ⟨hM, hw, hR, hf⟩ := hF
        obtain ⟨j, hj, e⟩ := nI_of2 (M := 5) (n := 5) (by decide) c1 c2
        rcases (show j = 0 ∨ j = 1 ∨ j = 2 ∨ j = 3 ∨ j = 4 ∨ j = 5 by omega) with rfl | rfl | rfl | rfl | rfl | rfl
        · subst e
          refine br_t (by decide) (nm_e ?_)
          refine br_t c0 (br_f c1 (br_t c2 ?_))
          refine br_f (by decide) (br_f (by decide) (And.intro (vp_in_iff.mpr (by decide)) (nm_r (e' := upd now 0 (v2 &&& 255)) rfl ?_)))
          exact ⟨rfl, qI_mk (now := upd now 0 (v2 &&& 255)) hM hw (qR_0 hR (qb_and _)) hf hne (Or.inl c0)⟩
        · subst e
          refine br_f (by decide) (br_t (by decide) (nm_e ?_))
          refine br_t c0 (br_f c1 (br_t c2 ?_))
          refine br_f (by decide) (br_f (by decide) (And.intro (vp_in_iff.mpr (by decide)) (nm_r (e' := upd now 1 (v2 &&& 255)) rfl ?_)))
          exact ⟨rfl, qI_mk (now := upd now 1 (v2 &&& 255)) hM hw (qR_1 hR (qb_and _)) hf hne (Or.inl c0)⟩
        · subst e
          refine br_f (by decide) (br_f (by decide) (br_t (by decide) (nm_e ?_)))
          refine br_t c0 (br_f c1 (br_t c2 ?_))
          refine br_f (by decide) (br_f (by decide) (And.intro (vp_in_iff.mpr (by decide)) (nm_r (e' := upd now 2 (v2 &&& 255)) rfl ?_)))
          exact ⟨rfl, qI_mk (now := upd now 2 (v2 &&& 255)) hM hw (qR_2 hR (qb_and _)) hf hne (Or.inl c0)⟩
        · subst e
          refine br_f (by decide) (br_f (by decide) (br_f (by decide) (br_t (by decide) (nm_e ?_))))
          refine br_t c0 (br_f c1 (br_t c2 ?_))
          refine br_f (by decide) (br_f (by decide) (And.intro (vp_in_iff.mpr (by decide)) (nm_r (e' := upd now 3 (v2 &&& 255)) rfl ?_)))
          exact ⟨rfl, qI_mk (now := upd now 3 (v2 &&& 255)) hM hw (qR_3 hR (qb_and _)) hf hne (Or.inl c0)⟩
        · subst e
          refine br_f (by decide) (br_f (by decide) (br_f (by decide) (br_f (by decide) (br_t (by decide) (nm_e ?_)))))
          refine br_t c0 (br_f c1 (br_t c2 ?_))
          refine br_f (by decide) (br_t (by decide) (And.intro (vp_in_iff.mpr (by decide)) (nm_r (e' := upd now 4 ((v2 &&& 207) ||| 32)) rfl ?_)))
          exact ⟨rfl, qI_mk (now := upd now 4 ((v2 &&& 207) ||| 32)) hM hw (qR_4 hR (q_pl _)) hf hne (Or.inl c0)⟩
        · subst e
          refine br_f (by decide) (br_f (by decide) (br_f (by decide) (br_f (by decide) (br_f (by decide) (nm_e ?_)))))
          refine br_t c0 (br_f c1 (br_t c2 ?_))
          refine br_t (by decide) (And.intro (vp_in_iff.mpr (by decide)) (nm_r (e' := upd now 5 (v2 &&& 65535)) rfl ?_))
          exact ⟨rfl, qI_mk (now := upd now 5 (v2 &&& 65535)) hM hw (qR_5 hR (qb_64 _)) hf hne (Or.inl c0)⟩
      · exact br_f c2 (br_t c0 (br_f c1 (br_f c2 ⟨rfl, I⟩)))
  · exact br_f c0 (br_f c0 ⟨rfl, I⟩)
theorem i_vc_line {k : Nat} {u : SX} {v : SY} (I : i_Rel k u v) (hk : k + 4 ≤ 2049) (v1 : Int32) (v2 : Int32) : wpX_line (fun r u' => wpY_line (fun r' v' => r' = r ∧ i_Rel (k + 4) u' v') v v1 v2) u v1 v2 := by
  refine qI_el (P := fun u v => qI u v → wpX_line (fun r u' => wpY_line (fun r' v' => r' = r ∧ qI u' v') v v1 v2) u v1 v2) ?_ I I
  intro se la ne co ac sq dn le tl mo st lo hi pt ea uf op np len mem lev work now fin log hF hne hdn I
  unfold wpX_line wpY_line
  by_cases c1 : v1 < 0
  · exact br_t c1 (br_t c1 ⟨rfl, I⟩)
  · refine br_f c1 ?_
    by_cases c2 : 2 < v1
    · exact br_t c2 (br_f c1 (br_t c2 ⟨rfl, I⟩))
    · refine br_f c2 ?_
      by_cases c3 : v2 < 0
      · exact br_t c3 (br_f c1 (br_f c2 (br_t c3 ⟨rfl, I⟩)))
      · refine br_f c3 ?_
        by_cases c4 : v2 ≤ 1
        · have hin : vp_in v1 3 := by
            obtain ⟨j, hj, e⟩ := nI_of2 (M := 2) (n := 2) (by decide) c1 (Int32.not_lt.mp c2)
            rw [e]
            exact vp_in_nI (by omega) (by decide)
          obtain ⟨hM, hw, hR, hf⟩ := hF
          refine br_t c4 (And.intro hin (nm_e ?_))
          refine br_f c1 (br_f c2 (br_f c3 (br_t c4 (And.intro hin (nm_e ?_)))))
          exact ⟨rfl, qI_mk hM hw hR hf hne hdn⟩
        · exact br_f c4 (br_f c1 (br_f c2 (br_f c3 (br_f c4 ⟨rfl, I⟩))))
theorem i_vc_tick {k : Nat} {u : SX} {v : SY} (I : i_Rel k u v) (hk : k + 4 ≤ 2049) : wpX_tick (fun r u' => wpY_tick (fun r' v' => r' = r ∧ i_Rel (k + 4) u' v') v) u := by
  obtain ⟨r, u', v', I', hx, hy⟩ := qT_all I
  exact hx _ (hy _ ⟨rfl, I'⟩)
theorem i_vc_run {k : Nat} {u : SX} {v : SY} (I : i_Rel k u v) (hk : k + 4 ≤ 2049) (v1 : Int32) : wpX_run (fun r u' => wpY_run (fun r' v' => r' = r ∧ i_Rel (k + 4) u' v') v v1) u v1 := by
  have K : ∀ c : Nat, c ≤ 64 → (∀ j, j < c → ¬ v1 ≤ nI j) → (v1 ≤ nI c ∨ (¬ v1 ≤ nI c ∧ c = 64)) → ∃ (r : Int32) (u' : SX) (v' : SY), qI u' v' ∧ (∀ (post : Int32 → SX → Prop), post r u' → qXr post v1 (0 + c + 1) 0 (nI 0) u) ∧ (∀ (post : Int32 → SY → Prop), post r v' → qYr post (nI c) (0 + c + 1) 0 (nI 0) v) := by
    intro c h1 h2 h3
    obtain ⟨r, u', v', I', hx, hy⟩ := q_run h1 h2 h3 c 0 0 u v (by omega) I
    exact ⟨r, u', v', I', fun post h => hx post 0 h, fun post h => hy post 0 h⟩
  have fin1 : ∀ c : Nat, (∃ (r : Int32) (u' : SX) (v' : SY), qI u' v' ∧ (∀ (post : Int32 → SX → Prop), post r u' → qXr post v1 (0 + c + 1) 0 (nI 0) u) ∧ (∀ (post : Int32 → SY → Prop), post r v' → qYr post (nI c) (0 + c + 1) 0 (nI 0) v)) → c ≤ 64 → ((0 ≤ v1 ∧ v1 ≤ 64 ∧ v1 = nI c) ∨ (0 ≤ v1 ∧ ¬ v1 ≤ 64 ∧ c = 64) ∨ (¬ 0 ≤ v1 ∧ c = 0)) → wpX_run (fun r u' => wpY_run (fun r' v' => r' = r ∧ i_Rel (k + 4) u' v') v v1) u v1 := by
    intro c ⟨r, u', v', I', hx, hy⟩ hc hY
    refine qXr_w u (hx _ ?_)
    refine qYr_w hc hY v (hy _ ?_)
    exact ⟨rfl, I'⟩
  by_cases h0 : 0 ≤ v1
  · by_cases h1 : v1 ≤ 64
    · obtain ⟨c, hc, e⟩ := nI_of2 (M := 64) (n := 64) (by decide) (Int32.not_lt.mpr h0) h1
      subst e
      exact fin1 c (K c hc (fun j hj => nI_ge hj (by omega)) (Or.inl (nI_le (Nat.le_refl c) (by omega)))) hc (Or.inl ⟨h0, h1, rfl⟩)
    · have h64 : ¬ v1 ≤ nI 64 := h1
      exact fin1 64 (K 64 (by omega) (fun j hj z => h1 (Int32.le_trans z (nI_le (b := 64) (by omega) (by decide)))) (Or.inr ⟨h64, rfl⟩)) (by omega) (Or.inr (Or.inl ⟨h0, h1, rfl⟩))
  · exact fin1 0 (K 0 (by omega) (fun j hj => absurd hj (by omega)) (Or.inl (Int32.le_of_lt (Int32.not_le.mp h0)))) (by omega) (Or.inr (Or.inr ⟨h0, rfl⟩))
theorem i_vc_step {k : Nat} {u : SX} {v : SY} (I : i_Rel k u v) (hk : k + 4 ≤ 2049) : wpX_step (fun r u' => wpY_step (fun r' v' => r' = r ∧ i_Rel (k + 4) u' v') v) u := by
  obtain ⟨r, u', v', I', hx, hy⟩ := q_step 7 0 u v (by omega) I
  refine qXs_w u (hx _ 0 ?_)
  refine qYs_w v (hy _ 0 ?_)
  exact ⟨rfl, I'⟩
theorem i_vc_reg {k : Nat} {u : SX} {v : SY} (I : i_Rel k u v) (hk : k + 4 ≤ 2049) (v1 : Int32) : wpX_reg (fun r => wpY_reg (fun r' => r' = r ∧ i_Rel (k + 4) u v) v v1) u v1 := by
  refine qI_el (P := fun u v => qI u v → wpX_reg (fun r => wpY_reg (fun r' => r' = r ∧ qI u v) v v1) u v1) ?_ I I
  intro se la ne co ac sq dn le tl mo st lo hi pt ea uf op np len mem lev work now fin log hF hne hdn I
  unfold wpX_reg wpY_reg
  by_cases c1 : v1 < 0
  · have hn : ∀ z : Int32, ¬ z < 0 → ¬ v1 = z := fun z hz e => hz (e ▸ c1)
    refine br_f (hn 0 (by decide)) (br_f (hn 1 (by decide)) (br_f (hn 2 (by decide)) (br_f (hn 3 (by decide)) (br_f (hn 4 (by decide)) (br_f (hn 5 (by decide)) ?_)))))
    exact br_t c1 ⟨rfl, I⟩
  · by_cases c2 : v1 ≤ 5
    · obtain ⟨j, hj, e⟩ := nI_of2 (M := 5) (n := 5) (by decide) c1 c2
      rcases (show j = 0 ∨ j = 1 ∨ j = 2 ∨ j = 3 ∨ j = 4 ∨ j = 5 by omega) with rfl | rfl | rfl | rfl | rfl | rfl
      · subst e
        refine br_t (by decide) (?_)
        exact br_f c1 (br_t c2 (And.intro (vp_in_iff.mpr (by decide)) ⟨rfl, I⟩))
      · subst e
        refine br_f (by decide) (br_t (by decide) (?_))
        exact br_f c1 (br_t c2 (And.intro (vp_in_iff.mpr (by decide)) ⟨rfl, I⟩))
      · subst e
        refine br_f (by decide) (br_f (by decide) (br_t (by decide) (?_)))
        exact br_f c1 (br_t c2 (And.intro (vp_in_iff.mpr (by decide)) ⟨rfl, I⟩))
      · subst e
        refine br_f (by decide) (br_f (by decide) (br_f (by decide) (br_t (by decide) (?_))))
        exact br_f c1 (br_t c2 (And.intro (vp_in_iff.mpr (by decide)) ⟨rfl, I⟩))
      · subst e
        refine br_f (by decide) (br_f (by decide) (br_f (by decide) (br_f (by decide) (br_t (by decide) (?_)))))
        exact br_f c1 (br_t c2 (And.intro (vp_in_iff.mpr (by decide)) ⟨rfl, I⟩))
      · subst e
        refine br_f (by decide) (br_f (by decide) (br_f (by decide) (br_f (by decide) (br_f (by decide) (br_t (by decide) (?_))))))
        exact br_f c1 (br_t c2 (And.intro (vp_in_iff.mpr (by decide)) ⟨rfl, I⟩))
    · have hn : ∀ z : Int32, z ≤ 5 → ¬ v1 = z := fun z hz e => c2 (e ▸ hz)
      refine br_f (hn 0 (by decide)) (br_f (hn 1 (by decide)) (br_f (hn 2 (by decide)) (br_f (hn 3 (by decide)) (br_f (hn 4 (by decide)) (br_f (hn 5 (by decide)) ?_)))))
      exact br_f c1 (br_f c2 ⟨rfl, I⟩)
theorem i_vc_peek {k : Nat} {u : SX} {v : SY} (I : i_Rel k u v) (hk : k + 4 ≤ 2049) (v1 : Int32) : wpX_peek (fun r => wpY_peek (fun r' => r' = r ∧ i_Rel (k + 4) u v) v v1) u v1 := by
  refine qI_el (P := fun u v => qI u v → wpX_peek (fun r => wpY_peek (fun r' => r' = r ∧ qI u v) v v1) u v1) ?_ I I
  intro se la ne co ac sq dn le tl mo st lo hi pt ea uf op np len mem lev work now fin log hF hne hdn I
  unfold wpX_peek wpY_peek
  by_cases c1 : v1 < 0
  · exact br_t c1 (br_t c1 ⟨rfl, I⟩)
  · by_cases c2 : v1 ≤ 65535
    · exact br_f c1 (br_t c2 (And.intro (qb_in _) (br_f c1 (br_t c2 (And.intro (qb_in _) ⟨rfl, I⟩)))))
    · exact br_f c1 (br_f c2 (br_f c1 (br_f c2 ⟨rfl, I⟩)))
theorem i_vc_phase {k : Nat} {u : SX} {v : SY} (I : i_Rel k u v) (hk : k + 4 ≤ 2049) : wpX_phase (fun r => wpY_phase (fun r' => r' = r ∧ i_Rel (k + 4) u v) v) u := by
  refine qI_el (P := fun u v => qI u v → wpX_phase (fun r => wpY_phase (fun r' => r' = r ∧ qI u v) v) u) ?_ I I
  intro se la ne co ac sq dn le tl mo st lo hi pt ea uf op np len mem lev work now fin log hF hne hdn I
  exact ⟨rfl, I⟩
theorem i_vc_cycles {k : Nat} {u : SX} {v : SY} (I : i_Rel k u v) (hk : k + 4 ≤ 2049) : wpX_cycles (fun r => wpY_cycles (fun r' => r' = r ∧ i_Rel (k + 4) u v) v) u := by
  refine qI_el (P := fun u v => qI u v → wpX_cycles (fun r => wpY_cycles (fun r' => r' = r ∧ qI u v) v) u) ?_ I I
  intro se la ne co ac sq dn le tl mo st lo hi pt ea uf op np len mem lev work now fin log hF hne hdn I
  exact ⟨rfl, I⟩
theorem i_vc_sequence {k : Nat} {u : SX} {v : SY} (I : i_Rel k u v) (hk : k + 4 ≤ 2049) : wpX_sequence (fun r => wpY_sequence (fun r' => r' = r ∧ i_Rel (k + 4) u v) v) u := by
  refine qI_el (P := fun u v => qI u v → wpX_sequence (fun r => wpY_sequence (fun r' => r' = r ∧ qI u v) v) u) ?_ I I
  intro se la ne co ac sq dn le tl mo st lo hi pt ea uf op np len mem lev work now fin log hF hne hdn I
  exact ⟨rfl, I⟩
theorem i_vc_pending {k : Nat} {u : SX} {v : SY} (I : i_Rel k u v) (hk : k + 4 ≤ 2049) : wpX_pending (fun r => wpY_pending (fun r' => r' = r ∧ i_Rel (k + 4) u v) v) u := by
  refine qI_el (P := fun u v => qI u v → wpX_pending (fun r => wpY_pending (fun r' => r' = r ∧ qI u v) v) u) ?_ I I
  intro se la ne co ac sq dn le tl mo st lo hi pt ea uf op np len mem lev work now fin log hF hne hdn I
  exact ⟨rfl, I⟩
theorem i_vc_pins {k : Nat} {u : SX} {v : SY} (I : i_Rel k u v) (hk : k + 4 ≤ 2049) : wpX_pins (fun r => wpY_pins (fun r' => r' = r ∧ i_Rel (k + 4) u v) v) u := by
  refine qI_el (P := fun u v => qI u v → wpX_pins (fun r => wpY_pins (fun r' => r' = r ∧ qI u v) v) u) ?_ I I
  intro se la ne co ac sq dn le tl mo st lo hi pt ea uf op np len mem lev work now fin log hF hne hdn I
  exact ⟨rfl, I⟩
theorem i_vc_lastAccess {k : Nat} {u : SX} {v : SY} (I : i_Rel k u v) (hk : k + 4 ≤ 2049) : wpX_lastAccess (fun r => wpY_lastAccess (fun r' => r' = r ∧ i_Rel (k + 4) u v) v) u := by
  refine qI_el (P := fun u v => qI u v → wpX_lastAccess (fun r => wpY_lastAccess (fun r' => r' = r ∧ qI u v) v) u) ?_ I I
  intro se la ne co ac sq dn le tl mo st lo hi pt ea uf op np len mem lev work now fin log hF hne hdn I
  exact ⟨rfl, I⟩
end
