section
/-! rows of the kit to paste (starting text) -/
theorem pk_us {f : Nat → Int32} {k : Nat} {x : Int32} : upd f k x k = x := if_pos rfl
theorem pk_un {f : Nat → Int32} {k j : Nat} {x : Int32} (h : j ≠ k) : upd f k x j = f j := if_neg h
theorem pk_uLs {f : Nat → Int64} {k : Nat} {x : Int64} : vp_updL f k x k = x := if_pos rfl
theorem pk_uLn {f : Nat → Int64} {k j : Nat} {x : Int64} (h : j ≠ k) : vp_updL f k x j = f j := if_neg h
theorem pk_sub {a b : Nat} (h : b ≤ a) : nI a - nI b = nI (a - b) := by
  obtain ⟨c, rfl⟩ : ∃ c, a = c + b := ⟨a - b, by omega⟩
  rw [← nI_add, Int32.add_sub_cancel, Nat.add_sub_cancel]
theorem pk_m1 (n : Nat) : nI (n + 1) + (-1) = nI n := by
  rw [← nI_1, Int32.add_assoc, show (1 : Int32) + (-1) = 0 from rfl, Int32.add_zero]
theorem pk_mul (a b : Nat) : nI a * nI b = nI (a * b) := (Int32.ofNat_mul a b).symm
theorem pk_ix (x : Int32) {n : Nat} (hn : n < 2 ^ 31) : x < 0 ∨ nI n ≤ x ∨ ∃ j : Nat, j < n ∧ x = nI j := by
  by_cases h : x < 0
  · exact Or.inl h
  · obtain ⟨j, hj, rfl⟩ := nI_of h
    by_cases h2 : j < n
    · exact Or.inr (Or.inr ⟨j, h2, rfl⟩)
    · exact Or.inr (Or.inl (nI_le (by omega) hj))
theorem pk_in {x : Int32} (n N : Nat) (h : n < N) (hx : x = nI n := by rfl) (hN : N < 2 ^ 31 := by omega) : vp_in x N := by
  subst hx
  exact vp_in_nI h hN
theorem pk_cl {x : Int32} (n : Nat) (hx : x = nI n := by rfl) (h : n < 2 ^ 31 := by omega) : x.toNatClampNeg = n := by
  subst hx
  exact nI_clamp h
theorem pk_tn {n : Nat} (h : n < 2 ^ 32) : (nI n).toBitVec.toNat = n := Nat.mod_eq_of_lt h
theorem pk_ns (z : Int32) : narrow .short (.int z.toInt16.toInt32) = .int z.toInt16.toInt32 := congrArg Value.int (by simp)
theorem pk_charN {q : Nat} (hq : q < 65536) : narrow .char (.int (nI q)) = .int (nI q) ∧ fits .char (.int (nI q)) = true := by
  constructor
  · have e : (nI q).toUInt32.toUInt16.toUInt32.toInt32 = nI q := by
      apply Int32.toBitVec_inj.mp
      apply BitVec.eq_of_toNat_eq
      show (nI q).toUInt32.toUInt16.toUInt32.toNat = q % 2 ^ 32
      rw [UInt16.toNat_toUInt32, UInt32.toNat_toUInt16, show (nI q).toUInt32.toNat = q % 2 ^ 32 from rfl]
      omega
    exact congrArg Value.int e
  · have a : (0 : Int32) ≤ nI q := nI_pos' (by omega)
    have b : nI q ≤ 65535 := nI_le (b := 65535) (by omega) (by decide)
    show (decide ((0 : Int32) ≤ nI q) && decide (nI q ≤ 65535)) = true
    rw [decide_eq_true a, decide_eq_true b]
    rfl
theorem pk_char (x : Int32) : (x.toUInt32 % 65536).toInt32 = nI (x.toBitVec.toNat % 65536) := by
  apply Int32.toBitVec_inj.mp
  apply BitVec.eq_of_toNat_eq
  rw [pk_tn (by omega)]
  show (x.toUInt32 % 65536).toNat = _
  rw [UInt32.toNat_mod]
  rfl
theorem pk_nc (x : Int32) : narrow .char (.int (x.toUInt32 % 65536).toInt32) = .int (x.toUInt32 % 65536).toInt32 := by
  rw [pk_char]
  exact (pk_charN (Nat.mod_lt _ (by decide))).1
theorem pk_vb (z : Int32) : vp_nar .byte z.toInt8.toInt32 = z.toInt8.toInt32 := by rw [vp_nar_byte]; simp
theorem pk_vs (z : Int32) : vp_nar .short z.toInt16.toInt32 = z.toInt16.toInt32 := by rw [vp_nar_short]; simp
theorem pk_vc (z : Int32) : vp_nar .char (z.toUInt32 % 65536).toInt32 = (z.toUInt32 % 65536).toInt32 := Value.int.inj (pk_nc z)
def bt (x : Int32) (i : Nat) : Bool := x.toBitVec.getLsbD i
theorem b_ext {x y : Int32} (h : ∀ i, i < 32 → bt x i = bt y i) : x = y := Int32.toBitVec_inj.mp (BitVec.eq_of_getLsbD_eq (fun i hi => h i hi))
theorem b_or (x y : Int32) (i : Nat) : bt (x ||| y) i = (bt x i || bt y i) := by unfold bt; rw [Int32.toBitVec_or, BitVec.getLsbD_or]
theorem b_and (x y : Int32) (i : Nat) : bt (x &&& y) i = (bt x i && bt y i) := by unfold bt; rw [Int32.toBitVec_and, BitVec.getLsbD_and]
theorem b_xor (x y : Int32) (i : Nat) : bt (x ^^^ y) i = (bt x i ^^ bt y i) := by unfold bt; rw [Int32.toBitVec_xor, BitVec.getLsbD_xor]
theorem b_big {x : Int32} {i : Nat} (h : 32 ≤ i) : bt x i = false := BitVec.getLsbD_of_ge _ _ h
theorem b_m1 : ∀ i, i < 32 → bt (-1) i = true := by decide +kernel
theorem b_0 (i : Nat) : bt 0 i = false := BitVec.getLsbD_zero
theorem s_l : ∀ n, n < 32 → ((nI n &&& 31).toBitVec.smod 32).toNat = n := by decide +kernel
theorem b_shl (n : Nat) (hn : n < 32) (x : Int32) {i : Nat} (hi : i < 32) : bt (x <<< (nI n &&& 31)) i = (decide (n ≤ i) && bt x (i - n)) := by
  unfold bt
  rw [Int32.toBitVec_shiftLeft]
  show (x.toBitVec <<< ((nI n &&& 31).toBitVec.smod 32).toNat).getLsbD i = _
  rw [s_l n hn, BitVec.getLsbD_shiftLeft]
  rcases Nat.lt_or_ge i n with h | h
  · simp [h, Nat.not_le.mpr h]
  · simp [hi, h, Nat.not_lt.mpr h]
theorem b_sshr (n : Nat) (hn : n < 32) (x : Int32) {i : Nat} (hi : i < 32) : bt (x >>> (nI n &&& 31)) i = if n + i < 32 then bt x (n + i) else bt x 31 := by
  unfold bt
  rw [Int32.toBitVec_shiftRight]
  show (x.toBitVec.sshiftRight ((nI n &&& 31).toBitVec.smod 32).toNat).getLsbD i = _
  rw [s_l n hn, BitVec.getLsbD_sshiftRight, BitVec.msb_eq_getLsbD_last]
  simp [hi]
theorem ts_nf {x : Bool} (h : ¬ x = false) : x = true := by cases x <;> first | rfl | exact absurd rfl h
theorem ts_nt {x : Bool} (h : ¬ x = true) : x = false := by cases x <;> first | rfl | exact absurd rfl h
theorem ts_bit {w : Int64} {s : UInt64} {j : Nat} (hj : j < 64) (hs : s.toNat = j) : ((w.toUInt64 >>> s).toInt64 &&& 1) = 0 ↔ w.toBitVec.getLsbD j = false := by
  have e : (w.toUInt64 >>> s).toInt64.toBitVec = w.toBitVec >>> j := by
    apply BitVec.eq_of_toNat_eq
    show (w.toUInt64 >>> s).toNat = _
    rw [UInt64.toNat_shiftRight, hs, Nat.mod_eq_of_lt hj, BitVec.toNat_ushiftRight]
    rfl
  rw [← Int64.toBitVec_inj, Int64.toBitVec_and, e]
  show w.toBitVec >>> j &&& 1#64 = 0#64 ↔ _
  constructor
  · intro h
    have t := congrArg (fun x => x.getLsbD 0) h
    simpa using t
  · intro h
    apply BitVec.eq_of_getLsbD_eq
    intro i hi
    cases i with
    | zero => simp [h]
    | succ i => simp
theorem ts_or {w m : Int64} {j : Nat} (hj : j < 64) (hm : m.toBitVec = BitVec.twoPow 64 j) : (w ||| m) = w ↔ w.toBitVec.getLsbD j = true := by
  rw [← Int64.toBitVec_inj, Int64.toBitVec_or, hm]
  constructor
  · intro h
    have t := congrArg (fun x => x.getLsbD j) h
    simp only [BitVec.getLsbD_or, BitVec.getLsbD_twoPow] at t
    simpa [hj] using t.symm
  · intro h
    apply BitVec.eq_of_getLsbD_eq
    intro i hi
    rw [BitVec.getLsbD_or, BitVec.getLsbD_twoPow]
    by_cases e : j = i
    · subst e; rw [h, Bool.true_or]
    · simp [e]
theorem wb_cu : ∀ k, k < 64 → ((nI k).toInt64.toUInt64 &&& Int64.toUInt64 63) = UInt64.ofNat k := by decide +kernel
theorem u_tn {n : Nat} (h : n < 2 ^ 64) : (UInt64.ofNat n).toNat = n := Nat.mod_eq_of_lt h
end
section
/-! bits of the open word, of the permit words and of the chain's mask; answers; counts over eight -/
def zb_L (w : Int64) (i : Nat) : Bool := w.toBitVec.getLsbD i
theorem zb_sh : ∀ j, j < 64 → ((1 : Int64) <<< ((nI j).toInt64 &&& 63)).toBitVec = BitVec.twoPow 64 j := by decide +kernel
theorem zb_get (w : Int64) {j : Nat} (hj : j < 64) : ((w.toUInt64 >>> ((nI j).toInt64.toUInt64 &&& Int64.toUInt64 63)).toInt64 &&& 1) = 0 ↔ zb_L w j = false :=
  ts_bit hj (by rw [wb_cu j hj]; exact u_tn (by omega))
theorem zb_and (w : Int64) {j : Nat} (hj : j < 64) : (w &&& ((1 : Int64) <<< ((nI j).toInt64 &&& 63))) = 0 ↔ zb_L w j = false := by
  rw [← Int64.toBitVec_inj, Int64.toBitVec_and, zb_sh j hj]
  show w.toBitVec &&& BitVec.twoPow 64 j = 0#64 ↔ w.toBitVec.getLsbD j = false
  constructor
  · intro h
    have t := congrArg (fun x => x.getLsbD j) h
    simp only [BitVec.getLsbD_and, BitVec.getLsbD_twoPow] at t
    simpa [hj] using t
  · intro h
    apply BitVec.eq_of_getLsbD_eq
    intro i hi
    rw [BitVec.getLsbD_and, BitVec.getLsbD_twoPow]
    by_cases e : j = i
    · subst e; rw [h, Bool.false_and]; simp
    · simp [e]
theorem zb_or (w : Int64) {j : Nat} (hj : j < 64) (i : Nat) : zb_L (w ||| ((1 : Int64) <<< ((nI j).toInt64 &&& 63))) i = (zb_L w i || decide (j = i)) := by
  unfold zb_L
  rw [Int64.toBitVec_or, zb_sh j hj, BitVec.getLsbD_or, BitVec.getLsbD_twoPow, decide_eq_true hj, Bool.true_and]
theorem zb_orE (w : Int64) {j : Nat} (hj : j < 64) : (w ||| ((1 : Int64) <<< ((nI j).toInt64 &&& 63))) = w ↔ zb_L w j = true :=
  ts_or hj (zb_sh j hj)
theorem zb_0 (i : Nat) : zb_L 0 i = false := BitVec.getLsbD_zero
theorem zm_1 : ∀ k, k < 32 → bt 1 k = decide (k = 0) := by decide +kernel
theorem zm_get (x : Int32) {i : Nat} (hi : i < 32) : ((x >>> (nI i &&& 31)) &&& 1) = 0 ↔ bt x i = false := by
  have h0 : bt (x >>> (nI i &&& 31)) 0 = bt x i := by rw [b_sshr i hi x (by omega), Nat.add_zero, if_pos hi]
  constructor
  · intro h
    have t : bt ((x >>> (nI i &&& 31)) &&& 1) 0 = bt 0 0 := by rw [h]
    rw [b_and, h0, b_0, zm_1 0 (by omega)] at t
    simpa using t
  · intro h
    apply b_ext
    intro k hk
    rw [b_and, b_0, zm_1 k hk]
    cases k with
    | zero => rw [h0, h]; rfl
    | succ k => simp
theorem zm_set (x : Int32) {t i : Nat} (ht : t < 32) (hi : i < 32) : bt (x ||| ((1 : Int32) <<< (nI t &&& 31))) i = (bt x i || decide (i = t)) := by
  rw [b_or, b_shl t ht 1 hi, zm_1 (i - t) (by omega)]
  by_cases e : i = t
  · subst e; simp
  · rw [decide_eq_false e]
    by_cases h : t ≤ i
    · rw [decide_eq_false (show ¬ i - t = 0 by omega), Bool.and_false]
    · rw [decide_eq_false h, Bool.false_and]
theorem zm_clr (x : Int32) {t i : Nat} (ht : t < 32) (hi : i < 32) : bt (x &&& (((1 : Int32) <<< (nI t &&& 31)) ^^^ (-1))) i = (bt x i && !decide (i = t)) := by
  rw [b_and, b_xor, b_shl t ht 1 hi, zm_1 (i - t) (by omega), b_m1 i hi]
  by_cases e : i = t
  · subst e; simp
  · rw [decide_eq_false e]
    by_cases h : t ≤ i
    · rw [decide_eq_false (show ¬ i - t = 0 by omega), Bool.and_false]; rfl
    · rw [decide_eq_false h, Bool.false_and]; rfl
theorem zf_bit (f m : Int32) (j : Nat) (hj : j < 32) (hm : ∀ i, i < 32 → bt m i = decide (i = j)) : f &&& m = 0 ↔ bt f j = false := by
  constructor
  · intro h
    have t : bt (f &&& m) j = bt 0 j := by rw [h]
    rw [b_and, b_0, hm j hj] at t
    simpa using t
  · intro h
    apply b_ext
    intro i hi
    rw [b_and, b_0, hm i hi]
    by_cases e : i = j
    · subst e; rw [h, Bool.false_and]
    · rw [decide_eq_false e, Bool.and_false]
theorem zf_4 : ∀ i, i < 32 → bt 4 i = decide (i = 2) := by decide +kernel
theorem zf_15 : ∀ i, i < 32 → bt 32768 i = decide (i = 15) := by decide +kernel
theorem zf_415 : ∀ i, i < 32 → bt 32772 i = (decide (i = 2) || decide (i = 15)) := by decide +kernel
theorem zf_pre (f : Int32) : f &&& 32772 = 4 ↔ (¬ f &&& 4 = 0 ∧ f &&& 32768 = 0) := by
  rw [zf_bit f 4 2 (by omega) zf_4, zf_bit f 32768 15 (by omega) zf_15]
  constructor
  · intro h
    have t2 : bt (f &&& 32772) 2 = bt 4 2 := by rw [h]
    have t15 : bt (f &&& 32772) 15 = bt 4 15 := by rw [h]
    rw [b_and, zf_415 2 (by omega), zf_4 2 (by omega)] at t2
    rw [b_and, zf_415 15 (by omega), zf_4 15 (by omega)] at t15
    simp at t2 t15
    exact ⟨by rw [t2]; simp, t15⟩
  · rintro ⟨h2, h15⟩
    apply b_ext
    intro i hi
    rw [b_and, zf_415 i hi, zf_4 i hi]
    by_cases e : i = 2
    · subst e; rw [ts_nf h2]; simp
    · by_cases e2 : i = 15
      · subst e2; rw [h15]; simp
      · simp [e, e2]
theorem zo_256 : ∀ d, d < 8 → (256 : Int32) ||| nI d = 256 + nI d := by decide +kernel
theorem zo_512 : ∀ d, d < 8 → (512 : Int32) ||| nI d = 512 + nI d := by decide +kernel
theorem zo_768 : ∀ d, d < 8 → (768 : Int32) ||| nI d = 768 + nI d := by decide +kernel
theorem zo_1024 : ∀ d, d < 8 → (1024 : Int32) ||| nI d = 1024 + nI d := by decide +kernel
theorem zo_1280 : ∀ d, d < 8 → (1280 : Int32) ||| nI d = 1280 + nI d := by decide +kernel
theorem zo_n256 : ∀ d, d < 8 → ¬ (256 : Int32) + nI d = 0 := by decide +kernel
theorem zo_n512 : ∀ d, d < 8 → ¬ (512 : Int32) + nI d = 0 := by decide +kernel
theorem zo_m1 : ∀ d, d < 64 → ¬ nI d = -1 := by decide +kernel
theorem zo_m2 : ∀ d, d < 64 → ¬ nI d = -2 := by decide +kernel
/-! a sum over eight -/
def zn_8 (f : Nat → Nat) : Nat := f 0 + f 1 + f 2 + f 3 + f 4 + f 5 + f 6 + f 7
theorem zn_upd {f g : Nat → Nat} {t : Nat} (ht : t < 8) (h : ∀ x, x ≠ t → g x = f x) : zn_8 g + f t = zn_8 f + g t := by
  have h0 : (0 : Nat) ≠ t → g 0 = f 0 := h 0
  have h1 : (1 : Nat) ≠ t → g 1 = f 1 := h 1
  have h2 : (2 : Nat) ≠ t → g 2 = f 2 := h 2
  have h3 : (3 : Nat) ≠ t → g 3 = f 3 := h 3
  have h4 : (4 : Nat) ≠ t → g 4 = f 4 := h 4
  have h5 : (5 : Nat) ≠ t → g 5 = f 5 := h 5
  have h6 : (6 : Nat) ≠ t → g 6 = f 6 := h 6
  have h7 : (7 : Nat) ≠ t → g 7 = f 7 := h 7
  clear h
  have c : t = 0 ∨ t = 1 ∨ t = 2 ∨ t = 3 ∨ t = 4 ∨ t = 5 ∨ t = 6 ∨ t = 7 := by omega
  unfold zn_8
  rcases c with rfl | rfl | rfl | rfl | rfl | rfl | rfl | rfl <;> omega
/-- one if set -/
def zn_b (b : Bool) : Nat := if b = true then 1 else 0
theorem zn_b1 : zn_b true = 1 := rfl
theorem zn_b0 : zn_b false = 0 := rfl
theorem zn_ble (b : Bool) : zn_b b ≤ 1 := by cases b <;> decide
def zn_c (P : Nat → Bool) : Nat := zn_8 (fun i => zn_b (P i))
theorem zn_cle (P : Nat → Bool) : zn_c P ≤ 8 := by
  have h0 := zn_ble (P 0)
  have h1 := zn_ble (P 1)
  have h2 := zn_ble (P 2)
  have h3 := zn_ble (P 3)
  have h4 := zn_ble (P 4)
  have h5 := zn_ble (P 5)
  have h6 := zn_ble (P 6)
  have h7 := zn_ble (P 7)
  show zn_b (P 0) + zn_b (P 1) + zn_b (P 2) + zn_b (P 3) + zn_b (P 4) + zn_b (P 5) + zn_b (P 6) + zn_b (P 7) ≤ 8
  omega
/-- P with t set to b -/
def zn_s (P : Nat → Bool) (t : Nat) (b : Bool) : Nat → Bool := fun i => if i = t then b else P i
theorem zn_ss {P : Nat → Bool} {t : Nat} {b : Bool} : zn_s P t b t = b := if_pos rfl
theorem zn_sn {P : Nat → Bool} {t i : Nat} {b : Bool} (h : i ≠ t) : zn_s P t b i = P i := if_neg h
theorem zn_ct {P : Nat → Bool} {t : Nat} (ht : t < 8) (h : P t = false) : zn_c (zn_s P t true) = zn_c P + 1 := by
  have e : zn_8 (fun i => zn_b (zn_s P t true i)) + zn_b (P t) = zn_8 (fun i => zn_b (P i)) + zn_b (zn_s P t true t) := zn_upd (f := fun i => zn_b (P i)) (g := fun i => zn_b (zn_s P t true i)) ht (fun x hx => congrArg zn_b (zn_sn hx))
  have e1 : zn_b (P t) = 0 := by rw [h]; rfl
  have e2 : zn_b (zn_s P t true t) = 1 := by rw [zn_ss]; rfl
  unfold zn_c
  omega
theorem zn_cf {P : Nat → Bool} {t : Nat} (ht : t < 8) (h : P t = true) : zn_c (zn_s P t false) + 1 = zn_c P := by
  have e : zn_8 (fun i => zn_b (zn_s P t false i)) + zn_b (P t) = zn_8 (fun i => zn_b (P i)) + zn_b (zn_s P t false t) := zn_upd (f := fun i => zn_b (P i)) (g := fun i => zn_b (zn_s P t false i)) ht (fun x hx => congrArg zn_b (zn_sn hx))
  have e1 : zn_b (P t) = 1 := by rw [h]; rfl
  have e2 : zn_b (zn_s P t false t) = 0 := by rw [zn_ss]; rfl
  unfold zn_c
  omega
/-! functions on naturals -/
def zn_u (f : Nat → Nat) (t v : Nat) : Nat → Nat := fun i => if i = t then v else f i
theorem zn_us {f : Nat → Nat} {t v : Nat} : zn_u f t v t = v := if_pos rfl
theorem zn_un {f : Nat → Nat} {t v i : Nat} (h : i ≠ t) : zn_u f t v i = f i := if_neg h
end
section
/-! what preCheck and shutOut answer, for both sides -/
def zp_pre (fl mj : Nat → Int32) (t : Nat) : Int32 :=
  if mj t < 45 then 256 + nI t else
  if mj t ≤ 65 then (if fl t &&& 4 = 0 then 512 + nI t else if fl t &&& 32768 = 0 then 0 else 512 + nI t) else 256 + nI t
def zp_so (fl pk : Nat → Int32) (pm : Nat → Int64) (t d : Nat) : Int32 :=
  if pm t = 0 then 0 else
  if pk t >>> ((8 : Int32) &&& 31) = pk d >>> ((8 : Int32) &&& 31) then
    (if fl d &&& 1 = 0 then (if pk t = pk d then (if zb_L (pm t) d = false then 1 else 0) else 1) else (if zb_L (pm t) d = false then 1 else 0))
  else 1
section
variable {F : Int32} {op : Int64} {fl mj pk en ac wd su it : Nat → Int32} {pm : Nat → Int64} {ip dn st ps sD sK : Nat → Int32}
theorem zx_pre {post : Int32 → Prop} {t : Nat} (ht : t < 8) (h : post (zp_pre fl mj t)) : wpX_preCheck post (F, fl, mj, pk, en, ac, wd, pm, ip, dn, st, ps) (nI t) := by
  have hv : vp_in (nI t) 8 := vp_in_nI ht (by omega)
  unfold wpX_preCheck
  dsimp only
  rw [nI_clamp (show t < 2 ^ 31 by omega)]
  unfold zp_pre at h
  refine ⟨hv, fun h1 => ?_, fun h1 => ⟨hv, fun h2 => ⟨hv, fun h3 => ?_, fun h3 => ⟨hv, fun h4 => ?_, fun h4 => ?_⟩⟩, fun h2 => ?_⟩⟩
  · rw [if_pos h1] at h; exact h
  · rw [if_neg h1, if_pos h2, if_pos h3] at h; exact h
  · rw [if_neg h1, if_pos h2, if_neg h3, if_pos h4] at h; exact h
  · rw [if_neg h1, if_pos h2, if_neg h3, if_neg h4] at h; exact h
  · rw [if_neg h1, if_neg h2] at h; exact h
theorem zx_so64 {post : Int32 → Prop} {t d : Nat} (ht : t < 8) (hd : d < 8) (h : post (if zb_L (pm t) d = false then 1 else 0)) : wX_shutOut_64 post (nI t) (nI d) F fl mj pk en ac wd pm ip dn st ps := by
  have hv : vp_in (nI t) 8 := vp_in_nI ht (by omega)
  unfold wX_shutOut_64
  rw [nI_clamp (show t < 2 ^ 31 by omega), zb_and (pm t) (show d < 64 by omega)]
  refine ⟨hv, fun h1 => ?_, fun h1 => ?_⟩
  · rw [if_pos h1] at h; exact h
  · rw [if_neg h1] at h; exact h
theorem zx_so {post : Int32 → Prop} {t d : Nat} (ht : t < 8) (hd : d < 8) (h : post (zp_so fl pk pm t d)) : wpX_shutOut post (F, fl, mj, pk, en, ac, wd, pm, ip, dn, st, ps) (nI t) (nI d) := by
  have hv : vp_in (nI t) 8 := vp_in_nI ht (by omega)
  have hw : vp_in (nI d) 8 := vp_in_nI hd (by omega)
  unfold wpX_shutOut
  dsimp only
  rw [nI_clamp (show t < 2 ^ 31 by omega), nI_clamp (show d < 2 ^ 31 by omega)]
  unfold zp_so at h
  refine ⟨hv, fun h1 => ?_, fun h1 => ⟨hv, hw, fun h2 => ⟨hw, fun h3 => ⟨hv, hw, fun h4 => ?_, fun h4 => ?_⟩, fun h3 => ?_⟩, fun h2 => ?_⟩⟩
  · rw [if_pos h1] at h; exact h
  · rw [if_neg h1, if_pos h2, if_pos h3, if_pos h4] at h; exact zx_so64 ht hd h
  · rw [if_neg h1, if_pos h2, if_pos h3, if_neg h4] at h; exact h
  · rw [if_neg h1, if_pos h2, if_neg h3] at h; exact zx_so64 ht hd h
  · rw [if_neg h1, if_neg h2] at h; exact h
theorem zy_so64 {post : Int32 → Prop} {t d : Nat} (ht : t < 8) (hd : d < 8) (h : post (if zb_L (pm t) d = false then 1 else 0)) : wY_shutOut_64 post (nI t) (nI d) F op fl mj pk su it wd pm sD sK := by
  have hv : vp_in (nI t) 8 := vp_in_nI ht (by omega)
  unfold wY_shutOut_64
  rw [nI_clamp (show t < 2 ^ 31 by omega), zb_get (pm t) (show d < 64 by omega)]
  refine ⟨hv, fun h1 => ?_, fun h1 => ?_⟩
  · rw [if_pos h1] at h; exact h
  · rw [if_neg h1] at h; exact h
theorem zy_so {post : Int32 → Prop} {t d : Nat} (ht : t < 8) (hd : d < 8) (h : post (zp_so fl pk pm t d)) : wpY_shutOut post (F, op, fl, mj, pk, su, it, wd, pm, sD, sK) (nI t) (nI d) := by
  have hv : vp_in (nI t) 8 := vp_in_nI ht (by omega)
  have hw : vp_in (nI d) 8 := vp_in_nI hd (by omega)
  unfold wpY_shutOut
  dsimp only
  rw [nI_clamp (show t < 2 ^ 31 by omega), nI_clamp (show d < 2 ^ 31 by omega)]
  unfold zp_so at h
  refine ⟨hv, fun h1 => ?_, fun h1 => ⟨hv, hw, fun h2 => ⟨hw, fun h3 => ⟨hv, hw, fun h4 => ?_, fun h4 => ?_⟩, fun h3 => ?_⟩, fun h2 => ?_⟩⟩
  · rw [if_pos h1] at h; exact h
  · rw [if_neg h1, if_pos h2, if_pos h3, if_pos h4] at h; exact zy_so64 ht hd h
  · rw [if_neg h1, if_pos h2, if_pos h3, if_neg h4] at h; exact h
  · rw [if_neg h1, if_pos h2, if_neg h3] at h; exact zy_so64 ht hd h
  · rw [if_neg h1, if_neg h2] at h; exact h
end
/-! the walks of the two load loops, at an answer r and whatever scratch -/
def zx_W (F : Int32) (fl mj pk en ac wd : Nat → Int32) (pm : Nat → Int64) (r : Int32) (x3 : Int32) (ip dn st ps : Nat → Int32) : Prop :=
  ∀ post : Int32 → SX → Prop, (∀ ip' dn' st' ps' : Nat → Int32, post r (F, fl, mj, pk, en, ac, wd, pm, ip', dn', st', ps')) → ∃ n : Nat, wX_loadVerdict_77 post F n x3 fl mj pk en ac wd pm ip dn st ps
def zy_W (F : Int32) (op : Int64) (fl mj pk su it wd : Nat → Int32) (pm : Nat → Int64) (r : Int32) (x2 x3 x4 x5 x6 : Int32) (sD sK : Nat → Int32) : Prop :=
  ∀ post : Int32 → SY → Prop, (∀ sD' sK' : Nat → Int32, post r (F, op, fl, mj, pk, su, it, wd, pm, sD', sK')) → ∃ n : Nat, wY_loadVerdict_28 post F op n x2 x3 x4 x5 x6 fl mj pk su it wd pm sD sK
/-- the reference's number for place k of a class: -1 the superclass, then 0, 1 .. -/
def zk_n : Nat → Int32
  | 0 => -1
  | k + 1 => nI k
end
section
/-! the reference's load loop, step by step -/
theorem zi_4 (d j : Nat) : nI d * 4 + nI j = nI (d * 4 + j) := by rw [show (4 : Int32) = nI 4 from rfl, pk_mul, nI_add]
theorem zi_40 (d : Nat) : nI d * 4 = nI (d * 4) := by rw [show (4 : Int32) = nI 4 from rfl, pk_mul]
theorem zi_8 (m : Nat) : 8 + nI m = nI (8 + m) := nI_add 8 m
theorem zp_pre0 {fl mj : Nat → Int32} {d : Nat} (hd : d < 8) (h : zp_pre fl mj d = 0) : ¬ mj d < 45 ∧ mj d ≤ 65 ∧ ¬ fl d &&& 4 = 0 ∧ fl d &&& 32768 = 0 := by
  unfold zp_pre at h
  by_cases h1 : mj d < 45
  · rw [if_pos h1] at h; exact absurd h (zo_n256 d hd)
  rw [if_neg h1] at h
  by_cases h2 : mj d ≤ 65
  · rw [if_pos h2] at h
    by_cases h3 : fl d &&& 4 = 0
    · rw [if_pos h3] at h; exact absurd h (zo_n512 d hd)
    rw [if_neg h3] at h
    by_cases h4 : fl d &&& 32768 = 0
    · exact ⟨h1, h2, h3, h4⟩
    · rw [if_neg h4] at h; exact absurd h (zo_n512 d hd)
  · rw [if_neg h2] at h; exact absurd h (zo_n256 d hd)
section
variable {F : Int32} {op : Int64} {fl mj pk su it wd : Nat → Int32} {pm : Nat → Int64} {sD sK : Nat → Int32} {r x2 p b : Int32} {d t sp j : Nat}
theorem zy_enter (hd : d < 8) (h0 : zp_pre fl mj d = 0) (H : zy_W F op fl mj pk su it wd pm r x2 (p ||| ((1 : Int32) <<< (nI d &&& 31))) (nI d) (-1) b sD sK) : zy_W F op fl mj pk su it wd pm r x2 p (nI d) (-2) b sD sK := by
  intro post hp
  obtain ⟨n, hn⟩ := H post hp
  have hv : vp_in (nI d) 8 := vp_in_nI hd (by omega)
  have hc : (nI d).toNatClampNeg = d := nI_clamp (by omega)
  obtain ⟨h1, h2, h3, h4⟩ := zp_pre0 hd h0
  have e1 : ¬ mj (nI d).toNatClampNeg < 45 := by rw [hc]; exact h1
  have e2 : mj (nI d).toNatClampNeg ≤ 65 := by rw [hc]; exact h2
  have e3 : fl (nI d).toNatClampNeg &&& 32772 = 4 := by rw [hc]; exact (zf_pre _).mpr ⟨h3, h4⟩
  exact ⟨n + 1, br_t rfl ⟨hv, br_f e1 ⟨hv, br_t e2 ⟨hv, br_t e3 (nm_e hn)⟩⟩⟩⟩
theorem zy_enterB (hd : d < 8) (h0 : ¬ zp_pre fl mj d = 0) (hr : zp_pre fl mj d = r) : zy_W F op fl mj pk su it wd pm r x2 p (nI d) (-2) b sD sK := by
  subst hr
  intro post hp
  have hp' := hp sD sK
  have hv : vp_in (nI d) 8 := vp_in_nI hd (by omega)
  have hc : (nI d).toNatClampNeg = d := nI_clamp (by omega)
  refine ⟨1, br_t rfl ⟨hv, br_c (fun h1 => ?_) (fun h1 => ⟨hv, br_c (fun h2 => ⟨hv, br_c (fun h3 => ?_) (fun h3 => ?_)⟩) (fun h2 => ?_)⟩)⟩⟩
  · rw [hc] at h1
    unfold zp_pre at hp'
    rw [if_pos h1] at hp'
    rw [zo_256 d hd]; exact hp'
  · rw [hc] at h1 h2 h3
    have q := (zf_pre _).mp h3
    refine absurd ?_ h0
    unfold zp_pre
    rw [if_neg h1, if_pos h2, if_neg q.1, if_pos q.2]
  · rw [hc] at h1 h2 h3
    rw [zo_512 d hd]
    unfold zp_pre at hp'
    rw [if_neg h1, if_pos h2] at hp'
    by_cases h4 : fl d &&& 4 = 0
    · rw [if_pos h4] at hp'; exact hp'
    · rw [if_neg h4] at hp'
      by_cases h5 : fl d &&& 32768 = 0
      · exact absurd ((zf_pre _).mpr ⟨h4, h5⟩) h3
      · rw [if_neg h5] at hp'; exact hp'
  · rw [hc] at h1 h2
    unfold zp_pre at hp'
    rw [if_neg h1, if_neg h2] at hp'
    rw [zo_256 d hd]; exact hp'
/-! at the superclass -/
theorem zy_none (hd : d < 8) (hs : su d = -1) (H : zy_W F op fl mj pk su it wd pm r x2 p (nI d) 0 0 sD sK) : zy_W F op fl mj pk su it wd pm r x2 p (nI d) (-1) b sD sK := by
  intro post hp
  obtain ⟨n, hn⟩ := H post hp
  have hv : vp_in (nI d) 8 := vp_in_nI hd (by omega)
  have hs' : su (nI d).toNatClampNeg = -1 := by rw [nI_clamp (show d < 2 ^ 31 by omega)]; exact hs
  exact ⟨n + 1, br_f (by decide) (br_t rfl ⟨hv, nm_r hs' (br_t rfl (br_t rfl hn))⟩)⟩
theorem zy_abs0 (hd : d < 8) (hs : su d = -2) (hr : 512 + nI d = r) : zy_W F op fl mj pk su it wd pm r x2 p (nI d) (-1) 0 sD sK := by
  intro post hp
  have hv : vp_in (nI d) 8 := vp_in_nI hd (by omega)
  have hs' : su (nI d).toNatClampNeg = -2 := by rw [nI_clamp (show d < 2 ^ 31 by omega)]; exact hs
  have hq : post (512 ||| nI d) (F, op, fl, mj, pk, su, it, wd, pm, sD, sK) := by rw [zo_512 d hd, hr]; exact hp _ _
  exact ⟨1, br_f (by decide) (br_t rfl ⟨hv, nm_r hs' (br_f (by decide) (br_t rfl (br_f (by decide) hq)))⟩)⟩
theorem zy_down0 (hd : d < 8) (ht : t < 8) (hsp : sp < 8) (hs : su d = nI t) (hb : bt p t = false) (H : zy_W F op fl mj pk su it wd pm r (nI (sp + 1)) p (nI t) (-2) 0 (upd sD sp (nI d)) (upd sK sp (-1))) : zy_W F op fl mj pk su it wd pm r (nI sp) p (nI d) (-1) 0 sD sK := by
  intro post hp
  obtain ⟨n, hn⟩ := H post hp
  have hv : vp_in (nI d) 8 := vp_in_nI hd (by omega)
  have hvs : vp_in (nI sp) 8 := vp_in_nI hsp (by omega)
  have hs' : su (nI d).toNatClampNeg = nI t := by rw [nI_clamp (show d < 2 ^ 31 by omega)]; exact hs
  have hcs : (nI sp).toNatClampNeg = sp := nI_clamp (by omega)
  have hb' := (zm_get p (show t < 32 by omega)).mpr hb
  exact ⟨n + 1, br_f (by decide) (br_t rfl ⟨hv, nm_r hs' (br_f (zo_m1 t (by omega)) (br_t rfl (br_t (nI_pos' (by omega)) (br_t hb' (br_f (by decide) (br_f (by decide) ⟨hvs, nm_r (congrArg (fun q => upd sD q (nI d)) hcs) ⟨hvs, nm_r (congrArg (fun q => upd sK q (-1)) hcs) (nm_r (nI_1 sp) hn)⟩⟩))))))⟩)⟩
theorem zy_circ0 (hd : d < 8) (ht : t < 8) (hs : su d = nI t) (hb : bt p t = true) (hr : 768 + nI d = r) : zy_W F op fl mj pk su it wd pm r x2 p (nI d) (-1) 0 sD sK := by
  intro post hp
  have hv : vp_in (nI d) 8 := vp_in_nI hd (by omega)
  have hs' : su (nI d).toNatClampNeg = nI t := by rw [nI_clamp (show d < 2 ^ 31 by omega)]; exact hs
  have hb' : ¬ ((p >>> (nI t &&& 31)) &&& 1) = 0 := by rw [zm_get p (show t < 32 by omega), hb]; decide
  have hq : post (768 ||| nI d) (F, op, fl, mj, pk, su, it, wd, pm, sD, sK) := by rw [zo_768 d hd, hr]; exact hp _ _
  exact ⟨1, br_f (by decide) (br_t rfl ⟨hv, nm_r hs' (br_f (zo_m1 t (by omega)) (br_t rfl (br_t (nI_pos' (by omega)) (br_f hb' (br_t rfl (br_f hb' hq))))))⟩)⟩
theorem zy_noac0 (hd : d < 8) (ht : t < 8) (hs : su d = nI t) (ho : zb_L op d = false) (hr : 1024 + nI d = r) : zy_W F op fl mj pk su it wd pm r x2 p (nI d) (-1) 1 sD sK := by
  intro post hp
  have hv : vp_in (nI d) 8 := vp_in_nI hd (by omega)
  have hs' : su (nI d).toNatClampNeg = nI t := by rw [nI_clamp (show d < 2 ^ 31 by omega)]; exact hs
  have ho' := (zb_get op (show d < 64 by omega)).mpr ho
  have hq : post (1024 ||| nI d) (F, op, fl, mj, pk, su, it, wd, pm, sD, sK) := by rw [zo_1024 d hd, hr]; exact hp _ _
  exact ⟨1, br_f (by decide) (br_t rfl ⟨hv, nm_r hs' (br_f (zo_m1 t (by omega)) (br_f (by decide) (br_t ho' hq)))⟩)⟩
theorem zy_bfl0 (hd : d < 8) (ht : t < 8) (hs : su d = nI t) (ho : zb_L op d = true) (hb : bt p t = false) (hf : ¬ fl t &&& 528 = 0) (hr : 1280 + nI d = r) : zy_W F op fl mj pk su it wd pm r x2 p (nI d) (-1) 1 sD sK := by
  intro post hp
  have hv : vp_in (nI d) 8 := vp_in_nI hd (by omega)
  have hvt : vp_in (nI t) 8 := vp_in_nI ht (by omega)
  have hs' : su (nI d).toNatClampNeg = nI t := by rw [nI_clamp (show d < 2 ^ 31 by omega)]; exact hs
  have ho' : ¬ ((op.toUInt64 >>> ((nI d).toInt64.toUInt64 &&& Int64.toUInt64 63)).toInt64 &&& 1) = 0 := by rw [zb_get op (show d < 64 by omega), ho]; decide
  have hb' := (zm_get p (show t < 32 by omega)).mpr hb
  have hf' : ¬ fl (nI t).toNatClampNeg &&& 528 = 0 := by rw [nI_clamp (show t < 2 ^ 31 by omega)]; exact hf
  have hq : post (1280 ||| nI d) (F, op, fl, mj, pk, su, it, wd, pm, sD, sK) := by rw [zo_1280 d hd, hr]; exact hp _ _
  exact ⟨1, br_f (by decide) (br_t rfl ⟨hv, nm_r hs' (br_f (zo_m1 t (by omega)) (br_f (by decide) (br_f ho' (br_t rfl (br_t hb' ⟨hvt, br_f hf' hq⟩)))))⟩)⟩
theorem zy_bso0 (hd : d < 8) (ht : t < 8) (hs : su d = nI t) (ho : zb_L op d = true) (hb : bt p t = false) (hf : fl t &&& 528 = 0) (hz : ¬ zp_so fl pk pm t d = 0) (hr : 1280 + nI d = r) : zy_W F op fl mj pk su it wd pm r x2 p (nI d) (-1) 1 sD sK := by
  intro post hp
  have hv : vp_in (nI d) 8 := vp_in_nI hd (by omega)
  have hvt : vp_in (nI t) 8 := vp_in_nI ht (by omega)
  have hs' : su (nI d).toNatClampNeg = nI t := by rw [nI_clamp (show d < 2 ^ 31 by omega)]; exact hs
  have ho' : ¬ ((op.toUInt64 >>> ((nI d).toInt64.toUInt64 &&& Int64.toUInt64 63)).toInt64 &&& 1) = 0 := by rw [zb_get op (show d < 64 by omega), ho]; decide
  have hb' := (zm_get p (show t < 32 by omega)).mpr hb
  have hf' : fl (nI t).toNatClampNeg &&& 528 = 0 := by rw [nI_clamp (show t < 2 ^ 31 by omega)]; exact hf
  have hq : post (1280 ||| nI d) (F, op, fl, mj, pk, su, it, wd, pm, sD, sK) := by rw [zo_1280 d hd, hr]; exact hp _ _
  exact ⟨1, br_f (by decide) (br_t rfl ⟨hv, nm_r hs' (br_f (zo_m1 t (by omega)) (br_f (by decide) (br_f ho' (br_t rfl (br_t hb' ⟨hvt, br_t hf' (zy_so ht hd (br_f hz hq))⟩)))))⟩)⟩
theorem zy_bok0 (hd : d < 8) (ht : t < 8) (hs : su d = nI t) (ho : zb_L op d = true) (hb : bt p t = false) (hf : fl t &&& 528 = 0) (hz : zp_so fl pk pm t d = 0) (H : zy_W F op fl mj pk su it wd pm r x2 p (nI d) 0 0 sD sK) : zy_W F op fl mj pk su it wd pm r x2 p (nI d) (-1) 1 sD sK := by
  intro post hp
  obtain ⟨n, hn⟩ := H post hp
  have hv : vp_in (nI d) 8 := vp_in_nI hd (by omega)
  have hvt : vp_in (nI t) 8 := vp_in_nI ht (by omega)
  have hs' : su (nI d).toNatClampNeg = nI t := by rw [nI_clamp (show d < 2 ^ 31 by omega)]; exact hs
  have ho' : ¬ ((op.toUInt64 >>> ((nI d).toInt64.toUInt64 &&& Int64.toUInt64 63)).toInt64 &&& 1) = 0 := by rw [zb_get op (show d < 64 by omega), ho]; decide
  have hb' := (zm_get p (show t < 32 by omega)).mpr hb
  have hf' : fl (nI t).toNatClampNeg &&& 528 = 0 := by rw [nI_clamp (show t < 2 ^ 31 by omega)]; exact hf
  exact ⟨n + 1, br_f (by decide) (br_t rfl ⟨hv, nm_r hs' (br_f (zo_m1 t (by omega)) (br_f (by decide) (br_f ho' (br_t rfl (br_t hb' ⟨hvt, br_t hf' (zy_so ht hd (br_t hz (br_t rfl hn)))⟩)))))⟩)⟩
/-! at a superinterface -/
theorem zy_absj {W : Nat} (hd : d < 8) (hW : wd d = nI W) (hW4 : W ≤ 4) (hj : j < W) (hs : it (d * 4 + j) = -2) (hr : 512 + nI d = r) : zy_W F op fl mj pk su it wd pm r x2 p (nI d) (nI j) 0 sD sK := by
  intro post hp
  have hv : vp_in (nI d) 8 := vp_in_nI hd (by omega)
  have hle : ¬ wd (nI d).toNatClampNeg ≤ nI j := by rw [nI_clamp (show d < 2 ^ 31 by omega), hW]; exact nI_ge hj (by omega)
  have hvi : vp_in (nI (d * 4 + j)) 32 := vp_in_nI (by omega) (by omega)
  have hs' : it (nI (d * 4 + j)).toNatClampNeg = -2 := by rw [nI_clamp (show d * 4 + j < 2 ^ 31 by omega)]; exact hs
  have hq : post (512 ||| nI d) (F, op, fl, mj, pk, su, it, wd, pm, sD, sK) := by rw [zo_512 d hd, hr]; exact hp _ _
  exact ⟨1, br_f (zo_m2 j (by omega)) (br_f (zo_m1 j (by omega)) ⟨hv, br_f hle (nm_r (zi_4 d j) ⟨hvi, nm_r hs' (br_t rfl (br_f (by decide) hq))⟩)⟩)⟩
theorem zy_downj {W : Nat} (hd : d < 8) (hW : wd d = nI W) (hW4 : W ≤ 4) (hj : j < W) (ht : t < 8) (hsp : sp < 8) (hs : it (d * 4 + j) = nI t) (hb : bt p t = false) (H : zy_W F op fl mj pk su it wd pm r (nI (sp + 1)) p (nI t) (-2) 0 (upd sD sp (nI d)) (upd sK sp (nI j))) : zy_W F op fl mj pk su it wd pm r (nI sp) p (nI d) (nI j) 0 sD sK := by
  intro post hp
  obtain ⟨n, hn⟩ := H post hp
  have hv : vp_in (nI d) 8 := vp_in_nI hd (by omega)
  have hvs : vp_in (nI sp) 8 := vp_in_nI hsp (by omega)
  have hle : ¬ wd (nI d).toNatClampNeg ≤ nI j := by rw [nI_clamp (show d < 2 ^ 31 by omega), hW]; exact nI_ge hj (by omega)
  have hvi : vp_in (nI (d * 4 + j)) 32 := vp_in_nI (by omega) (by omega)
  have hs' : it (nI (d * 4 + j)).toNatClampNeg = nI t := by rw [nI_clamp (show d * 4 + j < 2 ^ 31 by omega)]; exact hs
  have hcs : (nI sp).toNatClampNeg = sp := nI_clamp (by omega)
  have hb' := (zm_get p (show t < 32 by omega)).mpr hb
  exact ⟨n + 1, br_f (zo_m2 j (by omega)) (br_f (zo_m1 j (by omega)) ⟨hv, br_f hle (nm_r (zi_4 d j) ⟨hvi, nm_r hs' (br_t rfl (br_t (nI_pos' (by omega)) (br_t hb' (br_f (by decide) ⟨hvs, nm_r (congrArg (fun q => upd sD q (nI d)) hcs) ⟨hvs, nm_r (congrArg (fun q => upd sK q (nI j)) hcs) (nm_r (nI_1 sp) hn)⟩⟩))))⟩)⟩)⟩
theorem zy_skip {W : Nat} (hd : d < 8) (hW : wd d = nI W) (hW4 : W ≤ 4) (hj : j < W) (ht : t < 8) (hs : it (d * 4 + j) = nI t) (hb : bt p t = true) (H : zy_W F op fl mj pk su it wd pm r x2 p (nI d) (nI (j + 1)) 0 sD sK) : zy_W F op fl mj pk su it wd pm r x2 p (nI d) (nI j) 0 sD sK := by
  intro post hp
  obtain ⟨n, hn⟩ := H post hp
  have hv : vp_in (nI d) 8 := vp_in_nI hd (by omega)
  have hle : ¬ wd (nI d).toNatClampNeg ≤ nI j := by rw [nI_clamp (show d < 2 ^ 31 by omega), hW]; exact nI_ge hj (by omega)
  have hvi : vp_in (nI (d * 4 + j)) 32 := vp_in_nI (by omega) (by omega)
  have hs' : it (nI (d * 4 + j)).toNatClampNeg = nI t := by rw [nI_clamp (show d * 4 + j < 2 ^ 31 by omega)]; exact hs
  have hb' : ¬ ((p >>> (nI t &&& 31)) &&& 1) = 0 := by rw [zm_get p (show t < 32 by omega), hb]; decide
  exact ⟨n + 1, br_f (zo_m2 j (by omega)) (br_f (zo_m1 j (by omega)) ⟨hv, br_f hle (nm_r (zi_4 d j) ⟨hvi, nm_r hs' (br_t rfl (br_t (nI_pos' (by omega)) (br_f hb' (br_t rfl (nm_r (nI_1 j) hn)))))⟩)⟩)⟩
theorem zy_noacj {W : Nat} (hd : d < 8) (hW : wd d = nI W) (hW4 : W ≤ 4) (hj : j < W) (hs : it (d * 4 + j) = nI t) (ho : zb_L op (8 + (d * 4 + j)) = false) (hr : 1024 + nI d = r) : zy_W F op fl mj pk su it wd pm r x2 p (nI d) (nI j) 1 sD sK := by
  intro post hp
  have hv : vp_in (nI d) 8 := vp_in_nI hd (by omega)
  have hle : ¬ wd (nI d).toNatClampNeg ≤ nI j := by rw [nI_clamp (show d < 2 ^ 31 by omega), hW]; exact nI_ge hj (by omega)
  have hvi : vp_in (nI (d * 4 + j)) 32 := vp_in_nI (by omega) (by omega)
  have hs' : it (nI (d * 4 + j)).toNatClampNeg = nI t := by rw [nI_clamp (show d * 4 + j < 2 ^ 31 by omega)]; exact hs
  have ho' : ((op.toUInt64 >>> ((8 + nI (d * 4 + j)).toInt64.toUInt64 &&& Int64.toUInt64 63)).toInt64 &&& 1) = 0 := by
    rw [zi_8, zb_get op (show 8 + (d * 4 + j) < 64 by omega)]; exact ho
  have hq : post (1024 ||| nI d) (F, op, fl, mj, pk, su, it, wd, pm, sD, sK) := by rw [zo_1024 d hd, hr]; exact hp _ _
  exact ⟨1, br_f (zo_m2 j (by omega)) (br_f (zo_m1 j (by omega)) ⟨hv, br_f hle (nm_r (zi_4 d j) ⟨hvi, nm_r hs' (br_f (by decide) (br_t ho' hq))⟩)⟩)⟩
theorem zy_bokj {W : Nat} (hd : d < 8) (hW : wd d = nI W) (hW4 : W ≤ 4) (hj : j < W) (hs : it (d * 4 + j) = nI t) (ho : zb_L op (8 + (d * 4 + j)) = true) (H : zy_W F op fl mj pk su it wd pm r x2 p (nI d) (nI (j + 1)) 0 sD sK) : zy_W F op fl mj pk su it wd pm r x2 p (nI d) (nI j) 1 sD sK := by
  intro post hp
  obtain ⟨n, hn⟩ := H post hp
  have hv : vp_in (nI d) 8 := vp_in_nI hd (by omega)
  have hle : ¬ wd (nI d).toNatClampNeg ≤ nI j := by rw [nI_clamp (show d < 2 ^ 31 by omega), hW]; exact nI_ge hj (by omega)
  have hvi : vp_in (nI (d * 4 + j)) 32 := vp_in_nI (by omega) (by omega)
  have hs' : it (nI (d * 4 + j)).toNatClampNeg = nI t := by rw [nI_clamp (show d * 4 + j < 2 ^ 31 by omega)]; exact hs
  have ho' : ¬ ((op.toUInt64 >>> ((8 + nI (d * 4 + j)).toInt64.toUInt64 &&& Int64.toUInt64 63)).toInt64 &&& 1) = 0 := by
    rw [zi_8, zb_get op (show 8 + (d * 4 + j) < 64 by omega), ho]; decide
  exact ⟨n + 1, br_f (zo_m2 j (by omega)) (br_f (zo_m1 j (by omega)) ⟨hv, br_f hle (nm_r (zi_4 d j) ⟨hvi, nm_r hs' (br_f (by decide) (br_f ho' (br_t rfl (nm_r (nI_1 j) hn))))⟩)⟩)⟩
end
end
section
/-! the reference's end of a class: three loops, then back to the caller -/
section
variable {F : Int32} {op : Int64} {fl mj pk su it wd : Nat → Int32} {pm : Nat → Int64} {sD sK : Nat → Int32} {r x2 p b : Int32} {d t sp W : Nat} {E : Nat → Nat}
theorem zy_l3 {post : Int32 → SY → Prop} {J : Int32 → Int32 → Int32 → Int32 → Int32 → (Nat → Int32) → (Nat → Int32) → (Nat → Int32) → (Nat → Int32) → (Nat → Int32) → (Nat → Int32) → (Nat → Int64) → (Nat → Int32) → (Nat → Int32) → Prop} (hd : d < 8) (hW : wd d = nI W) (hW4 : W ≤ 4) (hE : ∀ j, j < W → E j < 8 ∧ it (d * 4 + j) = nI (E j)) (hsp : sp ≤ 8)
    (hA : (∃ j, j < W ∧ ¬ zp_so fl pk pm (E j) d = 0) → post (1280 ||| nI d) (F, op, fl, mj, pk, su, it, wd, pm, sD, sK))
    (h0 : (∀ j, j < W → zp_so fl pk pm (E j) d = 0) → sp = 0 → post 0 (F, op, fl, mj, pk, su, it, wd, pm, sD, sK))
    (h1 : (∀ j, j < W → zp_so fl pk pm (E j) d = 0) → ∀ s, sp = s + 1 → J (nI s) (p &&& (((1 : Int32) <<< (nI d &&& 31)) ^^^ (-1))) (sD s) (sK s) 1 fl mj pk su it wd pm sD sK) :
    ∀ m j n, j + m = W → m < n → (∀ i, i < j → zp_so fl pk pm (E i) d = 0) → wY_loadVerdict_520 post J (nI sp) p (nI d) (nI (d * 4)) F op fl mj pk su it wd pm sD sK n (nI j) := by
  have hv : vp_in (nI d) 8 := vp_in_nI hd (by omega)
  have hc : (nI d).toNatClampNeg = d := nI_clamp (by omega)
  intro m
  induction m with
  | zero =>
    intro j n hj hn ha
    obtain ⟨n, rfl⟩ : ∃ n', n = n' + 1 := ⟨n - 1, by omega⟩
    have hle : wd (nI d).toNatClampNeg ≤ nI j := by rw [hc, hW]; exact nI_le (by omega) (by omega)
    have ha' : ∀ i, i < W → zp_so fl pk pm (E i) d = 0 := fun i hi => ha i (by omega)
    refine And.intro hv (br_t hle ?_)
    cases sp with
    | zero => exact br_t rfl (h0 ha' rfl)
    | succ s =>
      have hvs : vp_in (nI s) 8 := vp_in_nI (by omega) (by omega)
      have hcs : (nI s).toNatClampNeg = s := nI_clamp (by omega)
      refine br_f (nI_ne0 (by omega) (by omega)) (nm_e (nm_r (pk_m1 s) ⟨hvs, nm_r (congrArg sD hcs) ⟨hvs, nm_r (congrArg sK hcs) (h1 ha' s rfl)⟩⟩))
  | succ m ih =>
    intro j n hj hn ha
    obtain ⟨n, rfl⟩ : ∃ n', n = n' + 1 := ⟨n - 1, by omega⟩
    have hle : ¬ wd (nI d).toNatClampNeg ≤ nI j := by rw [hc, hW]; exact nI_ge (by omega) (by omega)
    have hvi : vp_in (nI (d * 4) + nI j) 32 := by rw [nI_add]; exact vp_in_nI (by omega) (by omega)
    obtain ⟨hEj, hEe⟩ := hE j (by omega)
    have he : it (nI (d * 4) + nI j).toNatClampNeg = nI (E j) := by rw [nI_add, nI_clamp (show d * 4 + j < 2 ^ 31 by omega)]; exact hEe
    refine And.intro hv (br_f hle ⟨hvi, ?_⟩)
    rw [he]
    refine zy_so hEj hd (br_c (fun hz => nm_r (nI_1 j) (ih (j + 1) n (by omega) (by omega) ?_)) (fun hz => hA ⟨j, by omega, hz⟩))
    intro i hi
    by_cases e : i = j
    · rw [e]; exact hz
    · exact ha i (by omega)
theorem zy_l2 {post : Int32 → SY → Prop} {J : Int32 → Int32 → Int32 → Int32 → Int32 → (Nat → Int32) → (Nat → Int32) → (Nat → Int32) → (Nat → Int32) → (Nat → Int32) → (Nat → Int32) → (Nat → Int64) → (Nat → Int32) → (Nat → Int32) → Prop} (hd : d < 8) (hW : wd d = nI W) (hW4 : W ≤ 4) (hE : ∀ j, j < W → E j < 8 ∧ it (d * 4 + j) = nI (E j))
    (hA : (∃ j, j < W ∧ fl (E j) &&& 512 = 0) → post (1280 ||| nI d) (F, op, fl, mj, pk, su, it, wd, pm, sD, sK))
    (h1 : (∀ j, j < W → ¬ fl (E j) &&& 512 = 0) → ∃ n : Nat, wY_loadVerdict_520 post J x2 p (nI d) (nI (d * 4)) F op fl mj pk su it wd pm sD sK n 0) :
    ∀ m j n, j + m = W → m < n → (∀ i, i < j → ¬ fl (E i) &&& 512 = 0) → wY_loadVerdict_470 post J x2 p (nI d) (nI (d * 4)) F op fl mj pk su it wd pm sD sK n (nI j) := by
  have hv : vp_in (nI d) 8 := vp_in_nI hd (by omega)
  have hc : (nI d).toNatClampNeg = d := nI_clamp (by omega)
  intro m
  induction m with
  | zero =>
    intro j n hj hn ha
    obtain ⟨n, rfl⟩ : ∃ n', n = n' + 1 := ⟨n - 1, by omega⟩
    have hle : wd (nI d).toNatClampNeg ≤ nI j := by rw [hc, hW]; exact nI_le (by omega) (by omega)
    exact And.intro hv (br_t hle (h1 fun i hi => ha i (by omega)))
  | succ m ih =>
    intro j n hj hn ha
    obtain ⟨n, rfl⟩ : ∃ n', n = n' + 1 := ⟨n - 1, by omega⟩
    have hle : ¬ wd (nI d).toNatClampNeg ≤ nI j := by rw [hc, hW]; exact nI_ge (by omega) (by omega)
    have hvi : vp_in (nI (d * 4) + nI j) 32 := by rw [nI_add]; exact vp_in_nI (by omega) (by omega)
    obtain ⟨hEj, hEe⟩ := hE j (by omega)
    have he : it (nI (d * 4) + nI j).toNatClampNeg = nI (E j) := by rw [nI_add, nI_clamp (show d * 4 + j < 2 ^ 31 by omega)]; exact hEe
    refine And.intro hv (br_f hle ⟨hvi, ?_⟩)
    rw [he, nI_clamp (show E j < 2 ^ 31 by omega)]
    refine ⟨vp_in_nI hEj (by omega), br_c (fun hz => hA ⟨j, by omega, hz⟩) (fun hz => nm_r (nI_1 j) (ih (j + 1) n (by omega) (by omega) ?_))⟩
    intro i hi
    by_cases e : i = j
    · rw [e]; exact hz
    · exact ha i (by omega)
theorem zy_l1 {post : Int32 → SY → Prop} {J : Int32 → Int32 → Int32 → Int32 → Int32 → (Nat → Int32) → (Nat → Int32) → (Nat → Int32) → (Nat → Int32) → (Nat → Int32) → (Nat → Int32) → (Nat → Int64) → (Nat → Int32) → (Nat → Int32) → Prop} (hd : d < 8) (hW : wd d = nI W) (hW4 : W ≤ 4) (hE : ∀ j, j < W → E j < 8 ∧ it (d * 4 + j) = nI (E j))
    (hA : (∃ j, j < W ∧ bt p (E j) = true) → post (768 ||| nI d) (F, op, fl, mj, pk, su, it, wd, pm, sD, sK))
    (h1 : (∀ j, j < W → bt p (E j) = false) → ∃ n : Nat, wY_loadVerdict_470 post J x2 p (nI d) (nI (d * 4)) F op fl mj pk su it wd pm sD sK n 0) :
    ∀ m j n, j + m = W → m < n → (∀ i, i < j → bt p (E i) = false) → wY_loadVerdict_425 post J x2 p (nI d) (nI (d * 4)) F op fl mj pk su it wd pm sD sK n (nI j) := by
  have hv : vp_in (nI d) 8 := vp_in_nI hd (by omega)
  have hc : (nI d).toNatClampNeg = d := nI_clamp (by omega)
  intro m
  induction m with
  | zero =>
    intro j n hj hn ha
    obtain ⟨n, rfl⟩ : ∃ n', n = n' + 1 := ⟨n - 1, by omega⟩
    have hle : wd (nI d).toNatClampNeg ≤ nI j := by rw [hc, hW]; exact nI_le (by omega) (by omega)
    exact And.intro hv (br_t hle (h1 fun i hi => ha i (by omega)))
  | succ m ih =>
    intro j n hj hn ha
    obtain ⟨n, rfl⟩ : ∃ n', n = n' + 1 := ⟨n - 1, by omega⟩
    have hle : ¬ wd (nI d).toNatClampNeg ≤ nI j := by rw [hc, hW]; exact nI_ge (by omega) (by omega)
    have hvi : vp_in (nI (d * 4) + nI j) 32 := by rw [nI_add]; exact vp_in_nI (by omega) (by omega)
    obtain ⟨hEj, hEe⟩ := hE j (by omega)
    have he : it (nI (d * 4) + nI j).toNatClampNeg = nI (E j) := by rw [nI_add, nI_clamp (show d * 4 + j < 2 ^ 31 by omega)]; exact hEe
    refine And.intro hv (br_f hle ⟨hvi, ?_⟩)
    rw [he, zm_get p (show E j < 32 by omega)]
    refine br_c (fun hz => nm_r (nI_1 j) (ih (j + 1) n (by omega) (by omega) ?_)) (fun hz => hA ⟨j, by omega, ts_nf hz⟩)
    intro i hi
    by_cases e : i = j
    · rw [e]; exact hz
    · exact ha i (by omega)
/-- the end of a class: what each of the three scans finds gives the answer, else back to the caller -/
theorem zy_end (hd : d < 8) (hW : wd d = nI W) (hW4 : W ≤ 4) (hE : ∀ j, j < W → E j < 8 ∧ it (d * 4 + j) = nI (E j)) (hsp : sp ≤ 8)
    (hA : (∃ j, j < W ∧ bt p (E j) = true) → 768 + nI d = r)
    (hB : (∀ j, j < W → bt p (E j) = false) → (∃ j, j < W ∧ fl (E j) &&& 512 = 0) → 1280 + nI d = r)
    (hC : (∀ j, j < W → bt p (E j) = false) → (∀ j, j < W → ¬ fl (E j) &&& 512 = 0) → (∃ j, j < W ∧ ¬ zp_so fl pk pm (E j) d = 0) → 1280 + nI d = r)
    (h0 : (∀ j, j < W → bt p (E j) = false) → (∀ j, j < W → ¬ fl (E j) &&& 512 = 0) → (∀ j, j < W → zp_so fl pk pm (E j) d = 0) → sp = 0 → 0 = r)
    (h1 : (∀ j, j < W → bt p (E j) = false) → (∀ j, j < W → ¬ fl (E j) &&& 512 = 0) → (∀ j, j < W → zp_so fl pk pm (E j) d = 0) → ∀ s, sp = s + 1 → zy_W F op fl mj pk su it wd pm r (nI s) (p &&& (((1 : Int32) <<< (nI d &&& 31)) ^^^ (-1))) (sD s) (sK s) 1 sD sK) :
    zy_W F op fl mj pk su it wd pm r (nI sp) p (nI d) (nI W) b sD sK := by
  intro post hp
  have hv : vp_in (nI d) 8 := vp_in_nI hd (by omega)
  have hle : wd (nI d).toNatClampNeg ≤ nI W := by rw [nI_clamp (show d < 2 ^ 31 by omega), hW]; exact nI_le (by omega) (by omega)
  have key : ∃ n : Nat, (∀ j, j < W → bt p (E j) = false) → (∀ j, j < W → ¬ fl (E j) &&& 512 = 0) → (∀ j, j < W → zp_so fl pk pm (E j) d = 0) → ∀ s, sp = s + 1 → wY_loadVerdict_28 post F op n (nI s) (p &&& (((1 : Int32) <<< (nI d &&& 31)) ^^^ (-1))) (sD s) (sK s) 1 fl mj pk su it wd pm sD sK := by
    by_cases q1 : ∀ j, j < W → bt p (E j) = false
    · by_cases q2 : ∀ j, j < W → ¬ fl (E j) &&& 512 = 0
      · by_cases q3 : ∀ j, j < W → zp_so fl pk pm (E j) d = 0
        · cases sp with
          | zero => exact ⟨0, fun _ _ _ s hs => absurd hs (by omega)⟩
          | succ s =>
            obtain ⟨n, hn⟩ := h1 q1 q2 q3 s rfl post hp
            refine ⟨n, fun _ _ _ s' hs => ?_⟩
            cases (show s = s' by omega)
            exact hn
        · exact ⟨0, fun _ _ z => absurd z q3⟩
      · exact ⟨0, fun _ z => absurd z q2⟩
    · exact ⟨0, fun z => absurd z q1⟩
  obtain ⟨n, hn⟩ := key
  refine ⟨n + 1, br_f (zo_m2 W (by omega)) (br_f (zo_m1 W (by omega)) ⟨hv, br_t hle (nm_r (zi_40 d) ⟨W + 1, ?_⟩)⟩)⟩
  refine zy_l1 (E := E) hd hW hW4 hE (fun q => by rw [zo_768 d hd, hA q]; exact hp _ _) (fun q1 => ⟨W + 1, ?_⟩) W 0 (W + 1) (by omega) (by omega) (fun i hi => absurd hi (by omega))
  refine zy_l2 (E := E) hd hW hW4 hE (fun q => by rw [zo_1280 d hd, hB q1 q]; exact hp _ _) (fun q2 => ⟨W + 1, ?_⟩) W 0 (W + 1) (by omega) (by omega) (fun i hi => absurd hi (by omega))
  exact zy_l3 (E := E) hd hW hW4 hE hsp (fun q => by rw [zo_1280 d hd, hC q1 q2 q]; exact hp _ _) (fun q3 z => by rw [h0 q1 q2 q3 z]; exact hp _ _) (fun q3 s hs => hn q1 q2 q3 s hs) W 0 (W + 1) (by omega) (by omega) (fun i hi => absurd hi (by omega))
end
end
section
/-! the component's load loop, step by step -/
theorem zi_5 (d j : Nat) : nI d * 5 + nI j = nI (d * 5 + j) := by rw [show (5 : Int32) = nI 5 from rfl, pk_mul, nI_add]
theorem zv_b1 : vp_nar .boolean 1 = 1 := rfl
theorem zv_b0 : vp_nar .boolean 0 = 0 := rfl
section
variable {F : Int32} {fl mj pk en ac wd : Nat → Int32} {pm : Nat → Int64} {ip dn st ps : Nat → Int32} {r : Int32} {d t sp k W : Nat}
theorem zx_exit : zx_W F fl mj pk en ac wd pm 0 (-1) ip dn st ps := fun _ hp => ⟨1, br_t (by decide) (hp _ _ _ _)⟩
theorem zx_309 {post : Int32 → SX → Prop} {n : Nat} {T : Int32} (hd : d < 8) (hsp : sp < 8) (hst : st sp = nI d) (hps : ps sp = nI k) (hW : wd d = nI W) (hW4 : W ≤ 4) (hk : k ≤ W) (hT : en (d * 5 + k) = T) (hT1 : k = 0 → ¬ T = -1)
    (h : wX_loadVerdict_309 post (wX_loadVerdict_77 post F n) (nI sp) (nI d) (nI k) (nI (d * 5 + k)) T F fl mj pk en ac wd pm ip dn st ps) : wX_loadVerdict_77 post F (n + 1) (nI sp) fl mj pk en ac wd pm ip dn st ps := by
  have hvs : vp_in (nI sp) 8 := vp_in_nI hsp (by omega)
  have hv : vp_in (nI d) 8 := vp_in_nI hd (by omega)
  have hcs : (nI sp).toNatClampNeg = sp := nI_clamp (by omega)
  have e1 : st (nI sp).toNatClampNeg = nI d := by rw [hcs]; exact hst
  have e2 : ps (nI sp).toNatClampNeg = nI k := by rw [hcs]; exact hps
  have e3 : wd (nI d).toNatClampNeg = nI W := by rw [nI_clamp (show d < 2 ^ 31 by omega)]; exact hW
  have hvi : vp_in (nI (d * 5 + k)) 40 := vp_in_nI (by omega) (by omega)
  have e4 : en (nI (d * 5 + k)).toNatClampNeg = T := by rw [nI_clamp (show d * 5 + k < 2 ^ 31 by omega)]; exact hT
  exact br_f (nI_pos (by omega)) ⟨hvs, nm_r e1 ⟨hvs, nm_r e2 ⟨hv, nm_r e3 (br_t (nI_le hk (by omega)) (nm_r (zi_5 d k) ⟨hvi, nm_r e4 (br_c (fun z => br_f (hT1 ((nI_eq (show k < 2 ^ 31 by omega) (show 0 < 2 ^ 31 by omega)).mp z)) h) (fun _ => h))⟩))⟩⟩⟩
theorem zx_none (hd : d < 8) (hsp : sp < 8) (hst : st sp = nI d) (hps : ps sp = nI 0) (hW : wd d = nI W) (hW4 : W ≤ 4) (hT : en (d * 5) = -1) (H : zx_W F fl mj pk en ac wd pm r (nI sp) ip dn st (upd ps sp (nI 1))) : zx_W F fl mj pk en ac wd pm r (nI sp) ip dn st ps := by
  intro post hp
  obtain ⟨n, hn⟩ := H post hp
  have hvs : vp_in (nI sp) 8 := vp_in_nI hsp (by omega)
  have hv : vp_in (nI d) 8 := vp_in_nI hd (by omega)
  have hcs : (nI sp).toNatClampNeg = sp := nI_clamp (by omega)
  have e1 : st (nI sp).toNatClampNeg = nI d := by rw [hcs]; exact hst
  have e2 : ps (nI sp).toNatClampNeg = nI 0 := by rw [hcs]; exact hps
  have e3 : wd (nI d).toNatClampNeg = nI W := by rw [nI_clamp (show d < 2 ^ 31 by omega)]; exact hW
  have hvi : vp_in (nI (d * 5 + 0)) 40 := vp_in_nI (by omega) (by omega)
  have e4 : en (nI (d * 5 + 0)).toNatClampNeg = -1 := by rw [nI_clamp (show d * 5 + 0 < 2 ^ 31 by omega)]; exact hT
  exact ⟨n + 1, br_f (nI_pos (by omega)) ⟨hvs, nm_r e1 ⟨hvs, nm_r e2 ⟨hv, nm_r e3 (br_t (nI_le (Nat.zero_le W) (by omega)) (nm_r (zi_5 d 0) ⟨hvi, nm_r e4 (br_t rfl (br_t rfl ⟨hvs, nm_r (congrArg (fun q => upd ps q 1) hcs) hn⟩))⟩))⟩⟩⟩⟩
theorem zx_abs (hd : d < 8) (hsp : sp < 8) (hst : st sp = nI d) (hps : ps sp = nI k) (hW : wd d = nI W) (hW4 : W ≤ 4) (hk : k ≤ W) (hT : en (d * 5 + k) = -2) (hr : 512 + nI d = r) : zx_W F fl mj pk en ac wd pm r (nI sp) ip dn st ps := by
  subst hr
  exact fun post hp => ⟨1, zx_309 hd hsp hst hps hW hW4 hk hT (fun _ => by decide) (br_t rfl (hp _ _ _ _))⟩
theorem zx_push (hd : d < 8) (hsp : sp < 8) (hst : st sp = nI d) (hps : ps sp = nI k) (hW : wd d = nI W) (hW4 : W ≤ 4) (hk : k ≤ W) (ht : t < 8) (hT : en (d * 5 + k) = nI t) (hip : ip t = 0) (hdn : dn t = 0) (h0 : zp_pre fl mj t = 0) (hsp1 : sp + 1 < 8)
    (H : zx_W F fl mj pk en ac wd pm r (nI (sp + 1)) (upd ip t 1) dn (upd st (sp + 1) (nI t)) (upd ps (sp + 1) (nI 0))) : zx_W F fl mj pk en ac wd pm r (nI sp) ip dn st ps := by
  intro post hp
  obtain ⟨n, hn⟩ := H post hp
  have hvt : vp_in (nI t) 8 := vp_in_nI ht (by omega)
  have hct : (nI t).toNatClampNeg = t := nI_clamp (by omega)
  have hvs : vp_in (nI (sp + 1)) 8 := vp_in_nI hsp1 (by omega)
  have hcs : (nI (sp + 1)).toNatClampNeg = sp + 1 := nI_clamp (by omega)
  have e1 : ip (nI t).toNatClampNeg = 0 := by rw [hct]; exact hip
  have e2 : dn (nI t).toNatClampNeg = 0 := by rw [hct]; exact hdn
  exact ⟨n + 1, zx_309 hd hsp hst hps hW hW4 hk hT (fun _ => zo_m1 t (by omega)) (br_f (zo_m2 t (by omega)) ⟨hvt, br_t e1 ⟨hvt, br_t e2 (zx_pre ht (br_t h0 (nm_r (nI_1 sp) ⟨hvs, nm_r (congrArg (fun q => upd st q (nI t)) hcs) ⟨hvs, nm_r (congrArg (fun q => upd ps q 0) hcs) ⟨hvt, nm_r (congrArg (fun q => upd ip q 1) hct) hn⟩⟩⟩)))⟩⟩)⟩
theorem zx_pushB (hd : d < 8) (hsp : sp < 8) (hst : st sp = nI d) (hps : ps sp = nI k) (hW : wd d = nI W) (hW4 : W ≤ 4) (hk : k ≤ W) (ht : t < 8) (hT : en (d * 5 + k) = nI t) (hip : ip t = 0) (hdn : dn t = 0) (h0 : ¬ zp_pre fl mj t = 0) (hr : zp_pre fl mj t = r) : zx_W F fl mj pk en ac wd pm r (nI sp) ip dn st ps := by
  subst hr
  intro post hp
  have hvt : vp_in (nI t) 8 := vp_in_nI ht (by omega)
  have hct : (nI t).toNatClampNeg = t := nI_clamp (by omega)
  have e1 : ip (nI t).toNatClampNeg = 0 := by rw [hct]; exact hip
  have e2 : dn (nI t).toNatClampNeg = 0 := by rw [hct]; exact hdn
  exact ⟨1, zx_309 hd hsp hst hps hW hW4 hk hT (fun _ => zo_m1 t (by omega)) (br_f (zo_m2 t (by omega)) ⟨hvt, br_t e1 ⟨hvt, br_t e2 (zx_pre ht (br_f h0 (hp _ _ _ _)))⟩⟩)⟩
theorem zx_noac (hd : d < 8) (hsp : sp < 8) (hst : st sp = nI d) (hps : ps sp = nI k) (hW : wd d = nI W) (hW4 : W ≤ 4) (hk : k ≤ W) (ht : t < 8) (hT : en (d * 5 + k) = nI t) (hip : ip t = 0) (hdn : ¬ dn t = 0) (hac : ac (d * 5 + k) = 0) (hr : 1024 + nI d = r) : zx_W F fl mj pk en ac wd pm r (nI sp) ip dn st ps := by
  subst hr
  intro post hp
  have hvt : vp_in (nI t) 8 := vp_in_nI ht (by omega)
  have hct : (nI t).toNatClampNeg = t := nI_clamp (by omega)
  have hvi : vp_in (nI (d * 5 + k)) 40 := vp_in_nI (by omega) (by omega)
  have e1 : ip (nI t).toNatClampNeg = 0 := by rw [hct]; exact hip
  have e2 : ¬ dn (nI t).toNatClampNeg = 0 := by rw [hct]; exact hdn
  have e3 : ac (nI (d * 5 + k)).toNatClampNeg = 0 := by rw [nI_clamp (show d * 5 + k < 2 ^ 31 by omega)]; exact hac
  exact ⟨1, zx_309 hd hsp hst hps hW hW4 hk hT (fun _ => zo_m1 t (by omega)) (br_f (zo_m2 t (by omega)) ⟨hvt, br_t e1 ⟨hvt, br_f e2 ⟨hvi, br_t e3 (hp _ _ _ _)⟩⟩⟩)⟩
/-- a done target with access: on to the checks -/
theorem zx_406 {post : Int32 → SX → Prop} {n : Nat} (hd : d < 8) (hsp : sp < 8) (hst : st sp = nI d) (hps : ps sp = nI k) (hW : wd d = nI W) (hW4 : W ≤ 4) (hk : k ≤ W) (ht : t < 8) (hT : en (d * 5 + k) = nI t) (hip : ip t = 0) (hdn : ¬ dn t = 0) (hac : ¬ ac (d * 5 + k) = 0)
    (h : wX_loadVerdict_406 post (wX_loadVerdict_77 post F n) (nI sp) (nI d) (nI k) (nI t) F fl mj pk en ac wd pm ip dn st ps) : wX_loadVerdict_77 post F (n + 1) (nI sp) fl mj pk en ac wd pm ip dn st ps := by
  have hvt : vp_in (nI t) 8 := vp_in_nI ht (by omega)
  have hct : (nI t).toNatClampNeg = t := nI_clamp (by omega)
  have hvi : vp_in (nI (d * 5 + k)) 40 := vp_in_nI (by omega) (by omega)
  have e1 : ip (nI t).toNatClampNeg = 0 := by rw [hct]; exact hip
  have e2 : ¬ dn (nI t).toNatClampNeg = 0 := by rw [hct]; exact hdn
  have e3 : ¬ ac (nI (d * 5 + k)).toNatClampNeg = 0 := by rw [nI_clamp (show d * 5 + k < 2 ^ 31 by omega)]; exact hac
  exact zx_309 hd hsp hst hps hW hW4 hk hT (fun _ => zo_m1 t (by omega)) (br_f (zo_m2 t (by omega)) ⟨hvt, br_t e1 ⟨hvt, br_f e2 ⟨hvi, br_f e3 h⟩⟩⟩)
theorem zx_406i {post : Int32 → SX → Prop} {n : Nat} (hd : d < 8) (hsp : sp < 8) (hst : st sp = nI d) (hps : ps sp = nI k) (hW : wd d = nI W) (hW4 : W ≤ 4) (hk : k ≤ W) (ht : t < 8) (hT : en (d * 5 + k) = nI t) (hip : ¬ ip t = 0)
    (h : wX_loadVerdict_406 post (wX_loadVerdict_77 post F n) (nI sp) (nI d) (nI k) (nI t) F fl mj pk en ac wd pm ip dn st ps) : wX_loadVerdict_77 post F (n + 1) (nI sp) fl mj pk en ac wd pm ip dn st ps := by
  have hvt : vp_in (nI t) 8 := vp_in_nI ht (by omega)
  have hct : (nI t).toNatClampNeg = t := nI_clamp (by omega)
  have e1 : ¬ ip (nI t).toNatClampNeg = 0 := by rw [hct]; exact hip
  exact zx_309 hd hsp hst hps hW hW4 hk hT (fun _ => zo_m1 t (by omega)) (br_f (zo_m2 t (by omega)) ⟨hvt, br_f e1 h⟩)
theorem zx_467 {post : Int32 → SX → Prop} {n : Nat} (hsp : sp < 8) (h : wX_loadVerdict_77 post F n (nI sp) fl mj pk en ac wd pm ip dn st (upd ps sp (nI (k + 1)))) : wX_loadVerdict_467 post (wX_loadVerdict_77 post F n) (nI sp) (nI k) F fl mj pk en ac wd pm ip dn st ps := by
  have hvs : vp_in (nI sp) 8 := vp_in_nI hsp (by omega)
  have hcs : (nI sp).toNatClampNeg = sp := nI_clamp (by omega)
  exact And.intro hvs (nm_r (e' := upd ps sp (nI (k + 1))) (by rw [hcs, nI_1]) h)
theorem zx_circ0 (hd : d < 8) (hsp : sp < 8) (hst : st sp = nI d) (hps : ps sp = nI 0) (hW : wd d = nI W) (hW4 : W ≤ 4) (ht : t < 8) (hT : en (d * 5) = nI t) (hip : ¬ ip t = 0) (hr : 768 + nI d = r) : zx_W F fl mj pk en ac wd pm r (nI sp) ip dn st ps := by
  subst hr
  intro post hp
  have hvt : vp_in (nI t) 8 := vp_in_nI ht (by omega)
  have e1 : ¬ ip (nI t).toNatClampNeg = 0 := by rw [nI_clamp (show t < 2 ^ 31 by omega)]; exact hip
  exact ⟨1, zx_406i (k := 0) hd hsp hst hps hW hW4 (Nat.zero_le W) ht hT hip (br_t rfl ⟨hvt, br_f e1 (hp _ _ _ _)⟩)⟩
theorem zx_skip (hd : d < 8) (hsp : sp < 8) (hst : st sp = nI d) (hps : ps sp = nI k) (hW : wd d = nI W) (hW4 : W ≤ 4) (hk : k ≤ W) (hk0 : 0 < k) (ht : t < 8) (hT : en (d * 5 + k) = nI t) (hip : ¬ ip t = 0) (H : zx_W F fl mj pk en ac wd pm r (nI sp) ip dn st (upd ps sp (nI (k + 1)))) : zx_W F fl mj pk en ac wd pm r (nI sp) ip dn st ps := by
  intro post hp
  obtain ⟨n, hn⟩ := H post hp
  exact ⟨n + 1, zx_406i hd hsp hst hps hW hW4 hk ht hT hip (br_f (nI_ne0 hk0 (by omega)) (zx_467 hsp hn))⟩
theorem zx_bokj (hd : d < 8) (hsp : sp < 8) (hst : st sp = nI d) (hps : ps sp = nI k) (hW : wd d = nI W) (hW4 : W ≤ 4) (hk : k ≤ W) (hk0 : 0 < k) (ht : t < 8) (hT : en (d * 5 + k) = nI t) (hip : ip t = 0) (hdn : ¬ dn t = 0) (hac : ¬ ac (d * 5 + k) = 0) (H : zx_W F fl mj pk en ac wd pm r (nI sp) ip dn st (upd ps sp (nI (k + 1)))) : zx_W F fl mj pk en ac wd pm r (nI sp) ip dn st ps := by
  intro post hp
  obtain ⟨n, hn⟩ := H post hp
  exact ⟨n + 1, zx_406 hd hsp hst hps hW hW4 hk ht hT hip hdn hac (br_f (nI_ne0 hk0 (by omega)) (zx_467 hsp hn))⟩
theorem zx_bfl0 (hd : d < 8) (hsp : sp < 8) (hst : st sp = nI d) (hps : ps sp = nI 0) (hW : wd d = nI W) (hW4 : W ≤ 4) (ht : t < 8) (hT : en (d * 5) = nI t) (hip : ip t = 0) (hdn : ¬ dn t = 0) (hac : ¬ ac (d * 5) = 0) (hf : ¬ fl t &&& 528 = 0) (hr : 1280 + nI d = r) : zx_W F fl mj pk en ac wd pm r (nI sp) ip dn st ps := by
  subst hr
  intro post hp
  have hvt : vp_in (nI t) 8 := vp_in_nI ht (by omega)
  have hct : (nI t).toNatClampNeg = t := nI_clamp (by omega)
  have e1 : ip (nI t).toNatClampNeg = 0 := by rw [hct]; exact hip
  have e2 : ¬ fl (nI t).toNatClampNeg &&& 528 = 0 := by rw [hct]; exact hf
  exact ⟨1, zx_406 (k := 0) hd hsp hst hps hW hW4 (Nat.zero_le W) ht hT hip hdn hac (br_t rfl ⟨hvt, br_t e1 ⟨hvt, br_f e2 (hp _ _ _ _)⟩⟩)⟩
theorem zx_bso0 (hd : d < 8) (hsp : sp < 8) (hst : st sp = nI d) (hps : ps sp = nI 0) (hW : wd d = nI W) (hW4 : W ≤ 4) (ht : t < 8) (hT : en (d * 5) = nI t) (hip : ip t = 0) (hdn : ¬ dn t = 0) (hac : ¬ ac (d * 5) = 0) (hf : fl t &&& 528 = 0) (hz : ¬ zp_so fl pk pm t d = 0) (hr : 1280 + nI d = r) : zx_W F fl mj pk en ac wd pm r (nI sp) ip dn st ps := by
  subst hr
  intro post hp
  have hvt : vp_in (nI t) 8 := vp_in_nI ht (by omega)
  have hct : (nI t).toNatClampNeg = t := nI_clamp (by omega)
  have e1 : ip (nI t).toNatClampNeg = 0 := by rw [hct]; exact hip
  have e2 : fl (nI t).toNatClampNeg &&& 528 = 0 := by rw [hct]; exact hf
  exact ⟨1, zx_406 (k := 0) hd hsp hst hps hW hW4 (Nat.zero_le W) ht hT hip hdn hac (br_t rfl ⟨hvt, br_t e1 ⟨hvt, br_t e2 (zx_so ht hd (br_f hz (hp _ _ _ _)))⟩⟩)⟩
theorem zx_bok0 (hd : d < 8) (hsp : sp < 8) (hst : st sp = nI d) (hps : ps sp = nI 0) (hW : wd d = nI W) (hW4 : W ≤ 4) (ht : t < 8) (hT : en (d * 5) = nI t) (hip : ip t = 0) (hdn : ¬ dn t = 0) (hac : ¬ ac (d * 5) = 0) (hf : fl t &&& 528 = 0) (hz : zp_so fl pk pm t d = 0) (H : zx_W F fl mj pk en ac wd pm r (nI sp) ip dn st (upd ps sp (nI 1))) : zx_W F fl mj pk en ac wd pm r (nI sp) ip dn st ps := by
  intro post hp
  obtain ⟨n, hn⟩ := H post hp
  have hvt : vp_in (nI t) 8 := vp_in_nI ht (by omega)
  have hct : (nI t).toNatClampNeg = t := nI_clamp (by omega)
  have e1 : ip (nI t).toNatClampNeg = 0 := by rw [hct]; exact hip
  have e2 : fl (nI t).toNatClampNeg &&& 528 = 0 := by rw [hct]; exact hf
  exact ⟨n + 1, zx_406 (k := 0) hd hsp hst hps hW hW4 (Nat.zero_le W) ht hT hip hdn hac (br_t rfl ⟨hvt, br_t e1 ⟨hvt, br_t e2 (zx_so ht hd (br_t hz (zx_467 (k := 0) hsp hn)))⟩⟩)⟩
end
end
section
/-! the component's end of a class: three loops, then the pop -/
section
variable {F : Int32} {fl mj pk en ac wd : Nat → Int32} {pm : Nat → Int64} {ip dn st ps : Nat → Int32} {r : Int32} {d t sp k W : Nat} {E : Nat → Nat}
theorem zx_l3 {post : Int32 → SX → Prop} {J : Int32 → (Nat → Int32) → (Nat → Int32) → (Nat → Int32) → (Nat → Int32) → (Nat → Int32) → (Nat → Int32) → (Nat → Int64) → (Nat → Int32) → (Nat → Int32) → (Nat → Int32) → (Nat → Int32) → Prop} (hd : d < 8) (hW4 : W ≤ 4) (hE : ∀ j, j < W → E j < 8 ∧ en (d * 5 + 1 + j) = nI (E j))
    (hA : (∃ j, j < W ∧ ¬ zp_so fl pk pm (E j) d = 0) → post (1280 + nI d) (F, fl, mj, pk, en, ac, wd, pm, ip, dn, st, ps))
    (h1 : (∀ j, j < W → zp_so fl pk pm (E j) d = 0) → J (nI sp - 1) fl mj pk en ac wd pm (upd ip d 0) (upd dn d 1) st ps) :
    ∀ m j n, j + m = W → m < n → (∀ i, i < j → zp_so fl pk pm (E i) d = 0) → wX_loadVerdict_206 post J (nI sp) (nI d) (nI W) F fl mj pk en ac wd pm ip dn st ps n (nI (j + 1)) := by
  have hv : vp_in (nI d) 8 := vp_in_nI hd (by omega)
  have hc : (nI d).toNatClampNeg = d := nI_clamp (by omega)
  intro m
  induction m with
  | zero =>
    intro j n hj hn ha
    obtain ⟨n, rfl⟩ : ∃ n', n = n' + 1 := ⟨n - 1, by omega⟩
    have hlt : nI W < nI (j + 1) := nI_lt (by omega) (by omega)
    have ha' : ∀ i, i < W → zp_so fl pk pm (E i) d = 0 := fun i hi => ha i (by omega)
    exact br_t hlt ⟨hv, nm_r (congrArg (fun q => upd dn q 1) hc) ⟨hv, nm_r (congrArg (fun q => upd ip q 0) hc) (nm_e (h1 ha'))⟩⟩
  | succ m ih =>
    intro j n hj hn ha
    obtain ⟨n, rfl⟩ : ∃ n', n = n' + 1 := ⟨n - 1, by omega⟩
    have hlt : ¬ nI W < nI (j + 1) := nI_nlt (by omega) (by omega)
    have hvi : vp_in (nI d * 5 + nI (j + 1)) 40 := by rw [zi_5]; exact vp_in_nI (by omega) (by omega)
    obtain ⟨hEj, hEe⟩ := hE j (by omega)
    have he : en (nI d * 5 + nI (j + 1)).toNatClampNeg = nI (E j) := by
      rw [zi_5, nI_clamp (show d * 5 + (j + 1) < 2 ^ 31 by omega), show d * 5 + (j + 1) = d * 5 + 1 + j by omega]; exact hEe
    refine br_f hlt ⟨hvi, ?_⟩
    rw [he]
    refine zx_so hEj hd (br_c (fun hz => nm_r (nI_1 (j + 1)) (ih (j + 1) n (by omega) (by omega) ?_)) (fun hz => hA ⟨j, by omega, hz⟩))
    intro i hi
    by_cases e : i = j
    · rw [e]; exact hz
    · exact ha i (by omega)
theorem zx_l2 {post : Int32 → SX → Prop} {J : Int32 → (Nat → Int32) → (Nat → Int32) → (Nat → Int32) → (Nat → Int32) → (Nat → Int32) → (Nat → Int32) → (Nat → Int64) → (Nat → Int32) → (Nat → Int32) → (Nat → Int32) → (Nat → Int32) → Prop} (hd : d < 8) (hW4 : W ≤ 4) (hE : ∀ j, j < W → E j < 8 ∧ en (d * 5 + 1 + j) = nI (E j))
    (hA : (∃ j, j < W ∧ fl (E j) &&& 512 = 0) → post (1280 + nI d) (F, fl, mj, pk, en, ac, wd, pm, ip, dn, st, ps))
    (h1 : (∀ j, j < W → ¬ fl (E j) &&& 512 = 0) → ∃ n : Nat, wX_loadVerdict_206 post J (nI sp) (nI d) (nI W) F fl mj pk en ac wd pm ip dn st ps n 1) :
    ∀ m j n, j + m = W → m < n → (∀ i, i < j → ¬ fl (E i) &&& 512 = 0) → wX_loadVerdict_159 post J (nI sp) (nI d) (nI W) F fl mj pk en ac wd pm ip dn st ps n (nI (j + 1)) := by
  intro m
  induction m with
  | zero =>
    intro j n hj hn ha
    obtain ⟨n, rfl⟩ : ∃ n', n = n' + 1 := ⟨n - 1, by omega⟩
    have hlt : nI W < nI (j + 1) := nI_lt (by omega) (by omega)
    exact br_t hlt (h1 fun i hi => ha i (by omega))
  | succ m ih =>
    intro j n hj hn ha
    obtain ⟨n, rfl⟩ : ∃ n', n = n' + 1 := ⟨n - 1, by omega⟩
    have hlt : ¬ nI W < nI (j + 1) := nI_nlt (by omega) (by omega)
    have hvi : vp_in (nI d * 5 + nI (j + 1)) 40 := by rw [zi_5]; exact vp_in_nI (by omega) (by omega)
    obtain ⟨hEj, hEe⟩ := hE j (by omega)
    have he : en (nI d * 5 + nI (j + 1)).toNatClampNeg = nI (E j) := by
      rw [zi_5, nI_clamp (show d * 5 + (j + 1) < 2 ^ 31 by omega), show d * 5 + (j + 1) = d * 5 + 1 + j by omega]; exact hEe
    refine br_f hlt ⟨hvi, ?_⟩
    rw [he, nI_clamp (show E j < 2 ^ 31 by omega)]
    refine ⟨vp_in_nI hEj (by omega), br_c (fun hz => hA ⟨j, by omega, hz⟩) (fun hz => nm_r (nI_1 (j + 1)) (ih (j + 1) n (by omega) (by omega) ?_))⟩
    intro i hi
    by_cases e : i = j
    · rw [e]; exact hz
    · exact ha i (by omega)
theorem zx_l1 {post : Int32 → SX → Prop} {J : Int32 → (Nat → Int32) → (Nat → Int32) → (Nat → Int32) → (Nat → Int32) → (Nat → Int32) → (Nat → Int32) → (Nat → Int64) → (Nat → Int32) → (Nat → Int32) → (Nat → Int32) → (Nat → Int32) → Prop} (hd : d < 8) (hW4 : W ≤ 4) (hE : ∀ j, j < W → E j < 8 ∧ en (d * 5 + 1 + j) = nI (E j))
    (hA : (∃ j, j < W ∧ ¬ ip (E j) = 0) → post (768 + nI d) (F, fl, mj, pk, en, ac, wd, pm, ip, dn, st, ps))
    (h1 : (∀ j, j < W → ip (E j) = 0) → ∃ n : Nat, wX_loadVerdict_159 post J (nI sp) (nI d) (nI W) F fl mj pk en ac wd pm ip dn st ps n 1) :
    ∀ m j n, j + m = W → m < n → (∀ i, i < j → ip (E i) = 0) → wX_loadVerdict_116 post J (nI sp) (nI d) (nI W) F fl mj pk en ac wd pm ip dn st ps n (nI (j + 1)) := by
  intro m
  induction m with
  | zero =>
    intro j n hj hn ha
    obtain ⟨n, rfl⟩ : ∃ n', n = n' + 1 := ⟨n - 1, by omega⟩
    have hlt : nI W < nI (j + 1) := nI_lt (by omega) (by omega)
    exact br_t hlt (h1 fun i hi => ha i (by omega))
  | succ m ih =>
    intro j n hj hn ha
    obtain ⟨n, rfl⟩ : ∃ n', n = n' + 1 := ⟨n - 1, by omega⟩
    have hlt : ¬ nI W < nI (j + 1) := nI_nlt (by omega) (by omega)
    have hvi : vp_in (nI d * 5 + nI (j + 1)) 40 := by rw [zi_5]; exact vp_in_nI (by omega) (by omega)
    obtain ⟨hEj, hEe⟩ := hE j (by omega)
    have he : en (nI d * 5 + nI (j + 1)).toNatClampNeg = nI (E j) := by
      rw [zi_5, nI_clamp (show d * 5 + (j + 1) < 2 ^ 31 by omega), show d * 5 + (j + 1) = d * 5 + 1 + j by omega]; exact hEe
    refine br_f hlt ⟨hvi, ?_⟩
    rw [he, nI_clamp (show E j < 2 ^ 31 by omega)]
    refine ⟨vp_in_nI hEj (by omega), br_c (fun hz => nm_r (nI_1 (j + 1)) (ih (j + 1) n (by omega) (by omega) ?_)) (fun hz => hA ⟨j, by omega, hz⟩)⟩
    intro i hi
    by_cases e : i = j
    · rw [e]; exact hz
    · exact ha i (by omega)
theorem zx_end (hd : d < 8) (hsp : sp < 8) (hst : st sp = nI d) (hps : ps sp = nI (W + 1)) (hW : wd d = nI W) (hW4 : W ≤ 4) (hE : ∀ j, j < W → E j < 8 ∧ en (d * 5 + 1 + j) = nI (E j))
    (hA : (∃ j, j < W ∧ ¬ ip (E j) = 0) → 768 + nI d = r)
    (hB : (∀ j, j < W → ip (E j) = 0) → (∃ j, j < W ∧ fl (E j) &&& 512 = 0) → 1280 + nI d = r)
    (hC : (∀ j, j < W → ip (E j) = 0) → (∀ j, j < W → ¬ fl (E j) &&& 512 = 0) → (∃ j, j < W ∧ ¬ zp_so fl pk pm (E j) d = 0) → 1280 + nI d = r)
    (h1 : (∀ j, j < W → ip (E j) = 0) → (∀ j, j < W → ¬ fl (E j) &&& 512 = 0) → (∀ j, j < W → zp_so fl pk pm (E j) d = 0) → zx_W F fl mj pk en ac wd pm r (nI sp - 1) (upd ip d 0) (upd dn d 1) st ps) :
    zx_W F fl mj pk en ac wd pm r (nI sp) ip dn st ps := by
  intro post hp
  have hvs : vp_in (nI sp) 8 := vp_in_nI hsp (by omega)
  have hv : vp_in (nI d) 8 := vp_in_nI hd (by omega)
  have hcs : (nI sp).toNatClampNeg = sp := nI_clamp (by omega)
  have e1 : st (nI sp).toNatClampNeg = nI d := by rw [hcs]; exact hst
  have e2 : ps (nI sp).toNatClampNeg = nI (W + 1) := by rw [hcs]; exact hps
  have e3 : wd (nI d).toNatClampNeg = nI W := by rw [nI_clamp (show d < 2 ^ 31 by omega)]; exact hW
  have key : ∃ n : Nat, (∀ j, j < W → ip (E j) = 0) → (∀ j, j < W → ¬ fl (E j) &&& 512 = 0) → (∀ j, j < W → zp_so fl pk pm (E j) d = 0) → wX_loadVerdict_77 post F n (nI sp - 1) fl mj pk en ac wd pm (upd ip d 0) (upd dn d 1) st ps := by
    by_cases q1 : ∀ j, j < W → ip (E j) = 0
    · by_cases q2 : ∀ j, j < W → ¬ fl (E j) &&& 512 = 0
      · by_cases q3 : ∀ j, j < W → zp_so fl pk pm (E j) d = 0
        · obtain ⟨n, hn⟩ := h1 q1 q2 q3 post hp
          exact ⟨n, fun _ _ _ => hn⟩
        · exact ⟨0, fun _ _ z => absurd z q3⟩
      · exact ⟨0, fun _ z => absurd z q2⟩
    · exact ⟨0, fun z => absurd z q1⟩
  obtain ⟨n, hn⟩ := key
  refine ⟨n + 1, br_f (nI_pos (by omega)) ⟨hvs, nm_r e1 ⟨hvs, nm_r e2 ⟨hv, nm_r e3 (br_f (nI_ge (by omega) (by omega)) ⟨W + 1, ?_⟩)⟩⟩⟩⟩
  refine zx_l1 (E := E) hd hW4 hE (fun q => by rw [hA q]; exact hp _ _ _ _) (fun q1 => ⟨W + 1, ?_⟩) W 0 (W + 1) (by omega) (by omega) (fun i hi => absurd hi (by omega))
  refine zx_l2 (E := E) hd hW4 hE (fun q => by rw [hB q1 q]; exact hp _ _ _ _) (fun q2 => ⟨W + 1, ?_⟩) W 0 (W + 1) (by omega) (by omega) (fun i hi => absurd hi (by omega))
  exact zx_l3 (E := E) hd hW4 hE (fun q => by rw [hC q1 q2 q]; exact hp _ _ _ _) (fun q3 => hn q1 q2 q3) W 0 (W + 1) (by omega) (by omega) (fun i hi => absurd hi (by omega))
end
end
section
/-! the tables as both sides keep them; the reference walks a class that has ended well once more, and ends well again -/
def zs_T (en ac wd su it : Nat → Int32) (op : Int64) (w : Nat → Nat) : Prop :=
  (∀ i, i < 8 → wd i = nI (w i) ∧ w i ≤ 4) ∧
  (∀ i, i < 8 → en (i * 5) = su i) ∧
  (∀ i j, i < 8 → j < 4 → en (i * 5 + 1 + j) = it (i * 4 + j)) ∧
  (∀ i, i < 8 → (ac (i * 5) = 0 ↔ zb_L op i = false)) ∧
  (∀ i j, i < 8 → j < 4 → (ac (i * 5 + 1 + j) = 0 ↔ zb_L op (8 + (i * 4 + j)) = false)) ∧
  (∀ i, i < 8 → su i = -1 ∨ su i = -2 ∨ ∃ e, e < 8 ∧ su i = nI e) ∧
  (∀ i j, i < 8 → j < 4 → it (i * 4 + j) = -2 ∨ ∃ e, e < 8 ∧ it (i * 4 + j) = nI e)
/-- a class that has ended well: its place k is empty (the superclass alone) or a good class of lower rank -/
def zg_G (fl mj pk en ac : Nat → Int32) (pm : Nat → Int64) (w : Nat → Nat) (D : Nat → Bool) (R : Nat → Nat) (x : Nat) : Prop :=
  zp_pre fl mj x = 0 ∧ ∀ k, k ≤ w x → (k = 0 ∧ en (x * 5 + k) = -1) ∨ ∃ e, e < 8 ∧ en (x * 5 + k) = nI e ∧ D e = true ∧ R e < R x ∧ ¬ ac (x * 5 + k) = 0 ∧ zp_so fl pk pm e x = 0 ∧ (k = 0 → fl e &&& 528 = 0) ∧ (0 < k → ¬ fl e &&& 512 = 0)
section
variable {F : Int32} {op : Int64} {fl mj pk en ac su it wd : Nat → Int32} {pm : Nat → Int64} {w : Nat → Nat}
theorem zy_absK {sD sK : Nat → Int32} {r x2 p : Int32} {d k : Nat} (hT : zs_T en ac wd su it op w) (hd : d < 8) (hk : k ≤ w d) (he : en (d * 5 + k) = -2) (hr : 512 + nI d = r) : zy_W F op fl mj pk su it wd pm r x2 p (nI d) (zk_n k) 0 sD sK := by
  obtain ⟨hw, hs, hi, hoa, hob, hsr, hir⟩ := hT
  cases k with
  | zero => exact zy_abs0 hd (by rw [← hs d hd]; exact he) hr
  | succ j =>
    have h4 := (hw d hd).2
    exact zy_absj hd (hw d hd).1 h4 (show j < w d by omega) (by rw [← hi d j hd (by omega), show d * 5 + 1 + j = d * 5 + (j + 1) by omega]; exact he) hr
theorem zy_downK {sD sK : Nat → Int32} {r p : Int32} {d t k sp : Nat} (hT : zs_T en ac wd su it op w) (hd : d < 8) (hk : k ≤ w d) (ht : t < 8) (hsp : sp < 8) (he : en (d * 5 + k) = nI t) (hb : bt p t = false) (H : zy_W F op fl mj pk su it wd pm r (nI (sp + 1)) p (nI t) (-2) 0 (upd sD sp (nI d)) (upd sK sp (zk_n k))) : zy_W F op fl mj pk su it wd pm r (nI sp) p (nI d) (zk_n k) 0 sD sK := by
  obtain ⟨hw, hs, hi, hoa, hob, hsr, hir⟩ := hT
  cases k with
  | zero => exact zy_down0 hd ht hsp (by rw [← hs d hd]; exact he) hb H
  | succ j =>
    have h4 := (hw d hd).2
    exact zy_downj hd (hw d hd).1 h4 (show j < w d by omega) ht hsp (by rw [← hi d j hd (by omega), show d * 5 + 1 + j = d * 5 + (j + 1) by omega]; exact he) hb H
theorem zy_noacK {sD sK : Nat → Int32} {r x2 p : Int32} {d t k : Nat} (hT : zs_T en ac wd su it op w) (hd : d < 8) (hk : k ≤ w d) (ht : t < 8) (he : en (d * 5 + k) = nI t) (ha : ac (d * 5 + k) = 0) (hr : 1024 + nI d = r) : zy_W F op fl mj pk su it wd pm r x2 p (nI d) (zk_n k) 1 sD sK := by
  obtain ⟨hw, hs, hi, hoa, hob, hsr, hir⟩ := hT
  cases k with
  | zero => exact zy_noac0 hd ht (by rw [← hs d hd]; exact he) ((hoa d hd).mp ha) hr
  | succ j =>
    have h4 := (hw d hd).2
    have e5 : d * 5 + (j + 1) = d * 5 + 1 + j := by omega
    rw [e5] at he ha
    exact zy_noacj hd (hw d hd).1 h4 (show j < w d by omega) (by rw [← hi d j hd (by omega)]; exact he) ((hob d j hd (by omega)).mp ha) hr
theorem zy_okK {sD sK : Nat → Int32} {r x2 p : Int32} {d t k : Nat} (hT : zs_T en ac wd su it op w) (hd : d < 8) (hk : k ≤ w d) (ht : t < 8) (he : en (d * 5 + k) = nI t) (ha : ¬ ac (d * 5 + k) = 0) (hb : bt p t = false) (hf : k = 0 → fl t &&& 528 = 0) (hz : k = 0 → zp_so fl pk pm t d = 0) (H : zy_W F op fl mj pk su it wd pm r x2 p (nI d) (zk_n (k + 1)) 0 sD sK) : zy_W F op fl mj pk su it wd pm r x2 p (nI d) (zk_n k) 1 sD sK := by
  obtain ⟨hw, hs, hi, hoa, hob, hsr, hir⟩ := hT
  cases k with
  | zero => exact zy_bok0 hd ht (by rw [← hs d hd]; exact he) (ts_nf fun z => ha ((hoa d hd).mpr z)) hb (hf rfl) (hz rfl) H
  | succ j =>
    have h4 := (hw d hd).2
    have e5 : d * 5 + (j + 1) = d * 5 + 1 + j := by omega
    rw [e5] at he ha
    exact zy_bokj hd (hw d hd).1 h4 (show j < w d by omega) (by rw [← hi d j hd (by omega)]; exact he) (ts_nf fun z => ha ((hob d j hd (by omega)).mpr z)) H
theorem zy_re {D : Nat → Bool} {R : Nat → Nat} (hT : zs_T en ac wd su it op w) (hG : ∀ x, x < 8 → D x = true → zg_G fl mj pk en ac pm w D R x) :
    ∀ N x, R x < N → x < 8 → D x = true → ∀ (s : Nat) (p : Int32) (Q : Nat → Bool) (sD sK : Nat → Int32), (∀ i, i < 8 → bt p i = Q i) → (∀ y, y < 8 → D y = true → R y ≤ R x → Q y = false) → zn_c Q = s + 1 → ∀ r : Int32,
    (∀ (p' : Int32) (sD' sK' : Nat → Int32), (∀ i, i < 8 → bt p' i = Q i) → (∀ i, i ≤ s → sD' i = sD i ∧ sK' i = sK i) → zy_W F op fl mj pk su it wd pm r (nI s) p' (sD s) (sK s) 1 sD' sK') →
    zy_W F op fl mj pk su it wd pm r (nI (s + 1)) p (nI x) (-2) 0 sD sK := by
  intro N
  induction N with
  | zero => intro x h; exact absurd h (by omega)
  | succ N ih =>
    intro x hR hx hD s p Q sD sK hp hQ hc r H
    obtain ⟨h0, hpl⟩ := hG x hx hD
    have hQx : Q x = false := hQ x hx hD (Nat.le_refl _)
    have hc1 : zn_c (zn_s Q x true) = s + 1 + 1 := by rw [zn_ct hx hQx, hc]
    have h8 : s + 1 + 1 ≤ 8 := by rw [← hc1]; exact zn_cle _
    have hwx := hT.1 x hx
    have hw4 := hwx.2
    have walk : ∀ m k, k + m = w x + 1 → ∀ (p1 : Int32) (sD1 sK1 : Nat → Int32), (∀ i, i < 8 → bt p1 i = zn_s Q x true i) → (∀ i, i ≤ s → sD1 i = sD i ∧ sK1 i = sK i) → zy_W F op fl mj pk su it wd pm r (nI (s + 1)) p1 (nI x) (zk_n k) 0 sD1 sK1 := by
      intro m
      induction m with
      | zero =>
        intro k hk p1 sD1 sK1 hp1 hag
        cases (show k = w x + 1 by omega)
        have hE : ∀ j, j < w x → (en (x * 5 + 1 + j)).toNatClampNeg < 8 ∧ it (x * 4 + j) = nI (en (x * 5 + 1 + j)).toNatClampNeg ∧ bt p1 (en (x * 5 + 1 + j)).toNatClampNeg = false ∧ ¬ fl (en (x * 5 + 1 + j)).toNatClampNeg &&& 512 = 0 ∧ zp_so fl pk pm (en (x * 5 + 1 + j)).toNatClampNeg x = 0 := by
          intro j hj
          rcases hpl (j + 1) (by omega) with ⟨z, _⟩ | ⟨e, he, hee, hDe, hRe, hae, hze, _, hfe⟩
          · exact absurd z (by omega)
          · rw [show x * 5 + (j + 1) = x * 5 + 1 + j by omega] at hee
            have hce : (en (x * 5 + 1 + j)).toNatClampNeg = e := by rw [hee]; exact nI_clamp (by omega)
            rw [hce]
            have hex : e ≠ x := fun z => by rw [z] at hRe; exact absurd hRe (by omega)
            exact ⟨he, by rw [← hT.2.2.1 x j hx (by omega)]; exact hee, by rw [hp1 e he, zn_sn hex]; exact hQ e he hDe (by omega), hfe (by omega), hze⟩
        refine zy_end (E := fun j => (en (x * 5 + 1 + j)).toNatClampNeg) (W := w x) (sp := s + 1) hx hwx.1 hw4 (fun j hj => ⟨(hE j hj).1, (hE j hj).2.1⟩) (by omega) ?_ ?_ ?_ ?_ ?_
        · rintro ⟨j, hj, z⟩
          have z' : bt p1 (en (x * 5 + 1 + j)).toNatClampNeg = true := z
          rw [(hE j hj).2.2.1] at z'
          exact absurd z' (by decide)
        · rintro _ ⟨j, hj, z⟩
          exact absurd z (hE j hj).2.2.2.1
        · rintro _ _ ⟨j, hj, z⟩
          exact absurd (hE j hj).2.2.2.2 z
        · intro _ _ _ z
          exact absurd z (by omega)
        · intro _ _ _ s' hs'
          cases (show s = s' by omega)
          rw [(hag s (Nat.le_refl _)).1, (hag s (Nat.le_refl _)).2]
          refine H _ sD1 sK1 (fun i hi => ?_) hag
          rw [zm_clr p1 (show x < 32 by omega) (show i < 32 by omega), hp1 i hi]
          by_cases e : i = x
          · subst e; rw [hQx]; simp
          · rw [zn_sn e, decide_eq_false e]; simp
      | succ m ihm =>
        intro k hk p1 sD1 sK1 hp1 hag
        rcases hpl k (by omega) with ⟨z, hz⟩ | ⟨e, he, hee, hDe, hRe, hae, hze, hf0, hfe⟩
        · subst z
          exact zy_none hx (by rw [← hT.2.1 x hx]; exact hz) (ihm 1 (by omega) p1 sD1 sK1 hp1 hag)
        · have hex : e ≠ x := fun z => by rw [z] at hRe; exact absurd hRe (by omega)
          have hbe : ∀ q : Int32, (∀ i, i < 8 → bt q i = zn_s Q x true i) → bt q e = false := fun q hq => by rw [hq e he, zn_sn hex]; exact hQ e he hDe (by omega)
          refine zy_downK hT hx (by omega) he (by omega) hee (hbe p1 hp1) ?_
          refine ih e (by omega) he hDe (s + 1) p1 (zn_s Q x true) (upd sD1 (s + 1) (nI x)) (upd sK1 (s + 1) (zk_n k)) hp1 ?_ hc1 r ?_
          · intro y hy hDy hRy
            have hyx : y ≠ x := fun z => by rw [z] at hRy; exact absurd hRy (by omega)
            rw [zn_sn hyx]
            exact hQ y hy hDy (by omega)
          · intro p' sD' sK' hp' hag'
            rw [pk_us, pk_us]
            refine zy_okK hT hx (by omega) he hee hae (hbe p' hp') hf0 (fun _ => hze) (ihm (k + 1) (by omega) p' sD' sK' hp' ?_)
            intro i hi
            have a := hag' i (by omega)
            rw [pk_un (show i ≠ s + 1 by omega), pk_un (show i ≠ s + 1 by omega)] at a
            exact ⟨a.1.trans (hag i hi).1, a.2.trans (hag i hi).2⟩
    refine zy_enter hx h0 (walk (w x + 1) 0 (by omega) _ sD sK (fun i hi => ?_) (fun i _ => ⟨rfl, rfl⟩))
    rw [zm_set p (show x < 32 by omega) (show i < 32 by omega), hp i hi]
    by_cases e : i = x
    · subst e; rw [zn_ss]; simp
    · rw [zn_sn e, decide_eq_false e, Bool.or_false]
end
end
section
/-! the chain: frames 0 .. sp with class S i at place K i; P in the chain, D done, R rank of the done below B -/
def zi_p (fl pk en ac : Nat → Int32) (pm : Nat → Int64) (D : Nat → Bool) (S : Nat → Nat) (i k : Nat) : Prop :=
  (k = 0 ∧ en (S i * 5 + k) = -1) ∨ ∃ e, e < 8 ∧ en (S i * 5 + k) = nI e ∧ ((0 < k ∧ ∃ i', i' ≤ i ∧ S i' = e) ∨ (D e = true ∧ ¬ ac (S i * 5 + k) = 0 ∧ (k = 0 → fl e &&& 528 = 0 ∧ zp_so fl pk pm e (S i) = 0)))
def zi_I (fl mj pk en ac : Nat → Int32) (pm : Nat → Int64) (w : Nat → Nat) (sp : Nat) (P D : Nat → Bool) (S K R : Nat → Nat) (B : Nat) : Prop :=
  (∀ i, i ≤ sp → S i < 8 ∧ P (S i) = true ∧ zp_pre fl mj (S i) = 0) ∧
  (∀ i j, i < j → j ≤ sp → S i ≠ S j) ∧
  (∀ x, x < 8 → P x = true → ∃ i, i ≤ sp ∧ S i = x) ∧
  zn_c P = sp + 1 ∧
  (∀ x, x < 8 → D x = true → P x = false ∧ R x < B ∧ zg_G fl mj pk en ac pm w D R x) ∧
  (∀ i, i ≤ sp → K i ≤ w (S i) + 1 ∧ ∀ k, k < K i → zi_p fl pk en ac pm D S i k) ∧
  (∀ i, i < sp → K i ≤ w (S i) ∧ en (S i * 5 + K i) = nI (S (i + 1)))
def zi_X (sp : Nat) (P D : Nat → Bool) (S K : Nat → Nat) (ip dn st ps : Nat → Int32) : Prop :=
  (∀ i, i < 8 → (ip i = 0 ↔ P i = false)) ∧ (∀ i, i < 8 → (dn i = 0 ↔ D i = false)) ∧ (∀ i, i ≤ sp → st i = nI (S i) ∧ ps i = nI (K i))
def zi_Y (sp : Nat) (P : Nat → Bool) (S K : Nat → Nat) (p : Int32) (sD sK : Nat → Int32) : Prop :=
  (∀ i, i < 8 → bt p i = P i) ∧ (∀ i, i < sp → sD i = nI (S i) ∧ sK i = zk_n (K i))
def zi_wt (P D : Bool) : Nat := if D = true then 0 else if P = true then 1 else 2
def zi_m (P D : Nat → Bool) (k : Nat) : Nat := 6 * zn_8 (fun x => zi_wt (P x) (D x)) + (5 - k)
section
variable {fl mj pk en ac : Nat → Int32} {pm : Nat → Int64} {w : Nat → Nat} {sp : Nat} {P D : Nat → Bool} {S K R : Nat → Nat} {B : Nat} {ip dn st ps : Nat → Int32}
/-! a place passed -/
theorem zi_adv (I : zi_I fl mj pk en ac pm w sp P D S K R B) (hk : K sp ≤ w (S sp)) (hp : zi_p fl pk en ac pm D S sp (K sp)) : zi_I fl mj pk en ac pm w sp P D S (zn_u K sp (K sp + 1)) R B := by
  obtain ⟨i1, i2, i3, i4, i5, i6, i7⟩ := I
  refine ⟨i1, i2, i3, i4, i5, ?_, ?_⟩
  · intro i hi
    by_cases e : i = sp
    · subst e
      rw [zn_us]
      refine ⟨by omega, fun k hk' => ?_⟩
      by_cases e2 : k = K i
      · rw [e2]; exact hp
      · exact (i6 i hi).2 k (by omega)
    · rw [zn_un e]; exact i6 i hi
  · intro i hi
    rw [zn_un (show i ≠ sp by omega)]; exact i7 i hi
theorem zi_Xadv (X : zi_X sp P D S K ip dn st ps) : zi_X sp P D S (zn_u K sp (K sp + 1)) ip dn st (upd ps sp (nI (K sp + 1))) := by
  obtain ⟨x1, x2, x3⟩ := X
  refine ⟨x1, x2, fun i hi => ⟨(x3 i hi).1, ?_⟩⟩
  by_cases e : i = sp
  · subst e; rw [pk_us, zn_us]
  · rw [pk_un e, zn_un e]; exact (x3 i hi).2
theorem zi_Yadv {p : Int32} {sD sK : Nat → Int32} {v : Nat} (Y : zi_Y sp P S K p sD sK) : zi_Y sp P S (zn_u K sp v) p sD sK := by
  obtain ⟨y1, y2⟩ := Y
  refine ⟨y1, fun i hi => ?_⟩
  rw [zn_un (show i ≠ sp by omega)]
  exact y2 i hi
theorem zi_madv (hk : K sp ≤ 4) : zi_m P D (zn_u K sp (K sp + 1) sp) < zi_m P D (K sp) := by
  rw [zn_us]
  unfold zi_m
  omega
/-! a class entered -/
theorem zi_psh {t : Nat} (I : zi_I fl mj pk en ac pm w sp P D S K R B) (ht : t < 8) (hP : P t = false) (hD : D t = false) (h0 : zp_pre fl mj t = 0) (hk : K sp ≤ w (S sp)) (he : en (S sp * 5 + K sp) = nI t) : zi_I fl mj pk en ac pm w (sp + 1) (zn_s P t true) D (zn_u S (sp + 1) t) (zn_u K (sp + 1) 0) R B := by
  obtain ⟨i1, i2, i3, i4, i5, i6, i7⟩ := I
  have hSt : ∀ i, i ≤ sp → S i ≠ t := fun i hi z => by
    have a := (i1 i hi).2.1
    rw [z, hP] at a
    exact absurd a (by decide)
  refine ⟨?_, ?_, ?_, ?_, ?_, ?_, ?_⟩
  · intro i hi
    by_cases e : i = sp + 1
    · subst e; rw [zn_us]; exact ⟨ht, zn_ss, h0⟩
    · rw [zn_un e]
      have a := i1 i (by omega)
      exact ⟨a.1, by rw [zn_sn (hSt i (by omega))]; exact a.2.1, a.2.2⟩
  · intro i j hij hj
    rw [zn_un (show i ≠ sp + 1 by omega)]
    by_cases e : j = sp + 1
    · subst e; rw [zn_us]; exact hSt i (by omega)
    · rw [zn_un e]; exact i2 i j hij (by omega)
  · intro x hx hPx
    by_cases e : x = t
    · exact ⟨sp + 1, Nat.le_refl _, by rw [zn_us, e]⟩
    · rw [zn_sn e] at hPx
      obtain ⟨i, hi, hS⟩ := i3 x hx hPx
      exact ⟨i, by omega, by rw [zn_un (show i ≠ sp + 1 by omega)]; exact hS⟩
  · rw [zn_ct ht hP, i4]
  · intro x hx hDx
    have e : x ≠ t := fun z => by rw [z, hD] at hDx; exact absurd hDx (by decide)
    rw [zn_sn e]
    exact i5 x hx hDx
  · intro i hi
    by_cases e : i = sp + 1
    · subst e; rw [zn_us]; exact ⟨by omega, fun k hk => absurd hk (by omega)⟩
    · rw [zn_un e, zn_un e]
      refine ⟨(i6 i (by omega)).1, fun k hk => ?_⟩
      have a := (i6 i (by omega)).2 k hk
      unfold zi_p at a ⊢
      rw [zn_un e]
      rcases a with a | ⟨q, hq, hqe, a⟩
      · exact Or.inl a
      · refine Or.inr ⟨q, hq, hqe, ?_⟩
        rcases a with ⟨a1, i', a2, a3⟩ | a
        · exact Or.inl ⟨a1, i', a2, by rw [zn_un (show i' ≠ sp + 1 by omega)]; exact a3⟩
        · exact Or.inr a
  · intro i hi
    rw [zn_un (show i ≠ sp + 1 by omega), zn_un (show i ≠ sp + 1 by omega)]
    by_cases e : i = sp
    · subst e; rw [zn_us]; exact ⟨hk, he⟩
    · rw [zn_un (show i + 1 ≠ sp + 1 by omega)]; exact i7 i (by omega)
theorem zi_Xpsh {t : Nat} (X : zi_X sp P D S K ip dn st ps) : zi_X (sp + 1) (zn_s P t true) D (zn_u S (sp + 1) t) (zn_u K (sp + 1) 0) (upd ip t 1) dn (upd st (sp + 1) (nI t)) (upd ps (sp + 1) (nI 0)) := by
  obtain ⟨x1, x2, x3⟩ := X
  refine ⟨?_, x2, ?_⟩
  · intro i hi
    by_cases e : i = t
    · subst e; rw [pk_us, zn_ss]; exact ⟨fun z => absurd z (by decide), fun z => absurd z (by decide)⟩
    · rw [pk_un e, zn_sn e]; exact x1 i hi
  · intro i hi
    by_cases e : i = sp + 1
    · subst e; rw [pk_us, pk_us, zn_us, zn_us]; exact ⟨rfl, rfl⟩
    · rw [pk_un e, pk_un e, zn_un e, zn_un e]; exact x3 i (by omega)
theorem zi_Ypsh {t : Nat} {p : Int32} {sD sK : Nat → Int32} (ht : t < 8) (Y : zi_Y sp P S K p sD sK) : zi_Y (sp + 1) (zn_s P t true) (zn_u S (sp + 1) t) (zn_u K (sp + 1) 0) (p ||| ((1 : Int32) <<< (nI t &&& 31))) (upd sD sp (nI (S sp))) (upd sK sp (zk_n (K sp))) := by
  obtain ⟨y1, y2⟩ := Y
  refine ⟨?_, ?_⟩
  · intro i hi
    rw [zm_set p (show t < 32 by omega) (show i < 32 by omega), y1 i hi]
    by_cases e : i = t
    · subst e; rw [zn_ss]; simp
    · rw [zn_sn e, decide_eq_false e, Bool.or_false]
  · intro i hi
    rw [zn_un (show i ≠ sp + 1 by omega), zn_un (show i ≠ sp + 1 by omega)]
    by_cases e : i = sp
    · subst e; rw [pk_us, pk_us]; exact ⟨rfl, rfl⟩
    · rw [pk_un e, pk_un e]; exact y2 i (by omega)
theorem zi_mpsh {t k : Nat} (ht : t < 8) (hP : P t = false) (hD : D t = false) : zi_m (zn_s P t true) D (zn_u K (sp + 1) 0 (sp + 1)) < zi_m P D k := by
  have e : zn_8 (fun x => zi_wt (zn_s P t true x) (D x)) + zi_wt (P t) (D t) = zn_8 (fun x => zi_wt (P x) (D x)) + zi_wt (zn_s P t true t) (D t) :=
    zn_upd (f := fun x => zi_wt (P x) (D x)) (g := fun x => zi_wt (zn_s P t true x) (D x)) ht (fun x hx => by show zi_wt _ _ = zi_wt _ _; rw [zn_sn hx])
  rw [zn_ss, hP, hD, show zi_wt false false = 2 from rfl, show zi_wt true false = 1 from rfl] at e
  unfold zi_m
  rw [zn_us]
  omega
/-! a class left -/
theorem zi_pop {s d : Nat} (I : zi_I fl mj pk en ac pm w (s + 1) P D S K R B) (hd : S (s + 1) = d)
    (hG : zp_pre fl mj d = 0 ∧ ∀ k, k ≤ w d → (k = 0 ∧ en (d * 5 + k) = -1) ∨ ∃ e, e < 8 ∧ en (d * 5 + k) = nI e ∧ D e = true ∧ ¬ ac (d * 5 + k) = 0 ∧ zp_so fl pk pm e d = 0 ∧ (k = 0 → fl e &&& 528 = 0) ∧ (0 < k → ¬ fl e &&& 512 = 0)) :
    zi_I fl mj pk en ac pm w s (zn_s P d false) (zn_s D d true) S K (zn_u R d B) (B + 1) := by
  obtain ⟨i1, i2, i3, i4, i5, i6, i7⟩ := I
  have hd8 : d < 8 := by rw [← hd]; exact (i1 (s + 1) (Nat.le_refl _)).1
  have hPd : P d = true := by rw [← hd]; exact (i1 (s + 1) (Nat.le_refl _)).2.1
  have hDd : ∀ x, x < 8 → D x = true → x ≠ d := fun x hx hDx z => by
    have a := (i5 x hx hDx).1
    rw [z, hPd] at a
    exact absurd a (by decide)
  have hSd : ∀ i, i ≤ s → S i ≠ d := fun i hi => by rw [← hd]; exact i2 i (s + 1) (by omega) (Nat.le_refl _)
  refine ⟨?_, ?_, ?_, ?_, ?_, ?_, ?_⟩
  · intro i hi
    have a := i1 i (by omega)
    exact ⟨a.1, by rw [zn_sn (hSd i hi)]; exact a.2.1, a.2.2⟩
  · intro i j hij hj
    exact i2 i j hij (by omega)
  · intro x hx hPx
    by_cases e : x = d
    · rw [e, zn_ss] at hPx; exact absurd hPx (by decide)
    · rw [zn_sn e] at hPx
      obtain ⟨i, hi, hS⟩ := i3 x hx hPx
      refine ⟨i, ?_, hS⟩
      have : i ≠ s + 1 := fun z => e (by rw [← hS, z, hd])
      omega
  · have a := zn_cf hd8 hPd
    omega
  · intro x hx hDx
    by_cases e : x = d
    · subst e
      refine ⟨zn_ss, by rw [zn_us]; omega, hG.1, fun k hk => ?_⟩
      rcases hG.2 k hk with a | ⟨q, hq, hqe, hDq, a1, a2, a3, a4⟩
      · exact Or.inl a
      · have hqx := hDd q hq hDq
        exact Or.inr ⟨q, hq, hqe, by rw [zn_sn hqx]; exact hDq, by rw [zn_us, zn_un hqx]; exact (i5 q hq hDq).2.1, a1, a2, a3, a4⟩
    · rw [zn_sn e] at hDx
      obtain ⟨b1, b2, b3, b4⟩ := i5 x hx hDx
      refine ⟨by rw [zn_sn e]; exact b1, by rw [zn_un e]; omega, b3, fun k hk => ?_⟩
      rcases b4 k hk with a | ⟨q, hq, hqe, hDq, hRq, a⟩
      · exact Or.inl a
      · have hqx := hDd q hq hDq
        exact Or.inr ⟨q, hq, hqe, by rw [zn_sn hqx]; exact hDq, by rw [zn_un e, zn_un hqx]; exact hRq, a⟩
  · intro i hi
    refine ⟨(i6 i (by omega)).1, fun k hk => ?_⟩
    rcases (i6 i (by omega)).2 k hk with a | ⟨q, hq, hqe, a⟩
    · exact Or.inl a
    · refine Or.inr ⟨q, hq, hqe, ?_⟩
      rcases a with a | ⟨hDq, a⟩
      · exact Or.inl a
      · exact Or.inr ⟨by rw [zn_sn (hDd q hq hDq)]; exact hDq, a⟩
  · intro i hi
    exact i7 i (by omega)
theorem zi_Xpop {s d : Nat} (X : zi_X (s + 1) P D S K ip dn st ps) : zi_X s (zn_s P d false) (zn_s D d true) S K (upd ip d 0) (upd dn d 1) st ps := by
  obtain ⟨x1, x2, x3⟩ := X
  refine ⟨?_, ?_, fun i hi => x3 i (by omega)⟩
  · intro i hi
    by_cases e : i = d
    · subst e; rw [pk_us, zn_ss]; exact ⟨fun _ => rfl, fun _ => rfl⟩
    · rw [pk_un e, zn_sn e]; exact x1 i hi
  · intro i hi
    by_cases e : i = d
    · subst e; rw [pk_us, zn_ss]; exact ⟨fun z => absurd z (by decide), fun z => absurd z (by decide)⟩
    · rw [pk_un e, zn_sn e]; exact x2 i hi
theorem zi_Ypop {s d : Nat} {p : Int32} {sD sK : Nat → Int32} (hd : d < 8) (Y : zi_Y (s + 1) P S K p sD sK) : zi_Y s (zn_s P d false) S K (p &&& (((1 : Int32) <<< (nI d &&& 31)) ^^^ (-1))) sD sK := by
  obtain ⟨y1, y2⟩ := Y
  refine ⟨?_, fun i hi => y2 i (by omega)⟩
  intro i hi
  rw [zm_clr p (show d < 32 by omega) (show i < 32 by omega), y1 i hi]
  by_cases e : i = d
  · subst e; rw [zn_ss]; simp
  · rw [zn_sn e, decide_eq_false e]; simp
theorem zi_mpop {d k k' : Nat} (hd : d < 8) (hP : P d = true) (hD : D d = false) : zi_m (zn_s P d false) (zn_s D d true) k' < zi_m P D k := by
  have e : zn_8 (fun x => zi_wt (zn_s P d false x) (zn_s D d true x)) + zi_wt (P d) (D d) = zn_8 (fun x => zi_wt (P x) (D x)) + zi_wt (zn_s P d false d) (zn_s D d true d) :=
    zn_upd (f := fun x => zi_wt (P x) (D x)) (g := fun x => zi_wt (zn_s P d false x) (zn_s D d true x)) hd (fun x hx => by show zi_wt _ _ = zi_wt _ _; rw [zn_sn hx, zn_sn hx])
  rw [zn_ss, zn_ss, hP, hD, show zi_wt true false = 1 from rfl, show zi_wt false true = 0 from rfl] at e
  unfold zi_m
  omega
end
end
section
/-! the two load loops in lockstep: one answer for both -/
section
variable {F : Int32} {op : Int64} {fl mj pk en ac su it wd : Nat → Int32} {pm : Nat → Int64} {w : Nat → Nat}
theorem zs_ent {d k : Nat} (hT : zs_T en ac wd su it op w) (hd : d < 8) (hk : k ≤ w d) : (k = 0 ∧ en (d * 5 + k) = -1) ∨ en (d * 5 + k) = -2 ∨ ∃ e, e < 8 ∧ en (d * 5 + k) = nI e := by
  obtain ⟨hw, hs, hi, hoa, hob, hsr, hir⟩ := hT
  cases k with
  | zero =>
    show (0 = 0 ∧ en (d * 5) = -1) ∨ en (d * 5) = -2 ∨ ∃ e, e < 8 ∧ en (d * 5) = nI e
    rw [hs d hd]
    rcases hsr d hd with h | h | h
    · exact Or.inl ⟨rfl, h⟩
    · exact Or.inr (Or.inl h)
    · exact Or.inr (Or.inr h)
  | succ j =>
    have h4 := (hw d hd).2
    rw [show d * 5 + (j + 1) = d * 5 + 1 + j by omega, hi d j hd (by omega)]
    exact Or.inr (hir d j hd (by omega))
/-- what the lockstep says of a state -/
def zz_L (F : Int32) (op : Int64) (fl mj pk en ac su it wd : Nat → Int32) (pm : Nat → Int64) (w : Nat → Nat) (sp : Nat) (P D : Nat → Bool) (S K : Nat → Nat) (ip dn st ps : Nat → Int32) : Prop :=
  ∃ r : Int32, zx_W F fl mj pk en ac wd pm r (nI sp) ip dn st ps ∧ ∀ (p : Int32) (sD sK : Nat → Int32), zi_Y sp P S K p sD sK →
    zy_W F op fl mj pk su it wd pm r (nI sp) p (nI (S sp)) (zk_n (K sp)) 0 sD sK ∧
    ((K sp ≤ w (S sp) ∧ ∃ e, e < 8 ∧ en (S sp * 5 + K sp) = nI e ∧ D e = true) → zy_W F op fl mj pk su it wd pm r (nI sp) p (nI (S sp)) (zk_n (K sp)) 1 sD sK)
variable {sp : Nat} {P D : Nat → Bool} {S K R : Nat → Nat} {B : Nat} {ip dn st ps : Nat → Int32}
theorem zz_inj {e e' : Nat} (h : e < 8) (h' : e' < 8) (z : nI e = nI e') : e = e' := (nI_eq (show e < 2 ^ 31 by omega) (show e' < 2 ^ 31 by omega)).mp z
/-- a place with a done class -/
theorem zz_done {e : Nat} (hT : zs_T en ac wd su it op w) (I : zi_I fl mj pk en ac pm w sp P D S K R B) (X : zi_X sp P D S K ip dn st ps) (hk : K sp ≤ w (S sp)) (he : e < 8) (hee : en (S sp * 5 + K sp) = nI e) (hD : D e = true)
    (ih : ∀ R B ps, zi_I fl mj pk en ac pm w sp P D S (zn_u K sp (K sp + 1)) R B → zi_X sp P D S (zn_u K sp (K sp + 1)) ip dn st ps → zz_L F op fl mj pk en ac su it wd pm w sp P D S (zn_u K sp (K sp + 1)) ip dn st ps) :
    zz_L F op fl mj pk en ac su it wd pm w sp P D S K ip dn st ps := by
  obtain ⟨i1, i2, i3, i4, i5, i6, i7⟩ := id I
  obtain ⟨x1, x2, x3⟩ := id X
  have hd := (i1 sp (Nat.le_refl _)).1
  have hsp : sp + 1 ≤ 8 := by rw [← i4]; exact zn_cle _
  have hW := hT.1 (S sp) hd
  have hW4 := hW.2
  have hst := (x3 sp (Nat.le_refl _)).1
  have hps := (x3 sp (Nat.le_refl _)).2
  have hPe : P e = false := (i5 e he hD).1
  have hip : ip e = 0 := (x1 e he).mpr hPe
  have hdn : ¬ dn e = 0 := fun z => by rw [x2 e he, hD] at z; exact absurd z (by decide)
  have key : ∃ r : Int32, zx_W F fl mj pk en ac wd pm r (nI sp) ip dn st ps ∧ ∀ (p : Int32) (sD sK : Nat → Int32), zi_Y sp P S K p sD sK → zy_W F op fl mj pk su it wd pm r (nI sp) p (nI (S sp)) (zk_n (K sp)) 1 sD sK := by
    by_cases ha : ac (S sp * 5 + K sp) = 0
    · exact ⟨1024 + nI (S sp), zx_noac hd (by omega) hst hps hW.1 hW4 hk he hee hip hdn ha rfl, fun p sD sK Y => zy_noacK hT hd hk he hee ha rfl⟩
    · have fin : (K sp = 0 → fl e &&& 528 = 0) → (K sp = 0 → zp_so fl pk pm e (S sp) = 0) → ∃ r : Int32, zx_W F fl mj pk en ac wd pm r (nI sp) ip dn st (upd ps sp (nI (K sp + 1))) ∧ ∀ (p : Int32) (sD sK : Nat → Int32), zi_Y sp P S K p sD sK → zy_W F op fl mj pk su it wd pm r (nI sp) p (nI (S sp)) (zk_n (K sp)) 1 sD sK := by
        intro hf hz
        obtain ⟨r, hX, hY⟩ := ih R B _ (zi_adv I hk (Or.inr ⟨e, he, hee, Or.inr ⟨hD, ha, fun z => ⟨hf z, hz z⟩⟩⟩)) (zi_Xadv X)
        refine ⟨r, hX, fun p sD sK Y => ?_⟩
        have a := (hY p sD sK (zi_Yadv Y)).1
        rw [zn_us] at a
        exact zy_okK hT hd hk he hee ha (by rw [Y.1 e he]; exact hPe) hf hz a
      by_cases h0 : K sp = 0
      · have hps0 : ps sp = nI 0 := by rw [hps, h0]
        have hee0 : en (S sp * 5) = nI e := by rw [h0] at hee; exact hee
        have ha0 : ¬ ac (S sp * 5) = 0 := by rw [h0] at ha; exact ha
        have hse : su (S sp) = nI e := by rw [← hT.2.1 _ hd]; exact hee0
        have ho : zb_L op (S sp) = true := ts_nf fun z => ha0 ((hT.2.2.2.1 _ hd).mpr z)
        by_cases hf : fl e &&& 528 = 0
        · by_cases hz : zp_so fl pk pm e (S sp) = 0
          · obtain ⟨r, hX, hY⟩ := fin (fun _ => hf) (fun _ => hz)
            rw [h0] at hX
            exact ⟨r, zx_bok0 hd (by omega) hst hps0 hW.1 hW4 he hee0 hip hdn ha0 hf hz hX, hY⟩
          · refine ⟨1280 + nI (S sp), zx_bso0 hd (by omega) hst hps0 hW.1 hW4 he hee0 hip hdn ha0 hf hz rfl, fun p sD sK Y => ?_⟩
            rw [h0]
            exact zy_bso0 hd he hse ho (by rw [Y.1 e he]; exact hPe) hf hz rfl
        · refine ⟨1280 + nI (S sp), zx_bfl0 hd (by omega) hst hps0 hW.1 hW4 he hee0 hip hdn ha0 hf rfl, fun p sD sK Y => ?_⟩
          rw [h0]
          exact zy_bfl0 hd he hse ho (by rw [Y.1 e he]; exact hPe) hf rfl
      · obtain ⟨r, hX, hY⟩ := fin (fun z => absurd z h0) (fun z => absurd z h0)
        exact ⟨r, zx_bokj hd (by omega) hst hps hW.1 hW4 hk (by omega) he hee hip hdn ha hX, hY⟩
  obtain ⟨r, hX, hY⟩ := key
  refine ⟨r, hX, fun p sD sK Y => ⟨?_, fun _ => hY p sD sK Y⟩⟩
  refine zy_downK hT hd hk he (by omega) hee (by rw [Y.1 e he]; exact hPe) ?_
  refine zy_re hT (fun x hx hDx => (i5 x hx hDx).2.2) (R e + 1) e (by omega) he hD sp p P (upd sD sp (nI (S sp))) (upd sK sp (zk_n (K sp))) Y.1 (fun y hy hDy _ => (i5 y hy hDy).1) i4 r ?_
  intro p' sD' sK' hp' hag
  rw [pk_us, pk_us]
  refine hY p' sD' sK' ⟨hp', fun i hi => ?_⟩
  have a := hag i (by omega)
  rw [pk_un (show i ≠ sp by omega), pk_un (show i ≠ sp by omega)] at a
  exact ⟨a.1.trans (Y.2 i hi).1, a.2.trans (Y.2 i hi).2⟩
/-- the end of a class -/
theorem zz_end (hT : zs_T en ac wd su it op w) (I : zi_I fl mj pk en ac pm w sp P D S K R B) (X : zi_X sp P D S K ip dn st ps) (hk : K sp = w (S sp) + 1)
    (ih : ∀ s, sp = s + 1 → ∀ R B, zi_I fl mj pk en ac pm w s (zn_s P (S sp) false) (zn_s D (S sp) true) S K R B → zi_X s (zn_s P (S sp) false) (zn_s D (S sp) true) S K (upd ip (S sp) 0) (upd dn (S sp) 1) st ps → zz_L F op fl mj pk en ac su it wd pm w s (zn_s P (S sp) false) (zn_s D (S sp) true) S K (upd ip (S sp) 0) (upd dn (S sp) 1) st ps) :
    zz_L F op fl mj pk en ac su it wd pm w sp P D S K ip dn st ps := by
  obtain ⟨i1, i2, i3, i4, i5, i6, i7⟩ := id I
  obtain ⟨x1, x2, x3⟩ := id X
  have hd := (i1 sp (Nat.le_refl _)).1
  have hsp : sp + 1 ≤ 8 := by rw [← i4]; exact zn_cle _
  have hW := hT.1 (S sp) hd
  have hW4 := hW.2
  have hst := (x3 sp (Nat.le_refl _)).1
  have hps := (x3 sp (Nat.le_refl _)).2
  rw [hk] at hps
  have hps6 := (i6 sp (Nat.le_refl _)).2
  rw [hk] at hps6
  have hE : ∀ j, j < w (S sp) → ∃ e, e < 8 ∧ (en (S sp * 5 + 1 + j)).toNatClampNeg = e ∧ en (S sp * 5 + (j + 1)) = nI e ∧ ((∃ i', i' ≤ sp ∧ S i' = e) ∨ (D e = true ∧ ¬ ac (S sp * 5 + (j + 1)) = 0)) := by
    intro j hj
    rcases hps6 (j + 1) (by omega) with ⟨z, _⟩ | ⟨e, he, hee, a⟩
    · exact absurd z (by omega)
    · refine ⟨e, he, ?_, hee, ?_⟩
      · rw [show S sp * 5 + 1 + j = S sp * 5 + (j + 1) by omega, hee]; exact nI_clamp (by omega)
      · rcases a with ⟨_, a⟩ | ⟨a1, a2, _⟩
        · exact Or.inl a
        · exact Or.inr ⟨a1, a2⟩
  have hE8 : ∀ j, j < w (S sp) → (en (S sp * 5 + 1 + j)).toNatClampNeg < 8 := fun j hj => by
    obtain ⟨e, he, hce, _⟩ := hE j hj
    rw [hce]; exact he
  have hEn : ∀ j, j < w (S sp) → en (S sp * 5 + 1 + j) = nI (en (S sp * 5 + 1 + j)).toNatClampNeg := fun j hj => by
    obtain ⟨e, he, hce, hee, _⟩ := hE j hj
    rw [hce, ← hee, show S sp * 5 + 1 + j = S sp * 5 + (j + 1) by omega]
  have hEi : ∀ j, j < w (S sp) → it (S sp * 4 + j) = nI (en (S sp * 5 + 1 + j)).toNatClampNeg := fun j hj => by
    rw [← hT.2.2.1 (S sp) j hd (by omega)]; exact hEn j hj
  have main : ∃ r : Int32,
      ((¬ ∀ j, j < w (S sp) → P (en (S sp * 5 + 1 + j)).toNatClampNeg = false) → 768 + nI (S sp) = r) ∧
      ((∀ j, j < w (S sp) → P (en (S sp * 5 + 1 + j)).toNatClampNeg = false) → (¬ ∀ j, j < w (S sp) → ¬ fl (en (S sp * 5 + 1 + j)).toNatClampNeg &&& 512 = 0) → 1280 + nI (S sp) = r) ∧
      ((∀ j, j < w (S sp) → P (en (S sp * 5 + 1 + j)).toNatClampNeg = false) → (∀ j, j < w (S sp) → ¬ fl (en (S sp * 5 + 1 + j)).toNatClampNeg &&& 512 = 0) → (¬ ∀ j, j < w (S sp) → zp_so fl pk pm (en (S sp * 5 + 1 + j)).toNatClampNeg (S sp) = 0) → 1280 + nI (S sp) = r) ∧
      ((∀ j, j < w (S sp) → P (en (S sp * 5 + 1 + j)).toNatClampNeg = false) → (∀ j, j < w (S sp) → ¬ fl (en (S sp * 5 + 1 + j)).toNatClampNeg &&& 512 = 0) → (∀ j, j < w (S sp) → zp_so fl pk pm (en (S sp * 5 + 1 + j)).toNatClampNeg (S sp) = 0) →
        zx_W F fl mj pk en ac wd pm r (nI sp - 1) (upd ip (S sp) 0) (upd dn (S sp) 1) st ps ∧ (sp = 0 → 0 = r) ∧ ∀ (p : Int32) (sD sK : Nat → Int32), zi_Y sp P S K p sD sK → ∀ s, sp = s + 1 → zy_W F op fl mj pk su it wd pm r (nI s) (p &&& (((1 : Int32) <<< (nI (S sp) &&& 31)) ^^^ (-1))) (sD s) (sK s) 1 sD sK) := by
    by_cases q1 : ∀ j, j < w (S sp) → P (en (S sp * 5 + 1 + j)).toNatClampNeg = false
    · by_cases q2 : ∀ j, j < w (S sp) → ¬ fl (en (S sp * 5 + 1 + j)).toNatClampNeg &&& 512 = 0
      · by_cases q3 : ∀ j, j < w (S sp) → zp_so fl pk pm (en (S sp * 5 + 1 + j)).toNatClampNeg (S sp) = 0
        · cases sp with
          | zero => exact ⟨0, fun z => absurd q1 z, fun _ z => absurd q2 z, fun _ _ z => absurd q3 z, fun _ _ _ => ⟨zx_exit, fun _ => rfl, fun _ _ _ _ s hs => absurd hs (by omega)⟩⟩
          | succ s =>
            have hG : zp_pre fl mj (S (s + 1)) = 0 ∧ ∀ k, k ≤ w (S (s + 1)) → (k = 0 ∧ en (S (s + 1) * 5 + k) = -1) ∨ ∃ e, e < 8 ∧ en (S (s + 1) * 5 + k) = nI e ∧ D e = true ∧ ¬ ac (S (s + 1) * 5 + k) = 0 ∧ zp_so fl pk pm e (S (s + 1)) = 0 ∧ (k = 0 → fl e &&& 528 = 0) ∧ (0 < k → ¬ fl e &&& 512 = 0) := by
              refine ⟨(i1 _ (Nat.le_refl _)).2.2, fun k hk' => ?_⟩
              cases k with
              | zero =>
                rcases hps6 0 (by omega) with a | ⟨e, he, hee, a⟩
                · exact Or.inl a
                · rcases a with ⟨z, _⟩ | ⟨a1, a2, a3⟩
                  · exact absurd z (by omega)
                  · exact Or.inr ⟨e, he, hee, a1, a2, (a3 rfl).2, fun _ => (a3 rfl).1, fun z => absurd z (by omega)⟩
              | succ j =>
                obtain ⟨e, he, hce, hee, a⟩ := hE j (by omega)
                have b1 := q1 j (by omega)
                have b2 := q2 j (by omega)
                have b3 := q3 j (by omega)
                rw [hce] at b1 b2 b3
                rcases a with ⟨i', hi', hSi⟩ | ⟨a1, a2⟩
                · have c := (i1 i' hi').2.1
                  rw [hSi, b1] at c
                  exact absurd c (by decide)
                · exact Or.inr ⟨e, he, hee, a1, a2, b3, fun z => absurd z (by omega), fun _ => b2⟩
            obtain ⟨r, hX, hY⟩ := ih s rfl _ _ (zi_pop I rfl hG) (zi_Xpop X)
            refine ⟨r, fun z => absurd q1 z, fun _ z => absurd q2 z, fun _ _ z => absurd q3 z, fun _ _ _ => ⟨by rw [nI_pred]; exact hX, fun z => absurd z (by omega), fun p sD sK Y s' hs' => ?_⟩⟩
            cases (show s = s' by omega)
            have y2 := Y.2 s (by omega)
            rw [y2.1, y2.2]
            exact (hY _ sD sK (zi_Ypop hd Y)).2 ⟨(i7 s (by omega)).1, S (s + 1), hd, (i7 s (by omega)).2, zn_ss⟩
        · exact ⟨1280 + nI (S sp), fun z => absurd q1 z, fun _ z => absurd q2 z, fun _ _ _ => rfl, fun _ _ z => absurd z q3⟩
      · exact ⟨1280 + nI (S sp), fun z => absurd q1 z, fun _ _ => rfl, fun _ z => absurd z q2, fun _ z => absurd z q2⟩
    · exact ⟨768 + nI (S sp), fun _ => rfl, fun z => absurd z q1, fun z => absurd z q1, fun z => absurd z q1⟩
  obtain ⟨r, m1, m2, m3, m4⟩ := main
  refine ⟨r, ?_, fun p sD sK Y => ⟨?_, fun z => absurd z.1 (by omega)⟩⟩
  · have hq : (∀ j, j < w (S sp) → ip (en (S sp * 5 + 1 + j)).toNatClampNeg = 0) → ∀ j, j < w (S sp) → P (en (S sp * 5 + 1 + j)).toNatClampNeg = false := fun q j hj => (x1 _ (hE8 j hj)).mp (q j hj)
    refine zx_end (E := fun j => (en (S sp * 5 + 1 + j)).toNatClampNeg) hd (by omega) hst hps hW.1 hW4 (fun j hj => ⟨hE8 j hj, hEn j hj⟩) ?_ ?_ ?_ ?_
    · rintro ⟨j, hj, z⟩
      exact m1 fun q => z ((x1 _ (hE8 j hj)).mpr (q j hj))
    · rintro q ⟨j, hj, z⟩
      exact m2 (hq q) fun q2 => q2 j hj z
    · rintro q q2 ⟨j, hj, z⟩
      exact m3 (hq q) q2 fun q3 => z (q3 j hj)
    · intro q q2 q3
      exact (m4 (hq q) q2 q3).1
  · rw [hk]
    have hq : (∀ j, j < w (S sp) → bt p (en (S sp * 5 + 1 + j)).toNatClampNeg = false) → ∀ j, j < w (S sp) → P (en (S sp * 5 + 1 + j)).toNatClampNeg = false := fun q j hj => by rw [← Y.1 _ (hE8 j hj)]; exact q j hj
    refine zy_end (E := fun j => (en (S sp * 5 + 1 + j)).toNatClampNeg) hd hW.1 hW4 (fun j hj => ⟨hE8 j hj, hEi j hj⟩) (by omega) ?_ ?_ ?_ ?_ ?_
    · rintro ⟨j, hj, z⟩
      refine m1 fun q => ?_
      have z' : bt p (en (S sp * 5 + 1 + j)).toNatClampNeg = true := z
      rw [Y.1 _ (hE8 j hj), q j hj] at z'
      exact absurd z' (by decide)
    · rintro q ⟨j, hj, z⟩
      exact m2 (hq q) fun q2 => q2 j hj z
    · rintro q q2 ⟨j, hj, z⟩
      exact m3 (hq q) q2 fun q3 => z (q3 j hj)
    · intro q q2 q3
      exact (m4 (hq q) q2 q3).2.1
    · intro q q2 q3 s hs
      exact (m4 (hq q) q2 q3).2.2 p sD sK Y s hs
end
end
section
/-! the lockstep as an induction, and loadVerdict -/
section
variable {F : Int32} {op : Int64} {fl mj pk en ac su it wd : Nat → Int32} {pm : Nat → Int64} {w : Nat → Nat}
theorem zz_lock (hT : zs_T en ac wd su it op w) : ∀ (M sp : Nat) (P D : Nat → Bool) (S K R : Nat → Nat) (B : Nat) (ip dn st ps : Nat → Int32), zi_m P D (K sp) < M → zi_I fl mj pk en ac pm w sp P D S K R B → zi_X sp P D S K ip dn st ps →
    zz_L F op fl mj pk en ac su it wd pm w sp P D S K ip dn st ps := by
  intro M
  induction M with
  | zero => intro sp P D S K R B ip dn st ps h; exact absurd h (by omega)
  | succ M ih =>
    intro sp P D S K R B ip dn st ps hM I X
    obtain ⟨i1, i2, i3, i4, i5, i6, i7⟩ := id I
    obtain ⟨x1, x2, x3⟩ := id X
    have hd := (i1 sp (Nat.le_refl _)).1
    have hsp : sp + 1 ≤ 8 := by rw [← i4]; exact zn_cle _
    have hW := hT.1 (S sp) hd
    have hW4 := hW.2
    have hst := (x3 sp (Nat.le_refl _)).1
    have hps := (x3 sp (Nat.le_refl _)).2
    by_cases hk : K sp ≤ w (S sp)
    · have iha : ∀ (R : Nat → Nat) (B : Nat) (ps : Nat → Int32), zi_I fl mj pk en ac pm w sp P D S (zn_u K sp (K sp + 1)) R B → zi_X sp P D S (zn_u K sp (K sp + 1)) ip dn st ps → zz_L F op fl mj pk en ac su it wd pm w sp P D S (zn_u K sp (K sp + 1)) ip dn st ps :=
        fun R B ps I' X' => ih sp P D S _ R B ip dn st ps (Nat.lt_of_lt_of_le (zi_madv (P := P) (D := D) (K := K) (sp := sp) (by omega)) (by omega)) I' X'
      rcases zs_ent hT hd hk with ⟨h0, he⟩ | he | ⟨e, he8, he⟩
      · obtain ⟨r, hX, hY⟩ := iha R B _ (zi_adv I hk (Or.inl ⟨h0, he⟩)) (zi_Xadv X)
        have he0 : en (S sp * 5) = -1 := by rw [h0] at he; exact he
        rw [h0] at hX hps
        refine ⟨r, zx_none hd (by omega) hst hps hW.1 hW4 he0 hX, fun p sD sK Y => ⟨?_, ?_⟩⟩
        · have a := (hY p sD sK (zi_Yadv Y)).1
          rw [zn_us, h0] at a
          rw [h0]
          exact zy_none hd (by rw [← hT.2.1 _ hd]; exact he0) a
        · rintro ⟨_, e', he', hee', _⟩
          rw [he] at hee'
          exact absurd hee'.symm (zo_m1 e' (by omega))
      · refine ⟨512 + nI (S sp), zx_abs hd (by omega) hst hps hW.1 hW4 hk he rfl, fun p sD sK Y => ⟨zy_absK hT hd hk he rfl, ?_⟩⟩
        rintro ⟨_, e', he', hee', _⟩
        rw [he] at hee'
        exact absurd hee'.symm (zo_m2 e' (by omega))
      · have hDn : D e = false → ∀ q : Prop, (K sp ≤ w (S sp) ∧ ∃ e, e < 8 ∧ en (S sp * 5 + K sp) = nI e ∧ D e = true) → q := by
          rintro z q ⟨_, e', he', hee', hDe'⟩
          rw [he] at hee'
          rw [← zz_inj he8 he' hee', z] at hDe'
          exact absurd hDe' (by decide)
        by_cases hP : P e = true
        · have hDe : D e = false := ts_nt fun z => by
            have a := (i5 e he8 z).1
            rw [hP] at a
            exact absurd a (by decide)
          have hip : ¬ ip e = 0 := fun z => by rw [x1 e he8, hP] at z; exact absurd z (by decide)
          by_cases h0 : K sp = 0
          · have he0 : en (S sp * 5) = nI e := by rw [h0] at he; exact he
            rw [h0] at hps
            refine ⟨768 + nI (S sp), zx_circ0 hd (by omega) hst hps hW.1 hW4 he8 he0 hip rfl, fun p sD sK Y => ⟨?_, hDn hDe _⟩⟩
            rw [h0]
            exact zy_circ0 hd he8 (by rw [← hT.2.1 _ hd]; exact he0) (by rw [Y.1 e he8]; exact hP) rfl
          · obtain ⟨r, hX, hY⟩ := iha R B _ (zi_adv I hk (Or.inr ⟨e, he8, he, Or.inl ⟨by omega, i3 e he8 hP⟩⟩)) (zi_Xadv X)
            refine ⟨r, zx_skip hd (by omega) hst hps hW.1 hW4 hk (by omega) he8 he hip hX, fun p sD sK Y => ⟨?_, hDn hDe _⟩⟩
            have a := (hY p sD sK (zi_Yadv Y)).1
            rw [zn_us] at a
            obtain ⟨j, hj⟩ : ∃ j, K sp = j + 1 := ⟨K sp - 1, by omega⟩
            rw [hj] at a ⊢
            refine zy_skip hd hW.1 hW4 (show j < w (S sp) by omega) he8 ?_ (by rw [Y.1 e he8]; exact hP) a
            rw [← hT.2.2.1 _ j hd (by omega), show S sp * 5 + 1 + j = S sp * 5 + (j + 1) by omega, ← hj]
            exact he
        · have hPe : P e = false := ts_nt hP
          have hip : ip e = 0 := (x1 e he8).mpr hPe
          by_cases hD : D e = true
          · exact zz_done hT I X hk he8 he hD iha
          · have hDe : D e = false := ts_nt hD
            have hdn : dn e = 0 := (x2 e he8).mpr hDe
            by_cases h0 : zp_pre fl mj e = 0
            · have I' := zi_psh I he8 hPe hDe h0 hk he
              have h8 : sp + 1 + 1 ≤ 8 := by rw [← I'.2.2.2.1]; exact zn_cle _
              obtain ⟨r, hX, hY⟩ := ih (sp + 1) _ _ _ _ R B _ dn _ _ (Nat.lt_of_lt_of_le (zi_mpsh (K := K) (sp := sp) (k := K sp) he8 hPe hDe) (by omega)) I' (zi_Xpsh X)
              refine ⟨r, zx_push hd (by omega) hst hps hW.1 hW4 hk he8 he hip hdn h0 (by omega) hX, fun p sD sK Y => ⟨?_, hDn hDe _⟩⟩
              have a := (hY _ _ _ (zi_Ypsh he8 Y)).1
              rw [zn_us, zn_us] at a
              exact zy_downK hT hd hk he8 (by omega) he (by rw [Y.1 e he8]; exact hPe) (zy_enter he8 h0 a)
            · refine ⟨zp_pre fl mj e, zx_pushB hd (by omega) hst hps hW.1 hW4 hk he8 he hip hdn h0 rfl, fun p sD sK Y => ⟨?_, hDn hDe _⟩⟩
              exact zy_downK hT hd hk he8 (by omega) he (by rw [Y.1 e he8]; exact hPe) (zy_enterB he8 h0 rfl)
    · refine zz_end hT I X (by have := (i6 sp (Nat.le_refl _)).1; omega) ?_
      intro s hs R' B' I' X'
      have hPd := (i1 sp (Nat.le_refl _)).2.1
      have hDd : D (S sp) = false := ts_nt fun z => by
        have a := (i5 _ hd z).1
        rw [hPd] at a
        exact absurd a (by decide)
      exact ih s _ _ S K R' B' _ _ st ps (Nat.lt_of_lt_of_le (zi_mpop (k := K sp) hd hPd hDd) (by omega)) I' X'
/-- the marks, all eight put back -/
def zr_0 (a : Nat → Int32) : Nat → Int32 := fun j => if j < 8 then 0 else a j
theorem zr_lt {a : Nat → Int32} {j : Nat} (h : j < 8) : zr_0 a j = 0 := if_pos h
theorem zr_eq {a b : Nat → Int32} (h0 : ∀ j, j < 8 → b j = 0) (h1 : ∀ j, 8 ≤ j → b j = a j) : b = zr_0 a := by
  funext j
  by_cases h : j < 8
  · rw [zr_lt h]; exact h0 j h
  · rw [h1 j (by omega)]; exact (if_neg h).symm
/-- the reset loop, then the first class -/
theorem zx_16 {post : Int32 → SX → Prop} {c : Nat} {ip0 dn0 st ps : Nat → Int32} (hc : c < 8)
    (h0 : ¬ zp_pre fl mj c = 0 → ∀ ip dn : Nat → Int32, post (zp_pre fl mj c) (F, fl, mj, pk, en, ac, wd, pm, ip, dn, st, ps))
    (h1 : zp_pre fl mj c = 0 → ∃ n : Nat, wX_loadVerdict_77 post F n (nI 0) fl mj pk en ac wd pm (upd (zr_0 ip0) c 1) (zr_0 dn0) (upd st 0 (nI c)) (upd ps 0 (nI 0))) :
    ∀ m i n, i + m = 8 → m < n → ∀ ip dn : Nat → Int32, (∀ j, j < i → ip j = 0 ∧ dn j = 0) → (∀ j, i ≤ j → ip j = ip0 j ∧ dn j = dn0 j) → wX_loadVerdict_16 post (nI c) F n (nI i) fl mj pk en ac wd pm ip dn st ps := by
  have hv : vp_in (nI c) 8 := vp_in_nI hc (by omega)
  have hcc : (nI c).toNatClampNeg = c := nI_clamp (by omega)
  intro m
  induction m with
  | zero =>
    intro i n hi hn ip dn ha hb
    obtain ⟨n, rfl⟩ : ∃ n', n = n' + 1 := ⟨n - 1, by omega⟩
    cases (show i = 8 by omega)
    cases zr_eq (a := ip0) (fun j hj => (ha j hj).1) (fun j hj => (hb j hj).1)
    cases zr_eq (a := dn0) (fun j hj => (ha j hj).2) (fun j hj => (hb j hj).2)
    refine br_t (by decide) (zx_pre hc (br_c (fun z => nm_e (nm_e ⟨hv, nm_r (congrArg (fun q => upd (zr_0 ip0) q 1) hcc) (h1 z)⟩)) (fun z => h0 z _ _)))
  | succ m ih =>
    intro i n hi hn ip dn ha hb
    obtain ⟨n, rfl⟩ : ∃ n', n = n' + 1 := ⟨n - 1, by omega⟩
    have hvi : vp_in (nI i) 8 := vp_in_nI (by omega) (by omega)
    have hci : (nI i).toNatClampNeg = i := nI_clamp (by omega)
    refine br_f (nI_ge (b := 8) (by omega) (by decide)) ⟨hvi, nm_r (congrArg (fun q => upd ip q 0) hci) ⟨hvi, nm_r (congrArg (fun q => upd dn q 0) hci) (nm_r (nI_1 i) (ih (i + 1) n (by omega) (by omega) _ _ ?_ ?_))⟩⟩
    · intro j hj
      by_cases e : j = i
      · subst e; rw [pk_us, pk_us]; exact ⟨rfl, rfl⟩
      · rw [pk_un e, pk_un e]; exact ha j (by omega)
    · intro j hj
      rw [pk_un (show j ≠ i by omega), pk_un (show j ≠ i by omega)]; exact hb j (by omega)
theorem zn_c1 {c : Nat} (hc : c < 8) : zn_c (zn_s (fun _ => false) c true) = 1 := by
  rw [zn_ct (P := fun _ => false) hc rfl]; rfl
theorem zz_load {c : Nat} (hT : zs_T en ac wd su it op w) (hc : c < 8) (ip dn st ps : Nat → Int32) : ∃ r : Int32,
    (∀ post : Int32 → SX → Prop, (∀ ip' dn' st' ps' : Nat → Int32, post r (F, fl, mj, pk, en, ac, wd, pm, ip', dn', st', ps')) → ∃ n : Nat, wX_loadVerdict_16 post (nI c) F n 0 fl mj pk en ac wd pm ip dn st ps) ∧
    (∀ (post : Int32 → SY → Prop) (sD sK : Nat → Int32), (∀ sD' sK' : Nat → Int32, post r (F, op, fl, mj, pk, su, it, wd, pm, sD', sK')) → ∃ n : Nat, wY_loadVerdict_28 post F op n 0 0 (nI c) (-2) 0 fl mj pk su it wd pm sD sK) := by
  by_cases h0 : zp_pre fl mj c = 0
  · have start : zz_L F op fl mj pk en ac su it wd pm w 0 (zn_s (fun _ => false) c true) (fun _ => false) (fun _ => c) (fun _ => 0) (upd (zr_0 ip) c 1) (zr_0 dn) (upd st 0 (nI c)) (upd ps 0 (nI 0)) := by
      refine zz_lock hT _ 0 _ _ _ _ (fun _ => 0) 0 _ _ _ _ (Nat.lt_succ_self _) ⟨?_, ?_, ?_, ?_, ?_, ?_, ?_⟩ ⟨?_, ?_, ?_⟩
      · intro i hi; exact ⟨hc, zn_ss, h0⟩
      · intro i j hij hj; exact absurd hij (by omega)
      · intro x hx hP
        by_cases e : x = c
        · exact ⟨0, Nat.le_refl _, e.symm⟩
        · rw [zn_sn e] at hP; exact absurd hP Bool.false_ne_true
      · exact zn_c1 hc
      · intro x hx z; exact absurd z Bool.false_ne_true
      · intro i hi; exact ⟨Nat.zero_le _, fun k hk => absurd hk (Nat.not_lt_zero k)⟩
      · intro i hi; exact absurd hi (by omega)
      · intro i hi
        by_cases e : i = c
        · subst e; rw [pk_us, zn_ss]; exact ⟨fun z => absurd z (by decide), fun z => absurd z (by decide)⟩
        · rw [pk_un e, zn_sn e]; exact ⟨fun _ => rfl, fun _ => zr_lt hi⟩
      · intro i hi; exact ⟨fun _ => rfl, fun _ => zr_lt hi⟩
      · intro i hi
        cases (show i = 0 by omega)
        rw [pk_us, pk_us]; exact ⟨rfl, rfl⟩
    obtain ⟨r, hX, hY⟩ := start
    refine ⟨r, fun post hp => ?_, fun post sD sK hp => ?_⟩
    · exact ⟨9, zx_16 hc (fun z => absurd h0 z) (fun _ => hX post hp) 8 0 9 (by omega) (by omega) ip dn (fun j hj => absurd hj (by omega)) (fun j _ => ⟨rfl, rfl⟩)⟩
    · have a := (hY ((0 : Int32) ||| ((1 : Int32) <<< (nI c &&& 31))) sD sK ⟨fun i hi => ?_, fun i hi => absurd hi (by omega)⟩).1
      · exact zy_enter (x2 := 0) (p := 0) (b := 0) hc h0 a post hp
      · rw [zm_set 0 (show c < 32 by omega) (show i < 32 by omega), b_0]
        by_cases e : i = c
        · subst e; rw [zn_ss]; simp
        · rw [zn_sn e, decide_eq_false e]; rfl
  · refine ⟨zp_pre fl mj c, fun post hp => ?_, fun post sD sK hp => ?_⟩
    · exact ⟨9, zx_16 hc (fun _ ip dn => hp _ _ _ _) (fun z => absurd z h0) 8 0 9 (by omega) (by omega) ip dn (fun j hj => absurd hj (by omega)) (fun j _ => ⟨rfl, rfl⟩)⟩
    · exact zy_enterB (x2 := 0) (p := 0) (b := 0) hc h0 rfl post hp
end
end
section
/-! the relation, and the calls that keep the tables -/
def zs_R (c : Nat) (en ac wd : Nat → Int32) (pm : Nat → Int64) (op : Int64) (su it : Nat → Int32) (w : Nat → Nat) : Prop :=
  c ≤ 8 ∧ zs_T en ac wd su it op w ∧
  (∀ i, i < 8 → (c ≤ i ∨ su i = -1) → ac (i * 5) = 0) ∧
  (∀ i j, i < 8 → j < 4 → w i ≤ j → ac (i * 5 + 1 + j) = 0) ∧
  (∀ i, i < 8 → c ≤ i → wd i = 0 ∧ pm i = 0)
/-- same tables on both sides, the entries laid out otherwise, access as bits of one word; the scratch is free -/
def i_Rel (_ : Nat) (u : SX) (v : SY) : Prop := match u, v with
  | (F, fl, mj, pk, en, ac, wd, pm, _, _, _, _), (F', op, fl', mj', pk', su, it, wd', pm', _, _) =>
    ∃ (c : Nat) (w : Nat → Nat), F = nI c ∧ F' = nI c ∧ fl' = fl ∧ mj' = mj ∧ pk' = pk ∧ wd' = wd ∧ pm' = pm ∧ zs_R c en ac wd pm op su it w
theorem zr_mk {k c : Nat} {fl mj pk en ac wd : Nat → Int32} {pm : Nat → Int64} {op : Int64} {su it : Nat → Int32} {w : Nat → Nat} {ip dn st ps sD sK : Nat → Int32} (h : zs_R c en ac wd pm op su it w) :
    i_Rel k (nI c, fl, mj, pk, en, ac, wd, pm, ip, dn, st, ps) (nI c, op, fl, mj, pk, su, it, wd, pm, sD, sK) := by
  unfold i_Rel
  exact ⟨c, w, rfl, rfl, rfl, rfl, rfl, rfl, rfl, h⟩
theorem zr_el {Q : SX → SY → Prop} {k : Nat} {u : SX} {v : SY} (I : i_Rel k u v)
    (h : ∀ (c : Nat) (fl mj pk en ac wd : Nat → Int32) (pm : Nat → Int64) (op : Int64) (su it : Nat → Int32) (w : Nat → Nat) (ip dn st ps sD sK : Nat → Int32), zs_R c en ac wd pm op su it w → Q (nI c, fl, mj, pk, en, ac, wd, pm, ip, dn, st, ps) (nI c, op, fl, mj, pk, su, it, wd, pm, sD, sK)) : Q u v := by
  obtain ⟨F, fl, mj, pk, en, ac, wd, pm, ip, dn, st, ps⟩ := u
  obtain ⟨F', op, fl', mj', pk', su, it, wd', pm', sD, sK⟩ := v
  unfold i_Rel at I
  obtain ⟨c, w, h1, h2, h3, h4, h5, h6, h7, R⟩ := I
  subst h1 h2 h3 h4 h5 h6 h7
  exact h c _ _ _ en ac _ _ op su it w ip dn st ps sD sK R
theorem zi_50 (d : Nat) : nI d * 5 = nI (d * 5) := by rw [show (5 : Int32) = nI 5 from rfl, pk_mul]
theorem zu_same {f : Nat → Int32} {k : Nat} {x : Int32} (h : f k = x) : upd f k x = f := by
  funext j
  by_cases e : j = k
  · subst e; rw [pk_us, h]
  · rw [pk_un e]
theorem zu_sameL {f : Nat → Int64} {k : Nat} {x : Int64} (h : f k = x) : vp_updL f k x = f := by
  funext j
  by_cases e : j = k
  · subst e; rw [pk_uLs, h]
  · rw [pk_uLn e]
theorem zu_sm1 : vp_nar .short (-1) = -1 := by rw [vp_nar_short]; decide
theorem zu_s2 : (-2 : Int32).toInt16.toInt32 = -2 := by decide
theorem zu_s8 : ∀ e, e < 8 → (nI e).toInt16.toInt32 = nI e := by decide +kernel
theorem zu_s {s : Int32} (h : s = -2 ∨ ∃ e, e < 8 ∧ s = nI e) : vp_nar .short s.toInt16.toInt32 = s := by
  rw [pk_vs]
  rcases h with h | ⟨e, he, h⟩
  · rw [h]; exact zu_s2
  · rw [h]; exact zu_s8 e he
theorem zu_b4 : ∀ n, n < 4 → (nI n + 1).toInt8.toInt32 = nI (n + 1) := by decide +kernel
theorem zu_b {n : Nat} (h : n < 4) : vp_nar .byte ((nI n + 1).toInt8.toInt32) = nI (n + 1) := by rw [pk_vb]; exact zu_b4 n h
theorem zu_z (v : Int32) : vp_nar .boolean (lw_bz v) = lw_bz v := by
  rcases lw_bz_01 v with h | h <;> rw [h] <;> rfl
theorem i_up {k : Nat} {u : SX} {v : SY} (h : i_Rel k u v) : i_Rel (k + 4) u v := h
theorem zr_0R : zs_R 0 (fun _ => 0) (fun _ => 0) (fun _ => 0) (fun _ => 0) 0 (fun _ => 0) (fun _ => 0) (fun _ => 0) := by
  refine ⟨by omega, ⟨?_, ?_, ?_, ?_, ?_, ?_, ?_⟩, ?_, ?_, ?_⟩
  · intro i hi; exact ⟨rfl, Nat.zero_le _⟩
  · intro i hi; rfl
  · intro i j hi hj; rfl
  · intro i hi; rw [zb_0]; exact ⟨fun _ => rfl, fun _ => rfl⟩
  · intro i j hi hj; rw [zb_0]; exact ⟨fun _ => rfl, fun _ => rfl⟩
  · intro i hi; exact Or.inr (Or.inr ⟨0, by omega, rfl⟩)
  · intro i j hi hj; exact Or.inr ⟨0, by omega, rfl⟩
  · intro i hi h; rfl
  · intro i j hi hj h; rfl
  · intro i hi h; exact ⟨rfl, rfl⟩
theorem i_vc0 : wpX_init (fun u => wpY_init (fun v => i_Rel 0 u v)) :=
  zr_mk (k := 0) (c := 0) (fl := fun _ => 0) (mj := fun _ => 0) (pk := fun _ => 0) (ip := fun _ => 0) (dn := fun _ => 0) (st := fun _ => 0) (ps := fun _ => 0) (sD := fun _ => 0) (sK := fun _ => 0) zr_0R
/-! addClass -/
theorem zr_add {c : Nat} {en ac wd : Nat → Int32} {pm : Nat → Int64} {op : Int64} {su it : Nat → Int32} {w : Nat → Nat} (hc : c < 8) (R : zs_R c en ac wd pm op su it w) : zs_R (c + 1) (upd en (c * 5) (-1)) (upd ac (c * 5) 0) wd pm op (upd su c (-1)) it w := by
  obtain ⟨r1, ⟨hw, hs, hi, hoa, hob, hsr, hir⟩, r3, r4, r5⟩ := R
  refine ⟨by omega, ⟨hw, ?_, ?_, ?_, ?_, ?_, hir⟩, ?_, ?_, ?_⟩
  · intro i hi'
    by_cases e : i = c
    · subst e; rw [pk_us, pk_us]
    · rw [pk_un e, pk_un (show i * 5 ≠ c * 5 by omega)]; exact hs i hi'
  · intro i j hi' hj
    rw [pk_un (show i * 5 + 1 + j ≠ c * 5 by omega)]; exact hi i j hi' hj
  · intro i hi'
    by_cases e : i = c
    · subst e
      rw [pk_us]
      have a := (hoa i hi').mp (r3 i hi' (Or.inl (Nat.le_refl _)))
      exact ⟨fun _ => a, fun _ => rfl⟩
    · rw [pk_un (show i * 5 ≠ c * 5 by omega)]; exact hoa i hi'
  · intro i j hi' hj
    rw [pk_un (show i * 5 + 1 + j ≠ c * 5 by omega)]; exact hob i j hi' hj
  · intro i hi'
    by_cases e : i = c
    · subst e; rw [pk_us]; exact Or.inl rfl
    · rw [pk_un e]; exact hsr i hi'
  · intro i hi' h
    by_cases e : i = c
    · subst e; rw [pk_us]
    · rw [pk_un e] at h
      rw [pk_un (show i * 5 ≠ c * 5 by omega)]
      exact r3 i hi' (h.elim (fun z => Or.inl (by omega)) Or.inr)
  · intro i j hi' hj h
    rw [pk_un (show i * 5 + 1 + j ≠ c * 5 by omega)]; exact r4 i j hi' hj h
  · intro i hi' h
    exact r5 i hi' (by omega)
theorem i_vc_addClass {k : Nat} {u : SX} {v : SY} (I : i_Rel k u v) (hk : k + 4 ≤ 2048) (v1 : Int32) (v2 : Int32) (v3 : Int32) : wpX_addClass (fun r u' => wpY_addClass (fun r' v' => r' = r ∧ i_Rel (k + 4) u' v') v v1 v2 v3) u v1 v2 v3 := by
  refine zr_el (Q := fun u v => wpX_addClass (fun r u' => wpY_addClass (fun r' v' => r' = r ∧ i_Rel (k + 4) u' v') v v1 v2 v3) u v1 v2 v3) I ?_
  intro c fl mj pk en ac wd pm op su it w ip dn st ps sD sK R
  have r1 := R.1
  by_cases hc : c < 8
  · have hlt : nI c < 8 := nI_lt (b := 8) hc (by omega)
    have hv : vp_in (nI c) 8 := vp_in_nI hc (by omega)
    have hv5 : vp_in (nI c * 5) 40 := by rw [zi_50]; exact vp_in_nI (by omega) (by omega)
    have hcc : (nI c).toNatClampNeg = c := nI_clamp (by omega)
    have hc5 : (nI c * 5).toNatClampNeg = c * 5 := by rw [zi_50]; exact nI_clamp (by omega)
    have r5 := R.2.2.2.2 c hc (Nat.le_refl _)
    refine br_t hlt ⟨hv, nm_r (e' := upd fl c _) (by rw [hcc]) ⟨hv, nm_r (e' := upd mj c _) (by rw [hcc]) ⟨hv, nm_r (e' := upd pk c _) (by rw [hcc]) ⟨hv5, nm_r (e' := upd en (c * 5) (-1)) (by rw [hc5]) ⟨hv5, nm_r (e' := upd ac (c * 5) 0) (by rw [hc5]; rfl) ⟨hv, nm_r (e' := wd) (by rw [hcc]; exact zu_same r5.1) ⟨hv, nm_r (e' := pm) (by rw [hcc]; exact zu_sameL r5.2) (nm_r (nI_1 c) ?_)⟩⟩⟩⟩⟩⟩⟩
    refine br_t hlt ⟨hv, nm_r (e' := upd fl c ((v1.toUInt32 % 65536).toInt32)) (by rw [hcc, pk_vc]) ⟨hv, nm_r (e' := upd mj c ((v2.toUInt32 % 65536).toInt32)) (by rw [hcc, pk_vc]) ⟨hv, nm_r (e' := upd pk c v3.toInt16.toInt32) (by rw [hcc, pk_vs]) ⟨hv, nm_r (e' := upd su c (-1)) (by rw [hcc, zu_sm1]) (nm_r (nI_1 c) ⟨rfl, ?_⟩)⟩⟩⟩⟩
    exact zr_mk (zr_add hc R)
  · have hlt : ¬ nI c < 8 := nI_nlt (b := 8) (by omega) (by omega)
    exact br_f hlt (br_f hlt ⟨rfl, zr_mk R⟩)
end
section
/-! setSuper, addInterface, permit, permitted, loadVerdict -/
/-- the open word after a mark (or none) -/
def zo_w (op : Int64) (b : Int32) (j : Nat) : Int64 := if b = 0 then op else op ||| ((1 : Int64) <<< ((nI j).toInt64 &&& 63))
theorem zo_wn {op : Int64} {b : Int32} {j i : Nat} (hj : j < 64) (h : j ≠ i) : zb_L (zo_w op b j) i = zb_L op i := by
  unfold zo_w
  by_cases e : b = 0
  · rw [if_pos e]
  · rw [if_neg e, zb_or op hj, decide_eq_false h, Bool.or_false]
theorem zo_ws {op : Int64} {b : Int32} {j : Nat} (hj : j < 64) (h : zb_L op j = false) : b = 0 ↔ zb_L (zo_w op b j) j = false := by
  unfold zo_w
  by_cases e : b = 0
  · rw [if_pos e]; exact ⟨fun _ => h, fun _ => e⟩
  · rw [if_neg e, zb_or op hj]; exact ⟨fun z => absurd z e, fun z => by simp at z⟩
section
variable {c d : Nat} {fl mj pk en ac wd : Nat → Int32} {pm : Nat → Int64} {op : Int64} {su it : Nat → Int32} {w : Nat → Nat} {ip dn st ps sD sK : Nat → Int32} {s b : Int32}
theorem zr_sup (hd : d < c) (hs2 : s = -2 ∨ ∃ e, e < 8 ∧ s = nI e) (hsu : su d = -1) (R : zs_R c en ac wd pm op su it w) : zs_R c (upd en (d * 5) s) (upd ac (d * 5) b) wd pm (zo_w op b d) (upd su d s) it w := by
  obtain ⟨r1, ⟨hw, hs, hi, hoa, hob, hsr, hir⟩, r3, r4, r5⟩ := R
  refine ⟨r1, ⟨hw, ?_, ?_, ?_, ?_, ?_, hir⟩, ?_, ?_, r5⟩
  · intro i hi'
    by_cases e : i = d
    · subst e; rw [pk_us, pk_us]
    · rw [pk_un e, pk_un (show i * 5 ≠ d * 5 by omega)]; exact hs i hi'
  · intro i j hi' hj
    rw [pk_un (show i * 5 + 1 + j ≠ d * 5 by omega)]; exact hi i j hi' hj
  · intro i hi'
    by_cases e : i = d
    · subst e
      rw [pk_us]
      exact zo_ws (by omega) ((hoa i hi').mp (r3 i hi' (Or.inr hsu)))
    · rw [pk_un (show i * 5 ≠ d * 5 by omega), zo_wn (by omega) (show d ≠ i by omega)]; exact hoa i hi'
  · intro i j hi' hj
    rw [pk_un (show i * 5 + 1 + j ≠ d * 5 by omega), zo_wn (by omega) (show d ≠ 8 + (i * 4 + j) by omega)]; exact hob i j hi' hj
  · intro i hi'
    by_cases e : i = d
    · subst e; rw [pk_us]; exact Or.inr hs2
    · rw [pk_un e]; exact hsr i hi'
  · intro i hi' h
    by_cases e : i = d
    · subst e
      rw [pk_us] at h
      rcases h with h | h
      · exact absurd h (by omega)
      · rcases hs2 with z | ⟨q, hq, z⟩
        · rw [z] at h; exact absurd h (by decide)
        · rw [z] at h; exact absurd h (zo_m1 q (by omega))
    · rw [pk_un e] at h
      rw [pk_un (show i * 5 ≠ d * 5 by omega)]
      exact r3 i hi' h
  · intro i j hi' hj h
    rw [pk_un (show i * 5 + 1 + j ≠ d * 5 by omega)]; exact r4 i j hi' hj h
theorem zr_itf (hd : d < c) (hs2 : s = -2 ∨ ∃ e, e < 8 ∧ s = nI e) (hw4 : w d < 4) (R : zs_R c en ac wd pm op su it w) : zs_R c (upd en (d * 5 + 1 + w d) s) (upd ac (d * 5 + 1 + w d) b) (upd wd d (nI (w d + 1))) pm (zo_w op b (8 + (d * 4 + w d))) su (upd it (d * 4 + w d) s) (zn_u w d (w d + 1)) := by
  obtain ⟨r1, ⟨hw, hs, hi, hoa, hob, hsr, hir⟩, r3, r4, r5⟩ := R
  refine ⟨r1, ⟨?_, ?_, ?_, ?_, ?_, hsr, ?_⟩, ?_, ?_, ?_⟩
  · intro i hi'
    by_cases e : i = d
    · subst e; rw [pk_us, zn_us]; exact ⟨rfl, by omega⟩
    · rw [pk_un e, zn_un e]; exact hw i hi'
  · intro i hi'
    rw [pk_un (show i * 5 ≠ d * 5 + 1 + w d by omega)]; exact hs i hi'
  · intro i j hi' hj
    by_cases e : i = d ∧ j = w d
    · rw [e.1, e.2, pk_us, pk_us]
    · rw [pk_un (show i * 5 + 1 + j ≠ d * 5 + 1 + w d by omega), pk_un (show i * 4 + j ≠ d * 4 + w d by omega)]; exact hi i j hi' hj
  · intro i hi'
    rw [pk_un (show i * 5 ≠ d * 5 + 1 + w d by omega), zo_wn (by omega) (show 8 + (d * 4 + w d) ≠ i by omega)]; exact hoa i hi'
  · intro i j hi' hj
    by_cases e : i = d ∧ j = w d
    · rw [e.1, e.2, pk_us]
      have hd8 : d < 8 := by omega
      exact zo_ws (by omega) ((hob d (w d) hd8 hw4).mp (r4 d (w d) hd8 hw4 (Nat.le_refl _)))
    · rw [pk_un (show i * 5 + 1 + j ≠ d * 5 + 1 + w d by omega), zo_wn (by omega) (show 8 + (d * 4 + w d) ≠ 8 + (i * 4 + j) by omega)]; exact hob i j hi' hj
  · intro i j hi' hj
    by_cases e : i = d ∧ j = w d
    · rw [e.1, e.2, pk_us]; exact hs2
    · rw [pk_un (show i * 4 + j ≠ d * 4 + w d by omega)]; exact hir i j hi' hj
  · intro i hi' h
    rw [pk_un (show i * 5 ≠ d * 5 + 1 + w d by omega)]; exact r3 i hi' h
  · intro i j hi' hj h
    by_cases e : i = d
    · subst e
      rw [zn_us] at h
      rw [pk_un (show i * 5 + 1 + j ≠ i * 5 + 1 + w i by omega)]; exact r4 i j hi' hj (by omega)
    · rw [zn_un e] at h
      rw [pk_un (show i * 5 + 1 + j ≠ d * 5 + 1 + w d by omega)]; exact r4 i j hi' hj h
  · intro i hi' h
    rw [pk_un (show i ≠ d by omega)]; exact r5 i hi' h
theorem zr_per {x : Int64} (hd : d < c) (R : zs_R c en ac wd pm op su it w) : zs_R c en ac wd (vp_updL pm d x) op su it w := by
  obtain ⟨r1, r2, r3, r4, r5⟩ := R
  refine ⟨r1, r2, r3, r4, fun i hi h => ?_⟩
  rw [pk_uLn (show i ≠ d by omega)]; exact r5 i hi h
/-! setSuper -/
theorem zx_ssA {post : Int32 → SX → Prop} (hd : d < c) (hc : c ≤ 8) (hs : s = -2 ∨ (¬ s < 0 ∧ s < nI c)) (h : wX_setSuper_35 post (nI d) s b (nI c) fl mj pk en ac wd pm ip dn st ps) : wpX_setSuper post (nI c, fl, mj, pk, en, ac, wd, pm, ip, dn, st, ps) (nI d) s b :=
  br_f (nI_pos (by omega)) (br_t (nI_lt hd (by omega)) (br_c (fun _ => h) (fun n => br_f (hs.elim (fun z => absurd z n) (fun z => z.1)) (br_t (hs.elim (fun z => absurd z n) (fun z => z.2)) h))))
theorem zy_ssA {post : Int32 → SY → Prop} (hd : d < c) (hc : c ≤ 8) (hs : s = -2 ∨ (¬ s < 0 ∧ s < nI c)) (h : wY_setSuper_35 post (nI d) s b (nI c) op fl mj pk su it wd pm sD sK) : wpY_setSuper post (nI c, op, fl, mj, pk, su, it, wd, pm, sD, sK) (nI d) s b :=
  br_f (nI_pos (by omega)) (br_t (nI_lt hd (by omega)) (br_c (fun _ => h) (fun n => br_f (hs.elim (fun z => absurd z n) (fun z => z.1)) (br_t (hs.elim (fun z => absurd z n) (fun z => z.2)) h))))
theorem zx_ss35 {post : Int32 → SX → Prop} (hd : d < 8) (hb : vp_nar .boolean b = b) (he : en (d * 5) = su d)
    (h0 : su d = -1 → post 0 (nI c, fl, mj, pk, upd en (d * 5) s, upd ac (d * 5) b, wd, pm, ip, dn, st, ps)) (h1 : ¬ su d = -1 → post (-4) (nI c, fl, mj, pk, en, ac, wd, pm, ip, dn, st, ps)) : wX_setSuper_35 post (nI d) s b (nI c) fl mj pk en ac wd pm ip dn st ps := by
  have hv5 : vp_in (nI d * 5) 40 := by rw [zi_50]; exact vp_in_nI (by omega) (by omega)
  have hc5 : (nI d * 5).toNatClampNeg = d * 5 := by rw [zi_50]; exact nI_clamp (by omega)
  have e1 : en (nI d * 5).toNatClampNeg = su d := by rw [hc5]; exact he
  refine And.intro hv5 (br_c (fun z => ⟨hv5, nm_r (e' := upd en (d * 5) s) (by rw [hc5]) ⟨hv5, nm_r (e' := upd ac (d * 5) b) (by rw [hc5, hb]) (h0 (e1.symm.trans z))⟩⟩) (fun z => h1 fun y => z (e1.trans y)))
theorem zy_ss35 {post : Int32 → SY → Prop} (hd : d < 8) (hs : s = -2 ∨ ∃ e, e < 8 ∧ s = nI e)
    (h0 : su d = -1 → post 0 (nI c, zo_w op b d, fl, mj, pk, upd su d s, it, wd, pm, sD, sK)) (h1 : ¬ su d = -1 → post (-4) (nI c, op, fl, mj, pk, su, it, wd, pm, sD, sK)) : wY_setSuper_35 post (nI d) s b (nI c) op fl mj pk su it wd pm sD sK := by
  have hv : vp_in (nI d) 8 := vp_in_nI hd (by omega)
  have hcc : (nI d).toNatClampNeg = d := nI_clamp (by omega)
  have e1 : su (nI d).toNatClampNeg = su d := by rw [hcc]
  refine And.intro hv (br_c (fun z => ⟨hv, nm_r (e' := upd su d s) (by rw [hcc, zu_s hs]) (br_c (fun y => ?_) (fun y => ?_))⟩) (fun z => h1 fun y => z (e1.trans y)))
  · have a := h0 (e1.symm.trans z)
    rw [zo_w, if_pos y] at a
    exact a
  · have a := h0 (e1.symm.trans z)
    rw [zo_w, if_neg y] at a
    exact nm_e a
end
theorem zs_lt {c : Nat} {s : Int32} (hc : c ≤ 8) (h0 : ¬ s < 0) (h : s < nI c) : ∃ e, e < 8 ∧ s = nI e := by
  obtain ⟨j, hj, rfl⟩ := nI_of h0
  rw [nI_ltI hj (by omega)] at h
  exact ⟨j, by omega, rfl⟩
theorem i_vc_setSuper {k : Nat} {u : SX} {v : SY} (I : i_Rel k u v) (hk : k + 4 ≤ 2048) (v1 : Int32) (v2 : Int32) (v3 : Int32) : wpX_setSuper (fun r u' => wpY_setSuper (fun r' v' => r' = r ∧ i_Rel (k + 4) u' v') v v1 v2 (lw_bz v3)) u v1 v2 (lw_bz v3) := by
  refine zr_el (Q := fun u v => wpX_setSuper (fun r u' => wpY_setSuper (fun r' v' => r' = r ∧ i_Rel (k + 4) u' v') v v1 v2 (lw_bz v3)) u v1 v2 (lw_bz v3)) I ?_
  intro c fl mj pk en ac wd pm op su it w ip dn st ps sD sK R
  have hc := R.1
  by_cases h0 : v1 < 0
  · exact br_t h0 (br_t h0 ⟨rfl, zr_mk R⟩)
  by_cases h1 : v1 < nI c
  · obtain ⟨d, hd31, rfl⟩ := nI_of h0
    have hd : d < c := (nI_ltI hd31 (by omega)).mp h1
    by_cases hs : v2 = -2 ∨ (¬ v2 < 0 ∧ v2 < nI c)
    · have hs2 : v2 = -2 ∨ ∃ e, e < 8 ∧ v2 = nI e := hs.imp id (fun z => zs_lt hc z.1 z.2)
      refine zx_ssA hd hc hs (zx_ss35 (su := su) (by omega) (zu_z v3) (R.2.1.2.1 d (by omega)) (fun z => ?_) (fun z => ?_))
      · exact zy_ssA hd hc hs (zy_ss35 (by omega) hs2 (fun _ => ⟨rfl, zr_mk (zr_sup hd hs2 z R)⟩) (fun y => absurd z y))
      · exact zy_ssA hd hc hs (zy_ss35 (by omega) hs2 (fun y => absurd y z) (fun _ => ⟨rfl, zr_mk R⟩))
    · have hn : ¬ v2 = -2 := fun z => hs (Or.inl z)
      by_cases h2 : v2 < 0
      · exact br_f h0 (br_t h1 (br_f hn (br_t h2 (br_f h0 (br_t h1 (br_f hn (br_t h2 ⟨rfl, zr_mk R⟩)))))))
      · have h3 : ¬ v2 < nI c := fun z => hs (Or.inr ⟨h2, z⟩)
        exact br_f h0 (br_t h1 (br_f hn (br_f h2 (br_f h3 (br_f h0 (br_t h1 (br_f hn (br_f h2 (br_f h3 ⟨rfl, zr_mk R⟩)))))))))
  · exact br_f h0 (br_f h1 (br_f h0 (br_f h1 ⟨rfl, zr_mk R⟩)))
end
section
/-! addInterface, permit, permitted, loadVerdict -/
section
variable {c d W : Nat} {fl mj pk en ac wd : Nat → Int32} {pm : Nat → Int64} {op : Int64} {su it : Nat → Int32} {w : Nat → Nat} {ip dn st ps sD sK : Nat → Int32} {s b : Int32}
theorem zx_aiA {post : Int32 → SX → Prop} (hd : d < c) (hc : c ≤ 8) (hs : s = -2 ∨ (¬ s < 0 ∧ s < nI c)) (h : wX_addInterface_35 post (nI d) s b (nI c) fl mj pk en ac wd pm ip dn st ps) : wpX_addInterface post (nI c, fl, mj, pk, en, ac, wd, pm, ip, dn, st, ps) (nI d) s b :=
  br_f (nI_pos (by omega)) (br_t (nI_lt hd (by omega)) (br_c (fun _ => h) (fun n => br_f (hs.elim (fun z => absurd z n) (fun z => z.1)) (br_t (hs.elim (fun z => absurd z n) (fun z => z.2)) h))))
theorem zy_aiA {post : Int32 → SY → Prop} (hd : d < c) (hc : c ≤ 8) (hs : s = -2 ∨ (¬ s < 0 ∧ s < nI c)) (h : wY_addInterface_35 post (nI d) s b (nI c) op fl mj pk su it wd pm sD sK) : wpY_addInterface post (nI c, op, fl, mj, pk, su, it, wd, pm, sD, sK) (nI d) s b :=
  br_f (nI_pos (by omega)) (br_t (nI_lt hd (by omega)) (br_c (fun _ => h) (fun n => br_f (hs.elim (fun z => absurd z n) (fun z => z.1)) (br_t (hs.elim (fun z => absurd z n) (fun z => z.2)) h))))
theorem zx_ai35 {post : Int32 → SX → Prop} (hd : d < 8) (hb : vp_nar .boolean b = b) (hW : wd d = nI W) (hW4 : W ≤ 4)
    (h0 : W < 4 → post 0 (nI c, fl, mj, pk, upd en (d * 5 + 1 + W) s, upd ac (d * 5 + 1 + W) b, upd wd d (nI (W + 1)), pm, ip, dn, st, ps)) (h1 : ¬ W < 4 → post (-3) (nI c, fl, mj, pk, en, ac, wd, pm, ip, dn, st, ps)) : wX_addInterface_35 post (nI d) s b (nI c) fl mj pk en ac wd pm ip dn st ps := by
  have hv : vp_in (nI d) 8 := vp_in_nI hd (by omega)
  have hcc : (nI d).toNatClampNeg = d := nI_clamp (by omega)
  have e1 : wd (nI d).toNatClampNeg = nI W := by rw [hcc]; exact hW
  by_cases h4 : W < 4
  · have hlt : wd (nI d).toNatClampNeg < 4 := by rw [e1]; exact nI_lt (b := 4) h4 (by omega)
    have e2 : nI d * 5 + 1 + wd (nI d).toNatClampNeg = nI (d * 5 + 1 + W) := by rw [e1, zi_50, nI_1, nI_add]
    have hvi : vp_in (nI (d * 5 + 1 + W)) 40 := vp_in_nI (by omega) (by omega)
    have hci : (nI (d * 5 + 1 + W)).toNatClampNeg = d * 5 + 1 + W := nI_clamp (by omega)
    exact And.intro hv (br_t hlt ⟨hv, nm_r e2 ⟨hvi, nm_r (e' := upd en (d * 5 + 1 + W) s) (by rw [hci]) ⟨hvi, nm_r (e' := upd ac (d * 5 + 1 + W) b) (by rw [hci, hb]) ⟨hv, hv, nm_r (e' := upd wd d (nI (W + 1))) (by rw [e1, hcc, nI_1]) (h0 h4)⟩⟩⟩⟩)
  · have hlt : ¬ wd (nI d).toNatClampNeg < 4 := by rw [e1]; exact nI_nlt (b := 4) (by omega) (by omega)
    exact And.intro hv (br_f hlt (h1 h4))
theorem zy_ai35 {post : Int32 → SY → Prop} (hd : d < 8) (hs : s = -2 ∨ ∃ e, e < 8 ∧ s = nI e) (hW : wd d = nI W) (hW4 : W ≤ 4)
    (h0 : W < 4 → post 0 (nI c, zo_w op b (8 + (d * 4 + W)), fl, mj, pk, su, upd it (d * 4 + W) s, upd wd d (nI (W + 1)), pm, sD, sK)) (h1 : ¬ W < 4 → post (-3) (nI c, op, fl, mj, pk, su, it, wd, pm, sD, sK)) : wY_addInterface_35 post (nI d) s b (nI c) op fl mj pk su it wd pm sD sK := by
  have hv : vp_in (nI d) 8 := vp_in_nI hd (by omega)
  have hcc : (nI d).toNatClampNeg = d := nI_clamp (by omega)
  have e1 : wd (nI d).toNatClampNeg = nI W := by rw [hcc]; exact hW
  by_cases h4 : W < 4
  · have hlt : wd (nI d).toNatClampNeg < 4 := by rw [e1]; exact nI_lt (b := 4) h4 (by omega)
    have e2 : nI d * 4 + wd (nI d).toNatClampNeg = nI (d * 4 + W) := by rw [e1, zi_4]
    have hvi : vp_in (nI (d * 4 + W)) 32 := vp_in_nI (by omega) (by omega)
    have hci : (nI (d * 4 + W)).toNatClampNeg = d * 4 + W := nI_clamp (by omega)
    have a := h0 h4
    refine And.intro hv (br_t hlt ⟨hv, hv, nm_r (e' := upd wd d (nI (W + 1))) (by rw [e1, hcc, zu_b h4]) (nm_r e2 ⟨hvi, nm_r (e' := upd it (d * 4 + W) s) (by rw [hci, zu_s hs]) (br_c (fun y => ?_) (fun y => ?_))⟩)⟩)
    · rw [zo_w, if_pos y] at a
      exact a
    · rw [zo_w, if_neg y] at a
      rw [zi_8]
      exact nm_e a
  · have hlt : ¬ wd (nI d).toNatClampNeg < 4 := by rw [e1]; exact nI_nlt (b := 4) (by omega) (by omega)
    exact And.intro hv (br_f hlt (h1 h4))
end
theorem i_vc_addInterface {k : Nat} {u : SX} {v : SY} (I : i_Rel k u v) (hk : k + 4 ≤ 2048) (v1 : Int32) (v2 : Int32) (v3 : Int32) : wpX_addInterface (fun r u' => wpY_addInterface (fun r' v' => r' = r ∧ i_Rel (k + 4) u' v') v v1 v2 (lw_bz v3)) u v1 v2 (lw_bz v3) := by
  refine zr_el (Q := fun u v => wpX_addInterface (fun r u' => wpY_addInterface (fun r' v' => r' = r ∧ i_Rel (k + 4) u' v') v v1 v2 (lw_bz v3)) u v1 v2 (lw_bz v3)) I ?_
  intro c fl mj pk en ac wd pm op su it w ip dn st ps sD sK R
  have hc := R.1
  by_cases h0 : v1 < 0
  · exact br_t h0 (br_t h0 ⟨rfl, zr_mk R⟩)
  by_cases h1 : v1 < nI c
  · obtain ⟨d, hd31, rfl⟩ := nI_of h0
    have hd : d < c := (nI_ltI hd31 (by omega)).mp h1
    have hW := R.2.1.1 d (by omega)
    by_cases hs : v2 = -2 ∨ (¬ v2 < 0 ∧ v2 < nI c)
    · have hs2 : v2 = -2 ∨ ∃ e, e < 8 ∧ v2 = nI e := hs.imp id (fun z => zs_lt hc z.1 z.2)
      refine zx_aiA hd hc hs (zx_ai35 (by omega) (zu_z v3) hW.1 hW.2 (fun z => ?_) (fun z => ?_))
      · exact zy_aiA hd hc hs (zy_ai35 (by omega) hs2 hW.1 hW.2 (fun _ => ⟨rfl, zr_mk (zr_itf hd hs2 z R)⟩) (fun y => absurd z y))
      · exact zy_aiA hd hc hs (zy_ai35 (by omega) hs2 hW.1 hW.2 (fun y => absurd y z) (fun _ => ⟨rfl, zr_mk R⟩))
    · have hn : ¬ v2 = -2 := fun z => hs (Or.inl z)
      by_cases h2 : v2 < 0
      · exact br_f h0 (br_t h1 (br_f hn (br_t h2 (br_f h0 (br_t h1 (br_f hn (br_t h2 ⟨rfl, zr_mk R⟩)))))))
      · have h3 : ¬ v2 < nI c := fun z => hs (Or.inr ⟨h2, z⟩)
        exact br_f h0 (br_t h1 (br_f hn (br_f h2 (br_f h3 (br_f h0 (br_t h1 (br_f hn (br_f h2 (br_f h3 ⟨rfl, zr_mk R⟩)))))))))
  · exact br_f h0 (br_f h1 (br_f h0 (br_f h1 ⟨rfl, zr_mk R⟩)))
theorem i_vc_permit {k : Nat} {u : SX} {v : SY} (I : i_Rel k u v) (hk : k + 4 ≤ 2048) (v1 : Int32) (v2 : Int32) : wpX_permit (fun r u' => wpY_permit (fun r' v' => r' = r ∧ i_Rel (k + 4) u' v') v v1 v2) u v1 v2 := by
  refine zr_el (Q := fun u v => wpX_permit (fun r u' => wpY_permit (fun r' v' => r' = r ∧ i_Rel (k + 4) u' v') v v1 v2) u v1 v2) I ?_
  intro c fl mj pk en ac wd pm op su it w ip dn st ps sD sK R
  have hc := R.1
  by_cases h0 : v1 < 0
  · exact br_t h0 (br_t h0 ⟨rfl, zr_mk R⟩)
  by_cases h1 : v1 < nI c
  · obtain ⟨d, hd31, rfl⟩ := nI_of h0
    have hd : d < c := (nI_ltI hd31 (by omega)).mp h1
    have hv : vp_in (nI d) 8 := vp_in_nI (by omega) (by omega)
    have hcc : (nI d).toNatClampNeg = d := nI_clamp (by omega)
    by_cases h2 : v2 < 0
    · exact br_f h0 (br_t h1 (br_t h2 (br_f h0 (br_t h1 (br_t h2 ⟨rfl, zr_mk R⟩)))))
    obtain ⟨j, hj31, rfl⟩ := nI_of h2
    by_cases hj : j < 64
    · have h3 : nI j ≤ 63 := nI_le (b := 63) (by omega) (by omega)
      have h4 : nI j < 64 := nI_lt (b := 64) hj (by omega)
      have ex : pm (nI d).toNatClampNeg = pm d := by rw [hcc]
      by_cases hb : zb_L (pm d) j = false
      · have q1 : (pm (nI d).toNatClampNeg &&& ((1 : Int64) <<< ((nI j).toInt64 &&& 63))) = 0 := by rw [ex]; exact (zb_and _ hj).mpr hb
        have q2 : ¬ (pm (nI d).toNatClampNeg ||| ((1 : Int64) <<< ((nI j).toInt64 &&& 63))) = pm d := by rw [ex, zb_orE _ hj, hb]; decide
        refine br_f h0 (br_t h1 (br_f h2 (br_t h3 (nm_e ⟨hv, br_t q1 ⟨hv, hv, nm_r (e' := vp_updL pm d (pm d ||| ((1 : Int64) <<< ((nI j).toInt64 &&& 63)))) (by rw [hcc]) ?_⟩⟩))))
        exact br_f h0 (br_t h1 (br_f h2 (br_t h4 ⟨hv, nm_r ex ⟨hv, hv, nm_r (e' := vp_updL pm d (pm d ||| ((1 : Int64) <<< ((nI j).toInt64 &&& 63)))) (by rw [hcc]) (br_f q2 ⟨rfl, zr_mk (zr_per hd R)⟩)⟩⟩)))
      · have q1 : ¬ (pm (nI d).toNatClampNeg &&& ((1 : Int64) <<< ((nI j).toInt64 &&& 63))) = 0 := by rw [ex, zb_and _ hj]; exact hb
        have q3 : (pm d ||| ((1 : Int64) <<< ((nI j).toInt64 &&& 63))) = pm d := (zb_orE _ hj).mpr (ts_nf hb)
        have q2 : (pm (nI d).toNatClampNeg ||| ((1 : Int64) <<< ((nI j).toInt64 &&& 63))) = pm d := by rw [ex]; exact q3
        refine br_f h0 (br_t h1 (br_f h2 (br_t h3 (nm_e ⟨hv, br_f q1 ?_⟩))))
        exact br_f h0 (br_t h1 (br_f h2 (br_t h4 ⟨hv, nm_r ex ⟨hv, hv, nm_r (e' := pm) (by rw [hcc]; exact zu_sameL q3.symm) (br_t q2 ⟨rfl, zr_mk R⟩)⟩⟩)))
    · have h3 : ¬ nI j ≤ 63 := nI_ge (a := 63) (by omega) hj31
      have h4 : ¬ nI j < 64 := nI_nlt (b := 64) (by omega) hj31
      exact br_f h0 (br_t h1 (br_f h2 (br_f h3 (br_f h0 (br_t h1 (br_f h2 (br_f h4 ⟨rfl, zr_mk R⟩)))))))
  · exact br_f h0 (br_f h1 (br_f h0 (br_f h1 ⟨rfl, zr_mk R⟩)))
theorem i_vc_permitted {k : Nat} {u : SX} {v : SY} (I : i_Rel k u v) (hk : k + 4 ≤ 2048) (v1 : Int32) : wpX_permitted (fun r => wpY_permitted (fun r' => r' = r ∧ i_Rel (k + 4) u v) v v1) u v1 := by
  refine zr_el (Q := fun u v => wpX_permitted (fun r => wpY_permitted (fun r' => r' = r ∧ i_Rel (k + 4) u v) v v1) u v1) I ?_
  intro c fl mj pk en ac wd pm op su it w ip dn st ps sD sK R
  have hc := R.1
  by_cases h0 : v1 < 0
  · exact br_t h0 (br_t h0 ⟨rfl, zr_mk R⟩)
  by_cases h1 : v1 < nI c
  · obtain ⟨d, hd31, rfl⟩ := nI_of h0
    have hd : d < c := (nI_ltI hd31 (by omega)).mp h1
    have hv : vp_in (nI d) 8 := vp_in_nI (by omega) (by omega)
    exact br_f h0 (br_t h1 ⟨hv, br_f h0 (br_t h1 ⟨hv, rfl, zr_mk R⟩)⟩)
  · exact br_f h0 (br_f h1 (br_f h0 (br_f h1 ⟨rfl, zr_mk R⟩)))
theorem i_vc_loadVerdict {k : Nat} {u : SX} {v : SY} (I : i_Rel k u v) (hk : k + 4 ≤ 2048) (v1 : Int32) : wpX_loadVerdict (fun r u' => wpY_loadVerdict (fun r' v' => r' = r ∧ i_Rel (k + 4) u' v') v v1) u v1 := by
  refine zr_el (Q := fun u v => wpX_loadVerdict (fun r u' => wpY_loadVerdict (fun r' v' => r' = r ∧ i_Rel (k + 4) u' v') v v1) u v1) I ?_
  intro c fl mj pk en ac wd pm op su it w ip dn st ps sD sK R
  have hc := R.1
  by_cases h0 : v1 < 0
  · exact br_t h0 (br_t h0 ⟨rfl, zr_mk R⟩)
  by_cases h1 : v1 < nI c
  · obtain ⟨d, hd31, rfl⟩ := nI_of h0
    have hd : d < c := (nI_ltI hd31 (by omega)).mp h1
    obtain ⟨r, hX, hY⟩ := zz_load (F := nI c) (op := op) (fl := fl) (mj := mj) (pk := pk) (pm := pm) R.2.1 (show d < 8 by omega) ip dn st ps
    exact br_f h0 (br_t h1 (hX _ (fun ip' dn' st' ps' => br_f h0 (br_t h1 (hY _ sD sK (fun sD' sK' => ⟨rfl, zr_mk R⟩))))))
  · exact br_f h0 (br_f h1 (br_f h0 (br_f h1 ⟨rfl, zr_mk R⟩)))
end
