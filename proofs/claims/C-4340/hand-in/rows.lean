section
theorem pk_us {f : Nat → Int32} {k : Nat} {x : Int32} : upd f k x k = x := if_pos rfl
theorem pk_un {f : Nat → Int32} {k j : Nat} {x : Int32} (h : j ≠ k) : upd f k x j = f j := if_neg h
theorem pk_sub {a b : Nat} (h : b ≤ a) : nI a - nI b = nI (a - b) := by
  obtain ⟨c, rfl⟩ : ∃ c, a = c + b := ⟨a - b, by omega⟩
  rw [← nI_add, Int32.add_sub_cancel, Nat.add_sub_cancel]
theorem pk_m1 (n : Nat) : nI (n + 1) + (-1) = nI n := by
  rw [← nI_1, Int32.add_assoc, show (1 : Int32) + (-1) = 0 from rfl, Int32.add_zero]
theorem pk_mul (a b : Nat) : nI a * nI b = nI (a * b) := (Int32.ofNat_mul a b).symm
theorem pk_div {a d : Nat} (ha : a < 2 ^ 31) (h0 : 0 < d) (hd : d < 2 ^ 31) : nI a / nI d = nI (a / d) := by
  apply Int32.toInt_inj.mp
  rw [lg_idiv_nonneg (by rw [nI_toInt ha]; omega) (by rw [nI_toInt hd]; omega), nI_toInt ha, nI_toInt hd, nI_toInt (Nat.lt_of_le_of_lt (Nat.div_le_self a d) ha)]
  first | rfl | exact (Int.natCast_ediv _ _).symm
theorem pk_rem {a d : Nat} (ha : a < 2 ^ 31) (h0 : 0 < d) (hd : d < 2 ^ 31) : nI a - nI a / nI d * nI d = nI (a % d) := by
  rw [pk_div ha h0 hd, pk_mul, pk_sub (Nat.div_mul_le_self a d)]
  exact congrArg nI (by have := Nat.div_add_mod' a d; omega)
theorem pk_sub_toInt {a b : Nat} (ha : a < 2 ^ 30) (hb : b < 2 ^ 30) : (nI a - nI b).toInt = (a : Int) - b := by
  rw [Int32.toInt_sub, nI_toInt (by omega), nI_toInt (by omega)]
  exact Int.bmod_eq_of_le (by omega) (by omega)
theorem pk_ix (x : Int32) {n : Nat} (hn : n < 2 ^ 31) : x < 0 ∨ nI n ≤ x ∨ ∃ j : Nat, j < n ∧ x = nI j := by
  by_cases h : x < 0
  · exact Or.inl h
  · obtain ⟨j, hj, rfl⟩ := nI_of h
    by_cases h2 : j < n
    · exact Or.inr (Or.inr ⟨j, h2, rfl⟩)
    · exact Or.inr (Or.inl (nI_le (by omega) hj))
theorem pk_le {x y : Int32} {A B : Prop} (a b : Nat) (f : a ≤ b → A) (g : b < a → B) (hx : x = nI a := by rfl) (hy : y = nI b := by rfl) (ha : a < 2 ^ 31 := by omega) (hb : b < 2 ^ 31 := by omega) : (x ≤ y → A) ∧ (¬ x ≤ y → B) := by
  subst hx hy
  rw [nI_leI ha hb]
  exact ⟨f, fun z => g (by omega)⟩
theorem pk_lt {x y : Int32} {A B : Prop} (a b : Nat) (f : a < b → A) (g : b ≤ a → B) (hx : x = nI a := by rfl) (hy : y = nI b := by rfl) (ha : a < 2 ^ 31 := by omega) (hb : b < 2 ^ 31 := by omega) : (x < y → A) ∧ (¬ x < y → B) := by
  subst hx hy
  rw [nI_ltI ha hb]
  exact ⟨f, fun z => g (by omega)⟩
theorem pk_eq {x y : Int32} {A B : Prop} (a b : Nat) (f : a = b → A) (g : a ≠ b → B) (hx : x = nI a := by rfl) (hy : y = nI b := by rfl) (ha : a < 2 ^ 31 := by omega) (hb : b < 2 ^ 31 := by omega) : (x = y → A) ∧ (¬ x = y → B) := by
  subst hx hy
  rw [nI_eq ha hb]
  exact ⟨f, g⟩
theorem pk_in {x : Int32} (n N : Nat) (h : n < N) (hx : x = nI n := by rfl) (hN : N < 2 ^ 31 := by omega) : vp_in x N := by
  subst hx
  exact vp_in_nI h hN
theorem pk_cl {x : Int32} (n : Nat) (hx : x = nI n := by rfl) (h : n < 2 ^ 31 := by omega) : x.toNatClampNeg = n := by
  subst hx
  exact nI_clamp h
theorem pk_tn {n : Nat} (h : n < 2 ^ 32) : (nI n).toBitVec.toNat = n := Nat.mod_eq_of_lt h
theorem pk_and (x : Int32) {m : Int32} (k : Nat) (hm : m.toBitVec.toNat = 2 ^ k - 1) : x &&& m = nI (x.toBitVec.toNat % 2 ^ k) := by
  apply Int32.toBitVec_inj.mp
  apply BitVec.eq_of_toNat_eq
  rw [Int32.toBitVec_and, BitVec.toNat_and, hm, Nat.and_two_pow_sub_one_eq_mod]
  show _ = (BitVec.ofNat 32 _).toNat
  rw [BitVec.toNat_ofNat]
  exact (Nat.mod_eq_of_lt (Nat.lt_of_le_of_lt (Nat.mod_le _ _) x.toBitVec.isLt)).symm
theorem pk_andN {n : Nat} (h : n < 2 ^ 32) {m : Int32} (k : Nat) (hm : m.toBitVec.toNat = 2 ^ k - 1) : nI n &&& m = nI (n % 2 ^ k) := by
  rw [pk_and _ k hm, pk_tn h]
theorem pk_shl (a s : Int32) (k : Nat) (hs : (s.toBitVec.smod 32).toNat = k) : (a <<< s).toBitVec.toNat = a.toBitVec.toNat * 2 ^ k % 2 ^ 32 := by
  show (a.toBitVec <<< (s.toBitVec.smod 32).toNat).toNat = _
  rw [hs, BitVec.toNat_shiftLeft, Nat.shiftLeft_eq]
theorem pk_shlN {n : Nat} (s : Int32) (k : Nat) (hs : (s.toBitVec.smod 32).toNat = k) (h : n * 2 ^ k < 2 ^ 32) : nI n <<< s = nI (n * 2 ^ k) := by
  apply Int32.toBitVec_inj.mp
  apply BitVec.eq_of_toNat_eq
  have hn : n < 2 ^ 32 := Nat.lt_of_le_of_lt (Nat.le_mul_of_pos_right n (Nat.two_pow_pos k)) h
  rw [pk_shl _ _ k hs, pk_tn hn, pk_tn h, Nat.mod_eq_of_lt h]
theorem pk_shr (a s : Int32) (k : Nat) (hs : (s.toBitVec.smod 32).toNat = k) : (a >>> s).toInt = a.toInt >>> k := by
  show (a.toBitVec.sshiftRight (s.toBitVec.smod 32).toNat).toInt = _
  rw [hs, BitVec.toInt_sshiftRight]
  rfl
theorem pk_shrN {n : Nat} (h : n < 2 ^ 31) (s : Int32) (k : Nat) (hs : (s.toBitVec.smod 32).toNat = k) : nI n >>> s = nI (n / 2 ^ k) := by
  apply Int32.toInt_inj.mp
  have h2 : n / 2 ^ k ≤ n := Nat.div_le_self _ _
  rw [pk_shr _ _ k hs, nI_toInt h, nI_toInt (by omega), Int.shiftRight_eq_div_pow]
  rfl
theorem pk_vb (z : Int32) : vp_nar .byte z.toInt8.toInt32 = z.toInt8.toInt32 := by rw [vp_nar_byte]; simp
theorem pk_vs (z : Int32) : vp_nar .short z.toInt16.toInt32 = z.toInt16.toInt32 := by rw [vp_nar_short]; simp
theorem s_l : ∀ n, n < 32 → ((nI n &&& 31).toBitVec.smod 32).toNat = n := by decide +kernel
end
section
/-! The packed bus: slot i of V holds 0 (not written) or 1 + a truth table -/
def dg_w : Nat := 4098
def dg_gv (V i : Nat) : Nat := Nat.land (Nat.shiftRight V (Nat.mul i dg_w)) (Nat.sub (Nat.pow 2 dg_w) 1)
def dg_st (V i t : Nat) : Nat := Nat.xor V (Nat.shiftLeft (Nat.xor (dg_gv V i) (Nat.succ t)) (Nat.mul i dg_w))
theorem dg_gv_tb (V i b : Nat) : (dg_gv V i).testBit b = (decide (b < dg_w) && V.testBit (i * dg_w + b)) := by
  have e : dg_gv V i = (V >>> (i * dg_w)) &&& (2 ^ dg_w - 1) := rfl
  rw [e]
  generalize dg_w = w
  rw [Nat.testBit_and, Nat.testBit_shiftRight, Nat.testBit_two_pow_sub_one, Bool.and_comm]
theorem dg_st_tb (V i t x : Nat) : (dg_st V i t).testBit x = (V.testBit x ^^ (decide (i * dg_w ≤ x) && (((dg_gv V i).testBit (x - i * dg_w)) ^^ (t + 1).testBit (x - i * dg_w)))) := by
  have e : dg_st V i t = V ^^^ ((dg_gv V i ^^^ (t + 1)) <<< (i * dg_w)) := rfl
  rw [e]
  generalize dg_gv V i = u
  generalize dg_w = w
  rw [Nat.testBit_xor, Nat.testBit_shiftLeft, Nat.testBit_xor]
theorem dg_gv_lt (V i b : Nat) (h : dg_w ≤ b) : (dg_gv V i).testBit b = false := by
  rw [dg_gv_tb, decide_eq_false (Nat.not_lt.mpr h)]; rfl
theorem dg_big {t w b : Nat} (h : t < 2 ^ w) (hb : w ≤ b) : t.testBit b = false := Nat.testBit_lt_two_pow (Nat.lt_of_lt_of_le h (Nat.pow_le_pow_right (by decide) hb))
theorem dg_gs {V i t : Nat} (h : t + 1 < 2 ^ dg_w) : dg_gv (dg_st V i t) i = t + 1 := by
  apply Nat.eq_of_testBit_eq
  intro b
  rw [dg_gv_tb, dg_st_tb, dg_gv_tb, Nat.add_sub_cancel_left, decide_eq_true (Nat.le_add_right _ _)]
  by_cases hb : b < dg_w
  · rw [decide_eq_true hb]
    cases V.testBit (i * dg_w + b) <;> cases (t + 1).testBit b <;> rfl
  · rw [decide_eq_false hb, dg_big h (Nat.not_lt.mp hb)]
    rfl
theorem dg_gn {V i j t : Nat} (h : t + 1 < 2 ^ dg_w) (hij : j ≠ i) : dg_gv (dg_st V i t) j = dg_gv V j := by
  apply Nat.eq_of_testBit_eq
  intro b
  rw [dg_gv_tb, dg_st_tb, dg_gv_tb V j]
  by_cases hb : b < dg_w
  · rcases Nat.lt_or_gt_of_ne hij with hl | hl
    · have h1 : (j + 1) * dg_w ≤ i * dg_w := Nat.mul_le_mul_right _ hl
      rw [Nat.succ_mul] at h1
      have h2 : ¬ i * dg_w ≤ j * dg_w + b := by omega
      rw [decide_eq_false h2]
      cases V.testBit (j * dg_w + b) <;> simp
    · have h1 : (i + 1) * dg_w ≤ j * dg_w := Nat.mul_le_mul_right _ hl
      rw [Nat.succ_mul] at h1
      have h2 : dg_w ≤ j * dg_w + b - i * dg_w := by omega
      rw [dg_gv_lt _ _ _ h2, dg_big h h2]
      cases V.testBit (j * dg_w + b) <;> simp
  · rw [decide_eq_false hb]; rfl
/-! The primitives, in continuation style; they force what they hand on -/
noncomputable def dg_fz (x : Nat) (k : Nat → Bool) : Bool := Nat.rec (k 0) (fun y _ => k (Nat.succ y)) x
theorem dg_fz_e (x : Nat) (k : Nat → Bool) : dg_fz x k = k x := by cases x <;> rfl
noncomputable def dg_rd (V i : Nat) (k : Nat → Bool) : Bool := Nat.rec false (fun t _ => k t) (dg_gv V i)
noncomputable def dg_wr (V i t : Nat) (k : Nat → Bool) : Bool := cond (Nat.ble i 159) (cond (Nat.ble (Nat.succ (Nat.succ t)) (Nat.pow 2 dg_w)) (dg_fz (dg_st V i t) k) false) false
def dg_op (w p q : Nat) : Nat := cond (Nat.beq w 1) (Nat.land p q) (cond (Nat.beq w 2) (Nat.lor p q) (Nat.xor p q))
def dg_bo (w : Nat) (p q : Bool) : Bool := cond (Nat.beq w 1) (p && q) (cond (Nat.beq w 2) (p || q) (p ^^ q))
theorem dg_op_tb (w p q e : Nat) : (dg_op w p q).testBit e = dg_bo w (p.testBit e) (q.testBit e) := by
  unfold dg_op dg_bo
  cases Nat.beq w 1
  · cases Nat.beq w 2
    · exact Nat.testBit_xor p q e
    · exact Nat.testBit_or p q e
  · exact Nat.testBit_and p q e
noncomputable def dg_gt (w p q K : Nat) (k : Nat → Nat → Bool) : Bool := cond (Nat.ble K 599) (dg_fz (dg_op w p q) fun t => dg_fz (Nat.succ K) fun K' => k t K') false
theorem dg_cd {b p q : Bool} (h : cond b p q = true) : (b = true ∧ p = true) ∨ (b = false ∧ q = true) := by
  cases b
  · exact Or.inr ⟨rfl, h⟩
  · exact Or.inl ⟨rfl, h⟩
theorem dg_ble_t {a b : Nat} (h : Nat.ble a b = true) : a ≤ b := Nat.le_of_ble_eq_true h
theorem dg_ble_f {a b : Nat} (h : Nat.ble a b = false) : b < a := by
  apply Nat.lt_of_not_le
  intro z
  rw [Nat.ble_eq_true_of_le z] at h
  cases h
theorem dg_beq_t {a b : Nat} (h : Nat.beq a b = true) : a = b := Nat.eq_of_beq_eq_true h
theorem dg_beq_f {a b : Nat} (h : Nat.beq a b = false) : a ≠ b := Nat.ne_of_beq_eq_false h
theorem dg_rd_e {V i : Nat} {k : Nat → Bool} (h : dg_rd V i k = true) : ∃ t, dg_gv V i = t + 1 ∧ k t = true := by
  unfold dg_rd at h
  cases e : dg_gv V i with
  | zero => rw [e] at h; cases h
  | succ t => rw [e] at h; exact ⟨t, rfl, h⟩
theorem dg_wr_e {V i t : Nat} {k : Nat → Bool} (h : dg_wr V i t k = true) : i < 160 ∧ t + 1 < 2 ^ dg_w ∧ k (dg_st V i t) = true := by
  unfold dg_wr at h
  rcases dg_cd h with ⟨h1, h⟩ | ⟨_, h⟩
  · rcases dg_cd h with ⟨h2, h⟩ | ⟨_, h⟩
    · rw [dg_fz_e] at h
      exact ⟨Nat.lt_succ_of_le (dg_ble_t h1), dg_ble_t h2, h⟩
    · cases h
  · cases h
theorem dg_gt_e {w p q K : Nat} {k : Nat → Nat → Bool} (h : dg_gt w p q K k = true) : K < 600 ∧ k (dg_op w p q) (K + 1) = true := by
  unfold dg_gt at h
  rcases dg_cd h with ⟨h1, h⟩ | ⟨_, h⟩
  · rw [dg_fz_e, dg_fz_e] at h
    exact ⟨Nat.lt_succ_of_le (dg_ble_t h1), h⟩
  · cases h
end
section
/-! The mirror of build: n the width, tr the style, o the truth table of node 1 -/
def dg_one (n : Nat) : Nat := Nat.sub (Nat.pow 2 (Nat.pow 4 n)) 1
def dg_ip (n j : Nat) : Nat := Nat.mul (Nat.div (dg_one n) (Nat.succ (Nat.pow 2 (Nat.pow 2 j)))) (Nat.pow 2 (Nat.pow 2 j))
noncomputable def dg_ch (o b p q K : Nat) (k : Nat → Nat → Bool) : Bool :=
  dg_gt 3 b o K fun x K => dg_gt 1 b p K fun f K => dg_gt 1 x q K fun s K => dg_gt 2 f s K k
/-- a copy of m slots from x to d -/
noncomputable def dg_cp (m d x : Nat) : Nat → Nat → Nat → (Nat → Bool) → Bool
  | 0 => fun _ _ _ => false
  | f + 1 => fun i V k => cond (Nat.ble m i) (k V) (dg_rd V (x + i) fun a => dg_wr V (d + i) a fun V => dg_cp m d x f (i + 1) V k)
/-- m slots from d on become node 0 -/
noncomputable def dg_zr (m d : Nat) : Nat → Nat → Nat → (Nat → Bool) → Bool
  | 0 => fun _ _ _ => false
  | f + 1 => fun i V k => cond (Nat.ble m i) (k V) (dg_wr V (d + i) 0 fun V => dg_zr m d f (i + 1) V k)
noncomputable def dg_inv (o n x : Nat) : Nat → Nat → Nat → Nat → (Nat → Nat → Bool) → Bool
  | 0 => fun _ _ _ _ => false
  | f + 1 => fun i K V k => cond (Nat.ble n i) (k K V) (dg_rd V (x + i) fun p => dg_gt 3 p o K fun r K => dg_wr V (x + i) r fun V => dg_inv o n x f (i + 1) K V k)
noncomputable def dg_rip (x y w : Nat) : Nat → Nat → Nat → Nat → Nat → (Nat → Nat → Bool) → Bool
  | 0 => fun _ _ _ _ _ => false
  | f + 1 => fun c i K V k => cond (Nat.ble w i) (dg_wr V (32 + w) c fun V => k K V) (dg_rd V (x + i) fun p => dg_rd V (y + i) fun q => dg_gt 3 p q K fun e K => dg_gt 1 p q K fun b K => dg_gt 1 e c K fun a K => dg_gt 3 e c K fun t K => dg_wr V (32 + i) t fun V => dg_gt 2 b a K fun c K => dg_rip x y w f c (i + 1) K V k)
noncomputable def dg_join (u l K V : Nat) (k : Nat → Nat → Bool) : Bool :=
  dg_rd V (112 + u) fun a => dg_rd V (96 + l) fun b => dg_gt 1 a b K fun p K => dg_rd V (96 + u) fun c => dg_gt 2 c p K fun g K => dg_rd V (112 + u) fun a' => dg_rd V (112 + l) fun d => dg_gt 1 a' d K fun q K => dg_wr V (64 + u) g fun V => dg_wr V (80 + u) q fun V => k K V
noncomputable def dg_t211 (w cc : Nat) : Nat → Nat → Nat → Nat → Nat → (Nat → Nat → Bool) → Bool
  | 0 => fun _ _ _ _ _ => false
  | f + 1 => fun c i K V k => cond (Nat.ble w i) (dg_wr V (32 + w) c fun V => k K V) (dg_rd V (32 + i) fun s => dg_gt 3 s c K fun r K => dg_wr V (32 + i) r fun V => dg_rd V (80 + i) fun p => dg_gt 1 p cc K fun th K => dg_rd V (64 + i) fun g => dg_gt 2 g th K fun c K => dg_t211 w cc f c (i + 1) K V k)
noncomputable def dg_t172 (w r : Nat) : Nat → Nat → Nat → Nat → (Nat → Nat → Bool) → Bool
  | 0 => fun _ _ _ _ => false
  | f + 1 => fun i K V k => cond (Nat.ble w i) (k K V) (dg_join i (i - r) K V fun K V => dg_t172 w r f (i + 1) K V k)
noncomputable def dg_t116 (w : Nat) : Nat → Nat → Nat → (Nat → Bool) → Bool
  | 0 => fun _ _ _ => false
  | f + 1 => fun i V k => cond (Nat.ble w i) (k V) (dg_rd V (64 + i) fun a => dg_wr V (96 + i) a fun V => dg_rd V (80 + i) fun b => dg_wr V (112 + i) b fun V => dg_t116 w f (i + 1) V k)
noncomputable def dg_t107 (w cc : Nat) : Nat → Nat → Nat → Nat → (Nat → Nat → Bool) → Bool
  | 0 => fun _ _ _ _ => false
  | f + 1 => fun r K V k => cond (Nat.ble w r) (dg_t211 w cc 20 cc 0 K V k) (dg_t116 w 20 0 V fun V => dg_t172 w r 20 r K V fun K V => dg_t107 w cc f (r * 2) K V k)
noncomputable def dg_t3 (x y w cc : Nat) : Nat → Nat → Nat → Nat → (Nat → Nat → Bool) → Bool
  | 0 => fun _ _ _ _ => false
  | f + 1 => fun i K V k => cond (Nat.ble w i) (dg_t107 w cc 20 1 K V k) (dg_rd V (x + i) fun a => dg_rd V (y + i) fun b => dg_gt 1 a b K fun g K => dg_rd V (x + i) fun a' => dg_rd V (y + i) fun b' => dg_gt 3 a' b' K fun p K => dg_wr V (64 + i) g fun V => dg_wr V (80 + i) p fun V => dg_wr V (32 + i) p fun V => dg_t3 x y w cc f (i + 1) K V k)
noncomputable def dg_add (tr x y w c K V : Nat) (k : Nat → Nat → Bool) : Bool :=
  cond (Nat.beq tr 0) (dg_rip x y w 20 c 0 K V k) (dg_t3 x y w c 20 0 K V k)
noncomputable def dg_sum2 (n op K V : Nat) (k : Nat → Nat → Bool) : Bool :=
  cond (Nat.beq op 15) (dg_cp n 48 33 20 0 V fun V => k K V) (dg_cp n 48 32 20 0 V fun V => k K V)
noncomputable def dg_sum1 (tr o n op K V : Nat) (k : Nat → Nat → Bool) : Bool :=
  cond (Nat.beq op 1) (dg_add tr 0 16 n o K V fun K V => dg_sum2 n op K V k) (dg_add tr 0 16 n 0 K V fun K V => dg_sum2 n op K V k)
noncomputable def dg_sum (tr o n op K V : Nat) (k : Nat → Nat → Bool) : Bool :=
  cond (Nat.beq op 1) (dg_inv o n 16 20 0 K V fun K V => dg_sum1 tr o n op K V k) (dg_sum1 tr o n op K V k)
noncomputable def dg_p37 (n r : Nat) : Nat → Nat → Nat → Nat → (Nat → Nat → Bool) → Bool
  | 0 => fun _ _ _ _ => false
  | f + 1 => fun i K V k => cond (Nat.ble n i) (k K V) (dg_rd V (0 + i) fun a => dg_rd V (16 + r) fun b => dg_gt 1 a b K fun p K => dg_wr V (128 + i) p fun V => dg_p37 n r f (i + 1) K V k)
noncomputable def dg_p27 (tr n fr : Nat) : Nat → Nat → Nat → Nat → (Nat → Nat → Bool) → Bool
  | 0 => fun _ _ _ _ => false
  | f + 1 => fun r K V k => cond (Nat.ble n r) (dg_cp n 48 (144 + fr) 20 0 V fun V => k K V) (dg_p37 n r 20 0 K V fun K V => dg_add tr (144 + r) 128 n 0 K V fun K V => dg_cp n (144 + r) 32 20 0 V fun V => cond (Nat.ble 16 (r + n)) (dg_p27 tr n fr f (r + 1) K V k) (dg_rd V (32 + n) fun a => dg_wr V ((144 + r) + n) a fun V => dg_p27 tr n fr f (r + 1) K V k))
noncomputable def dg_prod (tr n fr K V : Nat) (k : Nat → Nat → Bool) : Bool :=
  dg_zr 16 144 20 0 V fun V => dg_p27 tr n fr 20 0 K V k
noncomputable def dg_l51 (tr o n K V : Nat) (k : Nat → Nat → Nat → Bool) : Bool :=
  dg_inv o n 16 20 0 K V fun K V => dg_add tr 0 16 n o K V fun K V => dg_rd V (32 + n) fun a => dg_gt 3 a o K fun r K => k r K V
noncomputable def dg_less (tr o n sg K V : Nat) (k : Nat → Nat → Nat → Bool) : Bool :=
  dg_rd V (0 + (n - 1)) fun a => dg_rd V (16 + (n - 1)) fun b => cond (Nat.beq sg 0) (dg_l51 tr o n K V k) (dg_wr V (0 + (n - 1)) b fun V => dg_wr V (16 + (n - 1)) a fun V => dg_l51 tr o n K V k)
noncomputable def dg_cmp (tr o n sg K V : Nat) (k : Nat → Nat → Bool) : Bool :=
  dg_less tr o n sg K V fun r K V => dg_wr V 48 r fun V => k K V
noncomputable def dg_ld (n : Nat) : Nat → Nat → Nat → (Nat → Bool) → Bool
  | 0 => fun _ _ _ => false
  | f + 1 => fun i V k => cond (Nat.ble n i) (k V) (dg_wr V (0 + i) (dg_ip n i) fun V => dg_wr V (16 + i) (dg_ip n (n + i)) fun V => dg_ld n f (i + 1) V k)
noncomputable def dg_pk27 (o n z : Nat) : Nat → Nat → Nat → Nat → (Nat → Nat → Bool) → Bool
  | 0 => fun _ _ _ _ => false
  | f + 1 => fun i K V k => cond (Nat.ble n i) (k K V) (dg_rd V (0 + i) fun a => dg_rd V (16 + i) fun b => dg_ch o z a b K fun r K => dg_wr V (48 + i) r fun V => dg_pk27 o n z f (i + 1) K V k)
noncomputable def dg_pk19 (o n z K V : Nat) (k : Nat → Nat → Bool) : Bool :=
  dg_ld n 20 0 V fun V => dg_pk27 o n z 20 0 K V k
noncomputable def dg_pick (tr o n sg K V : Nat) (k : Nat → Nat → Bool) : Bool :=
  dg_less tr o n sg K V fun l K V => cond (Nat.beq sg 0) (dg_pk19 o n l K V k) (dg_gt 3 l o K fun l K => dg_pk19 o n l K V k)
noncomputable def dg_src (n op i am V : Nat) (k : Nat → Bool) : Bool :=
  cond (Nat.beq op 6) (cond (Nat.ble (i + 1) am) (k 0) (dg_rd V ((144 + i) - am) k)) (cond (Nat.beq op 9) (dg_rd V (144 + (i + n - am) % n) k) (cond (Nat.ble n (i + am)) (cond (Nat.beq op 8) (dg_rd V ((144 + n) - 1) k) (k 0)) (dg_rd V ((144 + i) + am) k)))
noncomputable def dg_s68 (o n op b am : Nat) : Nat → Nat → Nat → Nat → (Nat → Nat → Bool) → Bool
  | 0 => fun _ _ _ _ => false
  | f + 1 => fun i K V k => cond (Nat.ble n i) (k K V) (dg_src n op i am V fun s => dg_rd V (144 + i) fun c => dg_ch o b s c K fun r K => dg_wr V (48 + i) r fun V => dg_s68 o n op b am f (i + 1) K V k)
noncomputable def dg_s42 (o n op : Nat) : Nat → Nat → Nat → Nat → Nat → (Nat → Nat → Bool) → Bool
  | 0 => fun _ _ _ _ _ => false
  | f + 1 => fun pl am K V k => cond (Nat.ble n am) (dg_cp n 48 144 20 0 V fun V => k K V) (dg_rd V (128 + pl) fun b => dg_s68 o n op b am 20 0 K V fun K V => dg_cp n 144 48 20 0 V fun V => dg_s42 o n op f (pl + 1) (am * 2) K V k)
noncomputable def dg_td2 (o n c : Nat) : Nat → Nat → Nat → (Nat → Bool) → Bool
  | 0 => fun _ _ _ => false
  | f + 1 => fun i V k => cond (Nat.ble n i) (k V) (cond (Nat.beq (c / 2 ^ i % 2) 0) (dg_wr V (64 + i) o fun V => dg_td2 o n c f (i + 1) V k) (dg_wr V (64 + i) 0 fun V => dg_td2 o n c f (i + 1) V k))
noncomputable def dg_td43 (n : Nat) : Nat → Nat → Nat → Nat → Nat → (Nat → Nat → Nat → Bool) → Bool
  | 0 => fun _ _ _ _ _ => false
  | f + 1 => fun c i K V k => cond (Nat.ble n i) (k c K V) (dg_rd V (128 + i) fun p => dg_rd V (64 + i) fun q => dg_gt 3 p q K fun e K => dg_gt 1 p q K fun b K => dg_gt 1 e c K fun a K => dg_gt 3 e c K fun t K => dg_wr V (32 + i) t fun V => dg_gt 2 b a K fun c K => dg_td43 n f c (i + 1) K V k)
noncomputable def dg_td146 (o n c : Nat) : Nat → Nat → Nat → Nat → (Nat → Nat → Bool) → Bool
  | 0 => fun _ _ _ _ => false
  | f + 1 => fun i K V k => cond (Nat.ble n i) (k K V) (dg_rd V (32 + i) fun a => dg_rd V (128 + i) fun b => dg_ch o c a b K fun r K => dg_wr V (128 + i) r fun V => dg_td146 o n c f (i + 1) K V k)
noncomputable def dg_td (o n c K V : Nat) (k : Nat → Nat → Bool) : Bool :=
  dg_td2 o n c 20 0 V fun V => dg_td43 n 20 o 0 K V fun c K V => dg_td146 o n c 20 0 K V k
noncomputable def dg_f77 (o n : Nat) : Nat → Nat → Nat → (Nat → Nat → Bool) → Bool
  | 0 => fun K V k => k K V
  | m + 1 => fun K V k => dg_td o n (n * 2 ^ m) K V fun K V => dg_f77 o n m K V k
noncomputable def dg_f52 (o n K V : Nat) (k : Nat → Nat → Bool) : Nat → Nat → Bool
  | 0 => fun _ => false
  | f + 1 => fun s => cond (Nat.ble (2 ^ n) (n * 2 ^ (s + 1))) (dg_f77 o n (s + 1) K V k) (dg_f52 o n K V k f (s + 1))
noncomputable def dg_rest (o n K V : Nat) (k : Nat → Nat → Bool) : Bool :=
  dg_cp n 128 16 20 0 V fun V => cond (Nat.beq (Nat.land n (n - 1)) 0) (k K V) (dg_f52 o n K V k 20 0)
noncomputable def dg_shift (o n op K V : Nat) (k : Nat → Nat → Bool) : Bool :=
  dg_cp n 144 0 20 0 V fun V => dg_rest o n K V fun K V => dg_s42 o n op 20 0 1 K V k
noncomputable def dg_c80 (tr n c K V : Nat) (k : Nat → Nat → Bool) : Bool :=
  dg_zr n 128 20 0 V fun V => dg_add tr 144 128 n c K V fun K V => dg_cp n 144 32 20 0 V fun V => k K V
noncomputable def dg_c36 (tr o n ld : Nat) : Nat → Nat → Nat → Nat → (Nat → Nat → Bool) → Bool
  | 0 => fun _ K V k => dg_cp n 48 144 20 0 V fun V => k K V
  | m + 1 => fun s K V k => dg_rd V (0 + m) fun a => dg_gt 2 s a K fun s K => cond (Nat.beq ld 0) (dg_rd V (0 + m) fun c => dg_c80 tr n c K V fun K V => dg_c36 tr o n ld m s K V k) (dg_gt 3 s o K fun c K => dg_c80 tr n c K V fun K V => dg_c36 tr o n ld m s K V k)
noncomputable def dg_count (tr o n ld K V : Nat) (k : Nat → Nat → Bool) : Bool :=
  dg_zr n 144 20 0 V fun V => dg_c36 tr o n ld n 0 K V k
noncomputable def dg_m16 (tr n t : Nat) : Nat → Nat → Nat → Nat → (Nat → Nat → Bool) → Bool
  | 0 => fun _ _ _ _ => false
  | f + 1 => fun i K V k => cond (Nat.ble n i) (dg_add tr 128 144 n t K V fun K V => dg_cp n 48 32 20 0 V fun V => k K V) (dg_rd V (0 + i) fun a => dg_gt 3 a t K fun r K => dg_wr V (128 + i) r fun V => dg_wr V (144 + i) 0 fun V => dg_m16 tr n t f (i + 1) K V k)
noncomputable def dg_mag (tr n K V : Nat) (k : Nat → Nat → Bool) : Bool :=
  dg_rd V ((0 + n) - 1) fun t => dg_m16 tr n t 20 0 K V k
noncomputable def dg_disp (tr o n op K V : Nat) (k : Nat → Nat → Bool) : Bool :=
  cond (Nat.ble op 1) (dg_sum tr o n op K V k) (cond (Nat.beq op 15) (dg_sum tr o n op K V k)
    (cond (Nat.ble 4 op) (cond (Nat.ble 6 op) (cond (Nat.ble 10 op) (cond (Nat.ble 12 op) (cond (Nat.ble 14 op) (dg_mag tr n K V k)
      (cond (Nat.beq op 13) (dg_count tr o n 1 K V k) (dg_count tr o n 0 K V k)))
      (cond (Nat.beq op 11) (dg_pick tr o n 1 K V k) (dg_pick tr o n 0 K V k)))
      (dg_shift o n op K V k))
      (cond (Nat.beq op 5) (dg_cmp tr o n 1 K V k) (dg_cmp tr o n 0 K V k)))
      (cond (Nat.beq op 3) (dg_prod tr n n K V k) (dg_prod tr n 0 K V k))))
noncomputable def dg_b50 (tr o n op K : Nat) (k : Nat → Nat → Bool) : Nat → Nat → Nat → Bool
  | 0 => fun _ _ => false
  | f + 1 => fun i V => cond (Nat.ble n i) (dg_disp tr o n op K V k) (dg_wr V (0 + i) (dg_ip n i) fun V => dg_wr V (16 + i) (dg_ip n (n + i)) fun V => dg_wr V (48 + i) 0 fun V => dg_b50 tr o n op K k f (i + 1) V)
noncomputable def dg_build (tr n op : Nat) (k : Nat → Nat → Bool) : Bool :=
  dg_fz (dg_one n) fun o => dg_b50 tr o n op (2 + 2 * n) k 20 0 0
end
section
/-! The reference's answer, in naturals -/
def dg_sl (S a b : Nat) : Bool := cond (Nat.ble (S / 2) a) (cond (Nat.ble (S / 2) b) (Nat.ble (a + 1) b) true) (cond (Nat.ble (S / 2) b) false (Nat.ble (a + 1) b))
def dg_sh (S op a : Nat) : Nat :=
  cond (Nat.beq op 6) (a * 2 % S) (cond (Nat.beq op 7) (a / 2) (cond (Nat.beq op 8) (a / 2 + cond (Nat.ble (S / 2) a) (S / 2) 0) (a * 2 % S + cond (Nat.ble (S / 2) a) 1 0)))
noncomputable def dg_it (S op a : Nat) : Nat → Nat := fun m => Nat.rec a (fun _ x => dg_sh S op x) m
def dg_bt (a i : Nat) : Nat := Nat.mod (Nat.div a (Nat.pow 2 i)) 2
noncomputable def dg_on (a : Nat) : Nat → Nat := fun m => Nat.rec 0 (fun i x => Nat.add x (dg_bt a i)) m
noncomputable def dg_ze (a : Nat) : Nat → Nat := fun m => Nat.rec 0 (fun i x => cond (Nat.beq (dg_bt a i) 1) 0 (Nat.succ x)) m
noncomputable def dg_raw (n S op a b : Nat) : Nat :=
  cond (Nat.beq op 0) (a + b) (cond (Nat.beq op 1) (a + S - b) (cond (Nat.beq op 2) (a * b) (cond (Nat.beq op 3) (a * b / S)
  (cond (Nat.beq op 4) (cond (Nat.ble (a + 1) b) 1 0) (cond (Nat.beq op 5) (cond (dg_sl S a b) 1 0)
  (cond (Nat.ble op 9) (dg_it S op a (b % n))
  (cond (Nat.beq op 10) (cond (Nat.ble b a) b a) (cond (Nat.beq op 11) (cond (dg_sl S b a) a b)
  (cond (Nat.beq op 14) (cond (Nat.ble (S / 2) a) (S - a) a) (cond (Nat.beq op 15) ((a + b) / 2)
  (cond (Nat.beq op 12) (dg_on a n) (dg_ze a n))))))))))))
noncomputable def dg_ref (n op a b : Nat) : Nat := Nat.mod (dg_raw n (Nat.pow 2 n) op a b) (Nat.pow 2 n)
/-! The check of the built circuit -/
noncomputable def dg_ck (n op i t : Nat) : Nat → Bool := fun m => Nat.rec true (fun e r => cond (Nat.beq (Nat.land (Nat.shiftRight t e) 1) (Nat.land (Nat.shiftRight (dg_ref n op (Nat.mod e (Nat.pow 2 n)) (Nat.div e (Nat.pow 2 n))) i) 1)) r false) m
noncomputable def dg_cs (n op V : Nat) : Nat → Bool := fun m => Nat.rec true (fun i r => cond (dg_rd V (48 + i) fun t => dg_ck n op i t (Nat.pow 4 n)) r false) m
noncomputable def dg_full (tr n op : Nat) : Bool := dg_build tr n op fun _ V => dg_cs n op V n
theorem dg_ck_e {n op i t : Nat} : ∀ m, dg_ck n op i t m = true → ∀ e, e < m → t.testBit e = (dg_ref n op (e % 2 ^ n) (e / 2 ^ n)).testBit i := by
  intro m
  induction m with
  | zero => intro _ e he; omega
  | succ m ih =>
    intro h e he
    rcases dg_cd (show cond (Nat.beq (Nat.land (Nat.shiftRight t m) 1) (Nat.land (Nat.shiftRight (dg_ref n op (Nat.mod m (Nat.pow 2 n)) (Nat.div m (Nat.pow 2 n))) i) 1)) (dg_ck n op i t m) false = true from h) with ⟨h1, h2⟩ | ⟨_, h2⟩
    · by_cases hm : e = m
      · subst hm
        have h3 : (t >>> e) &&& 1 = ((dg_ref n op (e % 2 ^ n) (e / 2 ^ n)) >>> i) &&& 1 := dg_beq_t h1
        have h4 : ∀ x j : Nat, x.testBit j = ((x >>> j) &&& 1 != 0) := fun x j => by rw [Nat.testBit, Nat.and_comm]
        rw [h4, h4, h3]
      · exact ih h2 e (by omega)
    · cases h2
theorem dg_cs_e {n op V : Nat} : ∀ m, dg_cs n op V m = true → ∀ i, i < m → ∃ t, dg_gv V (48 + i) = t + 1 ∧ ∀ e, e < 4 ^ n → t.testBit e = (dg_ref n op (e % 2 ^ n) (e / 2 ^ n)).testBit i := by
  intro m
  induction m with
  | zero => intro _ i hi; omega
  | succ m ih =>
    intro h i hi
    rcases dg_cd (show cond (dg_rd V (48 + m) fun t => dg_ck n op m t (Nat.pow 4 n)) (dg_cs n op V m) false = true from h) with ⟨h1, h2⟩ | ⟨_, h2⟩
    · by_cases hm : i = m
      · subst hm
        obtain ⟨t, e1, e2⟩ := dg_rd_e h1
        exact ⟨t, e1, dg_ck_e _ e2⟩
      · exact ih h2 i (by omega)
    · cases h2
end
section
/-! The inputs' truth tables, and the 160 circuits, by evaluation -/
noncomputable def dg_ic (j t : Nat) : Nat → Bool := fun m => Nat.rec true (fun e r => cond (Nat.beq (Nat.land (Nat.shiftRight t e) 1) (Nat.land (Nat.shiftRight e j) 1)) r false) m
noncomputable def dg_ia (n : Nat) : Nat → Bool := fun m => Nat.rec true (fun j r => cond (dg_ic j (dg_ip n j) (Nat.pow 4 n)) r false) m
theorem dg_ic_e {j t : Nat} : ∀ m, dg_ic j t m = true → ∀ e, e < m → t.testBit e = e.testBit j := by
  intro m
  induction m with
  | zero => intro _ e he; omega
  | succ m ih =>
    intro h e he
    rcases dg_cd (show cond (Nat.beq (Nat.land (Nat.shiftRight t m) 1) (Nat.land (Nat.shiftRight m j) 1)) (dg_ic j t m) false = true from h) with ⟨h1, h2⟩ | ⟨_, h2⟩
    · by_cases hm : e = m
      · subst hm
        have h3 : (t >>> e) &&& 1 = (e >>> j) &&& 1 := dg_beq_t h1
        have h4 : ∀ x j : Nat, x.testBit j = ((x >>> j) &&& 1 != 0) := fun x j => by rw [Nat.testBit, Nat.and_comm]
        rw [h4, h4, h3]
      · exact ih h2 e (by omega)
    · cases h2
theorem dg_ia_e {n : Nat} : ∀ m, dg_ia n m = true → ∀ j, j < m → ∀ e, e < 4 ^ n → (dg_ip n j).testBit e = e.testBit j := by
  intro m
  induction m with
  | zero => intro _ j hj; omega
  | succ m ih =>
    intro h j hj
    rcases dg_cd (show cond (dg_ic m (dg_ip n m) (Nat.pow 4 n)) (dg_ia n m) false = true from h) with ⟨h1, h2⟩ | ⟨_, h2⟩
    · by_cases hm : j = m
      · subst hm
        exact dg_ic_e _ h1
      · exact ih h2 j (by omega)
    · cases h2
theorem dg_iv_2 : dg_ia 2 (2 * 2) = true := by decide +kernel
theorem dg_iv_3 : dg_ia 3 (2 * 3) = true := by decide +kernel
theorem dg_iv_4 : dg_ia 4 (2 * 4) = true := by decide +kernel
theorem dg_iv_5 : dg_ia 5 (2 * 5) = true := by decide +kernel
theorem dg_iv_6 : dg_ia 6 (2 * 6) = true := by decide +kernel
theorem dg_ip_tb {n j e : Nat} (hn2 : 2 ≤ n) (hn : n ≤ 6) (hj : j < 2 * n) (he : e < 4 ^ n) : (dg_ip n j).testBit e = e.testBit j := by
  have hc : n = 2 ∨ n = 3 ∨ n = 4 ∨ n = 5 ∨ n = 6 := by omega
  rcases hc with h | h | h | h | h <;> subst h
  · exact dg_ia_e _ dg_iv_2 j hj e he
  · exact dg_ia_e _ dg_iv_3 j hj e he
  · exact dg_ia_e _ dg_iv_4 j hj e he
  · exact dg_ia_e _ dg_iv_5 j hj e he
  · exact dg_ia_e _ dg_iv_6 j hj e he
theorem dg_x_0_2_0 : dg_full 0 2 0 = true := by decide +kernel
theorem dg_x_0_2_1 : dg_full 0 2 1 = true := by decide +kernel
theorem dg_x_0_2_2 : dg_full 0 2 2 = true := by decide +kernel
theorem dg_x_0_2_3 : dg_full 0 2 3 = true := by decide +kernel
theorem dg_x_0_2_4 : dg_full 0 2 4 = true := by decide +kernel
theorem dg_x_0_2_5 : dg_full 0 2 5 = true := by decide +kernel
theorem dg_x_0_2_6 : dg_full 0 2 6 = true := by decide +kernel
theorem dg_x_0_2_7 : dg_full 0 2 7 = true := by decide +kernel
theorem dg_x_0_2_8 : dg_full 0 2 8 = true := by decide +kernel
theorem dg_x_0_2_9 : dg_full 0 2 9 = true := by decide +kernel
theorem dg_x_0_2_10 : dg_full 0 2 10 = true := by decide +kernel
theorem dg_x_0_2_11 : dg_full 0 2 11 = true := by decide +kernel
theorem dg_x_0_2_12 : dg_full 0 2 12 = true := by decide +kernel
theorem dg_x_0_2_13 : dg_full 0 2 13 = true := by decide +kernel
theorem dg_x_0_2_14 : dg_full 0 2 14 = true := by decide +kernel
theorem dg_x_0_2_15 : dg_full 0 2 15 = true := by decide +kernel
theorem dg_y_0_2 {op : Nat} (ho : op ≤ 15) : dg_full 0 2 op = true := by
  have hc : op = 0 ∨ op = 1 ∨ op = 2 ∨ op = 3 ∨ op = 4 ∨ op = 5 ∨ op = 6 ∨ op = 7 ∨ op = 8 ∨ op = 9 ∨ op = 10 ∨ op = 11 ∨ op = 12 ∨ op = 13 ∨ op = 14 ∨ op = 15 := by omega
  rcases hc with h | h | h | h | h | h | h | h | h | h | h | h | h | h | h | h <;> subst h
  · exact dg_x_0_2_0
  · exact dg_x_0_2_1
  · exact dg_x_0_2_2
  · exact dg_x_0_2_3
  · exact dg_x_0_2_4
  · exact dg_x_0_2_5
  · exact dg_x_0_2_6
  · exact dg_x_0_2_7
  · exact dg_x_0_2_8
  · exact dg_x_0_2_9
  · exact dg_x_0_2_10
  · exact dg_x_0_2_11
  · exact dg_x_0_2_12
  · exact dg_x_0_2_13
  · exact dg_x_0_2_14
  · exact dg_x_0_2_15
theorem dg_x_1_2_0 : dg_full 1 2 0 = true := by decide +kernel
theorem dg_x_1_2_1 : dg_full 1 2 1 = true := by decide +kernel
theorem dg_x_1_2_2 : dg_full 1 2 2 = true := by decide +kernel
theorem dg_x_1_2_3 : dg_full 1 2 3 = true := by decide +kernel
theorem dg_x_1_2_4 : dg_full 1 2 4 = true := by decide +kernel
theorem dg_x_1_2_5 : dg_full 1 2 5 = true := by decide +kernel
theorem dg_x_1_2_6 : dg_full 1 2 6 = true := by decide +kernel
theorem dg_x_1_2_7 : dg_full 1 2 7 = true := by decide +kernel
theorem dg_x_1_2_8 : dg_full 1 2 8 = true := by decide +kernel
theorem dg_x_1_2_9 : dg_full 1 2 9 = true := by decide +kernel
theorem dg_x_1_2_10 : dg_full 1 2 10 = true := by decide +kernel
theorem dg_x_1_2_11 : dg_full 1 2 11 = true := by decide +kernel
theorem dg_x_1_2_12 : dg_full 1 2 12 = true := by decide +kernel
theorem dg_x_1_2_13 : dg_full 1 2 13 = true := by decide +kernel
theorem dg_x_1_2_14 : dg_full 1 2 14 = true := by decide +kernel
theorem dg_x_1_2_15 : dg_full 1 2 15 = true := by decide +kernel
theorem dg_y_1_2 {op : Nat} (ho : op ≤ 15) : dg_full 1 2 op = true := by
  have hc : op = 0 ∨ op = 1 ∨ op = 2 ∨ op = 3 ∨ op = 4 ∨ op = 5 ∨ op = 6 ∨ op = 7 ∨ op = 8 ∨ op = 9 ∨ op = 10 ∨ op = 11 ∨ op = 12 ∨ op = 13 ∨ op = 14 ∨ op = 15 := by omega
  rcases hc with h | h | h | h | h | h | h | h | h | h | h | h | h | h | h | h <;> subst h
  · exact dg_x_1_2_0
  · exact dg_x_1_2_1
  · exact dg_x_1_2_2
  · exact dg_x_1_2_3
  · exact dg_x_1_2_4
  · exact dg_x_1_2_5
  · exact dg_x_1_2_6
  · exact dg_x_1_2_7
  · exact dg_x_1_2_8
  · exact dg_x_1_2_9
  · exact dg_x_1_2_10
  · exact dg_x_1_2_11
  · exact dg_x_1_2_12
  · exact dg_x_1_2_13
  · exact dg_x_1_2_14
  · exact dg_x_1_2_15
theorem dg_x_0_3_0 : dg_full 0 3 0 = true := by decide +kernel
theorem dg_x_0_3_1 : dg_full 0 3 1 = true := by decide +kernel
theorem dg_x_0_3_2 : dg_full 0 3 2 = true := by decide +kernel
theorem dg_x_0_3_3 : dg_full 0 3 3 = true := by decide +kernel
theorem dg_x_0_3_4 : dg_full 0 3 4 = true := by decide +kernel
theorem dg_x_0_3_5 : dg_full 0 3 5 = true := by decide +kernel
theorem dg_x_0_3_6 : dg_full 0 3 6 = true := by decide +kernel
theorem dg_x_0_3_7 : dg_full 0 3 7 = true := by decide +kernel
theorem dg_x_0_3_8 : dg_full 0 3 8 = true := by decide +kernel
theorem dg_x_0_3_9 : dg_full 0 3 9 = true := by decide +kernel
theorem dg_x_0_3_10 : dg_full 0 3 10 = true := by decide +kernel
theorem dg_x_0_3_11 : dg_full 0 3 11 = true := by decide +kernel
theorem dg_x_0_3_12 : dg_full 0 3 12 = true := by decide +kernel
theorem dg_x_0_3_13 : dg_full 0 3 13 = true := by decide +kernel
theorem dg_x_0_3_14 : dg_full 0 3 14 = true := by decide +kernel
theorem dg_x_0_3_15 : dg_full 0 3 15 = true := by decide +kernel
theorem dg_y_0_3 {op : Nat} (ho : op ≤ 15) : dg_full 0 3 op = true := by
  have hc : op = 0 ∨ op = 1 ∨ op = 2 ∨ op = 3 ∨ op = 4 ∨ op = 5 ∨ op = 6 ∨ op = 7 ∨ op = 8 ∨ op = 9 ∨ op = 10 ∨ op = 11 ∨ op = 12 ∨ op = 13 ∨ op = 14 ∨ op = 15 := by omega
  rcases hc with h | h | h | h | h | h | h | h | h | h | h | h | h | h | h | h <;> subst h
  · exact dg_x_0_3_0
  · exact dg_x_0_3_1
  · exact dg_x_0_3_2
  · exact dg_x_0_3_3
  · exact dg_x_0_3_4
  · exact dg_x_0_3_5
  · exact dg_x_0_3_6
  · exact dg_x_0_3_7
  · exact dg_x_0_3_8
  · exact dg_x_0_3_9
  · exact dg_x_0_3_10
  · exact dg_x_0_3_11
  · exact dg_x_0_3_12
  · exact dg_x_0_3_13
  · exact dg_x_0_3_14
  · exact dg_x_0_3_15
theorem dg_x_1_3_0 : dg_full 1 3 0 = true := by decide +kernel
theorem dg_x_1_3_1 : dg_full 1 3 1 = true := by decide +kernel
theorem dg_x_1_3_2 : dg_full 1 3 2 = true := by decide +kernel
theorem dg_x_1_3_3 : dg_full 1 3 3 = true := by decide +kernel
theorem dg_x_1_3_4 : dg_full 1 3 4 = true := by decide +kernel
theorem dg_x_1_3_5 : dg_full 1 3 5 = true := by decide +kernel
theorem dg_x_1_3_6 : dg_full 1 3 6 = true := by decide +kernel
theorem dg_x_1_3_7 : dg_full 1 3 7 = true := by decide +kernel
theorem dg_x_1_3_8 : dg_full 1 3 8 = true := by decide +kernel
theorem dg_x_1_3_9 : dg_full 1 3 9 = true := by decide +kernel
theorem dg_x_1_3_10 : dg_full 1 3 10 = true := by decide +kernel
theorem dg_x_1_3_11 : dg_full 1 3 11 = true := by decide +kernel
theorem dg_x_1_3_12 : dg_full 1 3 12 = true := by decide +kernel
theorem dg_x_1_3_13 : dg_full 1 3 13 = true := by decide +kernel
theorem dg_x_1_3_14 : dg_full 1 3 14 = true := by decide +kernel
theorem dg_x_1_3_15 : dg_full 1 3 15 = true := by decide +kernel
theorem dg_y_1_3 {op : Nat} (ho : op ≤ 15) : dg_full 1 3 op = true := by
  have hc : op = 0 ∨ op = 1 ∨ op = 2 ∨ op = 3 ∨ op = 4 ∨ op = 5 ∨ op = 6 ∨ op = 7 ∨ op = 8 ∨ op = 9 ∨ op = 10 ∨ op = 11 ∨ op = 12 ∨ op = 13 ∨ op = 14 ∨ op = 15 := by omega
  rcases hc with h | h | h | h | h | h | h | h | h | h | h | h | h | h | h | h <;> subst h
  · exact dg_x_1_3_0
  · exact dg_x_1_3_1
  · exact dg_x_1_3_2
  · exact dg_x_1_3_3
  · exact dg_x_1_3_4
  · exact dg_x_1_3_5
  · exact dg_x_1_3_6
  · exact dg_x_1_3_7
  · exact dg_x_1_3_8
  · exact dg_x_1_3_9
  · exact dg_x_1_3_10
  · exact dg_x_1_3_11
  · exact dg_x_1_3_12
  · exact dg_x_1_3_13
  · exact dg_x_1_3_14
  · exact dg_x_1_3_15
theorem dg_x_0_4_0 : dg_full 0 4 0 = true := by decide +kernel
theorem dg_x_0_4_1 : dg_full 0 4 1 = true := by decide +kernel
theorem dg_x_0_4_2 : dg_full 0 4 2 = true := by decide +kernel
theorem dg_x_0_4_3 : dg_full 0 4 3 = true := by decide +kernel
theorem dg_x_0_4_4 : dg_full 0 4 4 = true := by decide +kernel
theorem dg_x_0_4_5 : dg_full 0 4 5 = true := by decide +kernel
theorem dg_x_0_4_6 : dg_full 0 4 6 = true := by decide +kernel
theorem dg_x_0_4_7 : dg_full 0 4 7 = true := by decide +kernel
theorem dg_x_0_4_8 : dg_full 0 4 8 = true := by decide +kernel
theorem dg_x_0_4_9 : dg_full 0 4 9 = true := by decide +kernel
theorem dg_x_0_4_10 : dg_full 0 4 10 = true := by decide +kernel
theorem dg_x_0_4_11 : dg_full 0 4 11 = true := by decide +kernel
theorem dg_x_0_4_12 : dg_full 0 4 12 = true := by decide +kernel
theorem dg_x_0_4_13 : dg_full 0 4 13 = true := by decide +kernel
theorem dg_x_0_4_14 : dg_full 0 4 14 = true := by decide +kernel
theorem dg_x_0_4_15 : dg_full 0 4 15 = true := by decide +kernel
theorem dg_y_0_4 {op : Nat} (ho : op ≤ 15) : dg_full 0 4 op = true := by
  have hc : op = 0 ∨ op = 1 ∨ op = 2 ∨ op = 3 ∨ op = 4 ∨ op = 5 ∨ op = 6 ∨ op = 7 ∨ op = 8 ∨ op = 9 ∨ op = 10 ∨ op = 11 ∨ op = 12 ∨ op = 13 ∨ op = 14 ∨ op = 15 := by omega
  rcases hc with h | h | h | h | h | h | h | h | h | h | h | h | h | h | h | h <;> subst h
  · exact dg_x_0_4_0
  · exact dg_x_0_4_1
  · exact dg_x_0_4_2
  · exact dg_x_0_4_3
  · exact dg_x_0_4_4
  · exact dg_x_0_4_5
  · exact dg_x_0_4_6
  · exact dg_x_0_4_7
  · exact dg_x_0_4_8
  · exact dg_x_0_4_9
  · exact dg_x_0_4_10
  · exact dg_x_0_4_11
  · exact dg_x_0_4_12
  · exact dg_x_0_4_13
  · exact dg_x_0_4_14
  · exact dg_x_0_4_15
theorem dg_x_1_4_0 : dg_full 1 4 0 = true := by decide +kernel
theorem dg_x_1_4_1 : dg_full 1 4 1 = true := by decide +kernel
theorem dg_x_1_4_2 : dg_full 1 4 2 = true := by decide +kernel
theorem dg_x_1_4_3 : dg_full 1 4 3 = true := by decide +kernel
theorem dg_x_1_4_4 : dg_full 1 4 4 = true := by decide +kernel
theorem dg_x_1_4_5 : dg_full 1 4 5 = true := by decide +kernel
theorem dg_x_1_4_6 : dg_full 1 4 6 = true := by decide +kernel
theorem dg_x_1_4_7 : dg_full 1 4 7 = true := by decide +kernel
theorem dg_x_1_4_8 : dg_full 1 4 8 = true := by decide +kernel
theorem dg_x_1_4_9 : dg_full 1 4 9 = true := by decide +kernel
theorem dg_x_1_4_10 : dg_full 1 4 10 = true := by decide +kernel
theorem dg_x_1_4_11 : dg_full 1 4 11 = true := by decide +kernel
theorem dg_x_1_4_12 : dg_full 1 4 12 = true := by decide +kernel
theorem dg_x_1_4_13 : dg_full 1 4 13 = true := by decide +kernel
theorem dg_x_1_4_14 : dg_full 1 4 14 = true := by decide +kernel
theorem dg_x_1_4_15 : dg_full 1 4 15 = true := by decide +kernel
theorem dg_y_1_4 {op : Nat} (ho : op ≤ 15) : dg_full 1 4 op = true := by
  have hc : op = 0 ∨ op = 1 ∨ op = 2 ∨ op = 3 ∨ op = 4 ∨ op = 5 ∨ op = 6 ∨ op = 7 ∨ op = 8 ∨ op = 9 ∨ op = 10 ∨ op = 11 ∨ op = 12 ∨ op = 13 ∨ op = 14 ∨ op = 15 := by omega
  rcases hc with h | h | h | h | h | h | h | h | h | h | h | h | h | h | h | h <;> subst h
  · exact dg_x_1_4_0
  · exact dg_x_1_4_1
  · exact dg_x_1_4_2
  · exact dg_x_1_4_3
  · exact dg_x_1_4_4
  · exact dg_x_1_4_5
  · exact dg_x_1_4_6
  · exact dg_x_1_4_7
  · exact dg_x_1_4_8
  · exact dg_x_1_4_9
  · exact dg_x_1_4_10
  · exact dg_x_1_4_11
  · exact dg_x_1_4_12
  · exact dg_x_1_4_13
  · exact dg_x_1_4_14
  · exact dg_x_1_4_15
theorem dg_x_0_5_0 : dg_full 0 5 0 = true := by decide +kernel
theorem dg_x_0_5_1 : dg_full 0 5 1 = true := by decide +kernel
theorem dg_x_0_5_2 : dg_full 0 5 2 = true := by decide +kernel
theorem dg_x_0_5_3 : dg_full 0 5 3 = true := by decide +kernel
theorem dg_x_0_5_4 : dg_full 0 5 4 = true := by decide +kernel
theorem dg_x_0_5_5 : dg_full 0 5 5 = true := by decide +kernel
theorem dg_x_0_5_6 : dg_full 0 5 6 = true := by decide +kernel
theorem dg_x_0_5_7 : dg_full 0 5 7 = true := by decide +kernel
theorem dg_x_0_5_8 : dg_full 0 5 8 = true := by decide +kernel
theorem dg_x_0_5_9 : dg_full 0 5 9 = true := by decide +kernel
theorem dg_x_0_5_10 : dg_full 0 5 10 = true := by decide +kernel
theorem dg_x_0_5_11 : dg_full 0 5 11 = true := by decide +kernel
theorem dg_x_0_5_12 : dg_full 0 5 12 = true := by decide +kernel
theorem dg_x_0_5_13 : dg_full 0 5 13 = true := by decide +kernel
theorem dg_x_0_5_14 : dg_full 0 5 14 = true := by decide +kernel
theorem dg_x_0_5_15 : dg_full 0 5 15 = true := by decide +kernel
theorem dg_y_0_5 {op : Nat} (ho : op ≤ 15) : dg_full 0 5 op = true := by
  have hc : op = 0 ∨ op = 1 ∨ op = 2 ∨ op = 3 ∨ op = 4 ∨ op = 5 ∨ op = 6 ∨ op = 7 ∨ op = 8 ∨ op = 9 ∨ op = 10 ∨ op = 11 ∨ op = 12 ∨ op = 13 ∨ op = 14 ∨ op = 15 := by omega
  rcases hc with h | h | h | h | h | h | h | h | h | h | h | h | h | h | h | h <;> subst h
  · exact dg_x_0_5_0
  · exact dg_x_0_5_1
  · exact dg_x_0_5_2
  · exact dg_x_0_5_3
  · exact dg_x_0_5_4
  · exact dg_x_0_5_5
  · exact dg_x_0_5_6
  · exact dg_x_0_5_7
  · exact dg_x_0_5_8
  · exact dg_x_0_5_9
  · exact dg_x_0_5_10
  · exact dg_x_0_5_11
  · exact dg_x_0_5_12
  · exact dg_x_0_5_13
  · exact dg_x_0_5_14
  · exact dg_x_0_5_15
theorem dg_x_1_5_0 : dg_full 1 5 0 = true := by decide +kernel
theorem dg_x_1_5_1 : dg_full 1 5 1 = true := by decide +kernel
theorem dg_x_1_5_2 : dg_full 1 5 2 = true := by decide +kernel
theorem dg_x_1_5_3 : dg_full 1 5 3 = true := by decide +kernel
theorem dg_x_1_5_4 : dg_full 1 5 4 = true := by decide +kernel
theorem dg_x_1_5_5 : dg_full 1 5 5 = true := by decide +kernel
theorem dg_x_1_5_6 : dg_full 1 5 6 = true := by decide +kernel
theorem dg_x_1_5_7 : dg_full 1 5 7 = true := by decide +kernel
theorem dg_x_1_5_8 : dg_full 1 5 8 = true := by decide +kernel
theorem dg_x_1_5_9 : dg_full 1 5 9 = true := by decide +kernel
theorem dg_x_1_5_10 : dg_full 1 5 10 = true := by decide +kernel
theorem dg_x_1_5_11 : dg_full 1 5 11 = true := by decide +kernel
theorem dg_x_1_5_12 : dg_full 1 5 12 = true := by decide +kernel
theorem dg_x_1_5_13 : dg_full 1 5 13 = true := by decide +kernel
theorem dg_x_1_5_14 : dg_full 1 5 14 = true := by decide +kernel
theorem dg_x_1_5_15 : dg_full 1 5 15 = true := by decide +kernel
theorem dg_y_1_5 {op : Nat} (ho : op ≤ 15) : dg_full 1 5 op = true := by
  have hc : op = 0 ∨ op = 1 ∨ op = 2 ∨ op = 3 ∨ op = 4 ∨ op = 5 ∨ op = 6 ∨ op = 7 ∨ op = 8 ∨ op = 9 ∨ op = 10 ∨ op = 11 ∨ op = 12 ∨ op = 13 ∨ op = 14 ∨ op = 15 := by omega
  rcases hc with h | h | h | h | h | h | h | h | h | h | h | h | h | h | h | h <;> subst h
  · exact dg_x_1_5_0
  · exact dg_x_1_5_1
  · exact dg_x_1_5_2
  · exact dg_x_1_5_3
  · exact dg_x_1_5_4
  · exact dg_x_1_5_5
  · exact dg_x_1_5_6
  · exact dg_x_1_5_7
  · exact dg_x_1_5_8
  · exact dg_x_1_5_9
  · exact dg_x_1_5_10
  · exact dg_x_1_5_11
  · exact dg_x_1_5_12
  · exact dg_x_1_5_13
  · exact dg_x_1_5_14
  · exact dg_x_1_5_15
theorem dg_x_0_6_0 : dg_full 0 6 0 = true := by decide +kernel
theorem dg_x_0_6_1 : dg_full 0 6 1 = true := by decide +kernel
theorem dg_x_0_6_2 : dg_full 0 6 2 = true := by decide +kernel
theorem dg_x_0_6_3 : dg_full 0 6 3 = true := by decide +kernel
theorem dg_x_0_6_4 : dg_full 0 6 4 = true := by decide +kernel
theorem dg_x_0_6_5 : dg_full 0 6 5 = true := by decide +kernel
theorem dg_x_0_6_6 : dg_full 0 6 6 = true := by decide +kernel
theorem dg_x_0_6_7 : dg_full 0 6 7 = true := by decide +kernel
theorem dg_x_0_6_8 : dg_full 0 6 8 = true := by decide +kernel
theorem dg_x_0_6_9 : dg_full 0 6 9 = true := by decide +kernel
theorem dg_x_0_6_10 : dg_full 0 6 10 = true := by decide +kernel
theorem dg_x_0_6_11 : dg_full 0 6 11 = true := by decide +kernel
theorem dg_x_0_6_12 : dg_full 0 6 12 = true := by decide +kernel
theorem dg_x_0_6_13 : dg_full 0 6 13 = true := by decide +kernel
theorem dg_x_0_6_14 : dg_full 0 6 14 = true := by decide +kernel
theorem dg_x_0_6_15 : dg_full 0 6 15 = true := by decide +kernel
theorem dg_y_0_6 {op : Nat} (ho : op ≤ 15) : dg_full 0 6 op = true := by
  have hc : op = 0 ∨ op = 1 ∨ op = 2 ∨ op = 3 ∨ op = 4 ∨ op = 5 ∨ op = 6 ∨ op = 7 ∨ op = 8 ∨ op = 9 ∨ op = 10 ∨ op = 11 ∨ op = 12 ∨ op = 13 ∨ op = 14 ∨ op = 15 := by omega
  rcases hc with h | h | h | h | h | h | h | h | h | h | h | h | h | h | h | h <;> subst h
  · exact dg_x_0_6_0
  · exact dg_x_0_6_1
  · exact dg_x_0_6_2
  · exact dg_x_0_6_3
  · exact dg_x_0_6_4
  · exact dg_x_0_6_5
  · exact dg_x_0_6_6
  · exact dg_x_0_6_7
  · exact dg_x_0_6_8
  · exact dg_x_0_6_9
  · exact dg_x_0_6_10
  · exact dg_x_0_6_11
  · exact dg_x_0_6_12
  · exact dg_x_0_6_13
  · exact dg_x_0_6_14
  · exact dg_x_0_6_15
theorem dg_x_1_6_0 : dg_full 1 6 0 = true := by decide +kernel
theorem dg_x_1_6_1 : dg_full 1 6 1 = true := by decide +kernel
theorem dg_x_1_6_2 : dg_full 1 6 2 = true := by decide +kernel
theorem dg_x_1_6_3 : dg_full 1 6 3 = true := by decide +kernel
theorem dg_x_1_6_4 : dg_full 1 6 4 = true := by decide +kernel
theorem dg_x_1_6_5 : dg_full 1 6 5 = true := by decide +kernel
theorem dg_x_1_6_6 : dg_full 1 6 6 = true := by decide +kernel
theorem dg_x_1_6_7 : dg_full 1 6 7 = true := by decide +kernel
theorem dg_x_1_6_8 : dg_full 1 6 8 = true := by decide +kernel
theorem dg_x_1_6_9 : dg_full 1 6 9 = true := by decide +kernel
theorem dg_x_1_6_10 : dg_full 1 6 10 = true := by decide +kernel
theorem dg_x_1_6_11 : dg_full 1 6 11 = true := by decide +kernel
theorem dg_x_1_6_12 : dg_full 1 6 12 = true := by decide +kernel
theorem dg_x_1_6_13 : dg_full 1 6 13 = true := by decide +kernel
theorem dg_x_1_6_14 : dg_full 1 6 14 = true := by decide +kernel
theorem dg_x_1_6_15 : dg_full 1 6 15 = true := by decide +kernel
theorem dg_y_1_6 {op : Nat} (ho : op ≤ 15) : dg_full 1 6 op = true := by
  have hc : op = 0 ∨ op = 1 ∨ op = 2 ∨ op = 3 ∨ op = 4 ∨ op = 5 ∨ op = 6 ∨ op = 7 ∨ op = 8 ∨ op = 9 ∨ op = 10 ∨ op = 11 ∨ op = 12 ∨ op = 13 ∨ op = 14 ∨ op = 15 := by omega
  rcases hc with h | h | h | h | h | h | h | h | h | h | h | h | h | h | h | h <;> subst h
  · exact dg_x_1_6_0
  · exact dg_x_1_6_1
  · exact dg_x_1_6_2
  · exact dg_x_1_6_3
  · exact dg_x_1_6_4
  · exact dg_x_1_6_5
  · exact dg_x_1_6_6
  · exact dg_x_1_6_7
  · exact dg_x_1_6_8
  · exact dg_x_1_6_9
  · exact dg_x_1_6_10
  · exact dg_x_1_6_11
  · exact dg_x_1_6_12
  · exact dg_x_1_6_13
  · exact dg_x_1_6_14
  · exact dg_x_1_6_15
theorem dg_all {n tr op : Nat} (hn2 : 2 ≤ n) (hn : n ≤ 6) (ht : tr ≤ 1) (ho : op ≤ 15) : dg_full tr n op = true := by
  have hc : n = 2 ∨ n = 3 ∨ n = 4 ∨ n = 5 ∨ n = 6 := by omega
  have htc : tr = 0 ∨ tr = 1 := by omega
  rcases htc with t | t <;> subst t <;> rcases hc with h | h | h | h | h <;> subst h
  · exact dg_y_0_2 ho
  · exact dg_y_0_3 ho
  · exact dg_y_0_4 ho
  · exact dg_y_0_5 ho
  · exact dg_y_0_6 ho
  · exact dg_y_1_2 ho
  · exact dg_y_1_3 ho
  · exact dg_y_1_4 ho
  · exact dg_y_1_5 ho
  · exact dg_y_1_6 ho
end
section
/-! What the heap says of a mirror's state -/
def dg_Bs (n : Nat) (T : Nat → Nat → Bool) : Prop := (∀ e, T 0 e = false) ∧ (∀ e, T 1 e = true) ∧ ∀ j, j < 2 * n → ∀ e, T (2 + j) e = e.testBit j
def dg_Gs (n g : Nat) (T : Nat → Nat → Bool) (so le ri : Nat → Int32) : Prop := ∀ j, 2 + 2 * n ≤ j → j < g → ∃ w l r : Nat, so j = nI w ∧ le j = nI l ∧ ri j = nI r ∧ l < j ∧ r < j ∧ 1 ≤ w ∧ w ≤ 3 ∧ ∀ e, T j e = dg_bo w (T l e) (T r e)
def dg_Dn (n g : Nat) (T : Nat → Nat → Bool) (x : Int32) (t : Nat) : Prop := ∃ m : Nat, m < g ∧ x = nI m ∧ ∀ e, e < 4 ^ n → T m e = t.testBit e
def dg_Rp (n K V : Nat) (L : List (Int32 × Nat)) (gc : Int32) (so le ri bu : Nat → Int32) : Prop :=
  ∃ (g : Nat) (T : Nat → Nat → Bool), gc = nI g ∧ 2 + 2 * n ≤ g ∧ g ≤ K ∧ K ≤ 600 ∧ dg_Bs n T ∧ dg_Gs n g T so le ri ∧ (∀ x t, (x, t) ∈ L → dg_Dn n g T x t) ∧ ∀ i t, dg_gv V i = t + 1 → i < 160 ∧ dg_Dn n g T (bu i) t
def dg_Circ (n op : Nat) (gc : Int32) (so le ri bu : Nat → Int32) : Prop :=
  ∃ (g : Nat) (T : Nat → Nat → Bool), gc = nI g ∧ 2 + 2 * n ≤ g ∧ g ≤ 600 ∧ dg_Bs n T ∧ dg_Gs n g T so le ri ∧ ∀ i, i < n → ∃ m : Nat, m < g ∧ bu (48 + i) = nI m ∧ ∀ e, e < 4 ^ n → T m e = (dg_ref n op (e % 2 ^ n) (e / 2 ^ n)).testBit i
theorem dg_m0 {α : Type} {a : α} {l : List α} : a ∈ a :: l := List.mem_cons_self
theorem dg_m1 {α : Type} {a b1 : α} {l : List α} : a ∈ b1 :: a :: l := List.mem_cons_of_mem _ dg_m0
theorem dg_m2 {α : Type} {a b1 b2 : α} {l : List α} : a ∈ b1 :: b2 :: a :: l := List.mem_cons_of_mem _ dg_m1
theorem dg_m3 {α : Type} {a b1 b2 b3 : α} {l : List α} : a ∈ b1 :: b2 :: b3 :: a :: l := List.mem_cons_of_mem _ dg_m2
theorem dg_m4 {α : Type} {a b1 b2 b3 b4 : α} {l : List α} : a ∈ b1 :: b2 :: b3 :: b4 :: a :: l := List.mem_cons_of_mem _ dg_m3
theorem dg_m5 {α : Type} {a b1 b2 b3 b4 b5 : α} {l : List α} : a ∈ b1 :: b2 :: b3 :: b4 :: b5 :: a :: l := List.mem_cons_of_mem _ dg_m4
theorem dg_m6 {α : Type} {a b1 b2 b3 b4 b5 b6 : α} {l : List α} : a ∈ b1 :: b2 :: b3 :: b4 :: b5 :: b6 :: a :: l := List.mem_cons_of_mem _ dg_m5
theorem dg_m7 {α : Type} {a b1 b2 b3 b4 b5 b6 b7 : α} {l : List α} : a ∈ b1 :: b2 :: b3 :: b4 :: b5 :: b6 :: b7 :: a :: l := List.mem_cons_of_mem _ dg_m6
section
variable {n K V : Nat} {L : List (Int32 × Nat)} {gc : Int32} {so le ri bu : Nat → Int32}
theorem dg_sub {L' : List (Int32 × Nat)} (hs : ∀ a, a ∈ L' → a ∈ L) (R : dg_Rp n K V L gc so le ri bu) : dg_Rp n K V L' gc so le ri bu := by
  obtain ⟨g, T, h1, h2, h3, h4, h5, h6, h7, h8⟩ := R
  exact ⟨g, T, h1, h2, h3, h4, h5, h6, fun x t m => h7 x t (hs _ m), h8⟩
theorem dg_d1 {a : Int32 × Nat} (R : dg_Rp n K V (a :: L) gc so le ri bu) : dg_Rp n K V L gc so le ri bu := dg_sub (fun _ m => List.mem_cons_of_mem _ m) R
theorem dg_s1 {a b : Int32 × Nat} (R : dg_Rp n K V (a :: b :: L) gc so le ri bu) : dg_Rp n K V (a :: L) gc so le ri bu := dg_sub (fun x m => by
  rcases List.mem_cons.mp m with h | h
  · exact List.mem_cons.mpr (Or.inl h)
  · exact List.mem_cons_of_mem _ (List.mem_cons_of_mem _ h)) R
/-- a node that stands already, for a further name -/
theorem dg_put {x : Int32} {t : Nat} (R : dg_Rp n K V L gc so le ri bu) (H : ∀ g T, 2 + 2 * n ≤ g → dg_Bs n T → dg_Dn n g T x t) : dg_Rp n K V ((x, t) :: L) gc so le ri bu := by
  obtain ⟨g, T, h1, h2, h3, h4, h5, h6, h7, h8⟩ := R
  refine ⟨g, T, h1, h2, h3, h4, h5, h6, fun x' t' m => ?_, h8⟩
  rcases List.mem_cons.mp m with h | h
  · cases h; exact H g T h2 h5
  · exact h7 x' t' h
theorem dg_c0 (R : dg_Rp n K V L gc so le ri bu) : dg_Rp n K V ((0, 0) :: L) gc so le ri bu :=
  dg_put R fun g T hg hB => ⟨0, by omega, rfl, fun e _ => by rw [hB.1, Nat.zero_testBit]⟩
theorem dg_one_tb {n e : Nat} (h : e < 4 ^ n) : (dg_one n).testBit e = true := by
  have e1 : dg_one n = 2 ^ (4 ^ n) - 1 := rfl
  rw [e1]
  generalize 4 ^ n = N at h ⊢
  rw [Nat.testBit_two_pow_sub_one, decide_eq_true h]
theorem dg_c1 (R : dg_Rp n K V L gc so le ri bu) : dg_Rp n K V ((1, dg_one n) :: L) gc so le ri bu :=
  dg_put R fun g T hg hB => ⟨1, by omega, rfl, fun e he => by rw [hB.2.1, dg_one_tb he]⟩
theorem dg_i2s {x : Int32} {m : Nat} (hm : m < 32768) (e : x = nI m) : x.toInt16.toInt32 = x := by
  subst e
  have h := nI_toInt (n := m) (by omega)
  exact lg_i2s_small (by omega) (by omega)
/-- a read of the bus -/
theorem dg_R {P : Prop} {ix : Int32} {j : Nat} {k : Nat → Bool} (hx : ix = nI j) (h : dg_rd V j k = true) (R : dg_Rp n K V L gc so le ri bu) (H : ∀ t, k t = true → dg_Rp n K V ((bu ix.toNatClampNeg, t) :: L) gc so le ri bu → P) : vp_in ix 160 ∧ P := by
  obtain ⟨t, e, h⟩ := dg_rd_e h
  obtain ⟨g, T, h1, h2, h3, h4, h5, h6, h7, h8⟩ := R
  obtain ⟨hj, hD⟩ := h8 j t e
  subst hx
  refine ⟨vp_in_nI hj (by decide), H t h ⟨g, T, h1, h2, h3, h4, h5, h6, fun x' t' m => ?_, h8⟩⟩
  rcases List.mem_cons.mp m with h | h
  · cases h; rw [nI_clamp (by omega)]; exact hD
  · exact h7 x' t' h
theorem dg_W0 {x y : Int32} {j t : Nat} {k : Nat → Bool} (h : dg_wr V j t k = true) (R : dg_Rp n K V L gc so le ri bu) (hm : (x, t) ∈ L) (hy : ∀ m, m < 32768 → x = nI m → y = x) : j < 160 ∧ ∃ V', k V' = true ∧ dg_Rp n K V' L gc so le ri (upd bu j y) := by
  obtain ⟨hj, ht, h⟩ := dg_wr_e h
  obtain ⟨g, T, h1, h2, h3, h4, h5, h6, h7, h8⟩ := R
  refine ⟨hj, _, h, g, T, h1, h2, h3, h4, h5, h6, h7, fun i t' e => ?_⟩
  by_cases hi : i = j
  · subst hi
    rw [dg_gs ht] at e
    have et : t = t' := by omega
    subst et
    obtain ⟨m, m1, m2, m3⟩ := h7 x t hm
    rw [pk_us, hy m (by omega) m2]
    exact ⟨hj, m, m1, m2, m3⟩
  · rw [dg_gn ht hi] at e
    rw [pk_un hi]
    exact h8 i t' e
/-- a store to the bus: of a cast value, of a value as it is -/
theorem dg_W {P : (Nat → Int32) → Prop} {ix x : Int32} {j t : Nat} {k : Nat → Bool} (hx : ix = nI j) (h : dg_wr V j t k = true) (R : dg_Rp n K V L gc so le ri bu) (hm : (x, t) ∈ L) (H : ∀ V' bu', k V' = true → dg_Rp n K V' L gc so le ri bu' → P bu') : vp_in ix 160 ∧ ∀ y, y = upd bu ix.toNatClampNeg (vp_nar .short x.toInt16.toInt32) → P y := by
  obtain ⟨hj, V', h', R'⟩ := dg_W0 (y := vp_nar .short x.toInt16.toInt32) h R hm (fun m hm e => by rw [pk_vs, dg_i2s hm e])
  subst hx
  refine ⟨vp_in_nI hj (by decide), fun y e => ?_⟩
  rw [e, nI_clamp (by omega)]
  exact H V' _ h' R'
theorem dg_Wp {P : (Nat → Int32) → Prop} {ix x : Int32} {j t : Nat} {k : Nat → Bool} (hx : ix = nI j) (h : dg_wr V j t k = true) (R : dg_Rp n K V L gc so le ri bu) (hm : (x, t) ∈ L) (H : ∀ V' bu', k V' = true → dg_Rp n K V' L gc so le ri bu' → P bu') : vp_in ix 160 ∧ ∀ y, y = upd bu ix.toNatClampNeg (vp_nar .short x) → P y := by
  obtain ⟨hj, V', h', R'⟩ := dg_W0 (y := vp_nar .short x) h R hm (fun m hm e => by rw [vp_nar_short, dg_i2s hm e])
  subst hx
  refine ⟨vp_in_nI hj (by decide), fun y e => ?_⟩
  rw [e, nI_clamp (by omega)]
  exact H V' _ h' R'
end
/-! branches -/
theorem dg_le {x y : Int32} {A B : Prop} {p q : Bool} (a b : Nat) (h : cond (Nat.ble a b) p q = true) (f : a ≤ b → p = true → A) (g : b < a → q = true → B) (hx : x = nI a := by rfl) (hy : y = nI b := by rfl) (ha : a < 2 ^ 31 := by omega) (hb : b < 2 ^ 31 := by omega) : (x ≤ y → A) ∧ (¬ x ≤ y → B) := by
  subst hx hy
  rcases dg_cd h with ⟨h1, h2⟩ | ⟨h1, h2⟩
  · exact br_t (nI_le (dg_ble_t h1) hb) (f (dg_ble_t h1) h2)
  · exact br_f (nI_ge (dg_ble_f h1) ha) (g (dg_ble_f h1) h2)
theorem dg_lt {x y : Int32} {A B : Prop} {p q : Bool} (a b : Nat) (h : cond (Nat.ble (a + 1) b) p q = true) (f : a < b → p = true → A) (g : b ≤ a → q = true → B) (hx : x = nI a := by rfl) (hy : y = nI b := by rfl) (ha : a < 2 ^ 31 := by omega) (hb : b < 2 ^ 31 := by omega) : (x < y → A) ∧ (¬ x < y → B) := by
  subst hx hy
  rcases dg_cd h with ⟨h1, h2⟩ | ⟨h1, h2⟩
  · exact br_t (nI_lt (dg_ble_t h1) hb) (f (dg_ble_t h1) h2)
  · have h3 : b ≤ a := by have := dg_ble_f h1; omega
    exact br_f (nI_nlt h3 ha) (g h3 h2)
theorem dg_eq {x y : Int32} {A B : Prop} {p q : Bool} (a b : Nat) (h : cond (Nat.beq a b) p q = true) (f : a = b → p = true → A) (g : a ≠ b → q = true → B) (hx : x = nI a := by rfl) (hy : y = nI b := by rfl) (ha : a < 2 ^ 31 := by omega) (hb : b < 2 ^ 31 := by omega) : (x = y → A) ∧ (¬ x = y → B) := by
  subst hx hy
  rcases dg_cd h with ⟨h1, h2⟩ | ⟨h1, h2⟩
  · exact br_t (congrArg nI (dg_beq_t h1)) (f (dg_beq_t h1) h2)
  · exact br_f (fun z => dg_beq_f h1 ((nI_eq ha hb).mp z)) (g (dg_beq_f h1) h2)
end
section
/-! The walks, each against its mirror -/
theorem dg_k1 {α : Type} {a b1 : α} {l : List α} (h : a ∈ l) : a ∈ b1 :: l := List.mem_cons_of_mem _ h
theorem dg_k2 {α : Type} {a b1 b2 : α} {l : List α} (h : a ∈ l) : a ∈ b1 :: b2 :: l := dg_k1 (dg_k1 h)
theorem dg_k3 {α : Type} {a b1 b2 b3 : α} {l : List α} (h : a ∈ l) : a ∈ b1 :: b2 :: b3 :: l := dg_k1 (dg_k2 h)
theorem dg_k4 {α : Type} {a b1 b2 b3 b4 : α} {l : List α} (h : a ∈ l) : a ∈ b1 :: b2 :: b3 :: b4 :: l := dg_k1 (dg_k3 h)
theorem dg_no {P : Prop} (h : false = true) : P := Bool.noConfusion h
theorem dg_i2b : ∀ w, w < 4 → (nI w).toInt8.toInt32 = nI w := by decide +kernel
section
variable {n tr K V : Nat} {L : List (Int32 × Nat)} {fb ft fA fB bf gc : Int32} {so le ri va bu : Nat → Int32}
theorem dg_dup {a : Int32 × Nat} (h : a ∈ L) (R : dg_Rp n K V (L) gc so le ri bu) : dg_Rp n K V (a :: L) gc so le ri bu := dg_sub (fun x m => by
  rcases List.mem_cons.mp m with e | e
  · rw [e]; exact h
  · exact e) R
theorem dg_d2 {a b : Int32 × Nat} (R : dg_Rp n K V (a :: b :: L) gc so le ri bu) : dg_Rp n K V (L) gc so le ri bu := dg_d1 (dg_d1 R)
theorem dg_d3 {a b c : Int32 × Nat} (R : dg_Rp n K V (a :: b :: c :: L) gc so le ri bu) : dg_Rp n K V (L) gc so le ri bu := dg_d1 (dg_d2 R)
theorem dg_d4 {a b c d : Int32 × Nat} (R : dg_Rp n K V (a :: b :: c :: d :: L) gc so le ri bu) : dg_Rp n K V (L) gc so le ri bu := dg_d1 (dg_d3 R)
theorem dg_s2 {a b c : Int32 × Nat} (R : dg_Rp n K V (a :: b :: c :: L) gc so le ri bu) : dg_Rp n K V (a :: L) gc so le ri bu := dg_s1 (dg_s1 R)
theorem dg_s3 {a b c d : Int32 × Nat} (R : dg_Rp n K V (a :: b :: c :: d :: L) gc so le ri bu) : dg_Rp n K V (a :: L) gc so le ri bu := dg_s1 (dg_s2 R)
theorem dg_s4 {a b c d e : Int32 × Nat} (R : dg_Rp n K V (a :: b :: c :: d :: e :: L) gc so le ri bu) : dg_Rp n K V (a :: L) gc so le ri bu := dg_s1 (dg_s3 R)
theorem dg_g42 {post : Int32 → SX → Prop} {w mp mq z g : Nat} (hw : w ≤ 3) (hz : z ≤ 1) (hp : mp < 600) (hq : mq < 600) (hg : g < 600)
    (Hp : mp = z → post (nI mq) (fb, ft, fA, fB, nI g, bf, so, le, ri, va, bu))
    (Hq : mp ≠ z → mq = z → post (nI mp) (fb, ft, fA, fB, nI g, bf, so, le, ri, va, bu))
    (Hn : mp ≠ z → mq ≠ z → post (nI g) (fb, ft, fA, fB, nI (g + 1), bf, upd so g (nI w), upd le g (nI mp), upd ri g (nI mq), va, bu)) :
    wX_gate_42 post (nI w) (nI mp) (nI mq) (nI z) fb ft fA fB (nI g) bf so le ri va bu := by
  have c : (nI g).toNatClampNeg = g := nI_clamp (by omega)
  have v : vp_in (nI g) 600 := vp_in_nI hg (by decide)
  refine pk_eq mp z Hp fun h1 => pk_eq mq z (Hq h1) fun h2 => ?_
  refine ⟨v, nm_r (e' := upd so g (nI w)) ?_ ⟨v, nm_r (e' := upd le g (nI mp)) ?_ ⟨v, nm_r (e' := upd ri g (nI mq)) ?_ (nm_r (e' := nI (g + 1)) (nI_1 g) ?_)⟩⟩⟩
  · rw [c, pk_vb, dg_i2b w (by omega)]
  · rw [c, pk_vs, dg_i2s (m := mp) (by omega) rfl]
  · rw [c, pk_vs, dg_i2s (m := mq) (by omega) rfl]
  · rw [nI_pred]
    exact Hn h1 h2
theorem dg_Dm {g : Nat} {T T' : Nat → Nat → Bool} (h : ∀ j, j < g → ∀ e, T' j e = T j e) {x : Int32} {t : Nat} (D : dg_Dn n g T x t) : dg_Dn n (g + 1) T' x t := by
  obtain ⟨m, m1, m2, m3⟩ := D
  exact ⟨m, by omega, m2, fun e he => by rw [h m m1]; exact m3 e he⟩
theorem dg_G {post : Int32 → SX → Prop} {w tp tq : Nat} {k : Nat → Nat → Bool} {p q xw : Int32} (h : dg_gt w tp tq K k = true) (R : dg_Rp n K V (L) gc so le ri bu) (hp : (p, tp) ∈ L) (hq : (q, tq) ∈ L)
    (H : ∀ t K r gc so le ri, k t K = true → dg_Rp n K V ((r, t) :: L) gc so le ri bu → post r (fb, ft, fA, fB, gc, bf, so, le, ri, va, bu)) (hw : xw = nI w := by rfl) (w1 : 1 ≤ w := by decide) (w3 : w ≤ 3 := by decide) :
    wpX_gate post (fb, ft, fA, fB, gc, bf, so, le, ri, va, bu) xw p q := by
  obtain ⟨hK, h⟩ := dg_gt_e h
  obtain ⟨g, T, e1, h2, h3, h4, hB, h6, h7, h8⟩ := R
  obtain ⟨mp, mp1, ep, mp3⟩ := h7 p tp hp
  obtain ⟨mq, mq1, eq, mq3⟩ := h7 q tq hq
  subst e1 hw ep eq
  have old : ∀ m, m < g → (∀ e, T m e = dg_bo w (T mp e) (T mq e)) → post (nI m) (fb, ft, fA, fB, nI g, bf, so, le, ri, va, bu) := by
    intro m hm hT
    refine H _ _ _ _ _ _ _ h ⟨g, T, rfl, h2, by omega, by omega, hB, h6, fun x t mem => ?_, h8⟩
    rcases List.mem_cons.mp mem with z | z
    · cases z
      exact ⟨m, hm, rfl, fun e he => by rw [hT, dg_op_tb, mp3 e he, mq3 e he]⟩
    · exact h7 x t z
  have new : post (nI g) (fb, ft, fA, fB, nI (g + 1), bf, upd so g (nI w), upd le g (nI mp), upd ri g (nI mq), va, bu) := by
    obtain ⟨T', t1, t2⟩ : ∃ T' : Nat → Nat → Bool, (∀ e, T' g e = dg_bo w (T mp e) (T mq e)) ∧ ∀ j, j < g → ∀ e, T' j e = T j e :=
      ⟨fun j e => if j = g then dg_bo w (T mp e) (T mq e) else T j e, fun e => if_pos rfl, fun j hj e => if_neg (by omega)⟩
    refine H _ _ _ _ _ _ _ h ⟨g + 1, T', rfl, by omega, by omega, by omega, ⟨?_, ?_, ?_⟩, ?_, ?_, ?_⟩
    · intro e; rw [t2 0 (by omega)]; exact hB.1 e
    · intro e; rw [t2 1 (by omega)]; exact hB.2.1 e
    · intro j hj e; rw [t2 (2 + j) (by omega)]; exact hB.2.2 j hj e
    · intro j hj hj2
      by_cases hjg : j = g
      · subst hjg
        refine ⟨w, mp, mq, pk_us, pk_us, pk_us, mp1, mq1, w1, w3, fun e => ?_⟩
        rw [t1, t2 mp mp1, t2 mq mq1]
      · obtain ⟨w', l, r, a1, a2, a3, a4, a5, a6, a7, a8⟩ := h6 j hj (by omega)
        refine ⟨w', l, r, ?_, ?_, ?_, a4, a5, a6, a7, fun e => ?_⟩
        · rw [pk_un hjg, a1]
        · rw [pk_un hjg, a2]
        · rw [pk_un hjg, a3]
        · rw [t2 j (by omega), t2 l (by omega), t2 r (by omega)]; exact a8 e
    · intro x t mem
      rcases List.mem_cons.mp mem with z | z
      · cases z
        exact ⟨g, by omega, rfl, fun e he => by rw [t1, dg_op_tb, mp3 e he, mq3 e he]⟩
      · exact dg_Dm t2 (h7 x t z)
    · intro i t e
      obtain ⟨i1, i2⟩ := h8 i t e
      exact ⟨i1, dg_Dm t2 i2⟩
  have hcase : w = 1 ∨ w = 2 ∨ w = 3 := by omega
  rcases hcase with z | z | z
  · subst z
    refine br_t rfl (pk_eq mp 0 (fun e => ?_) fun a1 => pk_eq mq 0 (fun e => ?_) fun a2 => br_f (by decide) (br_t rfl ?_))
    · exact old 0 (by omega) (fun x => by rw [e, hB.1]; rfl)
    · exact old 0 (by omega) (fun x => by rw [e, hB.1]; cases T mp x <;> rfl)
    · exact dg_g42 (z := 1) (by omega) (by omega) (by omega) (by omega) (by omega)
        (fun e => old mq mq1 (fun x => by rw [e, hB.2.1]; cases T mq x <;> rfl))
        (fun _ e => old mp mp1 (fun x => by rw [e, hB.2.1]; cases T mp x <;> rfl))
        (fun _ _ => new)
  · subst z
    refine br_f (by decide) (br_t rfl (pk_eq mp 1 (fun e => ?_) fun a1 => pk_eq mq 1 (fun e => ?_) fun a2 => br_f (by decide) ?_))
    · exact old 1 (by omega) (fun x => by rw [e, hB.2.1]; cases T mq x <;> rfl)
    · exact old 1 (by omega) (fun x => by rw [e, hB.2.1]; cases T mp x <;> rfl)
    · exact dg_g42 (z := 0) (by omega) (by omega) (by omega) (by omega) (by omega)
        (fun e => old mq mq1 (fun x => by rw [e, hB.1]; cases T mq x <;> rfl))
        (fun _ e => old mp mp1 (fun x => by rw [e, hB.1]; cases T mp x <;> rfl))
        (fun _ _ => new)
  · subst z
    refine br_f (by decide) (br_f (by decide) (br_f (by decide) ?_))
    exact dg_g42 (z := 0) (by omega) (by omega) (by omega) (by omega) (by omega)
      (fun e => old mq mq1 (fun x => by rw [e, hB.1]; cases T mq x <;> rfl))
      (fun _ e => old mp mp1 (fun x => by rw [e, hB.1]; cases T mp x <;> rfl))
      (fun _ _ => new)
theorem dg_N {post : Int32 → SX → Prop} {tp : Nat} {k : Nat → Nat → Bool} {p : Int32} (h : dg_gt 3 tp (dg_one n) K k = true) (R : dg_Rp n K V (L) gc so le ri bu) (hp : (p, tp) ∈ L)
    (H : ∀ t K r gc so le ri, k t K = true → dg_Rp n K V ((r, t) :: L) gc so le ri bu → post r (fb, ft, fA, fB, gc, bf, so, le, ri, va, bu)) :
    wpX_not post (fb, ft, fA, fB, gc, bf, so, le, ri, va, bu) p := by
  unfold wpX_not
  dsimp only
  exact dg_G h (dg_c1 R) (dg_k1 hp) dg_m0 fun t K r gc so le ri h R => H _ _ _ _ _ _ _ h (dg_s1 R)
theorem dg_CH {post : Int32 → SX → Prop} {tb tp tq : Nat} {k : Nat → Nat → Bool} {b p q : Int32} (h : dg_ch (dg_one n) tb tp tq K k = true) (R : dg_Rp n K V (L) gc so le ri bu) (hb : (b, tb) ∈ L) (hp : (p, tp) ∈ L) (hq : (q, tq) ∈ L)
    (H : ∀ t K r gc so le ri, k t K = true → dg_Rp n K V ((r, t) :: L) gc so le ri bu → post r (fb, ft, fA, fB, gc, bf, so, le, ri, va, bu)) :
    wpX_choose post (fb, ft, fA, fB, gc, bf, so, le, ri, va, bu) b p q := by
  unfold wpX_choose
  dsimp only
  refine dg_N h R hb fun x K rx gc so le ri h R => ?_
  refine dg_G h R (dg_k1 hb) (dg_k1 hp) fun f K rf gc so le ri h R => ?_
  refine dg_G h R dg_m1 (dg_k2 hq) fun s K rs gc so le ri h R => ?_
  refine dg_G h R dg_m1 dg_m0 fun t K rt gc so le ri h R => ?_
  exact H _ _ _ _ _ _ _ h (dg_s3 R)
end
end
section
/-! Adders, inverters, copies -/
section
variable {n tr K V : Nat} {L : List (Int32 × Nat)} {fA fB bf gc : Int32} {so le ri va bu : Nat → Int32}
theorem dg_w_inv2 {post : SX → Prop} {x : Nat} {k : Nat → Nat → Bool} (hn : n ≤ 6) (H : ∀ K V gc so le ri bu, k K V = true → dg_Rp n K V (L) gc so le ri bu → post (nI n, nI tr, fA, fB, gc, bf, so, le, ri, va, bu)) : ∀ f i K V gc so le ri bu, i ≤ 100 → dg_inv (dg_one n) n x f i K V k = true → dg_Rp n K V (L) gc so le ri bu → wX_invert_2 post (nI x) f (nI i) (nI n) (nI tr) fA fB gc bf so le ri va bu := by
  intro f
  induction f with
  | zero => intro i K V gc so le ri bu hi h R; exact dg_no h
  | succ f ih =>
    intro i K V gc so le ri bu hi h R
    refine dg_le n i h (fun _ h => H _ _ _ _ _ _ _ h R) (fun hin h => ?_)
    refine dg_R (nI_add x i) h R fun p h R => ?_
    refine dg_N h R dg_m0 fun r K rr gc so le ri h R => ?_
    refine dg_W (nI_add x i) h R dg_m0 fun V bu h R => ?_
    exact nm_r (nI_1 i) (ih (i + 1) _ _ _ _ _ _ _ (by omega) h (dg_d2 R))
theorem dg_w_inv {post : SX → Prop} {x : Nat} {x0 : Int32} {k : Nat → Nat → Bool} (hn : n ≤ 6) (h : dg_inv (dg_one n) n x 20 0 K V k = true) (R : dg_Rp n K V (L) gc so le ri bu) (H : ∀ K V gc so le ri bu, k K V = true → dg_Rp n K V (L) gc so le ri bu → post (nI n, nI tr, fA, fB, gc, bf, so, le, ri, va, bu)) (e0 : x0 = nI x := by rfl) : wpX_invert post (nI n, nI tr, fA, fB, gc, bf, so, le, ri, va, bu) x0 := by
  subst e0
  exact Exists.intro 20 (dg_w_inv2 hn H 20 0 _ _ _ _ _ _ _ (by omega) h R)
theorem dg_w_join {post : SX → Prop} {u l : Nat} {x0 x1 : Int32} {k : Nat → Nat → Bool} (h : dg_join u l K V k = true) (R : dg_Rp n K V (L) gc so le ri bu) (H : ∀ K V gc so le ri bu, k K V = true → dg_Rp n K V (L) gc so le ri bu → post (nI n, nI tr, fA, fB, gc, bf, so, le, ri, va, bu)) (e0 : x0 = nI u) (e1 : x1 = nI l) : wpX_joinSpans post (nI n, nI tr, fA, fB, gc, bf, so, le, ri, va, bu) x0 x1 := by
  subst e0 e1
  unfold wpX_joinSpans
  dsimp only
  refine dg_R (nI_add 112 u) h R fun a h R => ?_
  refine dg_R (nI_add 96 l) h R fun b h R => ?_
  refine dg_G h R dg_m1 dg_m0 fun p K rp gc so le ri h R => ?_
  refine dg_R (nI_add 96 u) h R fun c h R => ?_
  refine dg_G h R dg_m0 dg_m1 fun g K rg gc so le ri h R => ?_
  refine dg_R (nI_add 112 u) h R fun a' h R => ?_
  refine dg_R (nI_add 112 l) h R fun d h R => ?_
  refine dg_G h R dg_m1 dg_m0 fun q K rq gc so le ri h R => ?_
  refine dg_W (nI_add 64 u) h R dg_m3 fun V bu h R => ?_
  refine dg_W (nI_add 80 u) h R dg_m0 fun V bu h R => ?_
  exact H _ _ _ _ _ _ _ h (dg_d4 (dg_d4 R))
theorem dg_w211 {post : SX → Prop} {w cc : Nat} {xc : Int32} {k : Nat → Nat → Bool} (hw : w ≤ 16) (hc : (xc, cc) ∈ L) (H : ∀ K V gc so le ri bu, k K V = true → dg_Rp n K V (L) gc so le ri bu → post (nI n, nI tr, fA, fB, gc, bf, so, le, ri, va, bu)) : ∀ f c i K V x5 gc so le ri bu, i ≤ 100 → dg_t211 w cc f c i K V k = true → dg_Rp n K V ((x5, c) :: L) gc so le ri bu → wX_addByTree_211 post (nI w) xc f x5 (nI i) (nI n) (nI tr) fA fB gc bf so le ri va bu := by
  intro f
  induction f with
  | zero => intro c i K V x5 gc so le ri bu hi h R; exact dg_no h
  | succ f ih =>
    intro c i K V x5 gc so le ri bu hi h R
    refine dg_le w i h (fun _ h => ?_) (fun hin h => ?_)
    · exact dg_W (nI_add 32 w) h R dg_m0 fun V bu h R => H _ _ _ _ _ _ _ h (dg_d1 R)
    · refine dg_R (nI_add 32 i) h R fun s h R => ?_
      refine dg_G h R dg_m0 dg_m1 fun r K rr gc so le ri h R => ?_
      refine dg_W (nI_add 32 i) h R dg_m0 fun V bu h R => ?_
      refine dg_R (nI_add 80 i) h R fun p h R => ?_
      refine dg_G h R dg_m0 (dg_k4 hc) fun th K rth gc so le ri h R => ?_
      refine dg_R (nI_add 64 i) h R fun g h R => ?_
      refine dg_G h R dg_m0 dg_m1 fun c' K rc gc so le ri h R => ?_
      exact nm_r (nI_1 i) (ih _ (i + 1) _ _ _ _ _ _ _ _ (by omega) h (dg_s2 (dg_s4 R)))
theorem dg_w172 {post : SX → Prop} {J : Int32 → Int32 → Int32 → Int32 → Int32 → Int32 → Int32 → (Nat → Int32) → (Nat → Int32) → (Nat → Int32) → (Nat → Int32) → (Nat → Int32) → Prop} {w r : Nat} {x4 : Int32} {k : Nat → Nat → Bool} (hw : w ≤ 16) (H : ∀ K V gc so le ri bu, k K V = true → dg_Rp n K V (L) gc so le ri bu → J (nI (r * 2)) (nI n) (nI tr) fA fB gc bf so le ri va bu) : ∀ f i K V gc so le ri bu, r ≤ i → i ≤ 100 → dg_t172 w r f i K V k = true → dg_Rp n K V (L) gc so le ri bu → wX_addByTree_172 post J (nI w) x4 (nI r) f (nI i) (nI n) (nI tr) fA fB gc bf so le ri va bu := by
  intro f
  induction f with
  | zero => intro i K V gc so le ri bu hr hi h R; exact dg_no h
  | succ f ih =>
    intro i K V gc so le ri bu hr hi h R
    refine dg_le w i h (fun _ h => ?_) (fun hin h => ?_)
    · exact nm_r (pk_mul r 2) (H _ _ _ _ _ _ _ h R)
    · exact dg_w_join h R (fun K V gc so le ri bu h R => nm_r (nI_1 i) (ih (i + 1) _ _ _ _ _ _ _ (by omega) (by omega) h R)) rfl (pk_sub hr)
theorem dg_w116 {post : SX → Prop} {J : Int32 → Int32 → Int32 → Int32 → Int32 → Int32 → Int32 → (Nat → Int32) → (Nat → Int32) → (Nat → Int32) → (Nat → Int32) → (Nat → Int32) → Prop} {w r : Nat} {x4 : Int32} {k : Nat → Bool} (hw : w ≤ 16) (H : ∀ V bu, k V = true → dg_Rp n K V (L) gc so le ri bu → ∃ m : Nat, wX_addByTree_172 post J (nI w) x4 (nI r) m (nI r) (nI n) (nI tr) fA fB gc bf so le ri va bu) : ∀ f i V bu, i ≤ 100 → dg_t116 w f i V k = true → dg_Rp n K V (L) gc so le ri bu → wX_addByTree_116 post J (nI w) x4 (nI r) (nI n) (nI tr) fA fB gc bf f (nI i) so le ri va bu := by
  intro f
  induction f with
  | zero => intro i V bu hi h R; exact dg_no h
  | succ f ih =>
    intro i V bu hi h R
    refine dg_le w i h (fun _ h => H _ _ h R) (fun hin h => ?_)
    refine dg_R (nI_add 64 i) h R fun a h R => ?_
    refine dg_Wp (nI_add 96 i) h R dg_m0 fun V bu h R => ?_
    refine dg_R (nI_add 80 i) h R fun b h R => ?_
    refine dg_Wp (nI_add 112 i) h R dg_m0 fun V bu h R => ?_
    exact nm_r (nI_1 i) (ih (i + 1) _ _ (by omega) h (dg_d2 R))
theorem dg_w107 {post : SX → Prop} {w cc : Nat} {xc : Int32} {k : Nat → Nat → Bool} (hw : w ≤ 16) (hc : (xc, cc) ∈ L) (H : ∀ K V gc so le ri bu, k K V = true → dg_Rp n K V (L) gc so le ri bu → post (nI n, nI tr, fA, fB, gc, bf, so, le, ri, va, bu)) : ∀ f r K V gc so le ri bu, r ≤ 100 → dg_t107 w cc f r K V k = true → dg_Rp n K V (L) gc so le ri bu → wX_addByTree_107 post (nI w) xc f (nI r) (nI n) (nI tr) fA fB gc bf so le ri va bu := by
  intro f
  induction f with
  | zero => intro r K V gc so le ri bu hi h R; exact dg_no h
  | succ f ih =>
    intro r K V gc so le ri bu hi h R
    refine dg_le w r h (fun _ h => ?_) (fun hin h => ?_)
    · exact Exists.intro 20 (dg_w211 hw hc H 20 _ 0 _ _ _ _ _ _ _ _ (by omega) h (dg_dup hc R))
    · refine Exists.intro 20 (dg_w116 hw (fun V bu h R => ?_) 20 0 _ _ (by omega) h R)
      exact Exists.intro 20 (dg_w172 hw (fun K V gc so le ri bu h R => ih (r * 2) _ _ _ _ _ _ _ (by omega) h R) 20 r _ _ _ _ _ _ _ (by omega) (by omega) h R)
theorem dg_w3 {post : SX → Prop} {x y w cc : Nat} {xc : Int32} {k : Nat → Nat → Bool} (hw : w ≤ 16) (hc : (xc, cc) ∈ L) (H : ∀ K V gc so le ri bu, k K V = true → dg_Rp n K V (L) gc so le ri bu → post (nI n, nI tr, fA, fB, gc, bf, so, le, ri, va, bu)) : ∀ f i K V gc so le ri bu, i ≤ 100 → dg_t3 x y w cc f i K V k = true → dg_Rp n K V (L) gc so le ri bu → wX_addByTree_3 post (nI x) (nI y) (nI w) xc f (nI i) (nI n) (nI tr) fA fB gc bf so le ri va bu := by
  intro f
  induction f with
  | zero => intro i K V gc so le ri bu hi h R; exact dg_no h
  | succ f ih =>
    intro i K V gc so le ri bu hi h R
    refine dg_le w i h (fun _ h => ?_) (fun hin h => ?_)
    · exact Exists.intro 20 (dg_w107 hw hc H 20 1 _ _ _ _ _ _ _ (by omega) h R)
    · refine dg_R (nI_add x i) h R fun a h R => ?_
      refine dg_R (nI_add y i) h R fun b h R => ?_
      refine dg_G h R dg_m1 dg_m0 fun g K rg gc so le ri h R => ?_
      refine dg_R (nI_add x i) h R fun a' h R => ?_
      refine dg_R (nI_add y i) h R fun b' h R => ?_
      refine dg_G h R dg_m1 dg_m0 fun p K rp gc so le ri h R => ?_
      refine dg_W (nI_add 64 i) h R dg_m3 fun V bu h R => ?_
      refine dg_W (nI_add 80 i) h R dg_m0 fun V bu h R => ?_
      refine dg_W (nI_add 32 i) h R dg_m0 fun V bu h R => ?_
      exact nm_r (nI_1 i) (ih (i + 1) _ _ _ _ _ _ _ (by omega) h (dg_d2 (dg_d4 R)))
theorem dg_w7 {post : SX → Prop} {x y w : Nat} {k : Nat → Nat → Bool} (hw : w ≤ 16) (H : ∀ K V gc so le ri bu, k K V = true → dg_Rp n K V (L) gc so le ri bu → post (nI n, nI tr, fA, fB, gc, bf, so, le, ri, va, bu)) : ∀ f c i K V x5 gc so le ri bu, i ≤ 100 → dg_rip x y w f c i K V k = true → dg_Rp n K V ((x5, c) :: L) gc so le ri bu → wX_addByRipple_7 post (nI x) (nI y) (nI w) f x5 (nI i) (nI n) (nI tr) fA fB gc bf so le ri va bu := by
  intro f
  induction f with
  | zero => intro c i K V x5 gc so le ri bu hi h R; exact dg_no h
  | succ f ih =>
    intro c i K V x5 gc so le ri bu hi h R
    refine dg_le w i h (fun _ h => ?_) (fun hin h => ?_)
    · exact dg_W (nI_add 32 w) h R dg_m0 fun V bu h R => H _ _ _ _ _ _ _ h (dg_d1 R)
    · refine dg_R (nI_add x i) h R fun p h R => nm_e ?_
      refine dg_R (nI_add y i) h R fun q h R => nm_e ?_
      refine dg_G h R dg_m1 dg_m0 fun e K re gc so le ri h R => ?_
      refine dg_G h R dg_m2 dg_m1 fun b K rb gc so le ri h R => ?_
      refine dg_G h R dg_m1 dg_m4 fun a K ra gc so le ri h R => ?_
      refine dg_G h R dg_m2 dg_m5 fun t K rt gc so le ri h R => ?_
      refine dg_W (nI_add 32 i) h R dg_m0 fun V bu h R => ?_
      refine dg_G h R dg_m2 dg_m1 fun c' K rc gc so le ri h R => ?_
      exact nm_r (nI_1 i) (ih _ (i + 1) _ _ _ _ _ _ _ _ (by omega) h (dg_s3 (dg_s4 R)))
theorem dg_w_add {post : SX → Prop} {x y w c : Nat} {xx xy xw xc : Int32} {k : Nat → Nat → Bool} (ht : tr ≤ 1) (hw : w ≤ 16) (h : dg_add tr x y w c K V k = true) (R : dg_Rp n K V (L) gc so le ri bu) (hc : (xc, c) ∈ L) (H : ∀ K V gc so le ri bu, k K V = true → dg_Rp n K V (L) gc so le ri bu → post (nI n, nI tr, fA, fB, gc, bf, so, le, ri, va, bu)) (ex : xx = nI x := by rfl) (ey : xy = nI y := by rfl) (ew : xw = nI w := by rfl) : wpX_addBuses post (nI n, nI tr, fA, fB, gc, bf, so, le, ri, va, bu) xx xy xw xc := by
  subst ex ey ew
  unfold wpX_addBuses
  dsimp only
  refine dg_eq tr 0 h (fun _ h => ?_) (fun _ h => ?_)
  · exact Exists.intro 20 (dg_w7 hw H 20 _ 0 _ _ _ _ _ _ _ _ (by omega) h (dg_dup hc R))
  · exact Exists.intro 20 (dg_w3 hw hc H 20 0 _ _ _ _ _ _ _ (by omega) h R)
theorem dg_w_cpo2 {post : SX → Prop} {x : Nat} {k : Nat → Bool} (hn : n ≤ 6) (H : ∀ V bu, k V = true → dg_Rp n K V (L) gc so le ri bu → post (nI n, nI tr, fA, fB, gc, bf, so, le, ri, va, bu)) : ∀ f i V bu, i ≤ 100 → dg_cp n 48 x f i V k = true → dg_Rp n K V (L) gc so le ri bu → wX_copyOut_2 post (nI x) (nI n) (nI tr) fA fB gc bf f (nI i) so le ri va bu := by
  intro f
  induction f with
  | zero => intro i V bu hi h R; exact dg_no h
  | succ f ih =>
    intro i V bu hi h R
    refine dg_le n i h (fun _ h => H _ _ h R) (fun hin h => ?_)
    refine dg_R (nI_add x i) h R fun a h R => ?_
    refine dg_Wp (nI_add 48 i) h R dg_m0 fun V bu h R => ?_
    exact nm_r (nI_1 i) (ih (i + 1) _ _ (by omega) h (dg_d1 R))
theorem dg_w_cpo {post : SX → Prop} {x : Nat} {x0 : Int32} {k : Nat → Bool} (hn : n ≤ 6) (h : dg_cp n 48 x 20 0 V k = true) (R : dg_Rp n K V (L) gc so le ri bu) (H : ∀ V bu, k V = true → dg_Rp n K V (L) gc so le ri bu → post (nI n, nI tr, fA, fB, gc, bf, so, le, ri, va, bu)) (e0 : x0 = nI x := by rfl) : wpX_copyOut post (nI n, nI tr, fA, fB, gc, bf, so, le, ri, va, bu) x0 := by
  subst e0
  exact Exists.intro 20 (dg_w_cpo2 hn H 20 0 _ _ (by omega) h R)
end
end
section
/-! Sums, products, comparing, picking -/
theorem dg_and1 : ∀ n, n < 7 → 1 ≤ n → nI n &&& (nI n - 1) = nI (Nat.land n (n - 1)) := by decide +kernel
section
variable {n tr K V : Nat} {L : List (Int32 × Nat)} {fA fB bf gc : Int32} {so le ri va bu : Nat → Int32}
theorem dg_w_sum46 {post : SX → Prop} {op : Nat} {k : Nat → Nat → Bool} (hn : n ≤ 6) (ho : op ≤ 15) (h : dg_sum2 n op K V k = true) (R : dg_Rp n K V (L) gc so le ri bu) (H : ∀ K V gc so le ri bu, k K V = true → dg_Rp n K V (L) gc so le ri bu → post (nI n, nI tr, fA, fB, gc, bf, so, le, ri, va, bu)) : ((nI op = 15 → wX_buildSum_46 post 33 (nI n) (nI tr) fA fB gc bf so le ri va bu) ∧ (¬ nI op = 15 → wX_buildSum_46 post 32 (nI n) (nI tr) fA fB gc bf so le ri va bu)) := by
  refine dg_eq op 15 h (fun _ h => ?_) (fun _ h => ?_)
  · unfold wX_buildSum_46
    exact dg_w_cpo hn h R (fun V bu h R => H _ _ _ _ _ _ _ h R)
  · unfold wX_buildSum_46
    exact dg_w_cpo hn h R (fun V bu h R => H _ _ _ _ _ _ _ h R)
theorem dg_w_sum11 {post : SX → Prop} {op : Nat} {k : Nat → Nat → Bool} (hn : n ≤ 6) (ht : tr ≤ 1) (ho : op ≤ 15) (h : dg_sum1 tr (dg_one n) n op K V k = true) (R : dg_Rp n K V (L) gc so le ri bu) (H : ∀ K V gc so le ri bu, k K V = true → dg_Rp n K V (L) gc so le ri bu → post (nI n, nI tr, fA, fB, gc, bf, so, le, ri, va, bu)) : wX_buildSum_11 post (nI op) (nI n) (nI tr) fA fB gc bf so le ri va bu := by
  refine dg_eq op 1 h (fun _ h => ?_) (fun _ h => ?_)
  · unfold wX_buildSum_29
    exact dg_w_add ht (by omega) h (dg_c1 R) dg_m0 (fun K V gc so le ri bu h R => dg_w_sum46 hn ho h (dg_d1 R) H)
  · unfold wX_buildSum_29
    exact dg_w_add ht (by omega) h (dg_c0 R) dg_m0 (fun K V gc so le ri bu h R => dg_w_sum46 hn ho h (dg_d1 R) H)
theorem dg_w_sum {post : SX → Prop} {op : Nat} {k : Nat → Nat → Bool} (hn : n ≤ 6) (ht : tr ≤ 1) (ho : op ≤ 15) (h : dg_sum tr (dg_one n) n op K V k = true) (R : dg_Rp n K V (L) gc so le ri bu) (H : ∀ K V gc so le ri bu, k K V = true → dg_Rp n K V (L) gc so le ri bu → post (nI n, nI tr, fA, fB, gc, bf, so, le, ri, va, bu)) : wpX_buildSum post (nI n, nI tr, fA, fB, gc, bf, so, le, ri, va, bu) (nI op) := by
  refine dg_eq op 1 h (fun _ h => ?_) (fun _ h => ?_)
  · exact dg_w_inv hn h R (fun K V gc so le ri bu h R => dg_w_sum11 hn ht ho h R H)
  · exact dg_w_sum11 hn ht ho h R H
theorem dg_w_p107 {post : SX → Prop} {J : Int32 → Int32 → Int32 → Int32 → Int32 → Int32 → Int32 → (Nat → Int32) → (Nat → Int32) → (Nat → Int32) → (Nat → Int32) → (Nat → Int32) → Prop} {r : Nat} {x1 : Int32} {kt : Nat → Bool} (hn : n ≤ 6) (hr : r ≤ 16)
    (H : ∀ V bu, kt V = true → dg_Rp n K V (L) gc so le ri bu → J (nI (r + 1)) (nI n) (nI tr) fA fB gc bf so le ri va bu) : ∀ f i V bu, i ≤ 100 → dg_cp n (144 + r) 32 f i V (fun V => cond (Nat.ble 16 (r + n)) (kt V) (dg_rd V (32 + n) fun a => dg_wr V ((144 + r) + n) a fun V => kt V)) = true → dg_Rp n K V (L) gc so le ri bu → wX_buildProduct_107 post J x1 (nI r) (nI n) (nI tr) fA fB gc bf f (nI i) so le ri va bu := by
  intro f
  induction f with
  | zero => intro i V bu hi h R; exact dg_no h
  | succ f ih =>
    intro i V bu hi h R
    refine dg_le n i h (fun _ h => ?_) (fun hin h => ?_)
    · refine dg_le 16 (r + n) h (fun _ h => ?_) (fun _ h => ?_) rfl (nI_add r n)
      · exact nm_r (nI_1 r) (H _ _ h R)
      · refine dg_R (nI_add 32 n) h R fun a h R => ?_
        refine dg_Wp ((congrArg (· + nI n) (nI_add 144 r)).trans (nI_add (144 + r) n)) h R dg_m0 fun V bu h R => ?_
        exact nm_r (nI_1 r) (H _ _ h (dg_d1 R))
    · refine dg_R (nI_add 32 i) h R fun a h R => ?_
      refine dg_Wp ((congrArg (· + nI i) (nI_add 144 r)).trans (nI_add (144 + r) i)) h R dg_m0 fun V bu h R => ?_
      exact nm_r (nI_1 i) (ih (i + 1) _ _ (by omega) h (dg_d1 R))
theorem dg_w_p37 {post : SX → Prop} {J : Int32 → Int32 → Int32 → Int32 → Int32 → Int32 → Int32 → (Nat → Int32) → (Nat → Int32) → (Nat → Int32) → (Nat → Int32) → (Nat → Int32) → Prop} {r : Nat} {x1 : Int32} {k : Nat → Nat → Bool} (hn : n ≤ 6)
    (H : ∀ K V gc so le ri bu, k K V = true → dg_Rp n K V (L) gc so le ri bu → wpX_addBuses (fun u => match u with
      | (f1, f2, f3, f4, f5, f6, a1, a2, a3, a4, a5) => ∃ n107 : Nat, wX_buildProduct_107 post J x1 (nI r) f1 f2 f3 f4 f5 f6 n107 0 a1 a2 a3 a4 a5) (nI n, nI tr, fA, fB, gc, bf, so, le, ri, va, bu) (144 + nI r) 128 (nI n) 0) : ∀ f i K V gc so le ri bu, i ≤ 100 → dg_p37 n r f i K V k = true → dg_Rp n K V (L) gc so le ri bu → wX_buildProduct_37 post J x1 (nI r) f (nI i) (nI n) (nI tr) fA fB gc bf so le ri va bu := by
  intro f
  induction f with
  | zero => intro i K V gc so le ri bu hi h R; exact dg_no h
  | succ f ih =>
    intro i K V gc so le ri bu hi h R
    refine dg_le n i h (fun _ h => H _ _ _ _ _ _ _ h R) (fun hin h => ?_)
    refine dg_R (nI_add 0 i) h R fun a h R => ?_
    refine dg_R (nI_add 16 r) h R fun b h R => ?_
    refine dg_G h R dg_m1 dg_m0 fun p K rp gc so le ri h R => ?_
    refine dg_W (nI_add 128 i) h R dg_m0 fun V bu h R => ?_
    exact nm_r (nI_1 i) (ih (i + 1) _ _ _ _ _ _ _ (by omega) h (dg_d3 R))
theorem dg_w_p27 {post : SX → Prop} {fr : Nat} {k : Nat → Nat → Bool} (hn : n ≤ 6) (ht : tr ≤ 1) (H : ∀ K V gc so le ri bu, k K V = true → dg_Rp n K V (L) gc so le ri bu → post (nI n, nI tr, fA, fB, gc, bf, so, le, ri, va, bu)) : ∀ f r K V gc so le ri bu, r ≤ 16 → dg_p27 tr n fr f r K V k = true → dg_Rp n K V (L) gc so le ri bu → wX_buildProduct_27 post (nI fr) f (nI r) (nI n) (nI tr) fA fB gc bf so le ri va bu := by
  intro f
  induction f with
  | zero => intro r K V gc so le ri bu hi h R; exact dg_no h
  | succ f ih =>
    intro r K V gc so le ri bu hi h R
    refine dg_le n r h (fun _ h => ?_) (fun hin h => ?_)
    · exact dg_w_cpo hn h R (fun V bu h R => H _ _ _ _ _ _ _ h R) (nI_add 144 fr)
    · refine Exists.intro 20 (dg_w_p37 hn (fun K V gc so le ri bu h R => ?_) 20 0 _ _ _ _ _ _ _ (by omega) h R)
      refine dg_w_add ht (by omega) h (dg_c0 R) dg_m0 (fun K V gc so le ri bu h R => ?_) (nI_add 144 r)
      exact Exists.intro 20 (dg_w_p107 hn (by omega) (fun V bu h R => ih (r + 1) _ _ _ _ _ _ _ (by omega) h R) 20 0 _ _ (by omega) h (dg_d1 R))
theorem dg_w_p2 {post : SX → Prop} {x1 : Int32} {k : Nat → Bool} (H : ∀ V bu, k V = true → dg_Rp n K V (L) gc so le ri bu → ∃ m : Nat, wX_buildProduct_27 post x1 m 0 (nI n) (nI tr) fA fB gc bf so le ri va bu) : ∀ f i V bu, i ≤ 100 → dg_zr 16 144 f i V k = true → dg_Rp n K V (L) gc so le ri bu → wX_buildProduct_2 post x1 (nI n) (nI tr) fA fB gc bf f (nI i) so le ri va bu := by
  intro f
  induction f with
  | zero => intro i V bu hi h R; exact dg_no h
  | succ f ih =>
    intro i V bu hi h R
    refine dg_le 16 i h (fun _ h => H _ _ h R) (fun hin h => ?_)
    refine dg_Wp (nI_add 144 i) h (dg_c0 R) dg_m0 fun V bu h R => ?_
    exact nm_r (nI_1 i) (ih (i + 1) _ _ (by omega) h (dg_d1 R))
theorem dg_w_prod {post : SX → Prop} {fr : Nat} {x0 : Int32} {k : Nat → Nat → Bool} (hn : n ≤ 6) (ht : tr ≤ 1) (h : dg_prod tr n fr K V k = true) (R : dg_Rp n K V (L) gc so le ri bu) (H : ∀ K V gc so le ri bu, k K V = true → dg_Rp n K V (L) gc so le ri bu → post (nI n, nI tr, fA, fB, gc, bf, so, le, ri, va, bu)) (e0 : x0 = nI fr := by rfl) : wpX_buildProduct post (nI n, nI tr, fA, fB, gc, bf, so, le, ri, va, bu) x0 := by
  subst e0
  exact Exists.intro 20 (dg_w_p2 (fun V bu h R => Exists.intro 20 (dg_w_p27 hn ht H 20 0 _ _ _ _ _ _ _ (by omega) h R)) 20 0 _ _ (by omega) h R)
theorem dg_w_l51 {post : Int32 → SX → Prop} {k : Nat → Nat → Nat → Bool} (hn : n ≤ 6) (ht : tr ≤ 1) (h : dg_l51 tr (dg_one n) n K V k = true) (R : dg_Rp n K V (L) gc so le ri bu) (H : ∀ t K V r gc so le ri bu, k t K V = true → dg_Rp n K V ((r, t) :: L) gc so le ri bu → post r (nI n, nI tr, fA, fB, gc, bf, so, le, ri, va, bu)) : wX_lessNode_51 post (nI n) (nI tr) fA fB gc bf so le ri va bu := by
  unfold wX_lessNode_51
  refine dg_w_inv hn h R (fun K V gc so le ri bu h R => ?_)
  refine dg_w_add ht (by omega) h (dg_c1 R) dg_m0 (fun K V gc so le ri bu h R => ?_)
  refine dg_R (nI_add 32 n) h (dg_d1 R) fun a h R => ?_
  exact dg_N h R dg_m0 fun t K r gc so le ri h R => H _ _ _ _ _ _ _ _ _ h (dg_s1 R)
theorem dg_w_less {post : Int32 → SX → Prop} {sg : Nat} {x0 : Int32} {k : Nat → Nat → Nat → Bool} (hn : n ≤ 6) (hn2 : 2 ≤ n) (ht : tr ≤ 1) (hs : sg ≤ 1) (h : dg_less tr (dg_one n) n sg K V k = true) (R : dg_Rp n K V (L) gc so le ri bu) (H : ∀ t K V r gc so le ri bu, k t K V = true → dg_Rp n K V ((r, t) :: L) gc so le ri bu → post r (nI n, nI tr, fA, fB, gc, bf, so, le, ri, va, bu)) (e0 : x0 = nI sg := by rfl) : wpX_lessNode post (nI n, nI tr, fA, fB, gc, bf, so, le, ri, va, bu) x0 := by
  subst e0
  have e : nI n - 1 = nI (n - 1) := pk_sub (b := 1) (by omega)
  refine nm_r (e' := nI (n - 1)) e ?_
  refine dg_R (nI_add 0 (n - 1)) h R fun a h R => nm_e ?_
  refine dg_R (nI_add 16 (n - 1)) h R fun b h R => nm_e ?_
  refine dg_eq sg 0 h (fun _ h => ?_) (fun _ h => ?_)
  · exact dg_w_l51 hn ht h (dg_d2 R) H
  · refine dg_Wp (nI_add 0 (n - 1)) h R dg_m0 fun V bu h R => ?_
    refine dg_Wp (nI_add 16 (n - 1)) h R dg_m1 fun V bu h R => ?_
    exact dg_w_l51 hn ht h (dg_d2 R) H
theorem dg_w_cmp {post : SX → Prop} {sg : Nat} {x0 : Int32} {k : Nat → Nat → Bool} (hn : n ≤ 6) (hn2 : 2 ≤ n) (ht : tr ≤ 1) (hs : sg ≤ 1) (h : dg_cmp tr (dg_one n) n sg K V k = true) (R : dg_Rp n K V (L) gc so le ri bu) (H : ∀ K V gc so le ri bu, k K V = true → dg_Rp n K V (L) gc so le ri bu → post (nI n, nI tr, fA, fB, gc, bf, so, le, ri, va, bu)) (e0 : x0 = nI sg := by rfl) : wpX_buildCompare post (nI n, nI tr, fA, fB, gc, bf, so, le, ri, va, bu) x0 := by
  unfold wpX_buildCompare
  dsimp only
  refine dg_w_less hn hn2 ht hs h R (fun t K V r gc so le ri bu h R => ?_) e0
  have w := (dg_W (P := fun bu => post (nI n, nI tr, fA, fB, gc, bf, so, le, ri, va, bu)) (ix := 48) (j := 48) rfl h R dg_m0 fun V bu h R => H _ _ _ _ _ _ _ h (dg_d1 R)).2
  exact w
theorem dg_ip_w {j : Nat} (hn : n ≤ 6) (hn2 : 2 ≤ n) (hj : j < 2 * n) (R : dg_Rp n K V (L) gc so le ri bu) : dg_Rp n K V ((nI (2 + j), dg_ip n j) :: L) gc so le ri bu :=
  dg_put R fun g T hg hB => ⟨2 + j, by omega, rfl, fun e he => by rw [hB.2.2 j hj, dg_ip_tb hn2 hn hj he]⟩
theorem dg_w_ld2 {post : SX → Prop} {k : Nat → Bool} (hn : n ≤ 6) (hn2 : 2 ≤ n) (H : ∀ V bu, k V = true → dg_Rp n K V (L) gc so le ri bu → post (nI n, nI tr, fA, fB, gc, bf, so, le, ri, va, bu)) : ∀ f i V bu, i ≤ 100 → dg_ld n f i V k = true → dg_Rp n K V (L) gc so le ri bu → wX_loadOperands_2 post (nI n) (nI tr) fA fB gc bf f (nI i) so le ri va bu := by
  intro f
  induction f with
  | zero => intro i V bu hi h R; exact dg_no h
  | succ f ih =>
    intro i V bu hi h R
    refine dg_le n i h (fun _ h => H _ _ h R) (fun hin h => ?_)
    have e1 : (2 : Int32) + nI i = nI (2 + i) := nI_add 2 i
    have e2 : ((2 : Int32) + nI n) + nI i = nI (2 + (n + i)) := by rw [show (2 : Int32) + nI n = nI (2 + n) from nI_add 2 n, nI_add, Nat.add_assoc]
    rw [e1, e2]
    refine dg_W (nI_add 0 i) h (dg_ip_w hn hn2 (by omega) R) dg_m0 fun V bu h R => ?_
    refine dg_W (nI_add 16 i) h (dg_ip_w hn hn2 (by omega) R) dg_m0 fun V bu h R => ?_
    exact nm_r (nI_1 i) (ih (i + 1) _ _ (by omega) h (dg_d2 R))
theorem dg_w_pk27 {post : SX → Prop} {z : Nat} {xz : Int32} {k : Nat → Nat → Bool} (hn : n ≤ 6) (hz : (xz, z) ∈ L) (H : ∀ K V gc so le ri bu, k K V = true → dg_Rp n K V (L) gc so le ri bu → post (nI n, nI tr, fA, fB, gc, bf, so, le, ri, va, bu)) : ∀ f i K V gc so le ri bu, i ≤ 100 → dg_pk27 (dg_one n) n z f i K V k = true → dg_Rp n K V (L) gc so le ri bu → wX_buildPick_27 post xz f (nI i) (nI n) (nI tr) fA fB gc bf so le ri va bu := by
  intro f
  induction f with
  | zero => intro i K V gc so le ri bu hi h R; exact dg_no h
  | succ f ih =>
    intro i K V gc so le ri bu hi h R
    refine dg_le n i h (fun _ h => H _ _ _ _ _ _ _ h R) (fun hin h => ?_)
    refine dg_R (nI_add 0 i) h R fun a h R => ?_
    refine dg_R (nI_add 16 i) h R fun b h R => ?_
    refine dg_CH h R (dg_k2 hz) dg_m1 dg_m0 fun t K r gc so le ri h R => ?_
    refine dg_W (nI_add 48 i) h R dg_m0 fun V bu h R => ?_
    exact nm_r (nI_1 i) (ih (i + 1) _ _ _ _ _ _ _ (by omega) h (dg_d3 R))
theorem dg_w_pk19 {post : SX → Prop} {z : Nat} {xz : Int32} {k : Nat → Nat → Bool} (hn : n ≤ 6) (hn2 : 2 ≤ n) (h : dg_pk19 (dg_one n) n z K V k = true) (R : dg_Rp n K V (L) gc so le ri bu) (hz : (xz, z) ∈ L) (H : ∀ K V gc so le ri bu, k K V = true → dg_Rp n K V (L) gc so le ri bu → post (nI n, nI tr, fA, fB, gc, bf, so, le, ri, va, bu)) : wX_buildPick_19 post xz (nI n) (nI tr) fA fB gc bf so le ri va bu := by
  unfold wX_buildPick_19
  refine Exists.intro 20 (dg_w_ld2 hn hn2 (fun V bu h R => ?_) 20 0 _ _ (by omega) h R)
  exact Exists.intro 20 (dg_w_pk27 hn hz H 20 0 _ _ _ _ _ _ _ (by omega) h R)
theorem dg_w_pick {post : SX → Prop} {sg : Nat} {x0 : Int32} {k : Nat → Nat → Bool} (hn : n ≤ 6) (hn2 : 2 ≤ n) (ht : tr ≤ 1) (hs : sg ≤ 1) (h : dg_pick tr (dg_one n) n sg K V k = true) (R : dg_Rp n K V (L) gc so le ri bu) (H : ∀ K V gc so le ri bu, k K V = true → dg_Rp n K V (L) gc so le ri bu → post (nI n, nI tr, fA, fB, gc, bf, so, le, ri, va, bu)) (e0 : x0 = nI sg := by rfl) : wpX_buildPick post (nI n, nI tr, fA, fB, gc, bf, so, le, ri, va, bu) x0 := by
  unfold wpX_buildPick
  dsimp only
  refine dg_w_less hn hn2 ht hs h R (fun t K V r gc so le ri bu h R => ?_) e0
  refine dg_eq sg 0 h (fun _ h => ?_) (fun _ h => ?_) e0
  · exact dg_w_pk19 hn hn2 h R dg_m0 (fun K V gc so le ri bu h R => H _ _ _ _ _ _ _ h (dg_d1 R))
  · refine dg_N h R dg_m0 fun t K r gc so le ri h R => ?_
    exact dg_w_pk19 hn hn2 h R dg_m0 (fun K V gc so le ri bu h R => H _ _ _ _ _ _ _ h (dg_d2 R))
end
end
section
/-! Shifts -/
theorem dg_pw {m : Nat} (h : m ≤ 20) : 2 ^ m ≤ 1048576 := Nat.pow_le_pow_right (n := 2) (by decide) h
theorem dg_pw6 {m : Nat} (h : m ≤ 6) : 2 ^ m ≤ 64 := Nat.pow_le_pow_right (n := 2) (by decide) h
theorem dg_shlN {n m : Nat} (hn : n ≤ 6) (hm : m ≤ 20) : nI n <<< (nI m &&& 31) = nI (n * 2 ^ m) := by
  refine pk_shlN _ m (s_l m (by omega)) ?_
  have h := Nat.mul_le_mul hn (dg_pw hm)
  exact Nat.lt_of_le_of_lt h (by decide)
theorem dg_shl1 {n : Nat} (hn : n ≤ 20) : (1 : Int32) <<< (nI n &&& 31) = nI (2 ^ n) := by
  have h := dg_shlN (n := 1) (by decide) hn
  rw [Nat.one_mul] at h
  exact h
theorem dg_bit {c i : Nat} (hc : c < 2 ^ 31) (hi : i < 32) : (nI c >>> (nI i &&& 31)) &&& 1 = nI (c / 2 ^ i % 2) := by
  rw [pk_shrN hc _ i (s_l i hi)]
  have h : c / 2 ^ i ≤ c := Nat.div_le_self _ _
  exact pk_andN (by omega) 1 (by decide)
section
variable {n tr K V : Nat} {L : List (Int32 × Nat)} {fA fB bf gc : Int32} {so le ri va bu : Nat → Int32}
theorem dg_w_td146 {post : SX → Prop} {c : Nat} {xc : Int32} {k : Nat → Nat → Bool} (hn : n ≤ 6) (hc : (xc, c) ∈ L) (H : ∀ K V gc so le ri bu, k K V = true → dg_Rp n K V (L) gc so le ri bu → post (nI n, nI tr, fA, fB, gc, bf, so, le, ri, va, bu)) : ∀ f i K V gc so le ri bu, i ≤ 100 → dg_td146 (dg_one n) n c f i K V k = true → dg_Rp n K V (L) gc so le ri bu → wX_takeDown_146 post xc f (nI i) (nI n) (nI tr) fA fB gc bf so le ri va bu := by
  intro f
  induction f with
  | zero => intro i K V gc so le ri bu hi h R; exact dg_no h
  | succ f ih =>
    intro i K V gc so le ri bu hi h R
    refine dg_le n i h (fun _ h => H _ _ _ _ _ _ _ h R) (fun hin h => ?_)
    refine dg_R (nI_add 32 i) h R fun a h R => ?_
    refine dg_R (nI_add 128 i) h R fun b h R => ?_
    refine dg_CH h R (dg_k2 hc) dg_m1 dg_m0 fun t K r gc so le ri h R => ?_
    refine dg_W (nI_add 128 i) h R dg_m0 fun V bu h R => ?_
    exact nm_r (nI_1 i) (ih (i + 1) _ _ _ _ _ _ _ (by omega) h (dg_d3 R))
theorem dg_w_td43 {post : SX → Prop} {k : Nat → Nat → Nat → Bool} (hn : n ≤ 6) (H : ∀ c K V xc gc so le ri bu, k c K V = true → dg_Rp n K V ((xc, c) :: L) gc so le ri bu → ∃ m : Nat, wX_takeDown_146 post xc m 0 (nI n) (nI tr) fA fB gc bf so le ri va bu) : ∀ f c i K V x5 gc so le ri bu, i ≤ 100 → dg_td43 n f c i K V k = true → dg_Rp n K V ((x5, c) :: L) gc so le ri bu → wX_takeDown_43 post f x5 (nI i) (nI n) (nI tr) fA fB gc bf so le ri va bu := by
  intro f
  induction f with
  | zero => intro c i K V x5 gc so le ri bu hi h R; exact dg_no h
  | succ f ih =>
    intro c i K V x5 gc so le ri bu hi h R
    refine dg_le n i h (fun _ h => H _ _ _ _ _ _ _ _ _ h R) (fun hin h => ?_)
    refine dg_R (nI_add 128 i) h R fun p h R => nm_e ?_
    refine dg_R (nI_add 64 i) h R fun q h R => nm_e ?_
    refine dg_G h R dg_m1 dg_m0 fun e K re gc so le ri h R => ?_
    refine dg_G h R dg_m2 dg_m1 fun b K rb gc so le ri h R => ?_
    refine dg_G h R dg_m1 dg_m4 fun a K ra gc so le ri h R => ?_
    refine dg_G h R dg_m2 dg_m5 fun t K rt gc so le ri h R => ?_
    refine dg_W (nI_add 32 i) h R dg_m0 fun V bu h R => ?_
    refine dg_G h R dg_m2 dg_m1 fun c' K rc gc so le ri h R => ?_
    exact nm_r (nI_1 i) (ih _ (i + 1) _ _ _ _ _ _ _ _ (by omega) h (dg_s3 (dg_s4 R)))
theorem dg_w_td2 {post : SX → Prop} {c : Nat} {k : Nat → Bool} (hn : n ≤ 6) (hc : c < 2 ^ 31) (H : ∀ V bu, k V = true → dg_Rp n K V (L) gc so le ri bu → ∃ m : Nat, wX_takeDown_43 post m 1 0 (nI n) (nI tr) fA fB gc bf so le ri va bu) : ∀ f i V bu, i ≤ 100 → dg_td2 (dg_one n) n c f i V k = true → dg_Rp n K V (L) gc so le ri bu → wX_takeDown_2 post (nI c) (nI n) (nI tr) fA fB gc bf f (nI i) so le ri va bu := by
  intro f
  induction f with
  | zero => intro i V bu hi h R; exact dg_no h
  | succ f ih =>
    intro i V bu hi h R
    refine dg_le n i h (fun _ h => H _ _ h R) (fun hin h => ?_)
    refine dg_eq (c / 2 ^ i % 2) 0 h (fun _ h => ?_) (fun _ h => ?_) (dg_bit hc (by omega)) rfl (by omega)
    · refine dg_W (nI_add 64 i) h (dg_c1 R) dg_m0 fun V bu h R => ?_
      exact nm_r (nI_1 i) (ih (i + 1) _ _ (by omega) h (dg_d1 R))
    · refine dg_W (nI_add 64 i) h (dg_c0 R) dg_m0 fun V bu h R => ?_
      exact nm_r (nI_1 i) (ih (i + 1) _ _ (by omega) h (dg_d1 R))
theorem dg_w_td {post : SX → Prop} {c : Nat} {x0 : Int32} {k : Nat → Nat → Bool} (hn : n ≤ 6) (hc : c < 2 ^ 31) (h : dg_td (dg_one n) n c K V k = true) (R : dg_Rp n K V (L) gc so le ri bu) (H : ∀ K V gc so le ri bu, k K V = true → dg_Rp n K V (L) gc so le ri bu → post (nI n, nI tr, fA, fB, gc, bf, so, le, ri, va, bu)) (e0 : x0 = nI c) : wpX_takeDown post (nI n, nI tr, fA, fB, gc, bf, so, le, ri, va, bu) x0 := by
  subst e0
  refine Exists.intro 20 (dg_w_td2 hn hc (fun V bu h R => ?_) 20 0 _ _ (by omega) h R)
  refine Exists.intro 20 (dg_w_td43 hn (fun c K V xc gc so le ri bu h R => ?_) 20 _ 0 _ _ _ _ _ _ _ _ (by omega) h (dg_c1 R))
  exact Exists.intro 20 (dg_w_td146 hn dg_m0 (fun K V gc so le ri bu h R => H _ _ _ _ _ _ _ h (dg_d1 R)) 20 0 _ _ _ _ _ _ _ (by omega) h R)
theorem dg_w77 {post : SX → Prop} {k : Nat → Nat → Bool} (hn : n ≤ 6) (H : ∀ K V gc so le ri bu, k K V = true → dg_Rp n K V (L) gc so le ri bu → post (nI n, nI tr, fA, fB, gc, bf, so, le, ri, va, bu)) : ∀ m K V x2 gc so le ri bu, x2 = nI m + (-1) → m ≤ 20 → dg_f77 (dg_one n) n m K V k = true → dg_Rp n K V (L) gc so le ri bu → wX_findRest_77 post (m + 1) x2 (nI n) (nI tr) fA fB gc bf so le ri va bu := by
  intro m
  induction m with
  | zero =>
    intro K V x2 gc so le ri bu e hm h R
    refine br_t ?_ (H _ _ _ _ _ _ _ h R)
    rw [e]; decide
  | succ m ih =>
    intro K V x2 gc so le ri bu e hm h R
    rw [pk_m1] at e
    subst e
    refine br_f (nI_pos (by omega)) ?_
    have hb : n * 2 ^ m < 2 ^ 31 := Nat.lt_of_le_of_lt (Nat.mul_le_mul hn (dg_pw (m := m) (by omega))) (by decide)
    exact dg_w_td hn hb h R (fun K V gc so le ri bu h R => nm_e (ih _ _ _ _ _ _ _ _ rfl (by omega) h R)) (dg_shlN hn (by omega))
theorem dg_w52 {post : SX → Prop} {k : Nat → Nat → Bool} (hn : n ≤ 6) (R : dg_Rp n K V (L) gc so le ri bu) (H : ∀ K V gc so le ri bu, k K V = true → dg_Rp n K V (L) gc so le ri bu → post (nI n, nI tr, fA, fB, gc, bf, so, le, ri, va, bu)) : ∀ f s, s + f ≤ 20 → dg_f52 (dg_one n) n K V k f s = true → wX_findRest_52 post (nI n) (nI tr) fA fB gc bf so le ri va bu f (nI s) := by
  intro f
  induction f with
  | zero => intro s hs h; exact dg_no h
  | succ f ih =>
    intro s hs h
    have h1 : 2 ^ n < 2 ^ 31 := Nat.lt_of_le_of_lt (dg_pw6 hn) (by decide)
    have h2 : n * 2 ^ (s + 1) < 2 ^ 31 := Nat.lt_of_le_of_lt (Nat.mul_le_mul hn (dg_pw (m := s + 1) (by omega))) (by decide)
    refine dg_le (2 ^ n) (n * 2 ^ (s + 1)) h (fun _ h => ?_) (fun _ h => ?_) (dg_shl1 (by omega)) (by rw [nI_1]; exact dg_shlN hn (by omega)) h1 h2
    · exact Exists.intro (s + 2) (dg_w77 hn H (s + 1) _ _ _ _ _ _ _ _ (pk_m1 s).symm (by omega) h R)
    · exact nm_r (nI_1 s) (ih (s + 1) (by omega) h)
theorem dg_w_fr2 {post : SX → Prop} {k : Nat → Nat → Bool} (hn : n ≤ 6) (hn2 : 2 ≤ n) (H : ∀ K V gc so le ri bu, k K V = true → dg_Rp n K V (L) gc so le ri bu → post (nI n, nI tr, fA, fB, gc, bf, so, le, ri, va, bu)) : ∀ f i V bu, i ≤ 100 → dg_cp n 128 16 f i V (fun V => cond (Nat.beq (Nat.land n (n - 1)) 0) (k K V) (dg_f52 (dg_one n) n K V k 20 0)) = true → dg_Rp n K V (L) gc so le ri bu → wX_findRest_2 post (nI n) (nI tr) fA fB gc bf f (nI i) so le ri va bu := by
  intro f
  induction f with
  | zero => intro i V bu hi h R; exact dg_no h
  | succ f ih =>
    intro i V bu hi h R
    refine dg_le n i h (fun _ h => ?_) (fun hin h => ?_)
    · have hl : Nat.land n (n - 1) < 2 ^ 31 := Nat.lt_of_le_of_lt (Nat.and_le_left (n := n) (m := n - 1)) (by omega)
      refine dg_eq (Nat.land n (n - 1)) 0 h (fun _ h => H _ _ _ _ _ _ _ h R) (fun _ h => ?_) (dg_and1 n (by omega) (by omega)) rfl hl
      exact Exists.intro 20 (dg_w52 hn R H 20 0 (by omega) h)
    · refine dg_R (nI_add 16 i) h R fun a h R => ?_
      refine dg_Wp (nI_add 128 i) h R dg_m0 fun V bu h R => ?_
      exact nm_r (nI_1 i) (ih (i + 1) _ _ (by omega) h (dg_d1 R))
theorem dg_w_fr {post : SX → Prop} {k : Nat → Nat → Bool} (hn : n ≤ 6) (hn2 : 2 ≤ n) (h : dg_rest (dg_one n) n K V k = true) (R : dg_Rp n K V (L) gc so le ri bu) (H : ∀ K V gc so le ri bu, k K V = true → dg_Rp n K V (L) gc so le ri bu → post (nI n, nI tr, fA, fB, gc, bf, so, le, ri, va, bu)) : wpX_findRest post (nI n, nI tr, fA, fB, gc, bf, so, le, ri, va, bu) :=
  Exists.intro 20 (dg_w_fr2 hn hn2 H 20 0 _ _ (by omega) h R)
theorem dg_w_src {post : Int32 → Prop} {op i am : Nat} {k : Nat → Bool} (hn : n ≤ 6) (hn2 : 2 ≤ n) (ho : op ≤ 15) (hi : i < n) (ha : am < n) (h : dg_src n op i am V k = true) (R : dg_Rp n K V (L) gc so le ri bu) (H : ∀ t r, k t = true → dg_Rp n K V ((r, t) :: L) gc so le ri bu → post r) : wpX_sourceOf post (nI n, nI tr, fA, fB, gc, bf, so, le, ri, va, bu) (nI op) (nI i) (nI am) := by
  refine dg_eq op 6 h (fun _ h => ?_) (fun _ h => ?_)
  · refine dg_lt i am h (fun _ h => H _ _ h (dg_c0 R)) (fun hl h => ?_)
    refine dg_R ?_ h R fun t h R => H _ _ h R
    rw [show (144 : Int32) + nI i = nI (144 + i) from nI_add 144 i, pk_sub (by omega)]
  · refine dg_eq op 9 h (fun _ h => ?_) (fun _ h => ?_)
    · refine And.intro (nI_ne0 (by omega) (by omega)) ?_
      have e1 : (nI i - nI am) + nI n = nI (i + n - am) := by
        rw [← pk_sub (by omega), ← nI_add]
        rw [Int32.sub_eq_add_neg, Int32.sub_eq_add_neg, Int32.add_assoc, Int32.add_assoc, Int32.add_comm (-nI am)]
      have e2 : (144 : Int32) + (((nI i - nI am) + nI n) - ((nI i - nI am) + nI n) / nI n * nI n) = nI (144 + (i + n - am) % n) := by
        rw [e1, pk_rem (by omega) (by omega) (by omega)]
        exact nI_add 144 _
      exact dg_R e2 h R fun t h R => H _ _ h R
    · refine dg_le n (i + am) h (fun _ h => ?_) (fun _ h => ?_) rfl (nI_add i am)
      · refine dg_eq op 8 h (fun _ h => ?_) (fun _ h => H _ _ h (dg_c0 R))
        refine dg_R ?_ h R fun t h R => H _ _ h R
        rw [show (144 : Int32) + nI n = nI (144 + n) from nI_add 144 n]
        exact pk_sub (b := 1) (by omega)
      · refine dg_R ?_ h R fun t h R => H _ _ h R
        rw [show (144 : Int32) + nI i = nI (144 + i) from nI_add 144 i, nI_add]
theorem dg_w_s130 {post : SX → Prop} {J : Int32 → Int32 → Int32 → Int32 → Int32 → Int32 → Int32 → Int32 → (Nat → Int32) → (Nat → Int32) → (Nat → Int32) → (Nat → Int32) → (Nat → Int32) → Prop} {am : Nat} {x1 x2 : Int32} {k : Nat → Bool} (hn : n ≤ 6) (H : ∀ V bu, k V = true → dg_Rp n K V (L) gc so le ri bu → J x2 (nI (am * 2)) (nI n) (nI tr) fA fB gc bf so le ri va bu) : ∀ f i V bu, i ≤ 100 → dg_cp n 144 48 f i V k = true → dg_Rp n K V (L) gc so le ri bu → wX_buildShift_130 post J x1 x2 (nI am) (nI n) (nI tr) fA fB gc bf f (nI i) so le ri va bu := by
  intro f
  induction f with
  | zero => intro i V bu hi h R; exact dg_no h
  | succ f ih =>
    intro i V bu hi h R
    refine dg_le n i h (fun _ h => nm_r (pk_mul am 2) (H _ _ h R)) (fun hin h => ?_)
    refine dg_R (nI_add 48 i) h R fun a h R => ?_
    refine dg_Wp (nI_add 144 i) h R dg_m0 fun V bu h R => ?_
    exact nm_r (nI_1 i) (ih (i + 1) _ _ (by omega) h (dg_d1 R))
theorem dg_w_s68 {post : SX → Prop} {J : Int32 → Int32 → Int32 → Int32 → Int32 → Int32 → Int32 → Int32 → (Nat → Int32) → (Nat → Int32) → (Nat → Int32) → (Nat → Int32) → (Nat → Int32) → Prop} {op am b : Nat} {x2 xb : Int32} {k : Nat → Nat → Bool} (hn : n ≤ 6) (hn2 : 2 ≤ n) (ho : op ≤ 15) (ha : am < n) (hb : (xb, b) ∈ L)
    (H : ∀ K V gc so le ri bu, k K V = true → dg_Rp n K V (L) gc so le ri bu → ∃ m : Nat, wX_buildShift_130 post J (nI op) x2 (nI am) (nI n) (nI tr) fA fB gc bf m 0 so le ri va bu) : ∀ f i K V gc so le ri bu, i ≤ 100 → dg_s68 (dg_one n) n op b am f i K V k = true → dg_Rp n K V (L) gc so le ri bu → wX_buildShift_68 post J (nI op) x2 (nI am) xb f (nI i) (nI n) (nI tr) fA fB gc bf so le ri va bu := by
  intro f
  induction f with
  | zero => intro i K V gc so le ri bu hi h R; exact dg_no h
  | succ f ih =>
    intro i K V gc so le ri bu hi h R
    refine dg_le n i h (fun _ h => H _ _ _ _ _ _ _ h R) (fun hin h => ?_)
    refine dg_w_src hn hn2 ho hin ha h R fun s rs h R => ?_
    refine dg_R (nI_add 144 i) h R fun c h R => ?_
    refine dg_CH h R (dg_k2 hb) dg_m1 dg_m0 fun t K r gc so le ri h R => ?_
    refine dg_W (nI_add 48 i) h R dg_m0 fun V bu h R => ?_
    exact nm_r (nI_1 i) (ih (i + 1) _ _ _ _ _ _ _ (by omega) h (dg_d3 R))
theorem dg_w_s42 {post : SX → Prop} {op : Nat} {k : Nat → Nat → Bool} (hn : n ≤ 6) (hn2 : 2 ≤ n) (ho : op ≤ 15) (H : ∀ K V gc so le ri bu, k K V = true → dg_Rp n K V (L) gc so le ri bu → post (nI n, nI tr, fA, fB, gc, bf, so, le, ri, va, bu)) : ∀ f pl am K V gc so le ri bu, am ≤ 100 → dg_s42 (dg_one n) n op f pl am K V k = true → dg_Rp n K V (L) gc so le ri bu → wX_buildShift_42 post (nI op) f (nI pl) (nI am) (nI n) (nI tr) fA fB gc bf so le ri va bu := by
  intro f
  induction f with
  | zero => intro pl am K V gc so le ri bu hi h R; exact dg_no h
  | succ f ih =>
    intro pl am K V gc so le ri bu hi h R
    refine dg_le n am h (fun _ h => ?_) (fun hin h => ?_)
    · exact dg_w_cpo hn h R (fun V bu h R => H _ _ _ _ _ _ _ h R)
    · refine dg_R (nI_add 128 pl) h R fun b h R => nm_e (nm_r (nI_1 pl) ?_)
      refine Exists.intro 20 (dg_w_s68 hn hn2 ho hin dg_m0 (fun K V gc so le ri bu h R => ?_) 20 0 _ _ _ _ _ _ _ (by omega) h R)
      exact Exists.intro 20 (dg_w_s130 hn (fun V bu h R => ih (pl + 1) (am * 2) _ _ _ _ _ _ _ (by omega) h (dg_d1 R)) 20 0 _ _ (by omega) h R)
theorem dg_w_s2 {post : SX → Prop} {x1 : Int32} {k : Nat → Bool} (hn : n ≤ 6) (H : ∀ V bu, k V = true → dg_Rp n K V (L) gc so le ri bu → wpX_findRest (fun u => match u with
      | (f1, f2, f3, f4, f5, f6, a1, a2, a3, a4, a5) => ∃ n42 : Nat, wX_buildShift_42 post x1 n42 0 1 f1 f2 f3 f4 f5 f6 a1 a2 a3 a4 a5) (nI n, nI tr, fA, fB, gc, bf, so, le, ri, va, bu)) : ∀ f i V bu, i ≤ 100 → dg_cp n 144 0 f i V k = true → dg_Rp n K V (L) gc so le ri bu → wX_buildShift_2 post x1 (nI n) (nI tr) fA fB gc bf f (nI i) so le ri va bu := by
  intro f
  induction f with
  | zero => intro i V bu hi h R; exact dg_no h
  | succ f ih =>
    intro i V bu hi h R
    refine dg_le n i h (fun _ h => H _ _ h R) (fun hin h => ?_)
    refine dg_R (nI_add 0 i) h R fun a h R => ?_
    refine dg_Wp (nI_add 144 i) h R dg_m0 fun V bu h R => ?_
    exact nm_r (nI_1 i) (ih (i + 1) _ _ (by omega) h (dg_d1 R))
theorem dg_w_shift {post : SX → Prop} {op : Nat} {k : Nat → Nat → Bool} (hn : n ≤ 6) (hn2 : 2 ≤ n) (ho : op ≤ 15) (h : dg_shift (dg_one n) n op K V k = true) (R : dg_Rp n K V (L) gc so le ri bu) (H : ∀ K V gc so le ri bu, k K V = true → dg_Rp n K V (L) gc so le ri bu → post (nI n, nI tr, fA, fB, gc, bf, so, le, ri, va, bu)) : wpX_buildShift post (nI n, nI tr, fA, fB, gc, bf, so, le, ri, va, bu) (nI op) := by
  refine Exists.intro 20 (dg_w_s2 hn (fun V bu h R => ?_) 20 0 _ _ (by omega) h R)
  refine dg_w_fr hn hn2 h R (fun K V gc so le ri bu h R => ?_)
  exact Exists.intro 20 (dg_w_s42 hn hn2 ho H 20 0 1 _ _ _ _ _ _ _ (by omega) h R)
end
end
section
/-! Counts, magnitudes, the dispatch -/
section
variable {n tr K V : Nat} {L : List (Int32 × Nat)} {fA fB bf gc : Int32} {so le ri va bu : Nat → Int32}
theorem dg_w_c126 {post : SX → Prop} {J : Int32 → Int32 → Int32 → Int32 → Int32 → Int32 → Int32 → Int32 → (Nat → Int32) → (Nat → Int32) → (Nat → Int32) → (Nat → Int32) → (Nat → Int32) → Prop} {x1 x2 x3 : Int32} {k : Nat → Bool} (hn : n ≤ 6) (H : ∀ V bu, k V = true → dg_Rp n K V (L) gc so le ri bu → J x2 (x3 + (-1)) (nI n) (nI tr) fA fB gc bf so le ri va bu) : ∀ f i V bu, i ≤ 100 → dg_cp n 144 32 f i V k = true → dg_Rp n K V (L) gc so le ri bu → wX_buildCount_126 post J x1 x2 x3 (nI n) (nI tr) fA fB gc bf f (nI i) so le ri va bu := by
  intro f
  induction f with
  | zero => intro i V bu hi h R; exact dg_no h
  | succ f ih =>
    intro i V bu hi h R
    refine dg_le n i h (fun _ h => nm_e (H _ _ h R)) (fun hin h => ?_)
    refine dg_R (nI_add 32 i) h R fun a h R => ?_
    refine dg_Wp (nI_add 144 i) h R dg_m0 fun V bu h R => ?_
    exact nm_r (nI_1 i) (ih (i + 1) _ _ (by omega) h (dg_d1 R))
theorem dg_w_c80 {post : SX → Prop} {J : Int32 → Int32 → Int32 → Int32 → Int32 → Int32 → Int32 → Int32 → (Nat → Int32) → (Nat → Int32) → (Nat → Int32) → (Nat → Int32) → (Nat → Int32) → Prop} {x1 x2 x3 xc : Int32} {c : Nat} {k : Nat → Nat → Bool} (hn : n ≤ 6) (ht : tr ≤ 1) (hc : (xc, c) ∈ L)
    (H : ∀ K V gc so le ri bu, k K V = true → dg_Rp n K V (L) gc so le ri bu → J x2 (x3 + (-1)) (nI n) (nI tr) fA fB gc bf so le ri va bu) : ∀ f i V bu, i ≤ 100 → dg_zr n 128 f i V (fun V => dg_add tr 144 128 n c K V fun K V => dg_cp n 144 32 20 0 V fun V => k K V) = true → dg_Rp n K V (L) gc so le ri bu → wX_buildCount_80 post J x1 x2 x3 xc (nI n) (nI tr) fA fB gc bf f (nI i) so le ri va bu := by
  intro f
  induction f with
  | zero => intro i V bu hi h R; exact dg_no h
  | succ f ih =>
    intro i V bu hi h R
    refine dg_le n i h (fun _ h => ?_) (fun hin h => ?_)
    · refine dg_w_add ht (by omega) h R hc (fun K V gc so le ri bu h R => ?_)
      exact Exists.intro 20 (dg_w_c126 hn (fun V bu h R => H _ _ _ _ _ _ _ h R) 20 0 _ _ (by omega) h R)
    · refine dg_Wp (nI_add 128 i) h (dg_c0 R) dg_m0 fun V bu h R => ?_
      exact nm_r (nI_1 i) (ih (i + 1) _ _ (by omega) h (dg_d1 R))
theorem dg_w_c36 {post : SX → Prop} {ld : Nat} {k : Nat → Nat → Bool} (hn : n ≤ 6) (ht : tr ≤ 1) (hl : ld ≤ 1) (H : ∀ K V gc so le ri bu, k K V = true → dg_Rp n K V (L) gc so le ri bu → post (nI n, nI tr, fA, fB, gc, bf, so, le, ri, va, bu)) : ∀ m s K V xs x3 gc so le ri bu, x3 = nI m + (-1) → m ≤ 6 → dg_c36 tr (dg_one n) n ld m s K V k = true → dg_Rp n K V ((xs, s) :: L) gc so le ri bu → wX_buildCount_36 post (nI ld) (m + 1) xs x3 (nI n) (nI tr) fA fB gc bf so le ri va bu := by
  intro m
  induction m with
  | zero =>
    intro s K V xs x3 gc so le ri bu e hm h R
    refine br_t (by rw [e]; decide) ?_
    exact dg_w_cpo hn h R (fun V bu h R => H _ _ _ _ _ _ _ h (dg_d1 R))
  | succ m ih =>
    intro s K V xs x3 gc so le ri bu e hm h R
    rw [pk_m1] at e
    subst e
    refine br_f (nI_pos (by omega)) ?_
    refine dg_R (nI_add 0 m) h R fun a h R => ?_
    refine dg_G h R dg_m1 dg_m0 fun s' K rs gc so le ri h R => ?_
    refine dg_eq ld 0 h (fun _ h => ?_) (fun _ h => ?_)
    · refine dg_R (nI_add 0 m) h R fun c h R => nm_e ?_
      exact Exists.intro 20 (dg_w_c80 hn ht dg_m0 (fun K V gc so le ri bu h R => ih _ _ _ _ _ _ _ _ _ _ rfl (by omega) h (dg_s2 (dg_d1 R))) 20 0 _ _ (by omega) h R)
    · refine dg_N h R dg_m0 fun c K rc gc so le ri h R => ?_
      exact Exists.intro 20 (dg_w_c80 hn ht dg_m0 (fun K V gc so le ri bu h R => ih _ _ _ _ _ _ _ _ _ _ rfl (by omega) h (dg_s2 (dg_d1 R))) 20 0 _ _ (by omega) h R)
theorem dg_w_c2 {post : SX → Prop} {x1 : Int32} {k : Nat → Bool} (hn : n ≤ 6) (H : ∀ V bu, k V = true → dg_Rp n K V (L) gc so le ri bu → ∃ m : Nat, wX_buildCount_36 post x1 m 0 (nI n - 1) (nI n) (nI tr) fA fB gc bf so le ri va bu) : ∀ f i V bu, i ≤ 100 → dg_zr n 144 f i V k = true → dg_Rp n K V (L) gc so le ri bu → wX_buildCount_2 post x1 (nI n) (nI tr) fA fB gc bf f (nI i) so le ri va bu := by
  intro f
  induction f with
  | zero => intro i V bu hi h R; exact dg_no h
  | succ f ih =>
    intro i V bu hi h R
    refine dg_le n i h (fun _ h => nm_e (H _ _ h R)) (fun hin h => ?_)
    refine dg_Wp (nI_add 144 i) h (dg_c0 R) dg_m0 fun V bu h R => ?_
    exact nm_r (nI_1 i) (ih (i + 1) _ _ (by omega) h (dg_d1 R))
theorem dg_w_count {post : SX → Prop} {ld : Nat} {x0 : Int32} {k : Nat → Nat → Bool} (hn : n ≤ 6) (hn2 : 2 ≤ n) (ht : tr ≤ 1) (hl : ld ≤ 1) (h : dg_count tr (dg_one n) n ld K V k = true) (R : dg_Rp n K V (L) gc so le ri bu) (H : ∀ K V gc so le ri bu, k K V = true → dg_Rp n K V (L) gc so le ri bu → post (nI n, nI tr, fA, fB, gc, bf, so, le, ri, va, bu)) (e0 : x0 = nI ld := by rfl) : wpX_buildCount post (nI n, nI tr, fA, fB, gc, bf, so, le, ri, va, bu) x0 := by
  subst e0
  refine Exists.intro 20 (dg_w_c2 hn (fun V bu h R => ?_) 20 0 _ _ (by omega) h R)
  have e : nI n - 1 = nI n + (-1) := by rw [Int32.sub_eq_add_neg]
  exact Exists.intro (n + 1) (dg_w_c36 hn ht hl H n _ _ _ _ _ _ _ _ _ _ e hn h (dg_c0 R))
theorem dg_w_m16 {post : SX → Prop} {t : Nat} {xt : Int32} {k : Nat → Nat → Bool} (hn : n ≤ 6) (ht : tr ≤ 1) (hc : (xt, t) ∈ L) (H : ∀ K V gc so le ri bu, k K V = true → dg_Rp n K V (L) gc so le ri bu → post (nI n, nI tr, fA, fB, gc, bf, so, le, ri, va, bu)) : ∀ f i K V gc so le ri bu, i ≤ 100 → dg_m16 tr n t f i K V k = true → dg_Rp n K V (L) gc so le ri bu → wX_buildMagnitude_16 post xt f (nI i) (nI n) (nI tr) fA fB gc bf so le ri va bu := by
  intro f
  induction f with
  | zero => intro i K V gc so le ri bu hi h R; exact dg_no h
  | succ f ih =>
    intro i K V gc so le ri bu hi h R
    refine dg_le n i h (fun _ h => ?_) (fun hin h => ?_)
    · refine dg_w_add ht (by omega) h R hc (fun K V gc so le ri bu h R => ?_)
      exact dg_w_cpo hn h R (fun V bu h R => H _ _ _ _ _ _ _ h R)
    · refine dg_R (nI_add 0 i) h R fun a h R => ?_
      refine dg_G h R dg_m0 (dg_k1 hc) fun r K rr gc so le ri h R => ?_
      refine dg_W (nI_add 128 i) h R dg_m0 fun V bu h R => ?_
      refine dg_Wp (nI_add 144 i) h (dg_c0 R) dg_m0 fun V bu h R => ?_
      exact nm_r (nI_1 i) (ih (i + 1) _ _ _ _ _ _ _ (by omega) h (dg_d3 R))
theorem dg_w_mag {post : SX → Prop} {k : Nat → Nat → Bool} (hn : n ≤ 6) (hn2 : 2 ≤ n) (ht : tr ≤ 1) (h : dg_mag tr n K V k = true) (R : dg_Rp n K V (L) gc so le ri bu) (H : ∀ K V gc so le ri bu, k K V = true → dg_Rp n K V (L) gc so le ri bu → post (nI n, nI tr, fA, fB, gc, bf, so, le, ri, va, bu)) : wpX_buildMagnitude post (nI n, nI tr, fA, fB, gc, bf, so, le, ri, va, bu) := by
  have e : ((0 : Int32) + nI n) - 1 = nI ((0 + n) - 1) := by
    rw [show (0 : Int32) + nI n = nI (0 + n) from nI_add 0 n]
    exact pk_sub (b := 1) (by omega)
  refine dg_R e h R fun t h R => nm_e ?_
  exact Exists.intro 20 (dg_w_m16 hn ht dg_m0 (fun K V gc so le ri bu h R => H _ _ _ _ _ _ _ h (dg_d1 R)) 20 0 _ _ _ _ _ _ _ (by omega) h R)
theorem dg_w_b50 {post : SX → Prop} {op : Nat} {k : Nat → Nat → Bool} (hn : n ≤ 6) (hn2 : 2 ≤ n) (ht : tr ≤ 1) (ho : op ≤ 15) (H : ∀ K V gc so le ri bu, k K V = true → dg_Rp n K V (L) gc so le ri bu → post (nI n, nI tr, fA, fB, gc, bf, so, le, ri, va, bu)) : ∀ f i V bu, i ≤ 100 → dg_b50 tr (dg_one n) n op K k f i V = true → dg_Rp n K V (L) gc so le ri bu → wX_build_50 post (nI op) (nI n) (nI tr) fA fB gc bf f (nI i) so le ri va bu := by
  intro f
  induction f with
  | zero => intro i V bu hi h R; exact dg_no h
  | succ f ih =>
    intro i V bu hi h R
    refine dg_le n i h (fun _ h => ?_) (fun hin h => ?_)
    · refine dg_le op 1 h (fun _ h => ?_) (fun _ h => ?_)
      · unfold wX_build_115
        exact dg_w_sum hn ht ho h R (fun K V gc so le ri bu h R => H _ _ _ _ _ _ _ h R)
      refine dg_eq op 15 h (fun _ h => ?_) (fun _ h => ?_)
      · unfold wX_build_115
        exact dg_w_sum hn ht ho h R (fun K V gc so le ri bu h R => H _ _ _ _ _ _ _ h R)
      refine dg_lt 3 op h (fun _ h => ?_) (fun _ h => ?_)
      · refine dg_lt 5 op h (fun _ h => ?_) (fun _ h => ?_)
        · refine dg_lt 9 op h (fun _ h => ?_) (fun _ h => ?_)
          · refine dg_lt 11 op h (fun _ h => ?_) (fun _ h => ?_)
            · refine dg_lt 13 op h (fun _ h => ?_) (fun _ h => ?_)
              · exact dg_w_mag hn hn2 ht h R (fun K V gc so le ri bu h R => H _ _ _ _ _ _ _ h R)
              · refine dg_eq op 13 h (fun _ h => ?_) (fun _ h => ?_)
                · unfold wX_build_226
                  exact dg_w_count hn hn2 ht (by decide) h R (fun K V gc so le ri bu h R => H _ _ _ _ _ _ _ h R)
                · unfold wX_build_226
                  exact dg_w_count hn hn2 ht (by decide) h R (fun K V gc so le ri bu h R => H _ _ _ _ _ _ _ h R)
            · refine dg_eq op 11 h (fun _ h => ?_) (fun _ h => ?_)
              · unfold wX_build_202
                exact dg_w_pick hn hn2 ht (by decide) h R (fun K V gc so le ri bu h R => H _ _ _ _ _ _ _ h R)
              · unfold wX_build_202
                exact dg_w_pick hn hn2 ht (by decide) h R (fun K V gc so le ri bu h R => H _ _ _ _ _ _ _ h R)
          · exact dg_w_shift hn hn2 ho h R (fun K V gc so le ri bu h R => H _ _ _ _ _ _ _ h R)
        · refine dg_eq op 5 h (fun _ h => ?_) (fun _ h => ?_)
          · unfold wX_build_164
            exact dg_w_cmp hn hn2 ht (by decide) h R (fun K V gc so le ri bu h R => H _ _ _ _ _ _ _ h R)
          · unfold wX_build_164
            exact dg_w_cmp hn hn2 ht (by decide) h R (fun K V gc so le ri bu h R => H _ _ _ _ _ _ _ h R)
      · refine dg_eq op 3 h (fun _ h => ?_) (fun _ h => ?_)
        · unfold wX_build_142
          exact dg_w_prod hn ht h R (fun K V gc so le ri bu h R => H _ _ _ _ _ _ _ h R)
        · unfold wX_build_142
          exact dg_w_prod hn ht h R (fun K V gc so le ri bu h R => H _ _ _ _ _ _ _ h R)
    · have e1 : (2 : Int32) + nI i = nI (2 + i) := nI_add 2 i
      have e2 : ((2 : Int32) + nI n) + nI i = nI (2 + (n + i)) := by rw [show (2 : Int32) + nI n = nI (2 + n) from nI_add 2 n, nI_add, Nat.add_assoc]
      rw [e1, e2]
      refine dg_W (nI_add 0 i) h (dg_ip_w hn hn2 (by omega) R) dg_m0 fun V bu h R => ?_
      refine dg_W (nI_add 16 i) h (dg_ip_w hn hn2 (by omega) R) dg_m0 fun V bu h R => ?_
      refine dg_Wp (nI_add 48 i) h (dg_c0 R) dg_m0 fun V bu h R => ?_
      exact nm_r (nI_1 i) (ih (i + 1) _ _ (by omega) h (dg_d3 R))
theorem dg_w_b12 {post : SX → Prop} {x1 : Int32} (hn : n ≤ 6) (H : ∀ so, ∃ m : Nat, wX_build_50 post x1 (nI n) (nI tr) fA fB (nI (2 + 2 * n)) bf m 0 so le ri va bu) : ∀ d i so, i + d = 2 * n → wX_build_12 post x1 (nI n) (nI tr) fA fB bf (d + 1) (nI i) (nI (2 + i)) so le ri va bu := by
  intro d
  induction d with
  | zero =>
    intro i so hd
    have e : i = 2 * n := by omega
    subst e
    exact br_t (by rw [show (2 : Int32) * nI n = nI (2 * n) from pk_mul 2 n]; exact nI_le (Nat.le_refl _) (by omega)) (H so)
  | succ d ih =>
    intro i so hd
    refine br_f (by rw [show (2 : Int32) * nI n = nI (2 * n) from pk_mul 2 n]; exact nI_ge (by omega) (by omega)) ?_
    refine And.intro (vp_in_nI (by omega) (by decide)) (nm_e (nm_r (nI_1 (2 + i)) (nm_r (nI_1 i) ?_)))
    exact ih (i + 1) _ (by omega)
theorem dg_gv0 (i : Nat) : dg_gv 0 i = 0 := by
  apply Nat.eq_of_testBit_eq
  intro b
  rw [dg_gv_tb, Nat.zero_testBit, Nat.zero_testBit, Bool.and_false]
/-- build: after it the circuit stands -/
theorem dg_w_build {post : SX → Prop} {op : Nat} (hn : n ≤ 6) (hn2 : 2 ≤ n) (ht : tr ≤ 1) (ho : op ≤ 15) (hf : dg_full tr n op = true)
    (H : ∀ gc so le ri bu, dg_Circ n op gc so le ri bu → post (nI n, nI tr, fA, fB, gc, nI op, so, le, ri, va, bu)) : wpX_build post (nI n, nI tr, fA, fB, gc, bf, so, le, ri, va, bu) (nI op) := by
  have hf' : dg_b50 tr (dg_one n) n op (2 + 2 * n) (fun _ V => dg_cs n op V n) 20 0 0 = true := by
    unfold dg_full dg_build at hf
    rw [dg_fz_e] at hf
    exact hf
  refine Exists.intro (2 * n + 1) (dg_w_b12 (bf := nI op) hn (fun so => ?_) (2 * n) 0 so (by omega))
  refine Exists.intro 20 (dg_w_b50 (L := []) (gc := nI (2 + 2 * n)) (bf := nI op) hn hn2 ht ho (fun K V gc so le ri bu h R => ?_) 20 0 0 bu (by omega) hf' ?_)
  · obtain ⟨g, T, h1, h2, h3, h4, h5, h6, h7, h8⟩ := R
    refine H _ _ _ _ _ ⟨g, T, h1, h2, by omega, h5, h6, fun i hi => ?_⟩
    obtain ⟨t, e1, e2⟩ := dg_cs_e n h i hi
    obtain ⟨_, m, m1, m2, m3⟩ := h8 (48 + i) t e1
    exact ⟨m, m1, m2, fun e he => by rw [m3 e he, e2 e he]⟩
  · refine ⟨2 + 2 * n, fun j e => if j = 0 then false else if j = 1 then true else e.testBit (j - 2), rfl, Nat.le_refl _, Nat.le_refl _, by omega, ⟨fun e => rfl, fun e => rfl, fun j hj e => ?_⟩, (fun j h1 h2 => by omega), (fun x t m => nomatch m), fun i t e => ?_⟩
    · show (if 2 + j = 0 then false else if 2 + j = 1 then true else e.testBit (2 + j - 2)) = e.testBit j
      rw [if_neg (by omega), if_neg (by omega), Nat.add_sub_cancel_left]
    · rw [dg_gv0] at e
      omega
end
end
section
/-! compute: the circuit's values for one pair of operands -/
def dg_ib (b : Bool) : Int32 := cond b 1 0
theorem dg_nb : ∀ b, vp_nar .boolean (dg_ib b) = dg_ib b := fun b => by cases b <;> rfl
theorem dg_orT : ∀ i, i < 6 → ∀ r, r < 64 → (r.testBit i = true → nI (r % 2 ^ i) ||| ((1 : Int32) <<< (nI i &&& 31)) = nI (r % 2 ^ (i + 1))) ∧ (r.testBit i = false → r % 2 ^ (i + 1) = r % 2 ^ i) := by decide +kernel
theorem dg_br {A B : Prop} (a i : Nat) (ha : a < 2 ^ 31) (hi : i < 32) (f : a.testBit i = false → A) (g : a.testBit i = true → B) : (((nI a >>> (nI i &&& 31)) &&& 1) = 0 → A) ∧ (¬ ((nI a >>> (nI i &&& 31)) &&& 1) = 0 → B) := by
  rw [dg_bit ha hi]
  refine pk_eq (a / 2 ^ i % 2) 0 (fun e => f ?_) (fun e => g ?_)
  · rw [Nat.testBit_eq_decide_div_mod_eq]; exact decide_eq_false (by omega)
  · rw [Nat.testBit_eq_decide_div_mod_eq]; exact decide_eq_true (by omega)
theorem dg_ref_lt (n op a b : Nat) : dg_ref n op a b < 2 ^ n := Nat.mod_lt _ (Nat.two_pow_pos n)
section
variable {n tr : Nat} {fA bf gc : Int32} {so le ri va bu : Nat → Int32}
def dg_Iv (n a b i : Nat) (va : Nat → Int32) : Prop := va 0 = 0 ∧ va 1 = 1 ∧ ∀ j, j < i → va (2 + j) = dg_ib (a.testBit j) ∧ va (2 + n + j) = dg_ib (b.testBit j)
theorem dg_w57 {post : Int32 → SX → Prop} {J : Int32 → (Nat → Int32) → (Nat → Int32) → (Nat → Int32) → (Nat → Int32) → (Nat → Int32) → Prop} {b i : Nat} {x2 : Int32} (z : Bool) (hn : n ≤ 6) (hi : i < n) (hb : b < 2 ^ 31)
    (H : J (nI (i + 1)) so le ri (upd (upd va (2 + i) (dg_ib z)) (2 + n + i) (dg_ib (b.testBit i))) bu) : wX_compute_57 post J x2 (nI i) (dg_ib z) (2 + nI i) (nI n) (nI tr) fA (nI b) gc bf so le ri va bu := by
  have e1 : (2 : Int32) + nI i = nI (2 + i) := nI_add 2 i
  have e2 : ((2 : Int32) + nI n) + nI i = nI (2 + n + i) := by rw [show (2 : Int32) + nI n = nI (2 + n) from nI_add 2 n, nI_add]
  unfold wX_compute_57
  rw [e1, e2, nI_clamp (by omega), nI_clamp (by omega)]
  refine And.intro (vp_in_nI (by omega) (by decide)) (nm_r (e' := upd va (2 + i) (dg_ib z)) (by rw [dg_nb]) ?_)
  refine dg_br b i hb (by omega) (fun t => ?_) (fun t => ?_)
  · rw [t] at H
    exact And.intro (vp_in_nI (by omega) (by decide)) (nm_r (e' := upd (upd va (2 + i) (dg_ib z)) (2 + n + i) (dg_ib false)) rfl (nm_r (nI_1 i) H))
  · rw [t] at H
    exact And.intro (vp_in_nI (by omega) (by decide)) (nm_r (e' := upd (upd va (2 + i) (dg_ib z)) (2 + n + i) (dg_ib true)) rfl (nm_r (nI_1 i) H))
theorem dg_Iv_s {a b i : Nat} (hi : i < n) (I : dg_Iv n a b i va) : dg_Iv n a b (i + 1) (upd (upd va (2 + i) (dg_ib (a.testBit i))) (2 + n + i) (dg_ib (b.testBit i))) := by
  obtain ⟨h0, h1, h2⟩ := I
  refine ⟨?_, ?_, fun j hj => ?_⟩
  · rw [pk_un (by omega), pk_un (by omega), h0]
  · rw [pk_un (by omega), pk_un (by omega), h1]
  · by_cases hji : j = i
    · subst hji
      exact ⟨by rw [pk_un (by omega), pk_us], by rw [pk_us]⟩
    · have h3 := h2 j (by omega)
      exact ⟨by rw [pk_un (by omega), pk_un (by omega), h3.1], by rw [pk_un (by omega), pk_un (by omega), h3.2]⟩
theorem dg_w29 {post : Int32 → SX → Prop} {a b : Nat} (hn : n ≤ 6) (ha : a < 2 ^ 31) (hb : b < 2 ^ 31) (H : ∀ va, dg_Iv n a b n va → ∃ m : Nat, wX_compute_102 post (nI n) (nI tr) fA (nI b) gc bf m (nI (2 + 2 * n)) so le ri va bu) :
    ∀ d i va, i + d = n → dg_Iv n a b i va → wX_compute_29 post (nI a) (nI n) (nI tr) fA (nI b) gc bf (d + 1) (nI i) so le ri va bu := by
  intro d
  induction d with
  | zero =>
    intro i va hd I
    have e : i = n := by omega
    subst e
    have e1 : (2 : Int32) + 2 * nI i = nI (2 + 2 * i) := by rw [show (2 : Int32) * nI i = nI (2 * i) from pk_mul 2 i]; exact nI_add 2 _
    exact br_t (nI_le (Nat.le_refl _) (by omega)) (nm_r e1 (H va I))
  | succ d ih =>
    intro i va hd I
    refine br_f (nI_ge (by omega) (by omega)) ?_
    refine dg_br a i ha (by omega) (fun t => ?_) (fun t => ?_)
    · refine dg_w57 false hn (by omega) hb (ih (i + 1) _ (by omega) ?_)
      have h := dg_Iv_s (by omega) I
      rw [t] at h
      exact h
    · refine dg_w57 true hn (by omega) hb (ih (i + 1) _ (by omega) ?_)
      have h := dg_Iv_s (by omega) I
      rw [t] at h
      exact h
theorem dg_env {a b : Nat} (ha : a < 2 ^ n) (hb : b < 2 ^ n) : 2 ^ n * b + a < 4 ^ n ∧ (2 ^ n * b + a) % 2 ^ n = a ∧ (2 ^ n * b + a) / 2 ^ n = b := by
  refine ⟨?_, ?_, ?_⟩
  · have h1 : 2 ^ n * (b + 1) ≤ 2 ^ n * 2 ^ n := Nat.mul_le_mul_left _ hb
    have h2 : (4 : Nat) ^ n = 2 ^ n * 2 ^ n := by rw [← Nat.mul_pow]
    rw [Nat.mul_add, Nat.mul_one] at h1
    omega
  · rw [Nat.mul_add_mod, Nat.mod_eq_of_lt ha]
  · rw [Nat.mul_add_div (Nat.two_pow_pos n), Nat.div_eq_of_lt ha, Nat.add_zero]
theorem dg_Iv_T {a b : Nat} {T : Nat → Nat → Bool} (hB : dg_Bs n T) (ha : a < 2 ^ n) (I : dg_Iv n a b n va) : ∀ j, j < 2 + 2 * n → va j = dg_ib (T j (2 ^ n * b + a)) := by
  intro j hj
  obtain ⟨h0, h1, h2⟩ := I
  by_cases j0 : j = 0
  · subst j0; rw [hB.1, h0]; rfl
  by_cases j1 : j = 1
  · subst j1; rw [hB.2.1, h1]; rfl
  by_cases jn : j < 2 + n
  · obtain ⟨i, rfl⟩ : ∃ i, j = 2 + i := ⟨j - 2, by omega⟩
    rw [hB.2.2 i (by omega), (h2 i (by omega)).1, Nat.testBit_two_pow_mul_add _ ha, if_pos (by omega)]
  · obtain ⟨i, rfl⟩ : ∃ i, j = 2 + n + i := ⟨j - (2 + n), by omega⟩
    rw [Nat.add_assoc 2 n i, hB.2.2 (n + i) (by omega), ← Nat.add_assoc, (h2 i (by omega)).2, Nat.testBit_two_pow_mul_add _ ha, if_neg (by omega), Nat.add_sub_cancel_left]
theorem dg_w102 {post : Int32 → SX → Prop} {fB : Int32} {g e : Nat} {T : Nat → Nat → Bool} (hg : g ≤ 600) (hG : dg_Gs n g T so le ri)
    (H : ∀ va, (∀ j, j < g → va j = dg_ib (T j e)) → ∃ m : Nat, wX_compute_221 post (nI n) (nI tr) fA fB (nI g) bf so le ri va bu m 0 0) :
    ∀ d c va, c + d = g → 2 + 2 * n ≤ c → (∀ j, j < c → va j = dg_ib (T j e)) → wX_compute_102 post (nI n) (nI tr) fA fB (nI g) bf (d + 1) (nI c) so le ri va bu := by
  intro d
  induction d with
  | zero =>
    intro c va hd hc I
    have ec : c = g := by omega
    subst ec
    exact br_t (nI_le (Nat.le_refl _) (by omega)) (H va I)
  | succ d ih =>
    intro c va hd hc I
    refine br_f (nI_ge (by omega) (by omega)) ?_
    obtain ⟨w, l, r, a1, a2, a3, a4, a5, a6, a7, a8⟩ := hG c hc (by omega)
    have v : vp_in (nI c) 600 := vp_in_nI (by omega) (by decide)
    have ec : (nI c).toNatClampNeg = c := nI_clamp (by omega)
    have Kx : ∀ x : Bool, x = T c e → (vp_in (nI c) 600 ∧ ∀ y, y = upd va (nI c).toNatClampNeg (vp_nar .boolean (dg_ib x)) → ∀ z, z = nI c + 1 → wX_compute_102 post (nI n) (nI tr) fA fB (nI g) bf (d + 1) z so le ri y bu) := by
      intro x hx
      refine And.intro v (nm_r (e' := upd va c (dg_ib x)) (by rw [ec, dg_nb]) (nm_r (nI_1 c) (ih (c + 1) _ (by omega) (by omega) fun j hj => ?_)))
      by_cases hjc : j = c
      · subst hjc; rw [pk_us, hx]
      · rw [pk_un hjc]; exact I j (by omega)
    have hl : le (nI c).toNatClampNeg = nI l := by rw [ec]; exact a2
    have hr : ri (nI c).toNatClampNeg = nI r := by rw [ec]; exact a3
    have hs : so (nI c).toNatClampNeg = nI w := by rw [ec]; exact a1
    have x4 : va (le (nI c).toNatClampNeg).toNatClampNeg = dg_ib (T l e) := by rw [hl, nI_clamp (by omega)]; exact I l a4
    have x5 : va (ri (nI c).toNatClampNeg).toNatClampNeg = dg_ib (T r e) := by rw [hr, nI_clamp (by omega)]; exact I r a5
    have v4 : vp_in (le (nI c).toNatClampNeg) 600 := by rw [hl]; exact vp_in_nI (by omega) (by decide)
    have v5 : vp_in (ri (nI c).toNatClampNeg) 600 := by rw [hr]; exact vp_in_nI (by omega) (by decide)
    have hT := a8 e
    refine And.intro v (And.intro v4 (nm_r x4 (And.intro v (And.intro v5 (nm_r x5 (And.intro v ?_))))))
    generalize T l e = p at hT ⊢
    generalize T r e = q at hT ⊢
    have hcase : w = 1 ∨ w = 2 ∨ w = 3 := by omega
    rcases hcase with z | z | z
    · subst z
      refine br_t hs ?_
      cases p
      · exact br_t rfl (Kx false hT.symm)
      · cases q
        · exact br_f (by decide) (br_t rfl (Kx false hT.symm))
        · exact br_f (by decide) (br_f (by decide) (Kx true hT.symm))
    · subst z
      refine br_f (by rw [hs]; decide) (And.intro v (br_t hs ?_))
      cases p
      · cases q
        · exact br_t rfl (br_t rfl (Kx false hT.symm))
        · exact br_t rfl (br_f (by decide) (Kx true hT.symm))
      · exact br_f (by decide) (Kx true (by cases q <;> exact hT.symm))
    · subst z
      refine br_f (by rw [hs]; decide) (And.intro v (br_f (by rw [hs]; decide) ?_))
      cases p
      · cases q
        · exact br_t rfl (Kx false hT.symm)
        · exact br_f (by decide) (Kx true hT.symm)
      · cases q
        · exact br_f (by decide) (Kx true hT.symm)
        · exact br_t rfl (Kx false hT.symm)
theorem dg_w221 {post : Int32 → SX → Prop} {fB : Int32} {g e r : Nat} {T : Nat → Nat → Bool} (hn : n ≤ 6) (hg : g ≤ 600) (hr : r < 2 ^ n) (hv : ∀ j, j < g → va j = dg_ib (T j e))
    (hO : ∀ i, i < n → ∃ m : Nat, m < g ∧ bu (48 + i) = nI m ∧ T m e = r.testBit i) (H : post (nI r) (nI n, nI tr, fA, fB, gc, bf, so, le, ri, va, bu)) :
    ∀ d i, i + d = n → wX_compute_221 post (nI n) (nI tr) fA fB gc bf so le ri va bu (d + 1) (nI (r % 2 ^ i)) (nI i) := by
  have hr64 : r < 64 := Nat.lt_of_lt_of_le hr (dg_pw6 hn)
  intro d
  induction d with
  | zero =>
    intro i hd
    have ei : i = n := by omega
    subst ei
    rw [Nat.mod_eq_of_lt hr]
    exact br_t (nI_le (Nat.le_refl _) (by omega)) H
  | succ d ih =>
    intro i hd
    refine br_f (nI_ge (by omega) (by omega)) ?_
    obtain ⟨m, m1, m2, m3⟩ := hO i (by omega)
    have e1 : (48 : Int32) + nI i = nI (48 + i) := nI_add 48 i
    have e2 : bu ((48 : Int32) + nI i).toNatClampNeg = nI m := by rw [e1, nI_clamp (by omega)]; exact m2
    have e3 : va (bu ((48 : Int32) + nI i).toNatClampNeg).toNatClampNeg = dg_ib (r.testBit i) := by rw [e2, nI_clamp (by omega), hv m m1, m3]
    obtain ⟨o1, o2⟩ := dg_orT i (by omega) r hr64
    refine And.intro (by rw [e1]; exact vp_in_nI (by omega) (by decide)) (And.intro (by rw [e2]; exact vp_in_nI (by omega) (by decide)) ?_)
    cases hb : r.testBit i
    · rw [hb] at e3
      refine br_t e3 (nm_r (nI_1 i) ?_)
      have h := ih (i + 1) (by omega)
      rw [o2 hb] at h
      exact h
    · rw [hb] at e3
      refine br_f (by rw [e3]; decide) (nm_r (o1 hb) (nm_r (nI_1 i) ?_))
      exact ih (i + 1) (by omega)
theorem dg_w13 {post : Int32 → SX → Prop} {op a b : Nat} (hn : n ≤ 6) (ha : a < 2 ^ n) (hb : b < 2 ^ n) (C : dg_Circ n op gc so le ri bu)
    (H : ∀ va, post (nI (dg_ref n op a b)) (nI n, nI tr, fA, nI b, gc, bf, so, le, ri, va, bu)) : wX_compute_13 post (nI a) (nI n) (nI tr) fA (nI b) gc bf so le ri va bu := by
  obtain ⟨g, T, e1, h2, h3, hB, hG, hO⟩ := C
  subst e1
  obtain ⟨v1, v2, v3⟩ := dg_env ha hb
  have p64 := dg_pw6 hn
  refine nm_e (nm_e (Exists.intro (n + 1) (dg_w29 hn (by omega) (by omega) (fun va I => ?_) n 0 _ (by omega) ⟨?_, ?_, fun j hj => by omega⟩)))
  · refine Exists.intro (g - (2 + 2 * n) + 1) (dg_w102 h3 hG (fun va hv => ?_) (g - (2 + 2 * n)) (2 + 2 * n) va (by omega) (Nat.le_refl _) (dg_Iv_T hB ha I))
    have hO' : ∀ i, i < n → ∃ m : Nat, m < g ∧ bu (48 + i) = nI m ∧ T m (2 ^ n * b + a) = (dg_ref n op a b).testBit i := by
      intro i hi
      obtain ⟨m, m1, m2, m3⟩ := hO i hi
      refine ⟨m, m1, m2, ?_⟩
      rw [m3 _ v1, v2, v3]
    have Hh := dg_w221 hn h3 (dg_ref_lt n op a b) hv hO' (H va) n 0 (by omega)
    rw [Nat.pow_zero, Nat.mod_one] at Hh
    exact Exists.intro (n + 1) Hh
  · rw [pk_un (by decide), pk_us]; rfl
  · rw [pk_us]; rfl
theorem dg_w_comp {post : Int32 → SX → Prop} {op a b : Nat} (hn : n ≤ 6) (hn2 : 2 ≤ n) (ht : tr ≤ 1) (ho : op ≤ 15) (ha : a < 2 ^ n) (hb : b < 2 ^ n) (hf : bf = nI op → dg_Circ n op gc so le ri bu)
    (H : ∀ gc so le ri va bu, dg_Circ n op gc so le ri bu → post (nI (dg_ref n op a b)) (nI n, nI tr, fA, nI b, gc, nI op, so, le, ri, va, bu)) : wpX_compute post (nI n, nI tr, fA, nI b, gc, bf, so, le, ri, va, bu) (nI op) (nI a) := by
  by_cases h : bf = nI op
  · refine br_t h ?_
    have C := hf h
    subst h
    exact dg_w13 hn ha hb C fun va => H _ _ _ _ _ _ C
  · refine br_f h ?_
    exact dg_w_build hn hn2 ht ho (dg_all hn2 hn ht ho) fun gc so le ri bu C => dg_w13 hn ha hb C fun va => H _ _ _ _ _ _ C
end
end
section
/-! The reference's side -/
theorem dg_neg : ∀ n, n < 7 → 2 ≤ n → ∀ d, d < 2 ^ n → (0 - nI d) / nI (2 ^ n) = 0 := by decide +kernel
theorem dg_h2 : ¬ (2 : Int32) = 0 := by decide
theorem dg_it_lt {n op a : Nat} (hn : n ≤ 6) (hn2 : 2 ≤ n) (ha : a < 2 ^ n) : dg_sh (2 ^ n) op a < 2 ^ n := by
  unfold dg_sh
  have hc : n = 2 ∨ n = 3 ∨ n = 4 ∨ n = 5 ∨ n = 6 := by omega
  cases Nat.beq op 6 <;> cases Nat.beq op 7 <;> cases Nat.beq op 8 <;> cases Nat.ble (2 ^ n / 2) a <;> rcases hc with h | h | h | h | h <;> subst h <;> simp only [cond_true, cond_false] at ha ⊢ <;> omega
theorem dg_itn {n op a : Nat} (hn : n ≤ 6) (hn2 : 2 ≤ n) (ha : a < 2 ^ n) : ∀ m, dg_it (2 ^ n) op a m < 2 ^ n := by
  intro m
  induction m with
  | zero => exact ha
  | succ m ih => exact dg_it_lt hn hn2 ih
section
variable {n : Nat} {f1 f2 : Int32}
theorem dg_y44 {post : Int32 → Prop} {x : Nat} (hn : n ≤ 6) (hx : x < 2 ^ 30) (h : post (nI (x % 2 ^ n))) : wY_work_44 post (nI x) (nI n) f1 f2 := by
  have hS : (1 : Int32) <<< (nI n &&& 31) = nI (2 ^ n) := dg_shl1 (by omega)
  have h6 := dg_pw6 hn
  have h1 := Nat.two_pow_pos n
  unfold wY_work_44 wpY_size
  dsimp only
  rw [hS]
  generalize 2 ^ n = S at h h6 h1 ⊢
  have hm := Nat.mod_lt x h1
  rw [pk_rem (by omega) h1 (by omega), nI_add, pk_rem (by omega) h1 (by omega), Nat.add_mod_right, Nat.mod_mod]
  exact ⟨nI_ne0 h1 (by omega), nI_ne0 h1 (by omega), h⟩
theorem dg_y44n {post : Int32 → Prop} {a b : Nat} (hn : n ≤ 6) (hn2 : 2 ≤ n) (hb : b < 2 ^ n) (hab : a < b) (h : post (nI (a + 2 ^ n - b))) : wY_work_44 post (nI a - nI b) (nI n) f1 f2 := by
  have hS : (1 : Int32) <<< (nI n &&& 31) = nI (2 ^ n) := dg_shl1 (by omega)
  have h6 := dg_pw6 hn
  have h1 := Nat.two_pow_pos n
  have e1 : nI a - nI b = 0 - nI (b - a) := by
    have e : nI b = nI a + nI (b - a) := by rw [nI_add]; exact congrArg nI (by omega)
    rw [e]
    grind
  have e2 := dg_neg n (by omega) hn2 (b - a) (by omega)
  have e3 : (nI a - nI b) + nI (2 ^ n) = nI (a + 2 ^ n - b) := by
    rw [← pk_sub (by omega), ← nI_add]
    grind
  unfold wY_work_44 wpY_size
  dsimp only
  rw [hS, e1, e2, ← e1]
  have e4 : (nI a - nI b) - 0 * nI (2 ^ n) = nI a - nI b := by grind
  rw [e4, e3]
  generalize 2 ^ n = S at h h6 h1 hb ⊢
  rw [pk_rem (by omega) h1 (by omega), Nat.mod_eq_of_lt (by omega)]
  exact ⟨nI_ne0 h1 (by omega), nI_ne0 h1 (by omega), h⟩
theorem dg_ysg {post : Int32 → Prop} {p : Nat} (hn : n ≤ 6) (hp : p < 2 ^ n) (h1 : 2 ^ n / 2 ≤ p → post (nI p - nI (2 ^ n))) (h2 : p < 2 ^ n / 2 → post (nI p)) : wpY_signed post (nI n, f1, f2) (nI p) := by
  have hS : (1 : Int32) <<< (nI n &&& 31) = nI (2 ^ n) := dg_shl1 (by omega)
  have h6 := dg_pw6 hn
  unfold wpY_signed wpY_size
  dsimp only
  rw [hS]
  refine And.intro dg_h2 (pk_le (2 ^ n / 2) p h1 h2 (pk_div (d := 2) (by omega) (by decide) (by decide)) rfl)
/-- the comparison of two signed readings -/
theorem dg_ycmp {P Q : Prop} {a b : Nat} (hn : n ≤ 6) (ha : a < 2 ^ n) (hb : b < 2 ^ n) (hP : dg_sl (2 ^ n) a b = false → P) (hQ : dg_sl (2 ^ n) a b = true → Q) :
    wpY_signed (fun x => wpY_signed (fun y => ((y ≤ x → P) ∧ (¬ y ≤ x → Q))) (nI n, f1, f2) (nI b)) (nI n, f1, f2) (nI a) := by
  have h6 := dg_pw6 hn
  have ta : (nI a).toInt = (a : Int) := nI_toInt (by omega)
  have tb : (nI b).toInt = (b : Int) := nI_toInt (by omega)
  have sa : (nI a - nI (2 ^ n)).toInt = (a : Int) - (2 ^ n : Nat) := pk_sub_toInt (by omega) (by omega)
  have sb : (nI b - nI (2 ^ n)).toInt = (b : Int) - (2 ^ n : Nat) := pk_sub_toInt (by omega) (by omega)
  have bt : ∀ {u v : Nat}, u ≤ v → Nat.ble u v = true := fun h => Nat.ble_eq_true_of_le h
  have bf : ∀ {u v : Nat}, v < u → Nat.ble u v = false := fun {u v} h => by
    cases e : Nat.ble u v
    · rfl
    · have := dg_ble_t e; omega
  have key : ∀ x y : Int32, (dg_sl (2 ^ n) a b = true → x.toInt < y.toInt) → (dg_sl (2 ^ n) a b = false → y.toInt ≤ x.toInt) → ((y ≤ x → P) ∧ (¬ y ≤ x → Q)) := by
    intro x y h1 h2
    cases e : dg_sl (2 ^ n) a b
    · exact br_t (Int32.le_iff_toInt_le.mpr (h2 e)) (hP e)
    · exact br_f (fun z => by have h3 := h1 e; have h4 := Int32.le_iff_toInt_le.mp z; omega) (hQ e)
  have lt : ∀ {u v : Nat}, Nat.ble (u + 1) v = true → u < v := fun h => dg_ble_t h
  have ge : ∀ {u v : Nat}, Nat.ble (u + 1) v = false → v ≤ u := fun h => by have := dg_ble_f h; omega
  refine dg_ysg hn ha (fun ca => dg_ysg hn hb (fun cb => key _ _ ?_ ?_) (fun cb => key _ _ ?_ ?_)) (fun ca => dg_ysg hn hb (fun cb => key _ _ ?_ ?_) (fun cb => key _ _ ?_ ?_))
  · unfold dg_sl; rw [bt ca, bt cb, sa, sb]; intro h; have := lt h; omega
  · unfold dg_sl; rw [bt ca, bt cb, sa, sb]; intro h; have := ge h; omega
  · rw [sa, tb]; intro _; omega
  · unfold dg_sl; rw [bt ca, bf cb]; intro h; cases h
  · unfold dg_sl; rw [bf ca, bt cb]; intro h; cases h
  · rw [ta, sb]; intro _; omega
  · unfold dg_sl; rw [bf ca, bf cb, ta, tb]; intro h; have := lt h; omega
  · unfold dg_sl; rw [bf ca, bf cb, ta, tb]; intro h; have := ge h; omega
/-- the same, the other way round: 'not greater' first -/
theorem dg_ycmq {P Q : Prop} {a b : Nat} (hn : n ≤ 6) (ha : a < 2 ^ n) (hb : b < 2 ^ n) (hP : dg_sl (2 ^ n) b a = false → P) (hQ : dg_sl (2 ^ n) b a = true → Q) :
    wpY_signed (fun x => wpY_signed (fun y => ((x ≤ y → P) ∧ (¬ x ≤ y → Q))) (nI n, f1, f2) (nI b)) (nI n, f1, f2) (nI a) := by
  have h6 := dg_pw6 hn
  have ta : (nI a).toInt = (a : Int) := nI_toInt (by omega)
  have tb : (nI b).toInt = (b : Int) := nI_toInt (by omega)
  have sa : (nI a - nI (2 ^ n)).toInt = (a : Int) - (2 ^ n : Nat) := pk_sub_toInt (by omega) (by omega)
  have sb : (nI b - nI (2 ^ n)).toInt = (b : Int) - (2 ^ n : Nat) := pk_sub_toInt (by omega) (by omega)
  have bt : ∀ {u v : Nat}, u ≤ v → Nat.ble u v = true := fun h => Nat.ble_eq_true_of_le h
  have bf : ∀ {u v : Nat}, v < u → Nat.ble u v = false := fun {u v} h => by
    cases e : Nat.ble u v
    · rfl
    · have := dg_ble_t e; omega
  have key : ∀ x y : Int32, (dg_sl (2 ^ n) b a = true → y.toInt < x.toInt) → (dg_sl (2 ^ n) b a = false → x.toInt ≤ y.toInt) → ((x ≤ y → P) ∧ (¬ x ≤ y → Q)) := by
    intro x y h1 h2
    cases e : dg_sl (2 ^ n) b a
    · exact br_t (Int32.le_iff_toInt_le.mpr (h2 e)) (hP e)
    · exact br_f (fun z => by have h3 := h1 e; have h4 := Int32.le_iff_toInt_le.mp z; omega) (hQ e)
  have lt : ∀ {u v : Nat}, Nat.ble (u + 1) v = true → u < v := fun h => dg_ble_t h
  have ge : ∀ {u v : Nat}, Nat.ble (u + 1) v = false → v ≤ u := fun h => by have := dg_ble_f h; omega
  refine dg_ysg hn ha (fun ca => dg_ysg hn hb (fun cb => key _ _ ?_ ?_) (fun cb => key _ _ ?_ ?_)) (fun ca => dg_ysg hn hb (fun cb => key _ _ ?_ ?_) (fun cb => key _ _ ?_ ?_))
  · unfold dg_sl; rw [bt ca, bt cb, sa, sb]; intro h; have := lt h; omega
  · unfold dg_sl; rw [bt ca, bt cb, sa, sb]; intro h; have := ge h; omega
  · unfold dg_sl; rw [bt ca, bf cb]; intro h; cases h
  · rw [sa, tb]; intro _; omega
  · rw [ta, sb]; intro _; omega
  · unfold dg_sl; rw [bf ca, bt cb]; intro h; cases h
  · unfold dg_sl; rw [bf ca, bf cb, ta, tb]; intro h; have := lt h; omega
  · unfold dg_sl; rw [bf ca, bf cb, ta, tb]; intro h; have := ge h; omega
/-! shifts, one bit at a time -/
theorem dg_y28 {post : Int32 → Prop} {J : Int32 → Int32 → Prop} {op a c t : Nat} {x3 : Int32} (hn : n ≤ 6) (ho : 6 ≤ op) (ho2 : op ≤ 9) (ha : a < 2 ^ n) (ht : t = cond (Nat.ble (2 ^ n / 2) a) 1 0)
    (H : J (nI (dg_sh (2 ^ n) op a)) (nI (c + 1))) : wY_shifts_28 post J (nI op) x3 (nI a) (nI c) (nI t) (nI n) f1 f2 := by
  have hS : (1 : Int32) <<< (nI n &&& 31) = nI (2 ^ n) := dg_shl1 (by omega)
  have h6 := dg_pw6 hn
  have h1 := Nat.two_pow_pos n
  have nz : ¬ nI (2 ^ n) = 0 := nI_ne0 h1 (by omega)
  have eM : nI a * 2 - nI a * 2 / nI (2 ^ n) * nI (2 ^ n) = nI (a * 2 % 2 ^ n) := by
    rw [show nI a * 2 = nI (a * 2) from pk_mul a 2]
    exact pk_rem (by omega) h1 (by omega)
  have eD : nI a / 2 = nI (a / 2) := pk_div (d := 2) (by omega) (by decide) (by decide)
  have eS : nI (2 ^ n) / 2 = nI (2 ^ n / 2) := pk_div (d := 2) (by omega) (by decide) (by decide)
  unfold wY_shifts_28 wY_shifts_47 wY_shifts_59 wY_shifts_81 wpY_size
  dsimp only
  rw [hS]
  have hc : op = 6 ∨ op = 7 ∨ op = 8 ∨ op = 9 := by omega
  rcases hc with z | z | z | z
  · subst z
    refine br_t rfl (And.intro nz (nm_r eM ?_))
    exact br_f (by decide) (br_f (by decide) (br_f (by decide) (nm_r (nI_1 c) H)))
  · subst z
    refine br_f (by decide) (br_t rfl (And.intro dg_h2 (nm_r eD ?_)))
    exact br_f (by decide) (br_f (by decide) (nm_r (nI_1 c) H))
  · subst z
    refine br_f (by decide) (br_f (by decide) (br_t rfl (And.intro dg_h2 (And.intro dg_h2 (nm_r (e' := nI (dg_sh (2 ^ n) 8 a)) ?_ ?_)))))
    · rw [eD, eS, pk_mul, nI_add, ht]
      show nI (a / 2 + cond (Nat.ble (2 ^ n / 2) a) 1 0 * (2 ^ n / 2)) = nI (a / 2 + cond (Nat.ble (2 ^ n / 2) a) (2 ^ n / 2) 0)
      cases Nat.ble (2 ^ n / 2) a
      · rw [cond_false, cond_false, Nat.zero_mul]
      · rw [cond_true, cond_true, Nat.one_mul]
    · exact br_f (by decide) (nm_r (nI_1 c) H)
  · subst z
    refine br_f (by decide) (br_f (by decide) (br_f (by decide) (br_t rfl (And.intro nz (nm_r (e' := nI (dg_sh (2 ^ n) 9 a)) ?_ (nm_r (nI_1 c) H))))))
    rw [eM, nI_add, ht]
    rfl
theorem dg_y6 {post : Int32 → Prop} {op a m : Nat} (hn : n ≤ 6) (hn2 : 2 ≤ n) (ho : 6 ≤ op) (ho2 : op ≤ 9) (hm : m < 100) (ha : a < 2 ^ n) (H : post (nI (dg_it (2 ^ n) op a m))) :
    ∀ d c, c + d = m → wY_shifts_6 post (nI op) (nI m) (nI n) f1 f2 (d + 1) (nI (dg_it (2 ^ n) op a c)) (nI c) := by
  have hS : (1 : Int32) <<< (nI n &&& 31) = nI (2 ^ n) := dg_shl1 (by omega)
  have h6 := dg_pw6 hn
  have eS : nI (2 ^ n) / 2 = nI (2 ^ n / 2) := pk_div (d := 2) (by omega) (by decide) (by decide)
  intro d
  induction d with
  | zero =>
    intro c hd
    have e : c = m := by omega
    subst e
    exact br_t (nI_le (Nat.le_refl _) (by omega)) H
  | succ d ih =>
    intro c hd
    refine br_f (nI_ge (by omega) (by omega)) ?_
    have hl := dg_itn (op := op) hn hn2 ha c
    unfold wpY_size
    dsimp only
    rw [hS]
    refine And.intro dg_h2 (pk_lt (dg_it (2 ^ n) op a c) (2 ^ n / 2) (fun h => ?_) (fun h => ?_) rfl eS)
    · refine dg_y28 (t := 0) hn ho ho2 hl ?_ (ih (c + 1) (by omega))
      cases e : Nat.ble (2 ^ n / 2) (dg_it (2 ^ n) op a c)
      · rfl
      · have := dg_ble_t e; omega
    · refine dg_y28 (t := 1) hn ho ho2 hl ?_ (ih (c + 1) (by omega))
      rw [Nat.ble_eq_true_of_le h]; rfl
/-! counts -/
theorem dg_on_le (a : Nat) : ∀ i, dg_on a i ≤ i := by
  intro i
  induction i with
  | zero => exact Nat.le_refl _
  | succ i ih =>
    have h : dg_on a (i + 1) = dg_on a i + dg_bt a i := rfl
    have h2 : dg_bt a i < 2 := Nat.mod_lt _ (by decide)
    omega
theorem dg_ze_s (a i : Nat) : dg_ze a (i + 1) = cond (Nat.beq (dg_bt a i) 1) 0 (dg_ze a i + 1) := rfl
theorem dg_ze_le (a : Nat) : ∀ i, dg_ze a i ≤ i := by
  intro i
  induction i with
  | zero => exact Nat.le_refl _
  | succ i ih =>
    rw [dg_ze_s]
    cases Nat.beq (dg_bt a i) 1
    · show dg_ze a i + 1 ≤ i + 1; omega
    · exact Nat.zero_le _
theorem dg_y89 {post : Int32 → Prop} {a op : Nat} (hn : n ≤ 6) (ha : a < 2 ^ n) (H : (nI op = 12 → post (nI (dg_on a n))) ∧ (¬ nI op = 12 → post (nI (dg_ze a n)))) :
    ∀ d i, i + d = n → wY_others_89 post (nI op) (nI a) (nI n) f1 f2 (d + 1) (nI (dg_on a i)) (nI (dg_ze a i)) (nI i) := by
  have h6 := dg_pw6 hn
  intro d
  induction d with
  | zero =>
    intro i hd
    have e : i = n := by omega
    subst e
    exact br_t (nI_le (Nat.le_refl _) (by omega)) H
  | succ d ih =>
    intro i hd
    refine br_f (nI_ge (by omega) (by omega)) ?_
    have hp := Nat.two_pow_pos i
    have hp6 := dg_pw6 (m := i) (by omega)
    have e1 : (1 : Int32) <<< (nI i &&& 31) = nI (2 ^ i) := dg_shl1 (by omega)
    have e2 : nI a / nI (2 ^ i) = nI (a / 2 ^ i) := pk_div (by omega) hp (by omega)
    have hq : a / 2 ^ i ≤ a := Nat.div_le_self _ _
    have e3 : nI (a / 2 ^ i) - nI (a / 2 ^ i) / 2 * 2 = nI (dg_bt a i) := pk_rem (d := 2) (by omega) (by decide) (by decide)
    have hb : dg_bt a i < 2 := Nat.mod_lt _ (by decide)
    have h := ih (i + 1) (by omega)
    have eo : dg_on a (i + 1) = dg_on a i + dg_bt a i := rfl
    rw [eo, dg_ze_s] at h
    rw [e1, e2, e3]
    refine And.intro (nI_ne0 hp (by omega)) (And.intro dg_h2 (pk_eq (dg_bt a i) 1 (fun z => ?_) (fun z => ?_)))
    · rw [z] at h
      exact br_f (by decide) (nm_r (nI_1 _) (br_f (by decide) (nm_r (nI_1 i) h)))
    · have z0 : dg_bt a i = 0 := by omega
      rw [z0] at h
      exact br_t rfl (br_t rfl (nm_r (nI_1 _) (nm_r (nI_1 i) h)))
/-! work -/
theorem dg_Y {post : Int32 → Prop} {op a b : Nat} (hn : n ≤ 6) (hn2 : 2 ≤ n) (ho : op ≤ 15) (ha : a < 2 ^ n) (hb : b < 2 ^ n) (H : post (nI (dg_ref n op a b))) : wpY_work post (nI n, f1, f2) (nI op) (nI a) (nI b) := by
  have hS : (1 : Int32) <<< (nI n &&& 31) = nI (2 ^ n) := dg_shl1 (by omega)
  have h6 := dg_pw6 hn
  have h1 := Nat.two_pow_pos n
  have hab : a * b ≤ 64 * 64 := Nat.mul_le_mul (by omega) (by omega)
  have M : ∀ x, x < 2 ^ 30 → dg_ref n op a b = x % 2 ^ n → wY_work_44 post (nI x) (nI n) f1 f2 := fun x hx e => dg_y44 hn hx (e ▸ H)
  have hc : op = 0 ∨ op = 1 ∨ op = 2 ∨ op = 3 ∨ op = 4 ∨ op = 5 ∨ (6 ≤ op ∧ op ≤ 9) ∨ op = 10 ∨ op = 11 ∨ op = 12 ∨ op = 13 ∨ op = 14 ∨ op = 15 := by omega
  rcases hc with z | z | z | z | z | z | z | z | z | z | z | z | z
  · subst z
    exact br_f (by decide) (br_t rfl (nI_add a b ▸ M (a + b) (by omega) rfl))
  · subst z
    refine br_f (by decide) (br_f (by decide) (br_t rfl ?_))
    by_cases h : b ≤ a
    · rw [pk_sub h]
      refine M (a - b) (by omega) ?_
      show (a + 2 ^ n - b) % 2 ^ n = (a - b) % 2 ^ n
      rw [show a + 2 ^ n - b = (a - b) + 2 ^ n by omega, Nat.add_mod_right]
    · refine dg_y44n hn hn2 hb (by omega) ?_
      have e : dg_ref n 1 a b = a + 2 ^ n - b := by
        show (a + 2 ^ n - b) % 2 ^ n = _
        exact Nat.mod_eq_of_lt (by omega)
      rw [← e]; exact H
  · subst z
    exact br_f (by decide) (br_f (by decide) (br_f (by decide) (br_t rfl (pk_mul a b ▸ M (a * b) (by omega) rfl))))
  · subst z
    refine br_f (by decide) (br_f (by decide) (br_f (by decide) (br_f (by decide) (br_t rfl ?_))))
    unfold wpY_size
    dsimp only
    rw [hS, pk_mul, pk_div (by omega) h1 (by omega)]
    have hd : a * b / 2 ^ n ≤ a * b := Nat.div_le_self _ _
    exact And.intro (nI_ne0 h1 (by omega)) (M (a * b / 2 ^ n) (by omega) rfl)
  · subst z
    refine br_f (by decide) (br_f (by decide) (br_f (by decide) (br_f (by decide) (br_f (by decide) (br_t rfl ?_)))))
    refine pk_le b a (fun h => ?_) (fun h => ?_)
    · refine M 0 (by decide) ?_
      have e : Nat.ble (a + 1) b = false := by
        cases e : Nat.ble (a + 1) b
        · rfl
        · have := dg_ble_t e; omega
      show (cond (Nat.ble (a + 1) b) 1 0) % 2 ^ n = 0 % 2 ^ n
      rw [e]; rfl
    · refine M 1 (by decide) ?_
      show (cond (Nat.ble (a + 1) b) 1 0) % 2 ^ n = 1 % 2 ^ n
      rw [Nat.ble_eq_true_of_le h]; rfl
  · subst z
    refine br_f (by decide) (br_f (by decide) (br_f (by decide) (br_f (by decide) (br_f (by decide) (br_f (by decide) ?_)))))
    refine dg_ycmp hn ha hb (fun h => M 0 (by decide) ?_) (fun h => M 1 (by decide) ?_)
    · show (cond (dg_sl (2 ^ n) a b) 1 0) % 2 ^ n = 0 % 2 ^ n
      rw [h]; rfl
    · show (cond (dg_sl (2 ^ n) a b) 1 0) % 2 ^ n = 1 % 2 ^ n
      rw [h]; rfl
  · obtain ⟨z1, z2⟩ := z
    refine br_t (nI_le (a := 6) z1 (by omega)) (br_f (nI_ge (b := 10) (by omega) (by decide)) (And.intro (nI_ne0 (by omega) (by omega)) ?_))
    rw [pk_rem (by omega) (by omega) (by omega)]
    have hm : b % n < n := Nat.mod_lt _ (by omega)
    have hi := dg_itn (op := op) hn hn2 ha (b % n)
    refine Exists.intro (b % n + 1) (dg_y6 hn hn2 z1 z2 (by omega) ha (M _ (by omega) ?_) (b % n) 0 (by omega))
    have hc : op = 6 ∨ op = 7 ∨ op = 8 ∨ op = 9 := by omega
    rcases hc with z | z | z | z <;> subst z <;> rfl
  · subst z
    refine br_t (by decide) (br_t (by decide) (br_t rfl (pk_le b a (fun h => ?_) (fun h => ?_))))
    · refine M b (by omega) ?_
      show (cond (Nat.ble b a) b a) % 2 ^ n = b % 2 ^ n
      rw [Nat.ble_eq_true_of_le h]; rfl
    · refine M a (by omega) ?_
      have e : Nat.ble b a = false := by
        cases e : Nat.ble b a
        · rfl
        · have := dg_ble_t e; omega
      show (cond (Nat.ble b a) b a) % 2 ^ n = a % 2 ^ n
      rw [e]; rfl
  · subst z
    refine br_t (by decide) (br_t (by decide) (br_f (by decide) (br_t rfl ?_)))
    exact dg_ycmq hn ha hb (fun h => M b (by omega) (by
      show (cond (dg_sl (2 ^ n) b a) a b) % 2 ^ n = b % 2 ^ n
      rw [h]; rfl)) (fun h => M a (by omega) (by
      show (cond (dg_sl (2 ^ n) b a) a b) % 2 ^ n = a % 2 ^ n
      rw [h]; rfl))
  · subst z
    refine br_t (by decide) (br_t (by decide) (br_f (by decide) (br_f (by decide) (br_f (by decide) (br_f (by decide) ?_)))))
    have h3 := dg_on_le a n
    exact Exists.intro (n + 1) (dg_y89 hn ha (br_t rfl (M (dg_on a n) (by omega) rfl)) n 0 (by omega))
  · subst z
    refine br_t (by decide) (br_t (by decide) (br_f (by decide) (br_f (by decide) (br_f (by decide) (br_f (by decide) ?_)))))
    have h3 := dg_ze_le a n
    exact Exists.intro (n + 1) (dg_y89 hn ha (br_f (by decide) (M (dg_ze a n) (by omega) rfl)) n 0 (by omega))
  · subst z
    refine br_t (by decide) (br_t (by decide) (br_f (by decide) (br_f (by decide) (br_t rfl ?_))))
    have bt : 2 ^ n / 2 ≤ a → Nat.ble (2 ^ n / 2) a = true := fun h => Nat.ble_eq_true_of_le h
    refine dg_ysg hn ha (fun h => ?_) (fun h => ?_)
    · refine br_f ?_ (dg_ysg hn ha (fun _ => ?_) (fun h' => by omega))
      · intro z
        have z2 := Int32.le_iff_toInt_le.mp z
        rw [pk_sub_toInt (by omega) (by omega), show (0 : Int32).toInt = 0 from by decide] at z2
        omega
      · have e : 0 - (nI a - nI (2 ^ n)) = nI (2 ^ n - a) := by
          rw [← pk_sub (by omega)]
          grind
        rw [e]
        refine M (2 ^ n - a) (by omega) ?_
        show (cond (Nat.ble (2 ^ n / 2) a) (2 ^ n - a) a) % 2 ^ n = _
        rw [bt h]; rfl
    · refine br_t (nI_pos' (by omega)) (M a (by omega) ?_)
      have e : Nat.ble (2 ^ n / 2) a = false := by
        cases e : Nat.ble (2 ^ n / 2) a
        · rfl
        · have := dg_ble_t e; omega
      show (cond (Nat.ble (2 ^ n / 2) a) (2 ^ n - a) a) % 2 ^ n = _
      rw [e]; rfl
  · subst z
    refine br_t (by decide) (br_t (by decide) (br_f (by decide) (br_f (by decide) (br_f (by decide) (br_t rfl (And.intro dg_h2 ?_))))))
    rw [nI_add, show nI (a + b) / 2 = nI ((a + b) / 2) from pk_div (d := 2) (by omega) (by decide) (by decide)]
    exact M ((a + b) / 2) (by omega) rfl
end
end
section
/-! alike: one count for both sides -/
noncomputable def dg_al (n op a b : Nat) : Nat → Nat := fun m => Nat.rec 0 (fun x c => c + (if dg_ref n op x b = dg_ref n op a b then 1 else 0)) m
theorem dg_al_t {n op a b x : Nat} (h : dg_ref n op x b = dg_ref n op a b) : dg_al n op a b (x + 1) = dg_al n op a b x + 1 := by
  show dg_al n op a b x + (if dg_ref n op x b = dg_ref n op a b then 1 else 0) = _
  rw [if_pos h]
theorem dg_al_f {n op a b x : Nat} (h : ¬ dg_ref n op x b = dg_ref n op a b) : dg_al n op a b (x + 1) = dg_al n op a b x := by
  show dg_al n op a b x + (if dg_ref n op x b = dg_ref n op a b then 1 else 0) = _
  rw [if_neg h, Nat.add_zero]
section
variable {n tr : Nat} {fA bf gc : Int32} {so le ri va bu : Nat → Int32}
theorem dg_w27 {post : Int32 → SX → Prop} {op a b : Nat} (hn : n ≤ 6) (hn2 : 2 ≤ n) (ht : tr ≤ 1) (ho : op ≤ 15) (hb : b < 2 ^ n)
    (H : ∀ gc so le ri va bu, dg_Circ n op gc so le ri bu → post (nI (dg_al n op a b (2 ^ n))) (nI n, nI tr, fA, nI b, gc, nI op, so, le, ri, va, bu)) :
    ∀ d x gc so le ri va bu, x + d = 2 ^ n → dg_Circ n op gc so le ri bu → wX_alike_27 post (nI op) (nI (dg_ref n op a b)) (d + 1) (nI (dg_al n op a b x)) (nI x) (nI n) (nI tr) fA (nI b) gc (nI op) so le ri va bu := by
  have hS : (1 : Int32) <<< (nI n &&& 31) = nI (2 ^ n) := dg_shl1 (by omega)
  have h6 := dg_pw6 hn
  intro d
  induction d with
  | zero =>
    intro x gc so le ri va bu hd C
    have e : x = 2 ^ n := by omega
    subst e
    exact br_t (by rw [hS]; exact nI_le (Nat.le_refl _) (by omega)) (H _ _ _ _ _ _ C)
  | succ d ih =>
    intro x gc so le ri va bu hd C
    refine br_f (by rw [hS]; exact nI_ge (by omega) (by omega)) ?_
    refine dg_w_comp hn hn2 ht ho (by omega) hb (fun _ => C) fun gc so le ri va bu C => ?_
    have r1 := dg_ref_lt n op x b
    have r2 := dg_ref_lt n op a b
    refine pk_eq (dg_ref n op x b) (dg_ref n op a b) (fun h => ?_) (fun h => ?_)
    · have i := ih (x + 1) gc so le ri va bu (by omega) C
      rw [dg_al_t h] at i
      exact nm_r (nI_1 _) (nm_r (nI_1 x) i)
    · have i := ih (x + 1) gc so le ri va bu (by omega) C
      rw [dg_al_f h] at i
      exact nm_r (nI_1 x) i
theorem dg_y14 {post : Int32 → Prop} {op a b : Nat} (hn : n ≤ 6) (hn2 : 2 ≤ n) (ho : op ≤ 15) (ha : a < 2 ^ n) (hb : b < 2 ^ n) (H : post (nI (dg_al n op a b (2 ^ n)))) :
    ∀ d x, x + d = 2 ^ n → wY_alike_14 post (nI op) (nI n) (nI a) (nI b) (d + 1) (nI (dg_al n op a b x)) (nI x) := by
  have hS : (1 : Int32) <<< (nI n &&& 31) = nI (2 ^ n) := dg_shl1 (by omega)
  have h6 := dg_pw6 hn
  intro d
  induction d with
  | zero =>
    intro x hd
    have e : x = 2 ^ n := by omega
    subst e
    unfold wY_alike_14 wpY_size
    dsimp only
    exact br_t (by rw [hS]; exact nI_le (Nat.le_refl _) (by omega)) H
  | succ d ih =>
    intro x hd
    unfold wY_alike_14
    unfold wpY_size
    dsimp only
    refine br_f (by rw [hS]; exact nI_ge (by omega) (by omega)) ?_
    refine dg_Y hn hn2 ho (by omega) hb (dg_Y hn hn2 ho ha hb ?_)
    have r1 := dg_ref_lt n op x b
    have r2 := dg_ref_lt n op a b
    refine pk_eq (dg_ref n op x b) (dg_ref n op a b) (fun h => ?_) (fun h => ?_)
    · have i := ih (x + 1) (by omega)
      rw [dg_al_t h] at i
      exact nm_r (nI_1 _) (nm_r (nI_1 x) i)
    · have i := ih (x + 1) (by omega)
      rw [dg_al_f h] at i
      exact nm_r (nI_1 x) i
end
/-! the guards -/
section
variable {n : Nat} {f1 f2 : Int32}
theorem dg_num0 {post : Int32 → Prop} {x : Int32} (hn : n ≤ 6) (hx : x < 0 ∨ nI (2 ^ n) ≤ x) (h : post 0) : wpY_isNumber post (nI n, f1, f2) x := by
  have hS : (1 : Int32) <<< (nI n &&& 31) = nI (2 ^ n) := dg_shl1 (by omega)
  refine br_c (fun _ => h) (fun h0 => ?_)
  unfold wpY_size
  dsimp only
  rw [hS]
  rcases hx with z | z
  · exact absurd z h0
  · exact br_t z h
theorem dg_num1 {post : Int32 → Prop} {j : Nat} (hn : n ≤ 6) (hj : j < 2 ^ n) (h : post 1) : wpY_isNumber post (nI n, f1, f2) (nI j) := by
  have hS : (1 : Int32) <<< (nI n &&& 31) = nI (2 ^ n) := dg_shl1 (by omega)
  have h6 := dg_pw6 hn
  refine br_f (nI_pos (by omega)) ?_
  unfold wpY_size
  dsimp only
  rw [hS]
  exact br_f (nI_ge hj (by omega)) h
theorem dg_op0 {post : Int32 → Prop} {x : Int32} (hx : x < 0 ∨ nI 16 ≤ x) (h : post 0) : wpY_isOp post (nI n, f1, f2) x := by
  refine br_c (fun _ => h) (fun h0 => ?_)
  rcases hx with z | z
  · exact absurd z h0
  · refine br_t ?_ h
    have z2 := Int32.le_iff_toInt_le.mp z
    rw [nI_toInt (by decide)] at z2
    exact Int32.lt_iff_toInt_lt.mpr (by rw [show (15 : Int32).toInt = 15 from by decide]; omega)
theorem dg_op1 {post : Int32 → Prop} {j : Nat} (hj : j < 16) (h : post 1) : wpY_isOp post (nI n, f1, f2) (nI j) :=
  br_f (nI_pos (by omega)) (br_f (nI_nlt (b := j) (a := 15) (by omega) (by decide)) h)
theorem dg_hi {x : Int32} (z : nI 16 ≤ x) : ¬ x < 0 ∧ ¬ x ≤ 15 ∧ 15 < x := by
  have z2 := Int32.le_iff_toInt_le.mp z
  rw [nI_toInt (by decide)] at z2
  have e0 : (0 : Int32).toInt = 0 := by decide
  have e15 : (15 : Int32).toInt = 15 := by decide
  refine ⟨fun h => ?_, fun h => ?_, Int32.lt_iff_toInt_lt.mpr (by rw [e15]; omega)⟩
  · have := Int32.lt_iff_toInt_lt.mp h; omega
  · have := Int32.le_iff_toInt_le.mp h; omega
end
/-! the reference's calls, at their own names -/
section
variable {n : Nat} {f1 f2 : Int32}
theorem dg_Yopr0 {post : Int32 → SY → Prop} {x y : Int32} (hn : n ≤ 6) (hx : x < 0 ∨ nI (2 ^ n) ≤ x) (h : post 0 (nI n, f1, f2)) : wpY_operands post (nI n, f1, f2) x y := by
  unfold wpY_operands
  dsimp only
  exact dg_num0 hn hx (br_t rfl h)
theorem dg_Yopr1 {post : Int32 → SY → Prop} {i : Nat} {y : Int32} (hn : n ≤ 6) (hi : i < 2 ^ n) (hy : y < 0 ∨ nI (2 ^ n) ≤ y) (h : post 0 (nI n, f1, f2)) : wpY_operands post (nI n, f1, f2) (nI i) y := by
  unfold wpY_operands
  dsimp only
  exact dg_num1 hn hi (br_f (by decide) (dg_num0 hn hy (br_t rfl h)))
theorem dg_Yopr2 {post : Int32 → SY → Prop} {i j : Nat} (hn : n ≤ 6) (hi : i < 2 ^ n) (hj : j < 2 ^ n) (h : post 1 (nI n, nI i, nI j)) : wpY_operands post (nI n, f1, f2) (nI i) (nI j) := by
  unfold wpY_operands
  dsimp only
  exact dg_num1 hn hi (br_f (by decide) (dg_num1 hn hj (br_f (by decide) h)))
theorem dg_Yres0 {post : Int32 → Prop} {x : Int32} (hx : x < 0 ∨ nI 16 ≤ x) (h : post (-1)) : wpY_result post (nI n, f1, f2) x := by
  unfold wpY_result
  dsimp only
  exact dg_op0 hx (br_t rfl h)
theorem dg_Yres1 {post : Int32 → Prop} {op a b : Nat} (hn : n ≤ 6) (hn2 : 2 ≤ n) (ho : op < 16) (ha : a < 2 ^ n) (hb : b < 2 ^ n) (h : post (nI (dg_ref n op a b))) : wpY_result post (nI n, nI a, nI b) (nI op) := by
  unfold wpY_result
  dsimp only
  exact dg_op1 ho (br_f (by decide) (dg_Y hn hn2 (by omega) ha hb h))
theorem dg_Yfeed0 {post : Int32 → SY → Prop} {x : Int32} (hx : x < 0 ∨ nI 16 ≤ x) (h : post (-1) (nI n, f1, f2)) : wpY_feed post (nI n, f1, f2) x := by
  unfold wpY_feed
  dsimp only
  exact dg_op0 hx (br_t rfl h)
theorem dg_Yfeed1 {post : Int32 → SY → Prop} {op a b : Nat} (hn : n ≤ 6) (hn2 : 2 ≤ n) (ho : op < 16) (ha : a < 2 ^ n) (hb : b < 2 ^ n) (h : post (nI (dg_ref n op a b)) (nI n, nI (dg_ref n op a b), nI b)) : wpY_feed post (nI n, nI a, nI b) (nI op) := by
  unfold wpY_feed
  dsimp only
  exact dg_op1 ho (br_f (by decide) (dg_Y hn hn2 (by omega) ha hb h))
theorem dg_Ybit0 {post : Int32 → Prop} {x y : Int32} (hx : x < 0 ∨ nI 16 ≤ x) (h : post (-1)) : wpY_bit post (nI n, f1, f2) x y := by
  unfold wpY_bit
  dsimp only
  exact dg_op0 hx (br_t rfl h)
theorem dg_Ybit1 {post : Int32 → Prop} {op : Nat} {y : Int32} (ho : op < 16) (hy : ¬ y < nI n) (h : post (-1)) : wpY_bit post (nI n, f1, f2) (nI op) y := by
  unfold wpY_bit
  dsimp only
  exact dg_op1 ho (br_f (by decide) (br_c (fun _ => h) (fun _ => br_f hy h)))
theorem dg_Ybitn {post : Int32 → Prop} {op : Nat} {y : Int32} (ho : op < 16) (hy : y < 0) (h : post (-1)) : wpY_bit post (nI n, f1, f2) (nI op) y := by
  unfold wpY_bit
  dsimp only
  exact dg_op1 ho (br_f (by decide) (br_t hy h))
theorem dg_Ybit2 {post : Int32 → Prop} {op a b i : Nat} (hn : n ≤ 6) (hn2 : 2 ≤ n) (ho : op < 16) (ha : a < 2 ^ n) (hb : b < 2 ^ n) (hi : i < n) (h : post (nI (dg_ref n op a b / 2 ^ i % 2))) : wpY_bit post (nI n, nI a, nI b) (nI op) (nI i) := by
  have h6 := dg_pw6 hn
  have hr := dg_ref_lt n op a b
  have hp := Nat.two_pow_pos i
  have hp6 := dg_pw6 (m := i) (by omega)
  have hq : dg_ref n op a b / 2 ^ i ≤ dg_ref n op a b := Nat.div_le_self _ _
  have e1 : (1 : Int32) <<< (nI i &&& 31) = nI (2 ^ i) := dg_shl1 (by omega)
  have e2 : nI (dg_ref n op a b) / nI (2 ^ i) = nI (dg_ref n op a b / 2 ^ i) := pk_div (by omega) hp (by omega)
  have e3 : nI (dg_ref n op a b / 2 ^ i) - nI (dg_ref n op a b / 2 ^ i) / 2 * 2 = nI (dg_ref n op a b / 2 ^ i % 2) := pk_rem (d := 2) (by omega) (by decide) (by decide)
  unfold wpY_bit
  dsimp only
  refine dg_op1 ho (br_f (by decide) (br_f (nI_pos (by omega)) (br_t (nI_lt hi (by omega)) (dg_Yres1 hn hn2 ho ha hb ?_))))
  rw [e1, e2, e3]
  exact ⟨nI_ne0 hp (by omega), dg_h2, h⟩
theorem dg_Yal0 {post : Int32 → Prop} {x : Int32} (hx : x < 0 ∨ nI 16 ≤ x) (h : post (-1)) : wpY_alike post (nI n, f1, f2) x := by
  unfold wpY_alike
  dsimp only
  exact dg_op0 hx (br_t rfl h)
theorem dg_Yal1 {post : Int32 → Prop} {op a b : Nat} (hn : n ≤ 6) (hn2 : 2 ≤ n) (ho : op < 16) (ha : a < 2 ^ n) (hb : b < 2 ^ n) (h : post (nI (dg_al n op a b (2 ^ n)))) : wpY_alike post (nI n, nI a, nI b) (nI op) := by
  unfold wpY_alike
  dsimp only
  exact dg_op1 ho (br_f (by decide) (Exists.intro (2 ^ n + 1) (dg_y14 hn hn2 (by omega) ha hb h (2 ^ n) 0 (by omega))))
end
end
section
/-! What is owed -/
def dg_Bf (n : Nat) (bf gc : Int32) (so le ri bu : Nat → Int32) : Prop := ∀ op : Nat, op ≤ 15 → bf = nI op → dg_Circ n op gc so le ri bu
/-- the same width and operands; the gates that stand, if any, are those of the operation that they were built for -/
def i_Rel (k : Nat) (u : SX) (v : SY) : Prop := ∃ (n tr a b : Nat) (gc bf : Int32) (so le ri va bu : Nat → Int32), 2 ≤ n ∧ n ≤ 6 ∧ tr ≤ 1 ∧ a < 2 ^ n ∧ b < 2 ^ n ∧ dg_Bf n bf gc so le ri bu ∧ u = (nI n, nI tr, nI a, nI b, gc, bf, so, le, ri, va, bu) ∧ v = (nI n, nI a, nI b)
theorem dg_mk {k n tr a b : Nat} {gc bf : Int32} {so le ri va bu : Nat → Int32} (hn2 : 2 ≤ n) (hn : n ≤ 6) (ht : tr ≤ 1) (ha : a < 2 ^ n) (hb : b < 2 ^ n) (C : dg_Bf n bf gc so le ri bu) : i_Rel k (nI n, nI tr, nI a, nI b, gc, bf, so, le, ri, va, bu) (nI n, nI a, nI b) :=
  ⟨n, tr, a, b, gc, bf, so, le, ri, va, bu, hn2, hn, ht, ha, hb, C, rfl, rfl⟩
theorem dg_bfC {n op : Nat} {gc : Int32} {so le ri bu : Nat → Int32} (ho : op ≤ 15) (C : dg_Circ n op gc so le ri bu) : dg_Bf n (nI op) gc so le ri bu := by
  intro op' h e
  have h2 : op = op' := (nI_eq (by omega) (by omega)).mp e
  subst h2
  exact C
theorem dg_hs {S : Nat} {x : Int32} (h1 : 0 < S) (h6 : S ≤ 64) (z : nI S ≤ x) : ¬ x < 0 ∧ nI (S - 1) < x ∧ ¬ x ≤ nI (S - 1) := by
  have z2 := Int32.le_iff_toInt_le.mp z
  rw [nI_toInt (by omega)] at z2
  have e0 : (0 : Int32).toInt = 0 := by decide
  have e1 : (nI (S - 1)).toInt = ((S - 1 : Nat) : Int) := nI_toInt (by omega)
  refine ⟨fun h => ?_, Int32.lt_iff_toInt_lt.mpr (by rw [e1]; omega), fun h => ?_⟩
  · have := Int32.lt_iff_toInt_lt.mp h; omega
  · have := Int32.le_iff_toInt_le.mp h; omega
theorem i_up {k : Nat} {u : SX} {v : SY} (h : i_Rel k u v) : i_Rel (k + 3) u v := h
theorem i_vc0 (k0 : Int32) (k1 : Int32) : wpX_init (fun u => wpY_init (fun v => i_Rel 2 u v) k0 k1) k0 k1 := by
  have base : ∀ n tr, 2 ≤ n → n ≤ 6 → tr ≤ 1 → i_Rel 2 (nI n, nI tr, 0, 0, 0, -1, (fun _ => 0), (fun _ => 0), (fun _ => 0), (fun _ => 0), (fun _ => 0)) (nI n, 0, 0) := by
    intro n tr hn2 hn ht
    refine dg_mk (a := 0) (b := 0) hn2 hn ht (Nat.two_pow_pos n) (Nat.two_pow_pos n) (fun op ho e => ?_)
    have h := nI_toInt (n := op) (by omega)
    rw [← e, show (-1 : Int32).toInt = -1 from by decide] at h
    omega
  by_cases h2 : 2 ≤ k0
  · by_cases h6 : k0 ≤ 6
    · have h0 : ¬ k0 < 0 := fun z => by
        have a1 := Int32.lt_iff_toInt_lt.mp z
        have a2 := Int32.le_iff_toInt_le.mp h2
        rw [show (0 : Int32).toInt = 0 from by decide] at a1
        rw [show (2 : Int32).toInt = 2 from by decide] at a2
        omega
      obtain ⟨n, hn, e⟩ := nI_of2 (M := 6) (n := 6) (by decide) h0 h6
      subst e
      have hn2 : 2 ≤ n := (nI_leI (a := 2) (by decide) (by omega)).mp h2
      exact br_t h2 (br_t h6 (br_c (fun _ => br_t h2 (br_t h6 (base n 0 hn2 hn (by decide)))) (fun _ => br_t h2 (br_t h6 (base n 1 hn2 hn (by decide))))))
    · exact br_t h2 (br_f h6 (br_c (fun _ => br_t h2 (br_f h6 (base 6 0 (by decide) (by decide) (by decide)))) (fun _ => br_t h2 (br_f h6 (base 6 1 (by decide) (by decide) (by decide))))))
  · exact br_f h2 (br_c (fun _ => br_f h2 (base 2 0 (by decide) (by decide) (by decide))) (fun _ => br_f h2 (base 2 1 (by decide) (by decide) (by decide))))
theorem i_vc_operands {k : Nat} {u : SX} {v : SY} (I : i_Rel k u v) (hk : k + 3 ≤ 1538) (v1 : Int32) (v2 : Int32) : wpX_operands (fun r u' => wpY_operands (fun r' v' => r' = r ∧ i_Rel (k + 3) u' v') v v1 v2) u v1 v2 := by
  obtain ⟨n, tr, a, b, gc, bf, so, le, ri, va, bu, hn2, hn, ht, ha, hb, C, rfl, rfl⟩ := I
  have hS : (1 : Int32) <<< (nI n &&& 31) = nI (2 ^ n) := dg_shl1 (by omega)
  have h6 := dg_pw6 hn
  have h1 := Nat.two_pow_pos n
  have I' : i_Rel (k + 3) (nI n, nI tr, nI a, nI b, gc, bf, so, le, ri, va, bu) (nI n, nI a, nI b) := dg_mk hn2 hn ht ha hb C
  refine nm_r (e' := nI (2 ^ n - 1)) (by rw [hS]; exact pk_sub (b := 1) h1) ?_
  rcases pk_ix v1 (n := 2 ^ n) (by omega) with z | z | ⟨i, hi, e⟩
  · exact br_t z (dg_Yopr0 hn (Or.inl z) ⟨rfl, I'⟩)
  · obtain ⟨z1, z2, z3⟩ := dg_hs h1 h6 z
    exact br_f z1 (br_t z2 (dg_Yopr0 hn (Or.inr z) ⟨rfl, I'⟩))
  · subst e
    refine br_f (nI_pos (by omega)) (br_f (nI_nlt (by omega) (by omega)) ?_)
    rcases pk_ix v2 (n := 2 ^ n) (by omega) with z | z | ⟨j, hj, e⟩
    · exact br_t z (dg_Yopr1 hn hi (Or.inl z) ⟨rfl, I'⟩)
    · obtain ⟨z1, z2, z3⟩ := dg_hs h1 h6 z
      exact br_f z1 (br_f z3 (dg_Yopr1 hn hi (Or.inr z) ⟨rfl, I'⟩))
    · subst e
      exact br_f (nI_pos (by omega)) (br_t (nI_le (by omega) (by omega)) (dg_Yopr2 hn hi hj ⟨rfl, dg_mk hn2 hn ht hi hj C⟩))
theorem i_vc_result {k : Nat} {u : SX} {v : SY} (I : i_Rel k u v) (hk : k + 3 ≤ 1538) (v1 : Int32) : wpX_result (fun r u' => wpY_result (fun r' => r' = r ∧ i_Rel (k + 3) u' v) v v1) u v1 := by
  obtain ⟨n, tr, a, b, gc, bf, so, le, ri, va, bu, hn2, hn, ht, ha, hb, C, rfl, rfl⟩ := I
  have I' : i_Rel (k + 3) (nI n, nI tr, nI a, nI b, gc, bf, so, le, ri, va, bu) (nI n, nI a, nI b) := dg_mk hn2 hn ht ha hb C
  rcases pk_ix v1 (n := 16) (by decide) with z | z | ⟨op, ho, e⟩
  · exact br_t z (dg_Yres0 (Or.inl z) ⟨rfl, I'⟩)
  · obtain ⟨z1, z2, z3⟩ := dg_hi z
    exact br_f z1 (br_f z2 (dg_Yres0 (Or.inr z) ⟨rfl, I'⟩))
  · subst e
    refine br_f (nI_pos (by omega)) (br_t (nI_le (b := 15) (by omega) (by decide)) ?_)
    refine dg_w_comp hn hn2 ht (by omega) ha hb (C op (by omega)) fun gc so le ri va bu C' => ?_
    exact dg_Yres1 hn hn2 ho ha hb ⟨rfl, dg_mk hn2 hn ht ha hb (dg_bfC (by omega) C')⟩
theorem i_vc_bit {k : Nat} {u : SX} {v : SY} (I : i_Rel k u v) (hk : k + 3 ≤ 1538) (v1 : Int32) (v2 : Int32) : wpX_bit (fun r u' => wpY_bit (fun r' => r' = r ∧ i_Rel (k + 3) u' v) v v1 v2) u v1 v2 := by
  obtain ⟨n, tr, a, b, gc, bf, so, le, ri, va, bu, hn2, hn, ht, ha, hb, C, rfl, rfl⟩ := I
  have I' : i_Rel (k + 3) (nI n, nI tr, nI a, nI b, gc, bf, so, le, ri, va, bu) (nI n, nI a, nI b) := dg_mk hn2 hn ht ha hb C
  have h6 := dg_pw6 hn
  rcases pk_ix v1 (n := 16) (by decide) with z | z | ⟨op, ho, e⟩
  · exact br_t z (dg_Ybit0 (Or.inl z) ⟨rfl, I'⟩)
  · obtain ⟨z1, z2, z3⟩ := dg_hi z
    exact br_f z1 (br_t z3 (dg_Ybit0 (Or.inr z) ⟨rfl, I'⟩))
  · subst e
    refine br_f (nI_pos (by omega)) (br_f (nI_nlt (a := 15) (by omega) (by decide)) ?_)
    rcases pk_ix v2 (n := n) (by omega) with z | z | ⟨i, hi, e⟩
    · exact br_t z (dg_Ybitn ho z ⟨rfl, I'⟩)
    · have z1 : ¬ v2 < 0 := fun h => by
        have a1 := Int32.lt_iff_toInt_lt.mp h
        have a2 := Int32.le_iff_toInt_le.mp z
        rw [nI_toInt (by omega)] at a2
        rw [show (0 : Int32).toInt = 0 from by decide] at a1
        omega
      have z2 : ¬ v2 < nI n := Int32.not_lt.mpr z
      exact br_f z1 (br_f z2 (dg_Ybit1 ho z2 ⟨rfl, I'⟩))
    · subst e
      refine br_f (nI_pos (by omega)) (br_t (nI_lt hi (by omega)) ?_)
      refine dg_w_comp hn hn2 ht (by omega) ha hb (C op (by omega)) fun gc so le ri va bu C' => ?_
      have hr := dg_ref_lt n op a b
      refine dg_Ybit2 hn hn2 ho ha hb hi ⟨?_, dg_mk hn2 hn ht ha hb (dg_bfC (by omega) C')⟩
      exact (dg_bit (by omega) (by omega)).symm
theorem i_vc_feed {k : Nat} {u : SX} {v : SY} (I : i_Rel k u v) (hk : k + 3 ≤ 1538) (v1 : Int32) : wpX_feed (fun r u' => wpY_feed (fun r' v' => r' = r ∧ i_Rel (k + 3) u' v') v v1) u v1 := by
  obtain ⟨n, tr, a, b, gc, bf, so, le, ri, va, bu, hn2, hn, ht, ha, hb, C, rfl, rfl⟩ := I
  have I' : i_Rel (k + 3) (nI n, nI tr, nI a, nI b, gc, bf, so, le, ri, va, bu) (nI n, nI a, nI b) := dg_mk hn2 hn ht ha hb C
  rcases pk_ix v1 (n := 16) (by decide) with z | z | ⟨op, ho, e⟩
  · exact br_t z (dg_Yfeed0 (Or.inl z) ⟨rfl, I'⟩)
  · obtain ⟨z1, z2, z3⟩ := dg_hi z
    exact br_f z1 (br_f z2 (dg_Yfeed0 (Or.inr z) ⟨rfl, I'⟩))
  · subst e
    refine br_f (nI_pos (by omega)) (br_t (nI_le (b := 15) (by omega) (by decide)) ?_)
    refine dg_w_comp hn hn2 ht (by omega) ha hb (C op (by omega)) fun gc so le ri va bu C' => ?_
    exact dg_Yfeed1 hn hn2 ho ha hb ⟨rfl, dg_mk hn2 hn ht (dg_ref_lt n op a b) hb (dg_bfC (by omega) C')⟩
theorem i_vc_swap {k : Nat} {u : SX} {v : SY} (I : i_Rel k u v) (hk : k + 3 ≤ 1538) : wpX_swap (fun u' => wpY_swap (fun v' => i_Rel (k + 3) u' v') v) u := by
  obtain ⟨n, tr, a, b, gc, bf, so, le, ri, va, bu, hn2, hn, ht, ha, hb, C, rfl, rfl⟩ := I
  exact dg_mk (k := k + 3) hn2 hn ht hb ha C
theorem i_vc_first {k : Nat} {u : SX} {v : SY} (I : i_Rel k u v) (hk : k + 3 ≤ 1538) : wpX_first (fun r => wpY_first (fun r' => r' = r ∧ i_Rel (k + 3) u v) v) u := by
  obtain ⟨n, tr, a, b, gc, bf, so, le, ri, va, bu, hn2, hn, ht, ha, hb, C, rfl, rfl⟩ := I
  exact And.intro rfl (dg_mk hn2 hn ht ha hb C)
theorem i_vc_second {k : Nat} {u : SX} {v : SY} (I : i_Rel k u v) (hk : k + 3 ≤ 1538) : wpX_second (fun r => wpY_second (fun r' => r' = r ∧ i_Rel (k + 3) u v) v) u := by
  obtain ⟨n, tr, a, b, gc, bf, so, le, ri, va, bu, hn2, hn, ht, ha, hb, C, rfl, rfl⟩ := I
  exact And.intro rfl (dg_mk hn2 hn ht ha hb C)
theorem i_vc_alike {k : Nat} {u : SX} {v : SY} (I : i_Rel k u v) (hk : k + 3 ≤ 1538) (v1 : Int32) : wpX_alike (fun r u' => wpY_alike (fun r' => r' = r ∧ i_Rel (k + 3) u' v) v v1) u v1 := by
  obtain ⟨n, tr, a, b, gc, bf, so, le, ri, va, bu, hn2, hn, ht, ha, hb, C, rfl, rfl⟩ := I
  have I' : i_Rel (k + 3) (nI n, nI tr, nI a, nI b, gc, bf, so, le, ri, va, bu) (nI n, nI a, nI b) := dg_mk hn2 hn ht ha hb C
  rcases pk_ix v1 (n := 16) (by decide) with z | z | ⟨op, ho, e⟩
  · exact br_t z (dg_Yal0 (Or.inl z) ⟨rfl, I'⟩)
  · obtain ⟨z1, z2, z3⟩ := dg_hi z
    exact br_f z1 (br_f z2 (dg_Yal0 (Or.inr z) ⟨rfl, I'⟩))
  · subst e
    refine br_f (nI_pos (by omega)) (br_t (nI_le (b := 15) (by omega) (by decide)) ?_)
    refine dg_w_comp hn hn2 ht (by omega) ha hb (C op (by omega)) fun gc so le ri va bu C' => ?_
    refine Exists.intro (2 ^ n + 1) (dg_w27 hn hn2 ht (by omega) hb (fun gc so le ri va bu C' => ?_) (2 ^ n) 0 gc so le ri va bu (by omega) C')
    exact dg_Yal1 hn hn2 ho ha hb ⟨rfl, dg_mk hn2 hn ht ha hb (dg_bfC (by omega) C')⟩
theorem i_vc_width {k : Nat} {u : SX} {v : SY} (I : i_Rel k u v) (hk : k + 3 ≤ 1538) : wpX_width (fun r => wpY_width (fun r' => r' = r ∧ i_Rel (k + 3) u v) v) u := by
  obtain ⟨n, tr, a, b, gc, bf, so, le, ri, va, bu, hn2, hn, ht, ha, hb, C, rfl, rfl⟩ := I
  exact And.intro rfl (dg_mk hn2 hn ht ha hb C)
end
