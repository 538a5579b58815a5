section
theorem pk_us {f : Nat → Int32} {k : Nat} {x : Int32} : upd f k x k = x := if_pos rfl
theorem pk_un {f : Nat → Int32} {k j : Nat} {x : Int32} (h : j ≠ k) : upd f k x j = f j := if_neg h
theorem pk_sub {a b : Nat} (h : b ≤ a) : nI a - nI b = nI (a - b) := by
  obtain ⟨c, rfl⟩ : ∃ c, a = c + b := ⟨a - b, by omega⟩
  rw [← nI_add, Int32.add_sub_cancel, Nat.add_sub_cancel]
theorem pk_m1 (n : Nat) : nI (n + 1) + (-1) = nI n := by
  rw [← nI_1, Int32.add_assoc, show (1 : Int32) + (-1) = 0 from rfl, Int32.add_zero]
theorem pk_mul (a b : Nat) : nI a * nI b = nI (a * b) := (Int32.ofNat_mul a b).symm
theorem pk_div {a d : Nat} (ha : a < 2 ^ 31) (h0 : 0 < d) (hd : d < 2 ^ 31) : nI a / nI d = nI (a / d) := by
  apply Int32.toInt_inj.mp
  rw [lg_idiv_nonneg (by rw [nI_toInt ha]; omega) (by rw [nI_toInt hd]; omega), nI_toInt ha, nI_toInt hd, nI_toInt (Nat.lt_of_le_of_lt (Nat.div_le_self a d) ha)]
  first | rfl | exact (Int.natCast_ediv _ _).symm
theorem pk_rem {a d : Nat} (ha : a < 2 ^ 31) (h0 : 0 < d) (hd : d < 2 ^ 31) : nI a - nI a / nI d * nI d = nI (a % d) := by
  rw [pk_div ha h0 hd, pk_mul, pk_sub (Nat.div_mul_le_self a d)]
  exact congrArg nI (by have := Nat.div_add_mod' a d; omega)
theorem pk_sub_toInt {a b : Nat} (ha : a < 2 ^ 30) (hb : b < 2 ^ 30) : (nI a - nI b).toInt = (a : Int) - b := by
  rw [Int32.toInt_sub, nI_toInt (by omega), nI_toInt (by omega)]
  exact Int.bmod_eq_of_le (by omega) (by omega)
theorem pk_sneg {a b : Nat} (hb : b < 2 ^ 30) (h : a < b) : nI a - nI b < 0 := by
  rw [Int32.lt_iff_toInt_lt, pk_sub_toInt (by omega) hb, show (0 : Int32).toInt = 0 from by decide]
  omega
theorem pk_ix (x : Int32) {n : Nat} (hn : n < 2 ^ 31) : x < 0 ∨ nI n ≤ x ∨ ∃ j : Nat, j < n ∧ x = nI j := by
  by_cases h : x < 0
  · exact Or.inl h
  · obtain ⟨j, hj, rfl⟩ := nI_of h
    by_cases h2 : j < n
    · exact Or.inr (Or.inr ⟨j, h2, rfl⟩)
    · exact Or.inr (Or.inl (nI_le (by omega) hj))
theorem pk_le {x y : Int32} {A B : Prop} (a b : Nat) (f : a ≤ b → A) (g : b < a → B) (hx : x = nI a := by rfl) (hy : y = nI b := by rfl) (ha : a < 2 ^ 31 := by omega) (hb : b < 2 ^ 31 := by omega) : (x ≤ y → A) ∧ (¬ x ≤ y → B) := by
  subst hx hy
  rw [nI_leI ha hb]
  exact ⟨f, fun z => g (by omega)⟩
theorem pk_lt {x y : Int32} {A B : Prop} (a b : Nat) (f : a < b → A) (g : b ≤ a → B) (hx : x = nI a := by rfl) (hy : y = nI b := by rfl) (ha : a < 2 ^ 31 := by omega) (hb : b < 2 ^ 31 := by omega) : (x < y → A) ∧ (¬ x < y → B) := by
  subst hx hy
  rw [nI_ltI ha hb]
  exact ⟨f, fun z => g (by omega)⟩
theorem pk_eq {x y : Int32} {A B : Prop} (a b : Nat) (f : a = b → A) (g : a ≠ b → B) (hx : x = nI a := by rfl) (hy : y = nI b := by rfl) (ha : a < 2 ^ 31 := by omega) (hb : b < 2 ^ 31 := by omega) : (x = y → A) ∧ (¬ x = y → B) := by
  subst hx hy
  rw [nI_eq ha hb]
  exact ⟨f, g⟩
theorem pk_in {x : Int32} (n N : Nat) (h : n < N) (hx : x = nI n := by rfl) (hN : N < 2 ^ 31 := by omega) : vp_in x N := by
  subst hx
  exact vp_in_nI h hN
theorem pk_cl {x : Int32} (n : Nat) (hx : x = nI n := by rfl) (h : n < 2 ^ 31 := by omega) : x.toNatClampNeg = n := by
  subst hx
  exact nI_clamp h
theorem pk_tn {n : Nat} (h : n < 2 ^ 32) : (nI n).toBitVec.toNat = n := Nat.mod_eq_of_lt h
theorem pk_and (x : Int32) {m : Int32} (k : Nat) (hm : m.toBitVec.toNat = 2 ^ k - 1) : x &&& m = nI (x.toBitVec.toNat % 2 ^ k) := by
  apply Int32.toBitVec_inj.mp
  apply BitVec.eq_of_toNat_eq
  rw [Int32.toBitVec_and, BitVec.toNat_and, hm, Nat.and_two_pow_sub_one_eq_mod]
  show _ = (BitVec.ofNat 32 _).toNat
  rw [BitVec.toNat_ofNat]
  exact (Nat.mod_eq_of_lt (Nat.lt_of_le_of_lt (Nat.mod_le _ _) x.toBitVec.isLt)).symm
theorem pk_andN {n : Nat} (h : n < 2 ^ 32) {m : Int32} (k : Nat) (hm : m.toBitVec.toNat = 2 ^ k - 1) : nI n &&& m = nI (n % 2 ^ k) := by
  rw [pk_and _ k hm, pk_tn h]
theorem pk_andE (x : Int32) {m : Int32} (k : Nat) (hm : m.toBitVec.toNat = 2 ^ k - 1) : ∃ j : Nat, j < 2 ^ k ∧ x &&& m = nI j := ⟨_, Nat.mod_lt _ (Nat.two_pow_pos k), pk_and x k hm⟩
theorem pk_andIn (x : Int32) {m : Int32} (k : Nat) (hm : m.toBitVec.toNat = 2 ^ k - 1) (hk : k ≤ 30) : vp_in (x &&& m) (2 ^ k) := by
  obtain ⟨j, hj, e⟩ := pk_andE x k hm
  rw [e]
  exact vp_in_nI hj (Nat.lt_of_le_of_lt (Nat.pow_le_pow_right (by decide) hk) (by decide))
theorem pk_shl (a s : Int32) (k : Nat) (hs : (s.toBitVec.smod 32).toNat = k) : (a <<< s).toBitVec.toNat = a.toBitVec.toNat * 2 ^ k % 2 ^ 32 := by
  show (a.toBitVec <<< (s.toBitVec.smod 32).toNat).toNat = _
  rw [hs, BitVec.toNat_shiftLeft, Nat.shiftLeft_eq]
theorem pk_shlN {n : Nat} (s : Int32) (k : Nat) (hs : (s.toBitVec.smod 32).toNat = k) (h : n * 2 ^ k < 2 ^ 32) : nI n <<< s = nI (n * 2 ^ k) := by
  apply Int32.toBitVec_inj.mp
  apply BitVec.eq_of_toNat_eq
  have hn : n < 2 ^ 32 := Nat.lt_of_le_of_lt (Nat.le_mul_of_pos_right n (Nat.two_pow_pos k)) h
  rw [pk_shl _ _ k hs, pk_tn hn, pk_tn h, Nat.mod_eq_of_lt h]
theorem pk_shr (a s : Int32) (k : Nat) (hs : (s.toBitVec.smod 32).toNat = k) : (a >>> s).toInt = a.toInt >>> k := by
  show (a.toBitVec.sshiftRight (s.toBitVec.smod 32).toNat).toInt = _
  rw [hs, BitVec.toInt_sshiftRight]
  rfl
theorem pk_shrN {n : Nat} (h : n < 2 ^ 31) (s : Int32) (k : Nat) (hs : (s.toBitVec.smod 32).toNat = k) : nI n >>> s = nI (n / 2 ^ k) := by
  apply Int32.toInt_inj.mp
  have h2 : n / 2 ^ k ≤ n := Nat.div_le_self _ _
  rw [pk_shr _ _ k hs, nI_toInt h, nI_toInt (by omega), Int.shiftRight_eq_div_pow]
  rfl
theorem pk_vb (z : Int32) : vp_nar .byte z.toInt8.toInt32 = z.toInt8.toInt32 := by rw [vp_nar_byte]; simp
def bt (x : Int32) (i : Nat) : Bool := x.toBitVec.getLsbD i
theorem b_ext {x y : Int32} (h : ∀ i, i < 32 → bt x i = bt y i) : x = y := Int32.toBitVec_inj.mp (BitVec.eq_of_getLsbD_eq (fun i hi => h i hi))
theorem b_or (x y : Int32) (i : Nat) : bt (x ||| y) i = (bt x i || bt y i) := by unfold bt; rw [Int32.toBitVec_or, BitVec.getLsbD_or]
theorem b_and (x y : Int32) (i : Nat) : bt (x &&& y) i = (bt x i && bt y i) := by unfold bt; rw [Int32.toBitVec_and, BitVec.getLsbD_and]
theorem b_xor (x y : Int32) (i : Nat) : bt (x ^^^ y) i = (bt x i ^^ bt y i) := by unfold bt; rw [Int32.toBitVec_xor, BitVec.getLsbD_xor]
theorem b_big {x : Int32} {i : Nat} (h : 32 ≤ i) : bt x i = false := BitVec.getLsbD_of_ge _ _ h
theorem b_m1 : ∀ i, i < 32 → bt (-1) i = true := by decide +kernel
theorem b_0 (i : Nat) : bt 0 i = false := BitVec.getLsbD_zero
theorem s_l : ∀ n, n < 32 → ((nI n &&& 31).toBitVec.smod 32).toNat = n := by decide +kernel
theorem s_u : ∀ n, n < 32 → (((nI n).toUInt32 &&& Int32.toUInt32 31).toBitVec % 32).toNat = n := by decide +kernel
theorem b_shl (n : Nat) (hn : n < 32) (x : Int32) {i : Nat} (hi : i < 32) : bt (x <<< (nI n &&& 31)) i = (decide (n ≤ i) && bt x (i - n)) := by
  unfold bt
  rw [Int32.toBitVec_shiftLeft]
  show (x.toBitVec <<< ((nI n &&& 31).toBitVec.smod 32).toNat).getLsbD i = _
  rw [s_l n hn, BitVec.getLsbD_shiftLeft]
  rcases Nat.lt_or_ge i n with h | h
  · simp [h, Nat.not_le.mpr h]
  · simp [hi, h, Nat.not_lt.mpr h]
theorem b_sshr (n : Nat) (hn : n < 32) (x : Int32) {i : Nat} (hi : i < 32) : bt (x >>> (nI n &&& 31)) i = if n + i < 32 then bt x (n + i) else bt x 31 := by
  unfold bt
  rw [Int32.toBitVec_shiftRight]
  show (x.toBitVec.sshiftRight ((nI n &&& 31).toBitVec.smod 32).toNat).getLsbD i = _
  rw [s_l n hn, BitVec.getLsbD_sshiftRight, BitVec.msb_eq_getLsbD_last]
  simp [hi]
end
section
/-! slots over pages: Q s is the page of slot s (99: none); slots 4 m + i of moment m, 48 + i of the run -/
def ds_cn (Q : Nat → Nat) (p : Nat) : Nat → Nat
  | 0 => 0
  | n + 1 => ds_cn Q p n + (if Q n = p then 1 else 0)
def ds_up (Q : Nat → Nat) (s q : Nat) : Nat → Nat := fun j => if j = s then q else Q j
theorem ds_up_s {Q : Nat → Nat} {s q : Nat} : ds_up Q s q s = q := if_pos rfl
theorem ds_up_n {Q : Nat → Nat} {s q j : Nat} (h : j ≠ s) : ds_up Q s q j = Q j := if_neg h
theorem ds_cn_ge {Q : Nat → Nat} {s q p : Nat} : ∀ n, n ≤ s → ds_cn (ds_up Q s q) p n = ds_cn Q p n := by
  intro n
  induction n with
  | zero => intro _; rfl
  | succ n ih =>
    intro h
    show ds_cn (ds_up Q s q) p n + _ = ds_cn Q p n + _
    rw [ih (by omega), ds_up_n (by omega)]
theorem ds_cn_up {Q : Nat → Nat} {s q p : Nat} : ∀ n, s < n → ds_cn (ds_up Q s q) p n + (if Q s = p then 1 else 0) = ds_cn Q p n + (if q = p then 1 else 0) := by
  intro n
  induction n with
  | zero => intro h; omega
  | succ n ih =>
    intro h
    show ds_cn (ds_up Q s q) p n + (if ds_up Q s q n = p then 1 else 0) + _ = ds_cn Q p n + (if Q n = p then 1 else 0) + _
    by_cases e : s = n
    · subst e
      rw [ds_cn_ge s (Nat.le_refl s), ds_up_s]
      omega
    · have := ih (by omega)
      rw [ds_up_n (fun z => e z.symm)]
      omega
theorem ds_cn_le (Q : Nat → Nat) (p : Nat) : ∀ n, ds_cn Q p n ≤ n := by
  intro n
  induction n with
  | zero => exact Nat.le_refl 0
  | succ n ih =>
    show ds_cn Q p n + (if Q n = p then 1 else 0) ≤ n + 1
    by_cases e : Q n = p
    · rw [if_pos e]; omega
    · rw [if_neg e]; omega
theorem ds_cn_pos {Q : Nat → Nat} {p s n : Nat} (h : s < n) (e : Q s = p) : 1 ≤ ds_cn Q p n := by
  have := ds_cn_up (Q := Q) (s := s) (q := p + 1) (p := p) n h
  rw [if_pos e, if_neg (by omega)] at this
  omega
theorem ds_cn_0 {Q : Nat → Nat} {p s n : Nat} (h : s < n) (e : ds_cn Q p n = 0) : Q s ≠ p := fun z => by
  have := ds_cn_pos h z
  omega
theorem ds_cn_1 {Q : Nat → Nat} {p s t n : Nat} (hs : s < n) (ht : t < n) (e : ds_cn Q p n ≤ 1) (h1 : Q s = p) (h2 : Q t = p) : s = t := by
  have H := ds_cn_up (Q := Q) (s := s) (q := p + 1) (p := p) n hs
  rw [if_pos h1, if_neg (by omega)] at H
  by_cases z : t = s
  · exact z.symm
  · have h3 : ds_up Q s (p + 1) t = p := by rw [ds_up_n z]; exact h2
    exact absurd h3 (ds_cn_0 ht (by omega))
def ds_sm (f : Nat → Nat) : Nat → Nat
  | 0 => 0
  | n + 1 => ds_sm f n + f n
theorem ds_sm_add (f g : Nat → Nat) : ∀ n, ds_sm (fun p => f p + g p) n = ds_sm f n + ds_sm g n := by
  intro n
  induction n with
  | zero => rfl
  | succ n ih =>
    show ds_sm (fun p => f p + g p) n + (f n + g n) = ds_sm f n + f n + (ds_sm g n + g n)
    omega
theorem ds_sm_one (a : Nat) : ∀ n, ds_sm (fun p => if a = p then 1 else 0) n = if a < n then 1 else 0 := by
  intro n
  induction n with
  | zero => exact (if_neg (by omega)).symm
  | succ n ih =>
    show ds_sm (fun p => if a = p then 1 else 0) n + (if a = n then 1 else 0) = _
    rw [ih]
    by_cases h1 : a = n
    · rw [if_pos h1, if_neg (by omega), if_pos (by omega)]
    · rw [if_neg h1]
      by_cases h2 : a < n
      · rw [if_pos h2, if_pos (by omega)]
      · rw [if_neg h2, if_neg (by omega)]
theorem ds_sm_cn (Q : Nat → Nat) (P : Nat) : ∀ n, ds_sm (fun p => ds_cn Q p n) P ≤ n := by
  intro n
  induction n with
  | zero =>
    have : ∀ P, ds_sm (fun p => ds_cn Q p 0) P = 0 := by
      intro P
      induction P with
      | zero => rfl
      | succ P ih => show ds_sm (fun p => ds_cn Q p 0) P + 0 = 0; rw [ih]
    rw [this P]
    exact Nat.le_refl 0
  | succ n ih =>
    have e : ds_sm (fun p => ds_cn Q p (n + 1)) P = ds_sm (fun p => ds_cn Q p n) P + ds_sm (fun p => if Q n = p then 1 else 0) P := ds_sm_add (fun p => ds_cn Q p n) (fun p => if Q n = p then 1 else 0) P
    rw [e, ds_sm_one]
    by_cases h : Q n < P
    · rw [if_pos h]; omega
    · rw [if_neg h]; omega
theorem ds_sm_ge {f : Nat → Nat} : ∀ n, (∀ p, p < n → 1 ≤ f p) → n ≤ ds_sm f n := by
  intro n
  induction n with
  | zero => intro _; exact Nat.le_refl 0
  | succ n ih =>
    intro h
    have h1 := ih (fun p hp => h p (by omega))
    have h2 := h n (by omega)
    show n + 1 ≤ ds_sm f n + f n
    omega
theorem ds_free (Q : Nat → Nat) : ∃ p, p < 56 ∧ ds_cn Q p 52 = 0 := by
  apply Classical.byContradiction
  intro h
  have h1 := ds_sm_ge (f := fun p => ds_cn Q p 52) 56 (fun p hp => Nat.pos_of_ne_zero (fun z => h ⟨p, hp, z⟩))
  have h2 := ds_sm_cn Q 56 52
  omega
theorem ds_by0 : ∀ x, x < 128 → (nI x).toInt8.toInt32 = nI x := by decide +kernel
theorem ds_by {x : Nat} (h : x < 128) : vp_nar .byte (nI x).toInt8.toInt32 = nI x := by rw [pk_vb, ds_by0 x h]
theorem ds_by1 {x : Nat} (h : x < 128) : vp_nar .byte (nI x) = nI x := by rw [vp_nar_byte, ds_by0 x h]
theorem ds_nby1 : vp_nar .byte 1 = 1 := ds_by1 (x := 1) (by decide)
def ds_OW (Q : Nat → Nat) (ow : Nat → Int32) : Prop := ∀ p, p < 56 → ow p = nI (ds_cn Q p 52)
theorem ds_OW_new {Q : Nat → Nat} {ow : Nat → Int32} {s p : Nat} (h : ds_OW Q ow) (hs : s < 52) (hq : Q s = 99) (h0 : ds_cn Q p 52 = 0) : ds_OW (ds_up Q s p) (upd ow p 1) := by
  intro r hr
  have H := ds_cn_up (Q := Q) (s := s) (q := p) (p := r) 52 hs
  rw [hq, if_neg (by omega)] at H
  by_cases e : r = p
  · subst e
    rw [if_pos rfl] at H
    rw [pk_us, show ds_cn (ds_up Q s r) r 52 = 1 by omega]
    rfl
  · rw [if_neg (fun z => e z.symm)] at H
    rw [pk_un e, h r hr]
    exact congrArg nI (by omega)
theorem ds_OW_inc {Q : Nat → Nat} {ow : Nat → Int32} {s p : Nat} (h : ds_OW Q ow) (hs : s < 52) (hq : Q s = 99) (hp : p < 56) : ds_OW (ds_up Q s p) (upd ow p (vp_nar .byte (ow p + 1).toInt8.toInt32)) := by
  intro r hr
  have H := ds_cn_up (Q := Q) (s := s) (q := p) (p := r) 52 hs
  have L := ds_cn_le Q p 52
  rw [hq, if_neg (by omega)] at H
  by_cases e : r = p
  · subst e
    rw [if_pos rfl] at H
    rw [pk_us, h r hr, nI_1, ds_by (by omega)]
    exact congrArg nI (by omega)
  · rw [if_neg (fun z => e z.symm)] at H
    rw [pk_un e, h r hr]
    exact congrArg nI (by omega)
theorem ds_OW_dec {Q : Nat → Nat} {ow : Nat → Int32} {s p : Nat} (h : ds_OW Q ow) (hs : s < 52) (hq : Q s = p) (hp : p < 56) : ds_OW (ds_up Q s 99) (upd ow p (vp_nar .byte (ow p - 1).toInt8.toInt32)) := by
  intro r hr
  have H := ds_cn_up (Q := Q) (s := s) (q := 99) (p := r) 52 hs
  have L := ds_cn_le Q p 52
  rw [hq, if_neg (show ¬ 99 = r by omega)] at H
  by_cases e : r = p
  · subst e
    have P := ds_cn_pos hs hq
    rw [if_pos rfl] at H
    obtain ⟨c, hc⟩ : ∃ c, ds_cn Q r 52 = c + 1 := ⟨ds_cn Q r 52 - 1, by omega⟩
    rw [pk_us, h r hr, hc, nI_pred, ds_by (by omega)]
    exact congrArg nI (by omega)
  · rw [if_neg (fun z => e z.symm)] at H
    rw [pk_un e, h r hr]
    exact congrArg nI (by omega)
theorem ds_up_up {Q : Nat → Nat} {s a b : Nat} : ds_up (ds_up Q s a) s b = ds_up Q s b := by
  funext j
  by_cases e : j = s
  · subst e; rw [ds_up_s, ds_up_s]
  · rw [ds_up_n e, ds_up_n e, ds_up_n e]
theorem ds_upd_c {f : Nat → Int32} {a b : Nat} {x y : Int32} (h : a ≠ b) : upd (upd f a x) b y = upd (upd f b y) a x := by
  funext j
  by_cases e : j = a
  · subst e; rw [pk_us, pk_un h, pk_us]
  · by_cases z : j = b
    · subst z; rw [pk_us, pk_un e, pk_us]
    · rw [pk_un z, pk_un e, pk_un e, pk_un z]
theorem ds_OW_swap {Q : Nat → Nat} {ow : Nat → Int32} {s p q : Nat} (h : ds_OW Q ow) (hs : s < 52) (hq : Q s = q) (hq6 : q < 56) (h0 : ds_cn Q p 52 = 0) : ds_OW (ds_up Q s p) (upd (upd ow p 1) q (vp_nar .byte (upd ow p 1 q - 1).toInt8.toInt32)) := by
  have hne : p ≠ q := fun z => ds_cn_0 hs h0 (hq.trans z.symm)
  have H := ds_cn_up (Q := Q) (s := s) (q := 99) (p := p) 52 hs
  rw [hq, if_neg (fun z => hne z.symm)] at H
  have h1 := ds_OW_dec h hs hq hq6
  rw [pk_un (fun z => hne z.symm), ds_upd_c hne, ← ds_up_up (a := 99)]
  by_cases e : 99 = p
  · intro r hr
    have hr9 : ¬ r = p := by omega
    subst e
    rw [pk_un hr9, ds_up_up]
    exact h1 r hr
  · rw [if_neg e] at H
    exact ds_OW_new h1 hs ds_up_s (by omega)
theorem ds_OW_mv {Q : Nat → Nat} {ow : Nat → Int32} {s t : Nat} (h : ds_OW Q ow) (hs : s < 52) (ht : t < 52) (hst : t ≠ s) (hq : Q s = 99) : ds_OW (ds_up (ds_up Q s (Q t)) t 99) ow := by
  intro p hp
  rw [h p hp]
  have H1 := ds_cn_up (Q := Q) (s := s) (q := Q t) (p := p) 52 hs
  have H2 := ds_cn_up (Q := ds_up Q s (Q t)) (s := t) (q := 99) (p := p) 52 ht
  rw [ds_up_n hst, if_neg (show ¬ 99 = p by omega)] at H2
  rw [hq, if_neg (show ¬ 99 = p by omega)] at H1
  exact congrArg nI (by omega)
theorem ds_least (P : Nat → Prop) (h : ∃ k, P k) : ∃ k, P k ∧ ∀ j, j < k → ¬ P j := by
  obtain ⟨k, hk⟩ := h
  induction k using Nat.strongRecOn with
  | _ k ih =>
    by_cases z : ∃ j, j < k ∧ P j
    · obtain ⟨j, hj, pj⟩ := z
      exact ih j hj pj
    · exact ⟨k, hk, fun j hj pj => z ⟨j, hj, pj⟩⟩
end
section
/-! copies of blocks -/
def ds_bk (d : Nat → Int32) (b : Nat) (s : Nat → Int32) (n : Nat) : Nat → Int32 := fun j => if b ≤ j ∧ j < b + n then s (j - b) else d j
section
variable {d s : Nat → Int32} {b n : Nat}
theorem ds_bk_0 : ds_bk d b s 0 = d := funext fun j => if_neg (by omega)
theorem ds_bk_in {i : Nat} (h : i < n) : ds_bk d b s n (b + i) = s i := by
  unfold ds_bk
  rw [if_pos (by omega), Nat.add_sub_cancel_left]
theorem ds_bk_out {j : Nat} (h : j < b ∨ b + n ≤ j) : ds_bk d b s n j = d j := if_neg (by omega)
theorem ds_bk_s : upd (ds_bk d b s n) (b + n) (s n) = ds_bk d b s (n + 1) := by
  funext j
  by_cases e : j = b + n
  · subst e
    rw [pk_us, ds_bk_in (by omega)]
  · rw [pk_un e]
    by_cases z : b ≤ j ∧ j < b + n
    · obtain ⟨i, rfl⟩ : ∃ i, j = b + i := ⟨j - b, by omega⟩
      rw [ds_bk_in (by omega), ds_bk_in (by omega)]
    · rw [ds_bk_out (by omega), ds_bk_out (by omega)]
theorem ds_bk_z : upd (ds_bk d 0 s n) n (s n) = ds_bk d 0 s (n + 1) := by
  have h := ds_bk_s (d := d) (s := s) (b := 0) (n := n)
  rw [Nat.zero_add] at h
  exact h
theorem ds_bk_i {i : Nat} (h : i < n) : ds_bk d 0 s n i = s i := by
  have e := ds_bk_in (d := d) (s := s) (b := 0) h
  rw [Nat.zero_add] at e
  exact e
end
/-! the last eight numbers said -/
def ds_sh (l : Nat → Int32) (j : Nat) : Nat → Int32 := fun k => if j < k ∧ k < 8 then l (k - 1) else l k
theorem ds_sh_7 {l : Nat → Int32} : ds_sh l 7 = l := funext fun k => if_neg (by omega)
theorem ds_sh_s {l : Nat → Int32} {j : Nat} (h : j < 7) : upd (ds_sh l (j + 1)) (j + 1) (ds_sh l (j + 1) j) = ds_sh l j := by
  funext k
  by_cases e : k = j + 1
  · subst e
    rw [pk_us]
    unfold ds_sh
    rw [if_neg (by omega), if_pos (by omega), Nat.add_sub_cancel]
  · rw [pk_un e]
    unfold ds_sh
    by_cases z : j + 1 < k ∧ k < 8
    · rw [if_pos z, if_pos (by omega)]
    · rw [if_neg z, if_neg (by omega)]
/-! the kept moments as bits -/
theorem ds_b1 : ∀ i, i < 32 → bt 1 i = decide (i = 0) := by decide +kernel
theorem ds_bit (x : Int32) {m : Nat} (h : m < 12) : ((x >>> (nI m &&& 31)) &&& 1) = 0 ↔ bt x m = false := by
  constructor
  · intro e
    have e2 := congrArg (fun y => bt y 0) e
    rw [b_and, b_sshr m (by omega) x (by omega), ds_b1 0 (by omega), b_0, if_pos (by omega), Nat.add_zero] at e2
    rw [decide_eq_true rfl, Bool.and_true] at e2
    exact e2
  · intro e
    apply b_ext
    intro i hi
    rw [b_and, b_sshr m (by omega) x hi, ds_b1 i hi, b_0]
    by_cases z : i = 0
    · subst z
      rw [if_pos (by omega), Nat.add_zero, e, Bool.false_and]
    · rw [decide_eq_false z, Bool.and_false]
theorem ds_1sh {m i : Nat} (h : m < 32) (hi : i < 32) : bt ((1 : Int32) <<< (nI m &&& 31)) i = decide (i = m) := by
  rw [b_shl m h 1 hi, ds_b1 (i - m) (by omega)]
  by_cases e : i = m
  · rw [decide_eq_true (show m ≤ i by omega), decide_eq_true (show i - m = 0 by omega), decide_eq_true e, Bool.and_true]
  · rw [decide_eq_false e]
    by_cases z : m ≤ i
    · rw [decide_eq_false (show ¬ i - m = 0 by omega), Bool.and_false]
    · rw [decide_eq_false z, Bool.false_and]
def ds_B (fk : Int32) (th : Nat → Int32) : Prop := ∀ i, i < 32 → bt fk i = (decide (i < 12) && decide (th i ≠ 0))
theorem ds_B_or {fk : Int32} {th : Nat → Int32} {m : Nat} (h : ds_B fk th) (hm : m < 12) : ds_B (fk ||| ((1 : Int32) <<< (nI m &&& 31))) (upd th m 1) := by
  intro i hi
  rw [b_or, h i hi, ds_1sh (by omega) hi]
  by_cases e : i = m
  · subst e
    rw [pk_us, decide_eq_true rfl, Bool.or_true, decide_eq_true hm, decide_eq_true (show (1 : Int32) ≠ 0 by decide), Bool.and_true]
  · rw [pk_un e, decide_eq_false e, Bool.or_false]
theorem ds_B_and {fk : Int32} {th : Nat → Int32} {m : Nat} (h : ds_B fk th) (hm : m < 12) : ds_B (fk &&& (((1 : Int32) <<< (nI m &&& 31)) ^^^ (-1))) (upd th m 0) := by
  intro i hi
  rw [b_and, b_xor, h i hi, ds_1sh (by omega) hi, b_m1 i hi, Bool.xor_true]
  by_cases e : i = m
  · subst e
    rw [pk_us, decide_eq_true rfl, Bool.not_true, Bool.and_false, decide_eq_false (show ¬ (0 : Int32) ≠ 0 by decide), Bool.and_false]
  · rw [pk_un e, decide_eq_false e, Bool.not_false, Bool.and_true]
theorem ds_B_0 {fk : Int32} {th : Nat → Int32} {m : Nat} (h : ds_B fk th) (hm : m < 12) : ((fk >>> (nI m &&& 31)) &&& 1) = 0 ↔ th m = 0 := by
  rw [ds_bit fk hm, h m (by omega), decide_eq_true hm, Bool.true_and, decide_eq_false_iff_not]
  exact Decidable.not_not
theorem ds_nb0 : vp_nar .boolean 0 = 0 := rfl
theorem ds_nb1 : vp_nar .boolean 1 = 1 := rfl
/-! the parts of the relation -/
def ds_P (fz : Int32) (ao aa ab : Nat → Int32) : Prop := (∃ z, z ≤ 16 ∧ fz = nI z) ∧ ∀ j, ∃ o a, o ≤ 9 ∧ a < 4 ∧ ao j = nI o ∧ aa j = nI a ∧ (1 ≤ o → o ≤ 4 → ∃ b, b < 4 ∧ ab j = nI b)
def ds_M (th kd pl kr kq ce pc : Nat → Int32) (Q : Nat → Nat) : Prop := ∀ m, m < 12 → (th m = 0 → ∀ i, i < 4 → Q (4 * m + i) = 99) ∧ (th m ≠ 0 → (kd m = 2 → ∃ p, p < 16 ∧ pl m = nI p) ∧ ∀ i, i < 4 → Q (4 * m + i) < 56 ∧ kq (4 * m + i) = nI (Q (4 * m + i)) ∧ ce (20 * m + i) = kr (4 * m + i) ∧ ∀ k, k < 4 → ce (20 * m + (4 + 4 * i + k)) = pc (4 * Q (4 * m + i) + k))
def ds_R (ro rg pg pc : Nat → Int32) (Q : Nat → Nat) : Prop := ∀ i, i < 4 → Q (48 + i) < 56 ∧ pg i = nI (Q (48 + i)) ∧ ro i = rg i ∧ ∀ k, k < 4 → ro (4 + 4 * i + k) = pc (4 * Q (48 + i) + k)
def ds_I (Q : Nat → Nat) : Prop := ∀ i, i < 4 → Q (48 + i) = 99
def ds_RR (th kd pl kr kq ce pc ow ro rg pg : Nat → Int32) : Prop := ∃ Q, ds_OW Q ow ∧ ds_M th kd pl kr kq ce pc Q ∧ ds_R ro rg pg pc Q
def ds_RI (th kd pl kr kq ce pc ow : Nat → Int32) : Prop := ∃ Q, ds_OW Q ow ∧ ds_M th kd pl kr kq ce pc Q ∧ ds_I Q
section
variable {pc ow kd pl kr kq rg pg th ce ro : Nat → Int32} {Q : Nat → Nat}
theorem ds_M_pc {pc' : Nat → Int32} {Q' : Nat → Nat} (h : ds_M th kd pl kr kq ce pc Q) (hQ : ∀ s, s < 48 → Q' s = Q s) (hp : ∀ s, s < 48 → Q s < 56 → ∀ k, k < 4 → pc' (4 * Q s + k) = pc (4 * Q s + k)) : ds_M th kd pl kr kq ce pc' Q' := by
  intro m hm
  obtain ⟨h0, h1⟩ := h m hm
  refine ⟨fun z i hi => ?_, fun z => ⟨(h1 z).1, fun i hi => ?_⟩⟩
  · rw [hQ _ (by omega)]
    exact h0 z i hi
  · obtain ⟨a, b, c, d⟩ := (h1 z).2 i hi
    rw [hQ _ (by omega)]
    exact ⟨a, b, c, fun k hk => by rw [hp _ (by omega) a k hk]; exact d k hk⟩
theorem ds_M_forget {Q' : Nat → Nat} {m : Nat} (h : ds_M th kd pl kr kq ce pc Q) (hQ : ∀ s, (s < 4 * m ∨ 4 * m + 4 ≤ s) → Q' s = Q s) (h9 : ∀ i, i < 4 → Q' (4 * m + i) = 99) : ds_M (upd th m 0) kd pl kr kq ce pc Q' := by
  intro n hn
  by_cases e : n = m
  · subst e
    rw [pk_us]
    exact ⟨fun _ => h9, fun z => absurd rfl z⟩
  · rw [pk_un e]
    obtain ⟨h0, h1⟩ := h n hn
    refine ⟨fun z i hi => ?_, fun z => ⟨(h1 z).1, fun i hi => ?_⟩⟩
    · rw [hQ _ (by omega)]
      exact h0 z i hi
    · rw [hQ _ (by omega)]
      exact (h1 z).2 i hi
/-- one write through the run's slot 48 + c / 4 -/
theorem ds_wr {pc' pg' : Nat → Int32} {Q' : Nat → Nat} {c : Nat} {v : Int32} (hc : c < 16) (hM : ds_M th kd pl kr kq ce pc Q) (hR : ds_R ro rg pg pc Q)
    (hQ : ∀ s, s ≠ 48 + c / 4 → Q' s = Q s) (hq : Q' (48 + c / 4) < 56) (hg : ∀ i, i ≠ c / 4 → pg' i = pg i) (hg2 : pg' (c / 4) = nI (Q' (48 + c / 4)))
    (hp : ∀ s, s < 52 → s ≠ 48 + c / 4 → Q s < 56 → ∀ k, k < 4 → pc' (4 * Q s + k) = pc (4 * Q s + k))
    (hv : pc' (4 * Q' (48 + c / 4) + c % 4) = v) (hw : ∀ k, k < 4 → k ≠ c % 4 → pc' (4 * Q' (48 + c / 4) + k) = pc (4 * Q (48 + c / 4) + k)) :
    ds_M th kd pl kr kq ce pc' Q' ∧ ds_R (upd ro (4 + c) v) rg pg' pc' Q' := by
  refine ⟨ds_M_pc hM (fun s hs => hQ s (by omega)) (fun s hs h6 k hk => hp s (by omega) (by omega) h6 k hk), fun i hi => ?_⟩
  obtain ⟨a, b, e, d⟩ := hR i hi
  by_cases z : i = c / 4
  · subst z
    refine ⟨hq, hg2, ?_, fun k hk => ?_⟩
    · rw [pk_un (by omega)]
      exact e
    · by_cases y : k = c % 4
      · subst y
        rw [show 4 + 4 * (c / 4) + c % 4 = 4 + c by omega, pk_us]
        exact hv.symm
      · rw [pk_un (by omega), hw k hk y]
        exact d k hk
  · rw [hQ _ (by omega), hg i z]
    refine ⟨a, b, ?_, fun k hk => ?_⟩
    · rw [pk_un (by omega)]
      exact e
    · rw [pk_un (by omega), hp _ (by omega) (by omega) a k hk]
      exact d k hk
end
end
section
/-! has, kept, is; freeMoment and room; moments -/
def ds_h (th : Nat → Int32) (x : Int32) : Prop := ∃ m, m < 12 ∧ x = nI m ∧ th m ≠ 0
theorem ds_h_m {th : Nat → Int32} {m : Nat} (hm : m < 12) : ds_h th (nI m) ↔ th m ≠ 0 := by
  constructor
  · rintro ⟨n, hn, e, t⟩
    rw [nI_eq (by omega) (by omega)] at e
    rw [e]
    exact t
  · exact fun t => ⟨m, hm, rfl, t⟩
theorem ds_h_lt {th : Nat → Int32} {x : Int32} (h : x < 0) : ¬ ds_h th x := by
  rintro ⟨n, hn, rfl, _⟩
  exact nI_pos (by omega) h
theorem ds_h_ge {th : Nat → Int32} {x : Int32} (h : 12 ≤ x) : ¬ ds_h th x := by
  rintro ⟨n, hn, rfl, _⟩
  exact nI_ge (b := 12) hn (by decide) h
section
variable {fz fk fa fc : Int32} {ao aa ab pc ow kd pl kr kq cs ks rg pg lt th ce ro : Nat → Int32}
theorem ds_hasX {post : Int32 → Prop} (x : Int32) (hB : ds_B fk th) (h1 : ds_h th x → post 1) (h0 : ¬ ds_h th x → post 0) : wpX_has post (fz, fk, fa, fc, ao, aa, ab, pc, ow, kd, pl, kr, kq, cs, ks, rg, pg, lt) x := by
  by_cases a : x < 0
  · exact br_t a (h0 (ds_h_lt a))
  · by_cases b : (12 : Int32) ≤ x
    · exact br_f a (br_t b (h0 (ds_h_ge b)))
    · refine br_f a (br_f b ?_)
      obtain ⟨m, hm2, rfl⟩ := nI_of a
      have hm : m < 12 := Nat.lt_of_not_le fun z => b (nI_le (a := 12) z hm2)
      by_cases c : th m = 0
      · exact br_t ((ds_B_0 hB hm).mpr c) (h0 (fun z => (ds_h_m hm).mp z c))
      · exact br_f (fun z => c ((ds_B_0 hB hm).mp z)) (h1 ((ds_h_m hm).mpr c))
theorem ds_keptY {post : Int32 → Prop} (x : Int32) (h1 : ds_h th x → post 1) (h0 : ¬ ds_h th x → post 0) : wpY_kept post (fz, fa, fc, ao, aa, ab, th, kd, pl, cs, ce, ks, ro, lt) x := by
  by_cases a : x < 0
  · exact br_t a (h0 (ds_h_lt a))
  · by_cases b : (12 : Int32) ≤ x
    · exact br_f a (br_t b (h0 (ds_h_ge b)))
    · refine br_f a (br_f b ?_)
      obtain ⟨m, hm2, rfl⟩ := nI_of a
      have hm : m < 12 := Nat.lt_of_not_le fun z => b (nI_le (a := 12) z hm2)
      rw [nI_clamp hm2]
      refine ⟨vp_in_nI hm (by decide), ?_⟩
      by_cases c : th m = 0
      · exact br_t c (h0 (fun z => (ds_h_m hm).mp z c))
      · exact br_f c (h1 ((ds_h_m hm).mpr c))
theorem ds_isYn {post : Int32 → Prop} {x kk : Int32} (h : ¬ ds_h th x) (h0 : post 0) : wpY_is post (fz, fa, fc, ao, aa, ab, th, kd, pl, cs, ce, ks, ro, lt) x kk := by
  by_cases a : x < 0
  · exact br_t a h0
  · by_cases b : (12 : Int32) ≤ x
    · exact br_f a (br_t b h0)
    · refine br_f a (br_f b ?_)
      obtain ⟨m, hm2, rfl⟩ := nI_of a
      have hm : m < 12 := Nat.lt_of_not_le fun z => b (nI_le (a := 12) z hm2)
      rw [nI_clamp hm2]
      refine ⟨vp_in_nI hm (by decide), br_t ?_ h0⟩
      exact Classical.byContradiction fun c => h ((ds_h_m hm).mpr c)
theorem ds_isYm {post : Int32 → Prop} {kk : Int32} {m : Nat} (hm : m < 12) (t : th m ≠ 0) (h1 : kd m = kk → post 1) (h0 : kd m ≠ kk → post 0) : wpY_is post (fz, fa, fc, ao, aa, ab, th, kd, pl, cs, ce, ks, ro, lt) (nI m) kk := by
  have hi : vp_in (nI m) 12 := vp_in_nI hm (by decide)
  refine br_f (nI_pos (by omega)) (br_f (nI_ge (b := 12) hm (by decide)) ⟨hi, ?_⟩)
  rw [nI_clamp (by omega)]
  exact br_f t ⟨hi, br_c h1 h0⟩
theorem ds_rm (hB : ds_B fk th) : ∀ d j, j + d = 12 → ∃ r : Int32, (r = -2 ∨ ∃ m, m < 12 ∧ r = nI m ∧ th m = 0) ∧ (∀ post : Int32 → Prop, post r → wX_freeMoment_2 post fz fk fa fc ao aa ab pc ow kd pl kr kq cs ks rg pg lt (d + 1) (nI j)) ∧ (∀ post : Int32 → Prop, post r → wY_room_2 post fz fa fc ao aa ab th kd pl cs ce ks ro lt (d + 1) (nI j)) := by
  intro d
  induction d with
  | zero =>
    intro j hj
    have h : (12 : Int32) ≤ nI j := nI_le (a := 12) (by omega) (by omega)
    exact ⟨-2, Or.inl rfl, fun _ hp => br_t h hp, fun _ hp => br_t h hp⟩
  | succ d ih =>
    intro j hj
    have h : ¬ (12 : Int32) ≤ nI j := nI_ge (b := 12) (by omega) (by decide)
    have hi : vp_in (nI j) 12 := vp_in_nI (by omega) (by decide)
    have hc : (nI j).toNatClampNeg = j := nI_clamp (by omega)
    by_cases z : th j = 0
    · refine ⟨nI j, Or.inr ⟨j, by omega, rfl, z⟩, fun post hp => br_f h (ds_hasX (nI j) hB (fun w => ?_) (fun _ => br_t rfl hp)), fun post hp => br_f h ⟨hi, br_t (by rw [hc]; exact z) hp⟩⟩
      exact absurd z ((ds_h_m (by omega)).mp w)
    · obtain ⟨r, hr, hX, hY⟩ := ih (j + 1) (by omega)
      refine ⟨r, hr, fun post hp => br_f h (ds_hasX (nI j) hB (fun _ => br_f (by decide) (nm_r (nI_1 j) (hX post hp))) (fun w => ?_)), fun post hp => br_f h ⟨hi, br_f (by rw [hc]; exact z) (nm_r (nI_1 j) (hY post hp))⟩⟩
      exact absurd ((ds_h_m (by omega)).mpr z) w
theorem ds_room (hB : ds_B fk th) : ∃ r : Int32, (r = -2 ∨ ∃ m, m < 12 ∧ r = nI m ∧ th m = 0) ∧ (∀ post : Int32 → Prop, post r → wpX_freeMoment post (fz, fk, fa, fc, ao, aa, ab, pc, ow, kd, pl, kr, kq, cs, ks, rg, pg, lt)) ∧ (∀ post : Int32 → Prop, post r → wpY_room post (fz, fa, fc, ao, aa, ab, th, kd, pl, cs, ce, ks, ro, lt)) := by
  obtain ⟨r, hr, hX, hY⟩ := ds_rm (fz := fz) (fk := fk) (fa := fa) (fc := fc) (ao := ao) (aa := aa) (ab := ab) (pc := pc) (ow := ow) (kd := kd) (pl := pl) (kr := kr) (kq := kq) (cs := cs) (ks := ks) (rg := rg) (pg := pg) (lt := lt) (th := th) (ce := ce) (ro := ro) hB 12 0 rfl
  exact ⟨r, hr, fun post hp => ⟨_, hX post hp⟩, fun post hp => ⟨_, hY post hp⟩⟩
theorem ds_mm {post : Int32 → Prop} (hB : ds_B fk th) (hp : post fk) : ∀ d j x, j + d = 12 → (∀ i, i < 32 → bt x i = (decide (i < j) && decide (th i ≠ 0))) → wY_moments_4 post fz fa fc ao aa ab th kd pl cs ce ks ro lt (d + 1) x (nI j) := by
  intro d
  induction d with
  | zero =>
    intro j x hj hx
    have h : (12 : Int32) ≤ nI j := nI_le (a := 12) (by omega) (by omega)
    have e : x = fk := b_ext fun i hi => by rw [hx i hi, hB i hi, show j = 12 by omega]
    rw [← e] at hp
    exact br_t h hp
  | succ d ih =>
    intro j x hj hx
    have h : ¬ (12 : Int32) ≤ nI j := nI_ge (b := 12) (by omega) (by decide)
    have hi : vp_in (nI j) 12 := vp_in_nI (by omega) (by decide)
    have hc : (nI j).toNatClampNeg = j := nI_clamp (by omega)
    by_cases z : th j = 0
    · refine br_f h ⟨hi, br_t (by rw [hc]; exact z) (nm_e (nm_r (nI_1 j) (ih (j + 1) _ (by omega) (fun i hi => ?_))))⟩
      rw [b_or, b_0, Bool.or_false, hx i hi]
      by_cases e : i = j
      · subst e
        rw [decide_eq_false (show ¬ th i ≠ 0 from fun y => y z), Bool.and_false, Bool.and_false]
      · rw [show decide (i < j + 1) = decide (i < j) from decide_eq_decide.mpr (by omega)]
    · refine br_f h ⟨hi, br_f (by rw [hc]; exact z) (nm_e (nm_r (nI_1 j) (ih (j + 1) _ (by omega) (fun i hi => ?_))))⟩
      rw [b_or, ds_1sh (by omega) hi, hx i hi]
      by_cases e : i = j
      · subst e
        rw [decide_eq_true z, decide_eq_true rfl, Bool.or_true, decide_eq_true (show i < i + 1 by omega), Bool.and_true]
      · rw [show decide (i < j + 1) = decide (i < j) from decide_eq_decide.mpr (by omega), decide_eq_false e, Bool.or_false]
theorem ds_moments {post : Int32 → Prop} (hB : ds_B fk th) (hp : post fk) : wpY_moments post (fz, fa, fc, ao, aa, ab, th, kd, pl, cs, ce, ks, ro, lt) :=
  ⟨_, ds_mm hB hp 12 0 0 rfl (fun i _ => by rw [b_0, decide_eq_false (by omega), Bool.false_and])⟩
end
end
section
/-! freshPage, storeCell, loadCell -/
section
variable {fz fk fa fc : Int32} {ao aa ab pc ow kd pl kr kq cs ks rg pg lt th ce ro : Nat → Int32}
theorem ds_fp26 {post : Int32 → SX → Prop} {p : Nat} (hp6 : p < 56) : ∀ d j, j + d = 4 → post (nI p) (fz, fk, fa, fc, ao, aa, ab, ds_bk pc (4 * p) (fun _ => 0) 4, ow, kd, pl, kr, kq, cs, ks, rg, pg, lt) → wX_freshPage_26 post (nI p) fz fk fa fc (d + 1) (nI j) ao aa ab (ds_bk pc (4 * p) (fun _ => 0) j) ow kd pl kr kq cs ks rg pg lt := by
  intro d
  induction d with
  | zero =>
    intro j hj hp
    obtain rfl : j = 4 := by omega
    exact br_t (nI_le (a := 4) (by omega) (by omega)) hp
  | succ d ih =>
    intro j hj hp
    have e : nI p * 4 + nI j = nI (4 * p + j) := by
      show nI p * nI 4 + nI j = _
      rw [pk_mul, nI_add, Nat.mul_comm]
    have H := ih (j + 1) (by omega) hp
    refine br_f (nI_ge (b := 4) (by omega) (by decide)) ?_
    rw [e, nI_clamp (by omega)]
    refine ⟨vp_in_nI (by omega) (by decide), nm_r ?_ (nm_r (nI_1 j) H)⟩
    exact ds_bk_s
theorem ds_fp2 {post : Int32 → SX → Prop} {Q : Nat → Nat} {p : Nat} (hO : ds_OW Q ow) (hp6 : p < 56) (h0 : ds_cn Q p 52 = 0) (hl : ∀ q, q < p → ds_cn Q q 52 ≠ 0) (hp : post (nI p) (fz, fk, fa, fc, ao, aa, ab, ds_bk pc (4 * p) (fun _ => 0) 4, upd ow p 1, kd, pl, kr, kq, cs, ks, rg, pg, lt)) :
    ∀ d j, j + d = p → wX_freshPage_2 post fz fk fa fc ao aa ab pc ow kd pl kr kq cs ks rg pg lt (d + 1) (nI j) := by
  intro d
  induction d with
  | zero =>
    intro j hj
    obtain rfl : j = p := by omega
    have hi : vp_in (nI j) 56 := vp_in_nI (by omega) (by decide)
    refine br_f (nI_ge (b := 56) (by omega) (by decide)) ⟨hi, br_t ?_ ⟨hi, nm_r (e' := upd ow j 1) ?_ ⟨5, ?_⟩⟩⟩
    · rw [nI_clamp (by omega), hO j hp6, h0]; rfl
    · rw [nI_clamp (by omega), ds_nby1]
    · have H := ds_fp26 (post := post) (fz := fz) (fk := fk) (fa := fa) (fc := fc) (ao := ao) (aa := aa) (ab := ab) (pc := pc) (ow := upd ow j 1) (kd := kd) (pl := pl) (kr := kr) (kq := kq) (cs := cs) (ks := ks) (rg := rg) (pg := pg) (lt := lt) hp6 4 0 rfl hp
      rw [ds_bk_0] at H
      exact H
  | succ d ih =>
    intro j hj
    have hi : vp_in (nI j) 56 := vp_in_nI (by omega) (by decide)
    have L := ds_cn_le Q j 52
    refine br_f (nI_ge (b := 56) (by omega) (by decide)) ⟨hi, br_f ?_ (nm_r (nI_1 j) (ih (j + 1) (by omega)))⟩
    rw [nI_clamp (by omega), hO j (by omega)]
    exact nI_ne0 (Nat.pos_of_ne_zero (hl j (by omega))) (by omega)
theorem ds_fresh {Q : Nat → Nat} (hO : ds_OW Q ow) : ∃ p, p < 56 ∧ ds_cn Q p 52 = 0 ∧ ∀ post : Int32 → SX → Prop, post (nI p) (fz, fk, fa, fc, ao, aa, ab, ds_bk pc (4 * p) (fun _ => 0) 4, upd ow p 1, kd, pl, kr, kq, cs, ks, rg, pg, lt) → wpX_freshPage post (fz, fk, fa, fc, ao, aa, ab, pc, ow, kd, pl, kr, kq, cs, ks, rg, pg, lt) := by
  obtain ⟨p, ⟨h6, h0⟩, hl⟩ := ds_least (fun p => p < 56 ∧ ds_cn Q p 52 = 0) (ds_free Q)
  exact ⟨p, h6, h0, fun post hp => ⟨_, ds_fp2 hO h6 h0 (fun q hq z => hl q hq ⟨by omega, z⟩) hp p 0 (by omega)⟩⟩
/-- a cell's index -/
theorem ds_c2 {c : Nat} (hc : c < 16) : nI c >>> ((2 : Int32) &&& 31) = nI (c / 4) := pk_shrN (by omega) _ 2 (by decide)
theorem ds_c3 {c : Nat} (hc : c < 16) : nI c &&& 3 = nI (c % 4) := pk_andN (by omega) 2 (by decide)
theorem ds_c4 (p k : Nat) : nI p * 4 + nI k = nI (4 * p + k) := by
  show nI p * nI 4 + nI k = _
  rw [pk_mul, nI_add, Nat.mul_comm]
theorem ds_load {post : Int32 → Prop} {c : Nat} (hc : c < 16) (hR : ds_RR th kd pl kr kq ce pc ow ro rg pg) (hp : post (ro (4 + c))) : wpX_loadCell post (fz, fk, fa, fc, ao, aa, ab, pc, ow, kd, pl, kr, kq, cs, ks, rg, pg, lt) (nI c) := by
  obtain ⟨Q, _, _, hR⟩ := hR
  obtain ⟨a, b, _, d⟩ := hR (c / 4) (by omega)
  have e := d (c % 4) (by omega)
  rw [show 4 + 4 * (c / 4) + c % 4 = 4 + c by omega] at e
  rw [e] at hp
  unfold wpX_loadCell
  dsimp only
  rw [ds_c2 hc, ds_c3 hc, nI_clamp (by omega), b, ds_c4, nI_clamp (by omega)]
  exact ⟨vp_in_nI (by omega) (by decide), vp_in_nI (by omega) (by decide), hp⟩
theorem ds_sc88 {post : SX → Prop} {c p : Nat} {v : Int32} (hc : c < 16) (hp6 : p < 56) (hp : post (fz, fk, fa, fc, ao, aa, ab, upd pc (4 * p + c % 4) v, ow, kd, pl, kr, kq, cs, ks, rg, pg, lt)) : wX_storeCell_88 post (nI c) v (nI p) fz fk fa fc ao aa ab pc ow kd pl kr kq cs ks rg pg lt := by
  unfold wX_storeCell_88
  rw [ds_c3 hc, ds_c4, nI_clamp (by omega)]
  exact ⟨vp_in_nI (by omega) (by decide), nm_e hp⟩
theorem ds_sc31 {post : SX → Prop} {c p q : Nat} {v : Int32} (hc : c < 16) (hp6 : p < 56) (hq6 : q < 56) (hpq : p ≠ q) :
    ∀ d j, j + d = 4 → post (fz, fk, fa, fc, ao, aa, ab, upd (ds_bk pc (4 * p) (fun k => pc (4 * q + k)) 4) (4 * p + c % 4) v, upd ow q (vp_nar .byte (ow q - 1).toInt8.toInt32), kd, pl, kr, kq, cs, ks, rg, upd pg (c / 4) (nI p), lt) → wX_storeCell_31 post (nI c) v (nI q) (nI p) fz fk fa fc (d + 1) (nI j) ao aa ab (ds_bk pc (4 * p) (fun k => pc (4 * q + k)) j) ow kd pl kr kq cs ks rg pg lt := by
  intro d
  induction d with
  | zero =>
    intro j hj hp
    obtain rfl : j = 4 := by omega
    have hq : vp_in (nI q) 56 := vp_in_nI hq6 (by decide)
    refine br_t (nI_le (a := 4) (by omega) (by omega)) ?_
    rw [nI_clamp (show q < 2 ^ 31 by omega), ds_c2 hc, nI_clamp (show c / 4 < 2 ^ 31 by omega), ds_by (show p < 128 by omega)]
    exact ⟨hq, hq, nm_e ⟨vp_in_nI (by omega) (by decide), nm_e (ds_sc88 hc hp6 hp)⟩⟩
  | succ d ih =>
    intro j hj hp
    have H := ih (j + 1) (by omega) hp
    refine br_f (nI_ge (b := 4) (by omega) (by decide)) ?_
    rw [ds_c4, ds_c4, nI_clamp (by omega), nI_clamp (by omega)]
    refine ⟨vp_in_nI (by omega) (by decide), vp_in_nI (by omega) (by decide), nm_r ?_ (nm_r (nI_1 j) H)⟩
    rw [ds_bk_out (j := 4 * q + j) (by omega)]
    exact ds_bk_s
theorem ds_store {c : Nat} {v : Int32} (hc : c < 16) (h : ds_RR th kd pl kr kq ce pc ow ro rg pg) : ∃ pc' ow' pg', ds_RR th kd pl kr kq ce pc' ow' (upd ro (4 + c) v) rg pg' ∧ ∀ post : SX → Prop, post (fz, fk, fa, fc, ao, aa, ab, pc', ow', kd, pl, kr, kq, cs, ks, rg, pg', lt) → wpX_storeCell post (fz, fk, fa, fc, ao, aa, ab, pc, ow, kd, pl, kr, kq, cs, ks, rg, pg, lt) (nI c) v := by
  obtain ⟨Q, hO, hM, hR⟩ := h
  obtain ⟨a6, ag, _, _⟩ := hR (c / 4) (by omega)
  have hq : vp_in (nI (Q (48 + c / 4))) 56 := vp_in_nI a6 (by decide)
  have h4 : vp_in (nI (c / 4)) 4 := vp_in_nI (by omega) (by decide)
  have L := ds_cn_le Q (Q (48 + c / 4)) 52
  by_cases z : ds_cn Q (Q (48 + c / 4)) 52 ≤ 1
  · have hne : ∀ s, s < 52 → s ≠ 48 + c / 4 → Q s ≠ Q (48 + c / 4) := fun s hs e y => e (ds_cn_1 hs (by omega) z y rfl)
    obtain ⟨M, R⟩ := ds_wr (pc' := upd pc (4 * Q (48 + c / 4) + c % 4) v) (pg' := pg) (Q' := Q) (v := v) hc hM hR (fun _ _ => rfl) a6 (fun _ _ => rfl) ag
      (fun s hs e _ k hk => pk_un (by have := hne s hs e; omega)) pk_us (fun k hk e => pk_un (by omega))
    refine ⟨_, ow, pg, ⟨Q, hO, M, R⟩, fun post hp => ?_⟩
    unfold wpX_storeCell
    dsimp only
    rw [ds_c2 hc]
    refine ⟨h4, nm_r (e' := nI (Q (48 + c / 4))) (by rw [nI_clamp (by omega)]; exact ag) ⟨hq, br_t ?_ (ds_sc88 hc a6 hp)⟩⟩
    rw [nI_clamp (by omega), hO _ a6]
    exact nI_le (b := 1) z (by decide)
  · obtain ⟨p, p6, p0, F⟩ := ds_fresh (fz := fz) (fk := fk) (fa := fa) (fc := fc) (ao := ao) (aa := aa) (ab := ab) (pc := pc) (ow := ow) (kd := kd) (pl := pl) (kr := kr) (kq := kq) (cs := cs) (ks := ks) (rg := rg) (pg := pg) (lt := lt) hO
    have hpq : ∀ s, s < 52 → Q s ≠ p := fun s hs => ds_cn_0 hs p0
    have hpq0 := hpq (48 + c / 4) (by omega)
    obtain ⟨M, R⟩ := ds_wr (pc' := upd (ds_bk (ds_bk pc (4 * p) (fun _ => 0) 4) (4 * p) (fun k => ds_bk pc (4 * p) (fun _ => 0) 4 (4 * Q (48 + c / 4) + k)) 4) (4 * p + c % 4) v) (pg' := upd pg (c / 4) (nI p)) (Q' := ds_up Q (48 + c / 4) p) (v := v) hc hM hR
      (fun s e => ds_up_n e) (by rw [ds_up_s]; exact p6) (fun i e => pk_un e) (by rw [pk_us, ds_up_s])
      (fun s hs e h6 k hk => by
        have := hpq s hs
        rw [pk_un (by omega), ds_bk_out (by omega), ds_bk_out (by omega)])
      (by rw [ds_up_s, pk_us])
      (fun k hk e => by rw [ds_up_s, pk_un (by omega), ds_bk_in hk, ds_bk_out (by omega)])
    refine ⟨_, _, _, ⟨_, ds_OW_swap hO (by omega) rfl a6 p0, M, R⟩, fun post hp => ?_⟩
    unfold wpX_storeCell
    dsimp only
    rw [ds_c2 hc]
    refine ⟨h4, nm_r (e' := nI (Q (48 + c / 4))) (by rw [nI_clamp (by omega)]; exact ag) ⟨hq, br_f ?_ (F _ ⟨5, ?_⟩)⟩⟩
    · rw [nI_clamp (by omega), hO _ a6]
      exact nI_ge (a := 1) (by omega) (by omega)
    · have H := ds_sc31 (post := post) (v := v) (fz := fz) (fk := fk) (fa := fa) (fc := fc) (ao := ao) (aa := aa) (ab := ab) (pc := ds_bk pc (4 * p) (fun _ => 0) 4) (ow := upd ow p 1) (kd := kd) (pl := pl) (kr := kr) (kq := kq) (cs := cs) (ks := ks) (rg := rg) (pg := pg) (lt := lt) hc p6 a6 (fun z => hpq0 z.symm) 4 0 rfl hp
      rw [ds_bk_0] at H
      exact H
end
end
section
/-! one instruction, in lockstep -/
theorem ds_upc {f : Nat → Int32} {a : Nat} {x y : Int32} (e : x = y) (ha : a < 2 ^ 31 := by omega) : upd f (nI a).toNatClampNeg x = upd f a y := by rw [nI_clamp ha, e]
theorem ds_rd {f : Nat → Int32} {a : Nat} (ha : a < 2 ^ 31 := by omega) : f (nI a).toNatClampNeg = f a := by rw [nI_clamp ha]
theorem ds_a3 {a : Nat} (ha : a < 4) : nI a &&& 3 = nI a := by
  rw [pk_andN (by omega) 2 (by decide)]
  exact congrArg nI (by omega)
theorem ds_4p (c : Nat) : (4 : Int32) + nI c = nI (4 + c) := nI_add 4 c
section
variable {fz fk fa fc : Int32} {ao aa ab pc ow kd pl kr kq cs ks rg pg lt th ce ro : Nat → Int32}
theorem ds_RR_reg {a : Nat} {v : Int32} (ha : a < 4) (h : ds_RR th kd pl kr kq ce pc ow ro rg pg) : ds_RR th kd pl kr kq ce pc ow (upd ro a v) (upd rg a v) pg := by
  obtain ⟨Q, hO, hM, hR⟩ := h
  refine ⟨Q, hO, hM, fun i hi => ?_⟩
  obtain ⟨b, c, e, d⟩ := hR i hi
  refine ⟨b, c, ?_, fun k hk => ?_⟩
  · by_cases z : i = a
    · subst z; rw [pk_us, pk_us]
    · rw [pk_un z, pk_un z]; exact e
  · rw [pk_un (by omega)]
    exact d k hk
theorem ds_RR_rg {a : Nat} (ha : a < 4) (h : ds_RR th kd pl kr kq ce pc ow ro rg pg) : ro a = rg a := by
  obtain ⟨Q, _, _, hR⟩ := h
  exact (hR a ha).2.2.1
theorem ds_say3 {post : SX → Prop} {x : Int32} (hp : post (fz, fk, fa, fc + 1, ao, aa, ab, pc, ow, kd, pl, kr, kq, cs, ks, rg, pg, upd (ds_sh lt 0) 0 x)) : ∀ j, j ≤ 7 → wX_say_3 post x fz fk fa fc (j + 1) (nI j) ao aa ab pc ow kd pl kr kq cs ks rg pg (ds_sh lt j) := by
  intro j
  induction j with
  | zero => intro _; exact br_t (by decide) (nm_e (nm_e hp))
  | succ j ih =>
    intro hj
    have H := ih (by omega)
    refine br_f (nI_nle (by omega) (by omega)) ?_
    rw [nI_pred, nI_clamp (show j < 2 ^ 31 by omega), nI_clamp (show j + 1 < 2 ^ 31 by omega)]
    exact ⟨vp_in_nI (by omega) (by decide), vp_in_nI (by omega) (by decide), nm_r (ds_sh_s (by omega)) (nm_r (pk_m1 j) H)⟩
theorem ds_sayX {post : SX → Prop} {x : Int32} (hp : post (fz, fk, fa, fc + 1, ao, aa, ab, pc, ow, kd, pl, kr, kq, cs, ks, rg, pg, upd (ds_sh lt 0) 0 x)) : wpX_say post (fz, fk, fa, fc, ao, aa, ab, pc, ow, kd, pl, kr, kq, cs, ks, rg, pg, lt) x := by
  have H := ds_say3 hp 7 (by omega)
  rw [ds_sh_7] at H
  exact ⟨_, H⟩
theorem ds_say191 {post : SY → Prop} {a : Nat} {x4 : Int32} (ha : a < 4) (hp : post (fz, x4, fc + 1, ao, aa, ab, th, kd, pl, cs, ce, ks, ro, upd (ds_sh lt 0) 0 (ro a))) : ∀ j, j ≤ 7 → wY_carryOut_191 post (nI a) x4 fz fa fc (j + 1) (nI j) ao aa ab th kd pl cs ce ks ro (ds_sh lt j) := by
  intro j
  induction j with
  | zero => intro _; exact br_t (by decide) ⟨vp_in_nI (by omega) (by decide), nm_r (by rw [nI_clamp (by omega)]) (nm_e hp)⟩
  | succ j ih =>
    intro hj
    have H := ih (by omega)
    refine br_f (nI_nle (by omega) (by omega)) ?_
    rw [nI_pred, nI_clamp (show j < 2 ^ 31 by omega), nI_clamp (show j + 1 < 2 ^ 31 by omega)]
    exact ⟨vp_in_nI (by omega) (by decide), vp_in_nI (by omega) (by decide), nm_r (ds_sh_s (by omega)) (nm_r (pk_m1 j) H)⟩
theorem ds_sayY {post : SY → Prop} {a : Nat} {x4 : Int32} (ha : a < 4) (hp : post (fz, x4, fc + 1, ao, aa, ab, th, kd, pl, cs, ce, ks, ro, upd (ds_sh lt 0) 0 (ro a))) : ∃ n, wY_carryOut_191 post (nI a) x4 fz fa fc n 7 ao aa ab th kd pl cs ce ks ro lt := by
  have H := ds_say191 (fa := fa) ha hp 7 (by omega)
  rw [ds_sh_7] at H
  exact ⟨_, H⟩
theorem ds_work0 {post : SX → Prop} {a : Nat} {b : Int32} (ha : a < 4) (hp : post (fz, fk, fa, fc, ao, aa, ab, pc, ow, kd, pl, kr, kq, cs, ks, upd rg a b, pg, lt)) : wpX_work post (fz, fk, fa, fc, ao, aa, ab, pc, ow, kd, pl, kr, kq, cs, ks, rg, pg, lt) (nI 0) (nI a) b :=
  br_t rfl ⟨vp_in_nI ha (by decide), nm_r (ds_upc rfl) hp⟩
theorem ds_work1 {post : SX → Prop} {a b : Nat} (ha : a < 4) (hb : b < 4) (hp : post (fz, fk, fa, fc, ao, aa, ab, pc, ow, kd, pl, kr, kq, cs, ks, upd rg a (rg a + rg b), pg, lt)) : wpX_work post (fz, fk, fa, fc, ao, aa, ab, pc, ow, kd, pl, kr, kq, cs, ks, rg, pg, lt) (nI 1) (nI a) (nI b) :=
  br_f (by decide) (br_t rfl ⟨vp_in_nI ha (by decide), vp_in_nI hb (by decide), vp_in_nI ha (by decide), nm_r (ds_upc (by rw [nI_clamp (show a < 2 ^ 31 by omega), nI_clamp (show b < 2 ^ 31 by omega)])) hp⟩)
theorem ds_work2 {post : SX → Prop} {a b : Nat} (ha : a < 4) (hb : b < 4) (hp : post (fz, fk, fa, fc, ao, aa, ab, pc, ow, kd, pl, kr, kq, cs, ks, upd rg a (rg a - rg b), pg, lt)) : wpX_work post (fz, fk, fa, fc, ao, aa, ab, pc, ow, kd, pl, kr, kq, cs, ks, rg, pg, lt) (nI 2) (nI a) (nI b) :=
  br_f (by decide) (br_f (by decide) (br_t rfl ⟨vp_in_nI ha (by decide), vp_in_nI hb (by decide), vp_in_nI ha (by decide), nm_r (ds_upc (by rw [nI_clamp (show a < 2 ^ 31 by omega), nI_clamp (show b < 2 ^ 31 by omega)])) hp⟩))
theorem ds_work3 {post : SX → Prop} {a b c : Nat} (ha : a < 4) (hb : b < 4) (hc : c < 16) (e : rg b &&& 15 = nI c) (hR : ds_RR th kd pl kr kq ce pc ow ro rg pg) (hp : post (fz, fk, fa, fc, ao, aa, ab, pc, ow, kd, pl, kr, kq, cs, ks, upd rg a (ro (4 + c)), pg, lt)) : wpX_work post (fz, fk, fa, fc, ao, aa, ab, pc, ow, kd, pl, kr, kq, cs, ks, rg, pg, lt) (nI 3) (nI a) (nI b) := by
  refine br_f (by decide) (br_f (by decide) (br_f (by decide) (br_t rfl ⟨vp_in_nI hb (by decide), ?_⟩)))
  rw [nI_clamp (show b < 2 ^ 31 by omega), e]
  exact ds_load hc hR ⟨vp_in_nI ha (by decide), nm_r (ds_upc rfl) hp⟩
theorem ds_work4 {post : SX → Prop} {a b c : Nat} {pc' ow' pg' : Nat → Int32} (ha : a < 4) (hb : b < 4) (e : rg b &&& 15 = nI c)
    (hS : ∀ post : SX → Prop, post (fz, fk, fa, fc, ao, aa, ab, pc', ow', kd, pl, kr, kq, cs, ks, rg, pg', lt) → wpX_storeCell post (fz, fk, fa, fc, ao, aa, ab, pc, ow, kd, pl, kr, kq, cs, ks, rg, pg, lt) (nI c) (rg a)) (hp : post (fz, fk, fa, fc, ao, aa, ab, pc', ow', kd, pl, kr, kq, cs, ks, rg, pg', lt)) : wpX_work post (fz, fk, fa, fc, ao, aa, ab, pc, ow, kd, pl, kr, kq, cs, ks, rg, pg, lt) (nI 4) (nI a) (nI b) := by
  refine br_f (by decide) (br_f (by decide) (br_f (by decide) (br_f (by decide) ⟨vp_in_nI hb (by decide), vp_in_nI ha (by decide), ?_⟩)))
  rw [nI_clamp (show b < 2 ^ 31 by omega), nI_clamp (show a < 2 ^ 31 by omega), e]
  exact hS _ hp
/-- the outcome of one instruction -/
theorem ds_step {o a : Nat} {b : Int32} (ho : o ≤ 7) (ha : a < 4) (hb : 1 ≤ o → o ≤ 4 → ∃ b', b' < 4 ∧ b = nI b') (h : ds_RR th kd pl kr kq ce pc ow ro rg pg) :
    ∃ fa' fc' pc' ow' rg' pg' lt' ro', ds_RR th kd pl kr kq ce pc' ow' ro' rg' pg' ∧
      (∀ post : SX → Prop, post (fz, fk, fa', fc', ao, aa, ab, pc', ow', kd, pl, kr, kq, cs, ks, rg', pg', lt') → wpX_carry post (fz, fk, fa, fc, ao, aa, ab, pc, ow, kd, pl, kr, kq, cs, ks, rg, pg, lt) (nI o) (nI a) b) ∧
      (∀ (post : SY → Prop) (x y : Int32), x = nI o → y = nI a → post (fz, fa', fc', ao, aa, ab, th, kd, pl, cs, ce, ks, ro', lt') → wpY_carryOut post (fz, fa, fc, ao, aa, ab, th, kd, pl, cs, ce, ks, ro, lt) x y b) := by
  have hA4 : vp_in (nI a) 4 := vp_in_nI ha (by decide)
  have hA20 : vp_in (nI a) 20 := vp_in_nI (by omega) (by decide)
  have hca : (nI a).toNatClampNeg = a := nI_clamp (by omega)
  have era := ds_RR_rg ha h
  rcases (by omega : o = 0 ∨ o = 5 ∨ o = 6 ∨ o = 7 ∨ (1 ≤ o ∧ o ≤ 4)) with rfl | rfl | rfl | rfl | ⟨o1, o4⟩
  · refine ⟨fa + 1, fc, pc, ow, upd rg a b, pg, lt, upd ro a b, ds_RR_reg ha h, fun post hp => ?_, fun post x y ex ey hp => ?_⟩
    · refine br_f (by decide) (br_f (by decide) (br_f (by decide) ?_))
      exact ds_work0 ha (nm_e hp)
    · subst ex ey
      exact nm_e (br_t rfl ⟨hA20, nm_r (ds_upc rfl) hp⟩)
  · by_cases z : rg a = 0
    · refine ⟨b, fc, pc, ow, rg, pg, lt, ro, h, fun post hp => ?_, fun post x y ex ey hp => ?_⟩
      · exact br_t rfl ⟨hA4, br_t (by rw [hca]; exact z) hp⟩
      · subst ex ey
        exact nm_e (br_f (by decide) (br_f (by decide) (br_f (by decide) (br_f (by decide) (br_f (by decide) (br_t rfl ⟨hA20, br_t (by rw [hca, era]; exact z) hp⟩))))))
    · refine ⟨fa + 1, fc, pc, ow, rg, pg, lt, ro, h, fun post hp => ?_, fun post x y ex ey hp => ?_⟩
      · exact br_t rfl ⟨hA4, br_f (by rw [hca]; exact z) (nm_e hp)⟩
      · subst ex ey
        exact nm_e (br_f (by decide) (br_f (by decide) (br_f (by decide) (br_f (by decide) (br_f (by decide) (br_t rfl ⟨hA20, br_f (by rw [hca, era]; exact z) hp⟩))))))
  · refine ⟨b, fc, pc, ow, rg, pg, lt, ro, h, fun post hp => ?_, fun post x y ex ey hp => ?_⟩
    · exact br_f (by decide) (br_t rfl hp)
    · subst ex ey
      exact nm_e (br_f (by decide) (br_f (by decide) (br_f (by decide) (br_f (by decide) (br_f (by decide) (br_f (by decide) (br_t rfl hp)))))))
  · refine ⟨fa + 1, fc + 1, pc, ow, rg, pg, upd (ds_sh lt 0) 0 (ro a), ro, h, fun post hp => ?_, fun post x y ex ey hp => ?_⟩
    · refine br_f (by decide) (br_f (by decide) (br_t rfl ⟨hA4, ?_⟩))
      rw [hca, ← era]
      exact ds_sayX (nm_e hp)
    · subst ex ey
      exact nm_e (br_f (by decide) (br_f (by decide) (br_f (by decide) (br_f (by decide) (br_f (by decide) (br_f (by decide) (br_f (by decide) (br_t rfl (ds_sayY ha hp)))))))))
  · obtain ⟨b, b4, rfl⟩ := hb o1 o4
    have hB20 : vp_in (nI b) 20 := vp_in_nI (by omega) (by decide)
    have hcb : (nI b).toNatClampNeg = b := nI_clamp (by omega)
    have erb := ds_RR_rg b4 h
    have e3 := ds_a3 b4
    obtain ⟨c, c16, ec⟩ := pk_andE (rg b) (m := 15) 4 (by decide)
    have hC20 : vp_in (nI (4 + c)) 20 := vp_in_nI (by omega) (by decide)
    have hcc : (nI (4 + c)).toNatClampNeg = 4 + c := nI_clamp (by omega)
    rcases (by omega : o = 1 ∨ o = 2 ∨ o = 3 ∨ o = 4) with rfl | rfl | rfl | rfl
    · refine ⟨fa + 1, fc, pc, ow, upd rg a (rg a + rg b), pg, lt, upd ro a (rg a + rg b), ds_RR_reg ha h, fun post hp => ?_, fun post x y ex ey hp => ?_⟩
      · refine br_f (by decide) (br_f (by decide) (br_f (by decide) ?_))
        exact ds_work1 ha b4 (nm_e hp)
      · subst ex ey
        unfold wpY_carryOut
        dsimp only
        rw [e3, hca, hcb, era, erb]
        exact nm_e (br_f (by decide) (br_t rfl ⟨hA20, hB20, hA20, nm_e hp⟩))
    · refine ⟨fa + 1, fc, pc, ow, upd rg a (rg a - rg b), pg, lt, upd ro a (rg a - rg b), ds_RR_reg ha h, fun post hp => ?_, fun post x y ex ey hp => ?_⟩
      · refine br_f (by decide) (br_f (by decide) (br_f (by decide) ?_))
        exact ds_work2 ha b4 (nm_e hp)
      · subst ex ey
        unfold wpY_carryOut
        dsimp only
        rw [e3, hca, hcb, era, erb]
        exact nm_e (br_f (by decide) (br_f (by decide) (br_t rfl ⟨hA20, hB20, hA20, nm_e hp⟩)))
    · refine ⟨fa + 1, fc, pc, ow, upd rg a (ro (4 + c)), pg, lt, upd ro a (ro (4 + c)), ds_RR_reg ha h, fun post hp => ?_, fun post x y ex ey hp => ?_⟩
      · refine br_f (by decide) (br_f (by decide) (br_f (by decide) ?_))
        exact ds_work3 ha b4 c16 ec h (nm_e hp)
      · subst ex ey
        unfold wpY_carryOut
        dsimp only
        rw [e3, hca, hcb, erb, ec, ds_4p, hcc]
        exact nm_e (br_f (by decide) (br_f (by decide) (br_f (by decide) (br_t rfl ⟨hB20, hC20, hA20, nm_e hp⟩))))
    · obtain ⟨pc', ow', pg', hR', hS⟩ := ds_store (fz := fz) (fk := fk) (fa := fa) (fc := fc) (ao := ao) (aa := aa) (ab := ab) (cs := cs) (ks := ks) (lt := lt) (v := rg a) c16 h
      refine ⟨fa + 1, fc, pc', ow', rg, pg', lt, upd ro (4 + c) (rg a), hR', fun post hp => ?_, fun post x y ex ey hp => ?_⟩
      · refine br_f (by decide) (br_f (by decide) (br_f (by decide) ?_))
        exact ds_work4 ha b4 ec hS (nm_e hp)
      · subst ex ey
        unfold wpY_carryOut
        dsimp only
        rw [e3, hca, hcb, erb, ec, ds_4p, hcc, era]
        exact nm_e (br_f (by decide) (br_f (by decide) (br_f (by decide) (br_f (by decide) (br_t rfl ⟨hB20, hA20, hC20, nm_e hp⟩)))))
end
end
section
/-! a stretch, in lockstep -/
section
variable {fz fk : Int32} {ao aa ab kd pl kr kq cs ks th ce : Nat → Int32}
theorem ds_y7x {post : SY → Prop} {m x2 x4 fa fc : Int32} {ro lt : Nat → Int32} {n : Nat} (hp : wY_stretch_142 post m x2 fz fa fc ao aa ab th kd pl cs ce ks ro lt) : wY_stretch_7 post m (n + 1) x2 0 x4 fz fa fc ao aa ab th kd pl cs ce ks ro lt := by
  by_cases h : (60 : Int32) < x4
  · exact br_t h hp
  · exact br_f h (br_t rfl hp)
theorem ds_str (hP : ds_P fz ao aa ab) : ∀ (d k : Nat) (fa fc : Int32) (pc ow rg pg lt ro : Nat → Int32), k + d = 61 → ds_RR th kd pl kr kq ce pc ow ro rg pg →
    ∃ (r : Nat) (fa' fc' : Int32) (pc' ow' rg' pg' lt' ro' : Nat → Int32), ds_RR th kd pl kr kq ce pc' ow' ro' rg' pg' ∧ r ≤ 3 ∧ (r = 2 → ∃ p, p < 16 ∧ fa' = nI p) ∧
      (∀ post : Int32 → SX → Prop, post (nI r) (fz, fk, fa', fc', ao, aa, ab, pc', ow', kd, pl, kr, kq, cs, ks, rg', pg', lt') → wX_stretch_2 post (d + 1) (nI k) fz fk fa fc ao aa ab pc ow kd pl kr kq cs ks rg pg lt) ∧
      (∀ (post : SY → Prop) (m : Int32), wY_stretch_142 post m (nI r) fz fa' fc' ao aa ab th kd pl cs ce ks ro' lt' → wY_stretch_7 post m (d + 2) 3 1 (nI k) fz fa fc ao aa ab th kd pl cs ce ks ro lt) := by
  obtain ⟨⟨z, z16, rfl⟩, hC⟩ := hP
  intro d
  induction d with
  | zero =>
    intro k fa fc pc ow rg pg lt ro hk h
    have h6 : (60 : Int32) < nI k := nI_lt (a := 60) (by omega) (by omega)
    exact ⟨3, fa, fc, pc, ow, rg, pg, lt, ro, h, by omega, fun e => absurd e (by decide), fun post hp => br_t h6 hp, fun post m hp => br_t h6 hp⟩
  | succ d ih =>
    intro k fa fc pc ow rg pg lt ro hk h
    have h6 : ¬ (60 : Int32) < nI k := nI_nlt (a := 60) (by omega) (by decide)
    by_cases hn : fa < 0
    · exact ⟨0, fa, fc, pc, ow, rg, pg, lt, ro, h, by omega, fun e => absurd e (by decide), fun post hp => br_f h6 (br_t hn hp), fun post m hp => br_f h6 (br_f (by decide) (br_t hn (nm_e (ds_y7x hp))))⟩
    by_cases hz : fa < nI z
    · have hi : vp_in fa 16 := by
        obtain ⟨p, hp, rfl⟩ := nI_of hn
        rw [nI_ltI hp (by omega)] at hz
        exact vp_in_nI (by omega) (by decide)
      obtain ⟨o, a, o9, a4, eo, ea, hb⟩ := hC fa.toNatClampNeg
      by_cases e9 : o = 9
      · subst e9
        exact ⟨1, fa, fc, pc, ow, rg, pg, lt, ro, h, by omega, fun e => absurd e (by decide), fun post hp => br_f h6 (br_f hn (br_t hz ⟨hi, nm_r eo (br_t rfl hp)⟩)),
          fun post m hp => br_f h6 (br_f (by decide) (br_f hn (br_t hz ⟨hi, br_t eo ⟨hi, br_t eo (nm_e (ds_y7x hp))⟩⟩)))⟩
      have h9 : ¬ nI o = 9 := fun y => e9 ((nI_eq (b := 9) (by omega) (by decide)).mp y)
      by_cases e8 : o = 8
      · subst e8
        refine ⟨2, fa, fc, pc, ow, rg, pg, lt, ro, h, by omega, fun _ => ?_, fun post hp => br_f h6 (br_f hn (br_t hz ⟨hi, nm_r eo (br_f (by decide) (br_t rfl hp))⟩)),
          fun post m hp => br_f h6 (br_f (by decide) (br_f hn (br_t hz ⟨hi, br_f (by rw [eo]; decide) ⟨hi, br_t eo ⟨hi, br_f (by rw [eo]; decide) (nm_e (ds_y7x hp))⟩⟩⟩)))⟩
        exact vp_in_of hi (by decide)
      have h8 : ¬ nI o = 8 := fun y => e8 ((nI_eq (b := 8) (by omega) (by decide)).mp y)
      by_cases hk6 : k = 60
      · have h60 : (60 : Int32) ≤ nI k := nI_le (a := 60) (by omega) (by omega)
        obtain ⟨r, fa', fc', pc', ow', rg', pg', lt', ro', hR, hr, h2, HX, HY⟩ := ih (k + 1) fa fc pc ow rg pg lt ro (by omega) h
        exact ⟨r, fa', fc', pc', ow', rg', pg', lt', ro', hR, hr, h2, fun post hp => br_f h6 (br_f hn (br_t hz ⟨hi, nm_r eo (br_f h9 (br_f h8 (br_t h60 (nm_r (nI_1 k) (HX post hp)))))⟩)),
          fun post m hp => br_f h6 (br_f (by decide) (br_f hn (br_t hz ⟨hi, br_f (by rw [eo]; exact h9) ⟨hi, br_f (by rw [eo]; exact h8) (br_t h60 (nm_r (nI_1 k) (HY post m hp)))⟩⟩)))⟩
      · have h60 : ¬ (60 : Int32) ≤ nI k := nI_ge (b := 60) (by omega) (by decide)
        obtain ⟨fa1, fc1, pc1, ow1, rg1, pg1, lt1, ro1, hR1, SX1, SY1⟩ := ds_step (fz := nI z) (fk := fk) (fa := fa) (fc := fc) (ao := ao) (aa := aa) (ab := ab) (cs := cs) (ks := ks) (lt := lt) (b := ab fa.toNatClampNeg) (show o ≤ 7 by omega) a4 hb h
        obtain ⟨r, fa', fc', pc', ow', rg', pg', lt', ro', hR, hr, h2, HX, HY⟩ := ih (k + 1) fa1 fc1 pc1 ow1 rg1 pg1 lt1 ro1 (by omega) hR1
        refine ⟨r, fa', fc', pc', ow', rg', pg', lt', ro', hR, hr, h2, fun post hp => ?_, fun post m hp => ?_⟩
        · refine br_f h6 (br_f hn (br_t hz ⟨hi, nm_r eo (br_f h9 (br_f h8 (br_f h60 ⟨hi, nm_r ea ⟨hi, ?_⟩⟩)))⟩))
          exact SX1 _ (nm_r (nI_1 k) (HX post hp))
        · refine br_f h6 (br_f (by decide) (br_f hn (br_t hz ⟨hi, br_f (by rw [eo]; exact h9) ⟨hi, br_f (by rw [eo]; exact h8) (br_f h60 ⟨hi, hi, hi, ?_⟩)⟩⟩)))
          exact SY1 _ _ _ eo (by rw [ea]; exact ds_a3 a4) (nm_r (nI_1 k) (HY post m hp))
    · exact ⟨0, fa, fc, pc, ow, rg, pg, lt, ro, h, by omega, fun e => absurd e (by decide), fun post hp => br_f h6 (br_f hn (br_f hz hp)), fun post m hp => br_f h6 (br_f (by decide) (br_f hn (br_f hz (nm_e (ds_y7x hp)))))⟩
theorem ds_stretch {fa fc : Int32} {pc ow rg pg lt ro : Nat → Int32} (hP : ds_P fz ao aa ab) (h : ds_RR th kd pl kr kq ce pc ow ro rg pg) :
    ∃ (r : Nat) (fa' fc' : Int32) (pc' ow' rg' pg' lt' ro' : Nat → Int32), ds_RR th kd pl kr kq ce pc' ow' ro' rg' pg' ∧ r ≤ 3 ∧ (r = 2 → ∃ p, p < 16 ∧ fa' = nI p) ∧
      (∀ post : Int32 → SX → Prop, post (nI r) (fz, fk, fa', fc', ao, aa, ab, pc', ow', kd, pl, kr, kq, cs, ks, rg', pg', lt') → wpX_stretch post (fz, fk, fa, fc, ao, aa, ab, pc, ow, kd, pl, kr, kq, cs, ks, rg, pg, lt)) ∧
      (∀ (post : SY → Prop) (m : Int32), wY_stretch_142 post m (nI r) fz fa' fc' ao aa ab th kd pl cs ce ks ro' lt' → wpY_stretch post (fz, fa, fc, ao, aa, ab, th, kd, pl, cs, ce, ks, ro, lt) m) := by
  obtain ⟨r, fa', fc', pc', ow', rg', pg', lt', ro', hR, hr, h2, HX, HY⟩ := ds_str (fk := fk) (cs := cs) (ks := ks) hP 61 0 fa fc pc ow rg pg lt ro rfl h
  exact ⟨r, fa', fc', pc', ow', rg', pg', lt', ro', hR, hr, h2, fun post hp => ⟨_, HX post hp⟩, fun post m hp => ⟨_, HY post m hp⟩⟩
end
end
section
/-! keep and the end of the reference's stretch; the relation behind it -/
theorem ds_c8 (p k : Nat) : nI p * 8 + nI k = nI (8 * p + k) := by
  show nI p * nI 8 + nI k = _
  rw [pk_mul, nI_add, Nat.mul_comm]
theorem ds_y20 (p k : Nat) : 20 * nI p + nI k = nI (20 * p + k) := by
  show nI 20 * nI p + nI k = _
  rw [pk_mul, nI_add]
theorem ds_y8 (p k : Nat) : 8 * nI p + nI k = nI (8 * p + k) := by
  show nI 8 * nI p + nI k = _
  rw [pk_mul, nI_add]
section
variable {fz fk fa fc : Int32} {ao aa ab pc ow kd pl kr kq cs ks rg pg lt th ce ro : Nat → Int32}
theorem ds_kx87 {post : SX → Prop} {m : Nat} (hm : m < 12) (hp : post (fz, fk, fa, fc, ao, aa, ab, pc, ow, kd, pl, kr, kq, cs, ds_bk ks (8 * m) lt 8, rg, pg, lt)) : ∀ d j, j + d = 8 → wX_keep_87 post (nI m) fz fk fa fc (d + 1) (nI j) ao aa ab pc ow kd pl kr kq cs (ds_bk ks (8 * m) lt j) rg pg lt := by
  intro d
  induction d with
  | zero =>
    intro j hj
    obtain rfl : j = 8 := by omega
    exact br_t (nI_le (a := 8) (by omega) (by omega)) hp
  | succ d ih =>
    intro j hj
    refine br_f (nI_ge (b := 8) (by omega) (by decide)) ?_
    rw [ds_c8, nI_clamp (show 8 * m + j < 2 ^ 31 by omega), nI_clamp (show j < 2 ^ 31 by omega)]
    exact ⟨vp_in_nI (by omega) (by decide), vp_in_nI (by omega) (by decide), nm_r ds_bk_s (nm_r (nI_1 j) (ih (j + 1) (by omega)))⟩
theorem ds_kx42 {post : SX → Prop} {m : Nat} (hm : m < 12) (hg : ∀ i, i < 4 → ∃ q, q < 56 ∧ pg i = nI q) (hp : post (fz, fk, fa, fc, ao, aa, ab, pc, ow, kd, pl, ds_bk kr (4 * m) rg 4, ds_bk kq (4 * m) pg 4, cs, ds_bk ks (8 * m) lt 8, rg, pg, lt)) :
    ∀ d j, j + d = 4 → wX_keep_42 post (nI m) fz fk fa fc (d + 1) (nI j) ao aa ab pc ow kd pl (ds_bk kr (4 * m) rg j) (ds_bk kq (4 * m) pg j) cs ks rg pg lt := by
  intro d
  induction d with
  | zero =>
    intro j hj
    obtain rfl : j = 4 := by omega
    have H := ds_kx87 hm hp 8 0 rfl
    rw [ds_bk_0] at H
    exact br_t (nI_le (a := 4) (by omega) (by omega)) ⟨_, H⟩
  | succ d ih =>
    intro j hj
    obtain ⟨q, q6, eq⟩ := hg j (by omega)
    have hi : vp_in (nI (4 * m + j)) 48 := vp_in_nI (by omega) (by decide)
    have hj4 : vp_in (nI j) 4 := vp_in_nI (by omega) (by decide)
    have ev : vp_nar .byte (pg j) = pg j := by rw [eq, ds_by1 (by omega)]
    refine br_f (nI_ge (b := 4) (by omega) (by decide)) ?_
    rw [ds_c4, nI_clamp (show 4 * m + j < 2 ^ 31 by omega), nI_clamp (show j < 2 ^ 31 by omega), ev]
    exact ⟨hj4, hi, nm_r ds_bk_s ⟨hj4, hi, nm_r ds_bk_s (nm_r (nI_1 j) (ih (j + 1) (by omega)))⟩⟩
theorem ds_keepX {post : SX → Prop} {m r : Nat} (hm : m < 12) (hr : r ≤ 3) (hg : ∀ i, i < 4 → ∃ q, q < 56 ∧ pg i = nI q)
    (hp : post (fz, fk ||| ((1 : Int32) <<< (nI m &&& 31)), fa, fc, ao, aa, ab, pc, ow, upd kd m (nI r), upd pl m fa, ds_bk kr (4 * m) rg 4, ds_bk kq (4 * m) pg 4, upd cs m fc, ds_bk ks (8 * m) lt 8, rg, pg, lt)) : wpX_keep post (fz, fk, fa, fc, ao, aa, ab, pc, ow, kd, pl, kr, kq, cs, ks, rg, pg, lt) (nI m) (nI r) := by
  have hi : vp_in (nI m) 12 := vp_in_nI hm (by decide)
  have H := ds_kx42 hm hg hp 4 0 rfl
  rw [ds_bk_0, ds_bk_0] at H
  exact nm_e ⟨hi, nm_r (ds_upc (ds_by (by omega))) ⟨hi, nm_r (ds_upc rfl) ⟨hi, nm_r (ds_upc rfl) ⟨_, H⟩⟩⟩⟩
theorem ds_ky214 {post : SY → Prop} {m : Nat} (hm : m < 12) (hp : post (fz, fa, fc, ao, aa, ab, th, kd, pl, cs, ce, ds_bk ks (8 * m) lt 8, ro, lt)) : ∀ d j, j + d = 8 → wY_stretch_214 post (nI m) fz fa fc (d + 1) (nI j) ao aa ab th kd pl cs ce (ds_bk ks (8 * m) lt j) ro lt := by
  intro d
  induction d with
  | zero =>
    intro j hj
    obtain rfl : j = 8 := by omega
    exact br_t (nI_le (a := 8) (by omega) (by omega)) hp
  | succ d ih =>
    intro j hj
    refine br_f (nI_ge (b := 8) (by omega) (by decide)) ?_
    rw [ds_y8, nI_clamp (show 8 * m + j < 2 ^ 31 by omega), nI_clamp (show j < 2 ^ 31 by omega)]
    exact ⟨vp_in_nI (by omega) (by decide), vp_in_nI (by omega) (by decide), nm_r ds_bk_s (nm_r (nI_1 j) (ih (j + 1) (by omega)))⟩
theorem ds_ky179 {post : SY → Prop} {m : Nat} (hm : m < 12) (hp : post (fz, fa, fc, ao, aa, ab, th, kd, pl, cs, ds_bk ce (20 * m) ro 20, ds_bk ks (8 * m) lt 8, ro, lt)) : ∀ d j, j + d = 20 → wY_stretch_179 post (nI m) fz fa fc (d + 1) (nI j) ao aa ab th kd pl cs (ds_bk ce (20 * m) ro j) ks ro lt := by
  intro d
  induction d with
  | zero =>
    intro j hj
    obtain rfl : j = 20 := by omega
    have H := ds_ky214 hm hp 8 0 rfl
    rw [ds_bk_0] at H
    exact br_t (nI_le (a := 20) (by omega) (by omega)) ⟨_, H⟩
  | succ d ih =>
    intro j hj
    refine br_f (nI_ge (b := 20) (by omega) (by decide)) ?_
    rw [ds_y20, nI_clamp (show 20 * m + j < 2 ^ 31 by omega), nI_clamp (show j < 2 ^ 31 by omega)]
    exact ⟨vp_in_nI (by omega) (by decide), vp_in_nI (by omega) (by decide), nm_r ds_bk_s (nm_r (nI_1 j) (ih (j + 1) (by omega)))⟩
theorem ds_keepY {post : SY → Prop} {m : Nat} {x2 : Int32} (hm : m < 12)
    (hp : post (fz, fa, fc, ao, aa, ab, upd th m 1, upd kd m x2, upd pl m fa, upd cs m fc, ds_bk ce (20 * m) ro 20, ds_bk ks (8 * m) lt 8, ro, lt)) : wY_stretch_142 post (nI m) x2 fz fa fc ao aa ab th kd pl cs ce ks ro lt := by
  have hi : vp_in (nI m) 12 := vp_in_nI hm (by decide)
  have H := ds_ky179 hm hp 20 0 rfl
  rw [ds_bk_0] at H
  exact ⟨hi, nm_r (ds_upc ds_nb1) ⟨hi, nm_r (ds_upc rfl) ⟨hi, nm_r (ds_upc rfl) ⟨hi, nm_r (ds_upc rfl) ⟨_, H⟩⟩⟩⟩⟩
/-- four moves of a slot: the run's to moment m's -/
theorem ds_mvs {Q : Nat → Nat} {m : Nat} (hm : m < 12) (hO : ds_OW Q ow) (h9 : ∀ i, i < 4 → Q (4 * m + i) = 99) : ∀ n, n ≤ 4 → ∃ Q', ds_OW Q' ow ∧ (∀ i, i < n → Q' (4 * m + i) = Q (48 + i) ∧ Q' (48 + i) = 99) ∧ (∀ s, (∀ i, i < n → s ≠ 4 * m + i ∧ s ≠ 48 + i) → Q' s = Q s) := by
  intro n
  induction n with
  | zero => intro _; exact ⟨Q, hO, fun i hi => absurd hi (by omega), fun s _ => rfl⟩
  | succ n ih =>
    intro hn
    obtain ⟨Q', hO', h1, h2⟩ := ih (by omega)
    have e1 : Q' (4 * m + n) = 99 := by rw [h2 _ (fun i hi => by omega)]; exact h9 n (by omega)
    have e2 : Q' (48 + n) = Q (48 + n) := h2 _ (fun i hi => by omega)
    refine ⟨_, ds_OW_mv (s := 4 * m + n) (t := 48 + n) hO' (by omega) (by omega) (by omega) e1, fun i hi => ?_, fun s hs => ?_⟩
    · by_cases z : i = n
      · subst z
        rw [ds_up_n (by omega), ds_up_s, ds_up_s]
        exact ⟨e2, rfl⟩
      · rw [ds_up_n (by omega), ds_up_n (by omega), ds_up_n (by omega), ds_up_n (by omega)]
        exact h1 i (by omega)
    · have := hs n (by omega)
      rw [ds_up_n (by omega), ds_up_n (by omega)]
      exact h2 s (fun i hi => hs i (by omega))
theorem ds_fin {m r : Nat} (hm : m < 12) (t : th m = 0) (hr : r ≤ 3) (h2 : r = 2 → ∃ p, p < 16 ∧ fa = nI p) (h : ds_RR th kd pl kr kq ce pc ow ro rg pg) :
    ds_RI (upd th m 1) (upd kd m (nI r)) (upd pl m fa) (ds_bk kr (4 * m) rg 4) (ds_bk kq (4 * m) pg 4) (ds_bk ce (20 * m) ro 20) pc ow := by
  obtain ⟨Q, hO, hM, hR⟩ := h
  obtain ⟨Q', hO', h1, h3⟩ := ds_mvs hm hO ((hM m hm).1 t) 4 (by omega)
  refine ⟨Q', hO', fun n hn => ?_, fun i hi => (h1 i hi).2⟩
  by_cases e : n = m
  · subst e
    rw [pk_us, pk_us, pk_us]
    refine ⟨fun z => absurd z (by decide), fun _ => ⟨fun z => h2 ((nI_eq (b := 2) (by omega) (by decide)).mp z), fun i hi => ?_⟩⟩
    obtain ⟨a, b, c, d⟩ := hR i hi
    rw [(h1 i hi).1, ds_bk_in hi, ds_bk_in hi, ds_bk_in (by omega)]
    exact ⟨a, b, c, fun k hk => by rw [ds_bk_in (by omega)]; exact d k hk⟩
  · rw [pk_un e, pk_un e, pk_un e]
    obtain ⟨g0, g1⟩ := hM n hn
    refine ⟨fun z i hi => ?_, fun z => ⟨(g1 z).1, fun i hi => ?_⟩⟩
    · rw [h3 _ (fun j hj => by omega)]
      exact g0 z i hi
    · obtain ⟨a, b, c, d⟩ := (g1 z).2 i hi
      rw [h3 _ (fun j hj => by omega), ds_bk_out (by omega), ds_bk_out (by omega), ds_bk_out (by omega)]
      exact ⟨a, b, c, fun k hk => by rw [ds_bk_out (by omega)]; exact d k hk⟩
theorem ds_RR_pg (h : ds_RR th kd pl kr kq ce pc ow ro rg pg) : ∀ i, i < 4 → ∃ q, q < 56 ∧ pg i = nI q := by
  obtain ⟨Q, _, _, hR⟩ := h
  exact fun i hi => ⟨_, (hR i hi).1, (hR i hi).2.1⟩
end
end
section
/-! recall and take; the openings of start -/
section
variable {fz fk fa fc : Int32} {ao aa ab pc ow kd pl kr kq cs ks rg pg lt th ce ro : Nat → Int32}
theorem ds_rx83 {post : SX → Prop} {m : Nat} (hm : m < 12) (hp : post (fz, fk, fa, fc, ao, aa, ab, pc, ow, kd, pl, kr, kq, cs, ks, rg, pg, ds_bk lt 0 (fun k => ks (8 * m + k)) 8)) : ∀ d j, j + d = 8 → wX_recall_83 post (nI m) fz fk fa fc (d + 1) (nI j) ao aa ab pc ow kd pl kr kq cs ks rg pg (ds_bk lt 0 (fun k => ks (8 * m + k)) j) := by
  intro d
  induction d with
  | zero =>
    intro j hj
    obtain rfl : j = 8 := by omega
    exact br_t (nI_le (a := 8) (by omega) (by omega)) hp
  | succ d ih =>
    intro j hj
    refine br_f (nI_ge (b := 8) (by omega) (by decide)) ?_
    rw [ds_c8, nI_clamp (show 8 * m + j < 2 ^ 31 by omega), nI_clamp (show j < 2 ^ 31 by omega)]
    exact ⟨vp_in_nI (by omega) (by decide), vp_in_nI (by omega) (by decide), nm_r (ds_bk_z (s := fun k => ks (8 * m + k))) (nm_r (nI_1 j) (ih (j + 1) (by omega)))⟩
theorem ds_rx22 {post : SX → Prop} {m : Nat} (hm : m < 12) : ∀ (d j : Nat) (ow : Nat → Int32) (Q : Nat → Nat), j + d = 4 → ds_OW Q ow → (∀ i, i < 4 → Q (4 * m + i) < 56 ∧ kq (4 * m + i) = nI (Q (4 * m + i))) → (∀ i, j ≤ i → i < 4 → Q (48 + i) = 99) →
    (∀ ow' Q', ds_OW Q' ow' → (∀ s, s < 48 + j → Q' s = Q s) → (∀ i, j ≤ i → i < 4 → Q' (48 + i) = Q (4 * m + i)) → post (fz, fk, fa, fc, ao, aa, ab, pc, ow', kd, pl, kr, kq, cs, ks, ds_bk rg 0 (fun k => kr (4 * m + k)) 4, ds_bk pg 0 (fun k => kq (4 * m + k)) 4, ds_bk lt 0 (fun k => ks (8 * m + k)) 8)) →
    wX_recall_22 post (nI m) fz fk fa fc (d + 1) (nI j) ao aa ab pc ow kd pl kr kq cs ks (ds_bk rg 0 (fun k => kr (4 * m + k)) j) (ds_bk pg 0 (fun k => kq (4 * m + k)) j) lt := by
  intro d
  induction d with
  | zero =>
    intro j ow Q hj hO hq h9 hp
    obtain rfl : j = 4 := by omega
    have H := ds_rx83 hm (hp ow Q hO (fun _ _ => rfl) (fun i h1 h2 => absurd h1 (by omega))) 8 0 rfl
    rw [ds_bk_0] at H
    exact br_t (nI_le (a := 4) (by omega) (by omega)) ⟨_, H⟩
  | succ d ih =>
    intro j ow Q hj hO hq h9 hp
    obtain ⟨q6, eq⟩ := hq j (by omega)
    have hi : vp_in (nI (4 * m + j)) 48 := vp_in_nI (by omega) (by decide)
    have hj4 : vp_in (nI j) 4 := vp_in_nI (by omega) (by decide)
    have hp6 : vp_in (nI (Q (4 * m + j))) 56 := vp_in_nI q6 (by decide)
    have ev : vp_nar .byte (kq (4 * m + j)) = kq (4 * m + j) := by rw [eq, ds_by1 (by omega)]
    have eg : ds_bk pg 0 (fun k => kq (4 * m + k)) (j + 1) j = nI (Q (4 * m + j)) := by
      rw [ds_bk_i (by omega)]
      exact eq
    have H := ih (j + 1) (upd ow (Q (4 * m + j)) (vp_nar .byte (ow (Q (4 * m + j)) + 1).toInt8.toInt32)) (ds_up Q (48 + j) (Q (4 * m + j))) (by omega) (ds_OW_inc hO (by omega) (h9 j (by omega) (by omega)) q6)
      (fun i hi => by rw [ds_up_n (by omega)]; exact hq i hi) (fun i h1 h2 => by rw [ds_up_n (by omega)]; exact h9 i (by omega) h2)
      (fun ow' Q' hO' h1 h2 => hp ow' Q' hO' (fun s hs => by rw [h1 s (by omega), ds_up_n (by omega)]) (fun i hi1 hi2 => by
        by_cases z : i = j
        · subst z
          rw [h1 _ (by omega), ds_up_s]
        · rw [h2 i (by omega) hi2, ds_up_n (by omega)]))
    refine br_f (nI_ge (b := 4) (by omega) (by decide)) ?_
    rw [ds_c4, nI_clamp (show 4 * m + j < 2 ^ 31 by omega), nI_clamp (show j < 2 ^ 31 by omega), ev]
    refine ⟨hi, hj4, nm_r (ds_bk_z (s := fun k => kr (4 * m + k))) ⟨hi, hj4, nm_r (ds_bk_z (s := fun k => kq (4 * m + k))) ⟨hj4, ?_⟩⟩⟩
    rw [eg, nI_clamp (by omega)]
    exact ⟨hp6, hp6, nm_e (nm_r (nI_1 j) H)⟩
theorem ds_recX {post : SX → Prop} {m : Nat} (hm : m < 12) (t : th m ≠ 0) (h : ds_RI th kd pl kr kq ce pc ow)
    (hp : ∀ ow' rg' pg', ds_RR th kd pl kr kq ce pc ow' (ds_bk ro 0 (fun k => ce (20 * m + k)) 20) rg' pg' → post (fz, fk, pl m, cs m, ao, aa, ab, pc, ow', kd, pl, kr, kq, cs, ks, rg', pg', ds_bk lt 0 (fun k => ks (8 * m + k)) 8)) : wpX_recall post (fz, fk, fa, fc, ao, aa, ab, pc, ow, kd, pl, kr, kq, cs, ks, rg, pg, lt) (nI m) := by
  obtain ⟨Q, hO, hM, hI⟩ := h
  have g := ((hM m hm).2 t).2
  have hi : vp_in (nI m) 12 := vp_in_nI hm (by decide)
  have H := ds_rx22 (post := post) (fz := fz) (fk := fk) (fa := pl m) (fc := cs m) (ao := ao) (aa := aa) (ab := ab) (pc := pc) (kd := kd) (pl := pl) (kr := kr) (kq := kq) (cs := cs) (ks := ks) (rg := rg) (pg := pg) (lt := lt) hm 4 0 ow Q rfl hO (fun i hi => ⟨(g i hi).1, (g i hi).2.1⟩) (fun i _ hi => hI i hi)
    (fun ow' Q' hO' h1 h2 => hp ow' _ _ ⟨Q', hO', ds_M_pc hM (fun s hs => h1 s (by omega)) (fun _ _ _ _ _ => rfl), fun i hi => by
      obtain ⟨a, b, c, d⟩ := g i hi
      rw [h2 i (by omega) hi, ds_bk_i hi, ds_bk_i hi, ds_bk_i (by omega)]
      exact ⟨a, b, c, fun k hk => by rw [ds_bk_i (by omega)]; exact d k hk⟩⟩)
  rw [ds_bk_0, ds_bk_0] at H
  exact ⟨hi, nm_r ds_rd ⟨hi, nm_r ds_rd ⟨_, H⟩⟩⟩
theorem ds_ty53 {post : SY → Prop} {m : Nat} (hm : m < 12) (hp : post (fz, fa, fc, ao, aa, ab, th, kd, pl, cs, ce, ks, ro, ds_bk lt 0 (fun k => ks (8 * m + k)) 8)) : ∀ d j, j + d = 8 → wY_take_53 post (nI m) fz fa fc (d + 1) (nI j) ao aa ab th kd pl cs ce ks ro (ds_bk lt 0 (fun k => ks (8 * m + k)) j) := by
  intro d
  induction d with
  | zero =>
    intro j hj
    obtain rfl : j = 8 := by omega
    exact br_t (nI_le (a := 8) (by omega) (by omega)) hp
  | succ d ih =>
    intro j hj
    refine br_f (nI_ge (b := 8) (by omega) (by decide)) ?_
    rw [ds_y8, nI_clamp (show 8 * m + j < 2 ^ 31 by omega), nI_clamp (show j < 2 ^ 31 by omega)]
    exact ⟨vp_in_nI (by omega) (by decide), vp_in_nI (by omega) (by decide), nm_r (ds_bk_z (s := fun k => ks (8 * m + k))) (nm_r (nI_1 j) (ih (j + 1) (by omega)))⟩
theorem ds_ty22 {post : SY → Prop} {m : Nat} (hm : m < 12) (hp : post (fz, fa, fc, ao, aa, ab, th, kd, pl, cs, ce, ks, ds_bk ro 0 (fun k => ce (20 * m + k)) 20, ds_bk lt 0 (fun k => ks (8 * m + k)) 8)) : ∀ d j, j + d = 20 → wY_take_22 post (nI m) fz fa fc (d + 1) (nI j) ao aa ab th kd pl cs ce ks (ds_bk ro 0 (fun k => ce (20 * m + k)) j) lt := by
  intro d
  induction d with
  | zero =>
    intro j hj
    obtain rfl : j = 20 := by omega
    have H := ds_ty53 hm hp 8 0 rfl
    rw [ds_bk_0] at H
    exact br_t (nI_le (a := 20) (by omega) (by omega)) ⟨_, H⟩
  | succ d ih =>
    intro j hj
    refine br_f (nI_ge (b := 20) (by omega) (by decide)) ?_
    rw [ds_y20, nI_clamp (show 20 * m + j < 2 ^ 31 by omega), nI_clamp (show j < 2 ^ 31 by omega)]
    exact ⟨vp_in_nI (by omega) (by decide), vp_in_nI (by omega) (by decide), nm_r (ds_bk_z (s := fun k => ce (20 * m + k))) (nm_r (nI_1 j) (ih (j + 1) (by omega)))⟩
theorem ds_takeY {post : SY → Prop} {m : Nat} (hm : m < 12) (hp : post (fz, pl m, cs m, ao, aa, ab, th, kd, pl, cs, ce, ks, ds_bk ro 0 (fun k => ce (20 * m + k)) 20, ds_bk lt 0 (fun k => ks (8 * m + k)) 8)) : wpY_take post (fz, fa, fc, ao, aa, ab, th, kd, pl, cs, ce, ks, ro, lt) (nI m) := by
  have hi : vp_in (nI m) 12 := vp_in_nI hm (by decide)
  have H := ds_ty22 hm hp 20 0 rfl
  rw [ds_bk_0] at H
  exact ⟨hi, nm_r ds_rd ⟨hi, nm_r ds_rd ⟨_, H⟩⟩⟩
/-! start: the component's pages and numbers said, the reference's row and tail -/
theorem ds_sx55 {post : Int32 → SX → Prop} {x1 : Int32} (hp : wX_start_55 post x1 fz fk fa fc 1 (nI 8) ao aa ab pc ow kd pl kr kq cs ks rg pg (ds_bk lt 0 (fun _ => 0) 8)) : ∀ d j, j + d = 8 → wX_start_55 post x1 fz fk fa fc (d + 1) (nI j) ao aa ab pc ow kd pl kr kq cs ks rg pg (ds_bk lt 0 (fun _ => 0) j) := by
  intro d
  induction d with
  | zero =>
    intro j hj
    obtain rfl : j = 8 := by omega
    exact hp
  | succ d ih =>
    intro j hj
    refine br_f (nI_ge (b := 8) (by omega) (by decide)) ⟨vp_in_nI (by omega) (by decide), nm_r ?_ (nm_r (nI_1 j) (ih (j + 1) (by omega)))⟩
    rw [nI_clamp (by omega)]
    exact ds_bk_z (s := fun _ => 0)
theorem ds_sx24 {post : Int32 → SX → Prop} {x1 : Int32} : ∀ (d j : Nat) (pc ow pg : Nat → Int32) (Q : Nat → Nat), j + d = 4 → ds_OW Q ow → ds_M th kd pl kr kq ce pc Q →
    (∀ i, i < j → Q (48 + i) < 56 ∧ pg i = nI (Q (48 + i)) ∧ ∀ k, k < 4 → pc (4 * Q (48 + i) + k) = 0) → (∀ i, j ≤ i → i < 4 → Q (48 + i) = 99) →
    (∀ pc' ow' pg', ds_RR th kd pl kr kq ce pc' ow' (ds_bk ro 0 (fun _ => 0) 20) (ds_bk rg 0 (fun _ => 0) 4) pg' → wX_start_55 post x1 fz fk fa fc 1 (nI 8) ao aa ab pc' ow' kd pl kr kq cs ks (ds_bk rg 0 (fun _ => 0) 4) pg' (ds_bk lt 0 (fun _ => 0) 8)) →
    wX_start_24 post x1 (d + 1) (nI j) fz fk fa fc ao aa ab pc ow kd pl kr kq cs ks (ds_bk rg 0 (fun _ => 0) j) pg lt := by
  intro d
  induction d with
  | zero =>
    intro j pc ow pg Q hj hO hM h1 h9 hp
    obtain rfl : j = 4 := by omega
    have H := ds_sx55 (hp pc ow pg ⟨Q, hO, hM, fun i hi => by
      obtain ⟨a, b, c⟩ := h1 i hi
      rw [ds_bk_i hi, ds_bk_i (by omega)]
      exact ⟨a, b, rfl, fun k hk => by rw [ds_bk_i (by omega), c k hk]⟩⟩) 8 0 rfl
    rw [ds_bk_0] at H
    exact br_t (nI_le (a := 4) (by omega) (by omega)) ⟨_, H⟩
  | succ d ih =>
    intro j pc ow pg Q hj hO hM h1 h9 hp
    have hj4 : vp_in (nI j) 4 := vp_in_nI (by omega) (by decide)
    obtain ⟨p, p6, p0, F⟩ := ds_fresh (fz := fz) (fk := fk) (fa := fa) (fc := fc) (ao := ao) (aa := aa) (ab := ab) (pc := pc) (ow := ow) (kd := kd) (pl := pl) (kr := kr) (kq := kq) (cs := cs) (ks := ks) (rg := ds_bk rg 0 (fun _ => 0) (j + 1)) (pg := pg) (lt := lt) hO
    have hpq : ∀ s, s < 52 → Q s ≠ p := fun s hs => ds_cn_0 hs p0
    have H := ih (j + 1) (ds_bk pc (4 * p) (fun _ => 0) 4) (upd ow p 1) (upd pg j (nI p)) (ds_up Q (48 + j) p) (by omega) (ds_OW_new hO (by omega) (h9 j (by omega) (by omega)) p0)
      (ds_M_pc hM (fun s hs => ds_up_n (by omega)) (fun s hs h6 k hk => by have := hpq s (by omega); rw [ds_bk_out (by omega)]))
      (fun i hi => by
        by_cases z : i = j
        · subst z
          rw [ds_up_s, pk_us]
          exact ⟨p6, rfl, fun k hk => ds_bk_in hk⟩
        · obtain ⟨a, b, c⟩ := h1 i (by omega)
          have := hpq (48 + i) (by omega)
          rw [ds_up_n (by omega), pk_un z]
          exact ⟨a, b, fun k hk => by rw [ds_bk_out (by omega)]; exact c k hk⟩)
      (fun i hi1 hi2 => by rw [ds_up_n (by omega)]; exact h9 i (by omega) hi2) hp
    refine br_f (nI_ge (b := 4) (by omega) (by decide)) ⟨hj4, nm_r (e' := ds_bk rg 0 (fun _ => 0) (j + 1)) ?_ ?_⟩
    · rw [nI_clamp (by omega)]
      exact ds_bk_z (s := fun _ => 0)
    · exact F _ ⟨hj4, nm_r (ds_upc (ds_by (by omega))) (nm_r (nI_1 j) H)⟩
theorem ds_y7 {j : Nat} (h : j < 20) : nI j &&& 7 = nI (j % 8) := pk_andN (by omega) 3 (by decide)
theorem ds_sy24 {post : Int32 → SY → Prop} {x1 : Int32} (hp : wY_start_24 post x1 fz fa fc 1 (nI 20) ao aa ab th kd pl cs ce ks (ds_bk ro 0 (fun _ => 0) 20) (ds_bk lt 0 (fun _ => 0) 8)) : ∀ (d j n : Nat), j + d = 20 → (j ≤ n ∨ n = 8) → n ≤ 8 → n ≤ j → wY_start_24 post x1 fz fa fc (d + 1) (nI j) ao aa ab th kd pl cs ce ks (ds_bk ro 0 (fun _ => 0) j) (ds_bk lt 0 (fun _ => 0) n) := by
  intro d
  induction d with
  | zero =>
    intro j n hj h1 h8 h2
    obtain rfl : j = 20 := by omega
    obtain rfl : n = 8 := by omega
    exact hp
  | succ d ih =>
    intro j n hj h1 h8 h2
    refine br_f (nI_ge (b := 20) (by omega) (by decide)) ?_
    rw [ds_y7 (by omega), nI_clamp (show j % 8 < 2 ^ 31 by omega), nI_clamp (show j < 2 ^ 31 by omega)]
    refine ⟨vp_in_nI (by omega) (by decide), nm_r (ds_bk_z (s := fun _ => 0)) ⟨vp_in_nI (by omega) (by decide), ?_⟩⟩
    by_cases z : n = 8
    · subst z
      refine nm_r ?_ (nm_r (nI_1 j) (ih (j + 1) 8 (by omega) (by omega) (by omega) (by omega)))
      funext k
      by_cases e : k = j % 8
      · subst e
        rw [pk_us, ds_bk_i (by omega)]
      · rw [pk_un e]
    · obtain rfl : n = j := by omega
      refine nm_r ?_ (nm_r (nI_1 n) (ih (n + 1) (n + 1) (by omega) (by omega) (by omega) (by omega)))
      rw [show n % 8 = n by omega]
      exact ds_bk_z (s := fun _ => 0)
end
end
section
/-! a run to its end: stretch and keep -/
section
variable {fz fk fa fc : Int32} {ao aa ab pc ow kd pl kr kq cs ks rg pg lt th ce ro : Nat → Int32}
theorem ds_run {m : Nat} (hm : m < 12) (t : th m = 0) (hP : ds_P fz ao aa ab) (hB : ds_B fk th) (h : ds_RR th kd pl kr kq ce pc ow ro rg pg) :
    ∃ (r : Nat) (fa' fc' : Int32) (pc' ow' rg' pg' lt' ro' : Nat → Int32) (fk2 : Int32) (kd2 pl2 kr2 kq2 cs2 ks2 th2 ce2 : Nat → Int32), ds_B fk2 th2 ∧ ds_RI th2 kd2 pl2 kr2 kq2 ce2 pc' ow' ∧
      (∀ post : Int32 → SX → Prop, post (nI r) (fz, fk, fa', fc', ao, aa, ab, pc', ow', kd, pl, kr, kq, cs, ks, rg', pg', lt') → wpX_stretch post (fz, fk, fa, fc, ao, aa, ab, pc, ow, kd, pl, kr, kq, cs, ks, rg, pg, lt)) ∧
      (∀ post : SX → Prop, post (fz, fk2, fa', fc', ao, aa, ab, pc', ow', kd2, pl2, kr2, kq2, cs2, ks2, rg', pg', lt') → wpX_keep post (fz, fk, fa', fc', ao, aa, ab, pc', ow', kd, pl, kr, kq, cs, ks, rg', pg', lt') (nI m) (nI r)) ∧
      (∀ post : SY → Prop, post (fz, fa', fc', ao, aa, ab, th2, kd2, pl2, cs2, ce2, ks2, ro', lt') → wpY_stretch post (fz, fa, fc, ao, aa, ab, th, kd, pl, cs, ce, ks, ro, lt) (nI m)) := by
  obtain ⟨r, fa', fc', pc', ow', rg', pg', lt', ro', hR, hr, h2, HX, HY⟩ := ds_stretch (fk := fk) (fa := fa) (fc := fc) (cs := cs) (ks := ks) (lt := lt) hP h
  exact ⟨r, fa', fc', pc', ow', rg', pg', lt', ro', _, _, _, _, _, _, _, _, _, ds_B_or hB hm, ds_fin hm t hr h2 hR, HX, fun post hp => ds_keepX hm hr (ds_RR_pg hR) hp, fun post hp => HY post (nI m) (ds_keepY hm hp)⟩
end
/-- the relation: the program, the kept bits, the pages and their owners -/
def i_Rel (k : Nat) (u : SX) (v : SY) : Prop := match u, v with
  | (fz, fk, fa, fc, ao, aa, ab, pc, ow, kd, pl, kr, kq, cs, ks, rg, pg, lt), (gz, ga, gc, go, gA, gb, th, gd, gl, gs, ce, gk, _, gt) => gz = fz ∧ ga = fa ∧ gc = fc ∧ go = ao ∧ gA = aa ∧ gb = ab ∧ gd = kd ∧ gl = pl ∧ gs = cs ∧ gk = ks ∧ gt = lt ∧ ds_P fz ao aa ab ∧ ds_B fk th ∧ ds_RI th kd pl kr kq ce pc ow
theorem i_up {k : Nat} {u : SX} {v : SY} (h : i_Rel k u v) : i_Rel (k + 4) u v := h
section
variable {fz fk fa fc : Int32} {ao aa ab pc ow kd pl kr kq cs ks rg pg lt th ce ro : Nat → Int32}
theorem ds_mk {k : Nat} (hP : ds_P fz ao aa ab) (hB : ds_B fk th) (hI : ds_RI th kd pl kr kq ce pc ow) : i_Rel k (fz, fk, fa, fc, ao, aa, ab, pc, ow, kd, pl, kr, kq, cs, ks, rg, pg, lt) (fz, fa, fc, ao, aa, ab, th, kd, pl, cs, ce, ks, ro, lt) :=
  ⟨rfl, rfl, rfl, rfl, rfl, rfl, rfl, rfl, rfl, rfl, rfl, hP, hB, hI⟩
end
theorem ds_el {P : SX → SY → Prop} (h : ∀ (fz fk fa fc : Int32) (ao aa ab pc ow kd pl kr kq cs ks rg pg lt th ce ro : Nat → Int32), ds_P fz ao aa ab → ds_B fk th → ds_RI th kd pl kr kq ce pc ow → P (fz, fk, fa, fc, ao, aa, ab, pc, ow, kd, pl, kr, kq, cs, ks, rg, pg, lt) (fz, fa, fc, ao, aa, ab, th, kd, pl, cs, ce, ks, ro, lt)) {k : Nat} {u : SX} {v : SY} (I : i_Rel k u v) : P u v := by
  obtain ⟨fz, fk, fa, fc, ao, aa, ab, pc, ow, kd, pl, kr, kq, cs, ks, rg, pg, lt⟩ := u
  obtain ⟨gz, ga, gc, go, gA, gb, th, gd, gl, gs, ce, gk, ro, gt⟩ := v
  obtain ⟨e1, e2, e3, e4, e5, e6, e7, e8, e9, e10, e11, hP, hB, hI⟩ := I
  subst e1 e2 e3 e4 e5 e6 e7 e8 e9 e10 e11
  exact h _ _ _ _ _ _ _ _ _ _ _ _ _ _ _ _ _ _ _ _ _ hP hB hI
theorem i_vc0 : wpX_init (fun u => wpY_init (fun v => i_Rel 0 u v)) := by
  refine ds_mk (k := 0) (rg := fun _ => 0) (pg := fun _ => 0) (ro := fun _ => 0) ⟨⟨0, by omega, rfl⟩, fun j => ⟨0, 0, by omega, by omega, rfl, rfl, fun h => absurd h (by omega)⟩⟩ (fun i hi => ?_) ⟨fun _ => 99, fun p hp => ?_, fun m hm => ⟨fun _ i _ => rfl, fun z => absurd rfl z⟩, fun _ _ => rfl⟩
  · rw [b_0, decide_eq_false (show ¬ (0 : Int32) ≠ 0 from fun z => z rfl), Bool.and_false]
  · have h : ∀ n, ds_cn (fun _ => 99) p n = 0 := by
      intro n
      induction n with
      | zero => rfl
      | succ n ih =>
        show ds_cn (fun _ => 99) p n + (if 99 = p then 1 else 0) = 0
        rw [ih, if_neg (by omega)]
    rw [h 52]
    rfl
end
section
/-! emit, forget, forgetAll, clear -/
def ds_bad (v1 v2 v3 : Int32) : Prop := v1 < 0 ∨ 9 < v1 ∨ v2 < 0 ∨ 3 < v2 ∨ (¬ v1 < 1 ∧ ¬ 4 < v1 ∧ (v3 < 0 ∨ ¬ v3 ≤ 3))
theorem ds_gd1 {v1 v2 v3 : Int32} (h1 : ¬ v1 < 0) (h2 : ¬ 9 < v1) (h3 : ¬ v2 < 0) (h4 : ¬ 3 < v2) (h : v1 < 1 ∨ 4 < v1) : ¬ ds_bad v1 v2 v3 := by
  rintro (a | a | a | a | ⟨a, b, _⟩)
  · exact h1 a
  · exact h2 a
  · exact h3 a
  · exact h4 a
  · exact h.elim a b
theorem ds_gd2 {v1 v2 v3 : Int32} (h1 : ¬ v1 < 0) (h2 : ¬ 9 < v1) (h3 : ¬ v2 < 0) (h4 : ¬ 3 < v2) (h5 : ¬ v3 < 0) (h6 : v3 ≤ 3) : ¬ ds_bad v1 v2 v3 := by
  rintro (a | a | a | a | ⟨_, _, a | a⟩)
  · exact h1 a
  · exact h2 a
  · exact h3 a
  · exact h4 a
  · exact h5 a
  · exact a h6
theorem ds_good {v1 v2 v3 : Int32} (h : ¬ ds_bad v1 v2 v3) : ∃ o a, o ≤ 9 ∧ a < 4 ∧ v1 = nI o ∧ v2 = nI a ∧ (1 ≤ o → o ≤ 4 → ∃ b, b < 4 ∧ v3 = nI b) := by
  have h1 : ¬ v1 < 0 := fun z => h (Or.inl z)
  have h2 : ¬ 9 < v1 := fun z => h (Or.inr (Or.inl z))
  have h3 : ¬ v2 < 0 := fun z => h (Or.inr (Or.inr (Or.inl z)))
  have h4 : ¬ 3 < v2 := fun z => h (Or.inr (Or.inr (Or.inr (Or.inl z))))
  obtain ⟨o, ho, rfl⟩ := nI_of2 (n := 9) (M := 9) (by decide) h1 (Int32.not_lt.mp h2)
  obtain ⟨a, ha, rfl⟩ := nI_of2 (n := 3) (M := 3) (by decide) h3 (Int32.not_lt.mp h4)
  refine ⟨o, a, ho, by omega, rfl, rfl, fun o1 o4 => ?_⟩
  have h5 : ¬ v3 < 0 := fun z => h (Or.inr (Or.inr (Or.inr (Or.inr ⟨nI_nlt (b := 1) o1 (by omega), nI_nlt (a := 4) o4 (by decide), Or.inl z⟩))))
  have h6 : v3 ≤ 3 := Classical.byContradiction fun z => h (Or.inr (Or.inr (Or.inr (Or.inr ⟨nI_nlt (b := 1) o1 (by omega), nI_nlt (a := 4) o4 (by decide), Or.inr z⟩))))
  obtain ⟨b, hb, rfl⟩ := nI_of2 (n := 3) (M := 3) (by decide) h5 h6
  exact ⟨b, by omega, rfl⟩
section
variable {fz fk fa fc : Int32} {ao aa ab pc ow kd pl kr kq cs ks rg pg lt th ce ro : Nat → Int32}
theorem ds_em15 {post : Int32 → SX → Prop} {v1 v2 v3 z0 : Int32} (c1 : z0 = 0 → v1 < 1 ∨ 4 < v1) (c2 : ¬ z0 = 0 → ¬ v1 < 1 ∧ ¬ 4 < v1) (hb : ds_bad v1 v2 v3 → post (-1) (fz, fk, fa, fc, ao, aa, ab, pc, ow, kd, pl, kr, kq, cs, ks, rg, pg, lt)) (hg : ¬ ds_bad v1 v2 v3 → wX_emit_52 post v1 v2 v3 fz fk fa fc ao aa ab pc ow kd pl kr kq cs ks rg pg lt) : wX_emit_15 post v1 v2 v3 z0 fz fk fa fc ao aa ab pc ow kd pl kr kq cs ks rg pg lt :=
  br_c (fun h => hb (Or.inl h)) fun h1 => br_c (fun h => hb (Or.inr (Or.inl h))) fun h2 => br_c (fun h => hb (Or.inr (Or.inr (Or.inl h)))) fun h3 => br_c (fun h => hb (Or.inr (Or.inr (Or.inr (Or.inl h))))) fun h4 =>
    br_c (fun z => hg (ds_gd1 h1 h2 h3 h4 (c1 z))) fun z => br_c (fun h => hb (Or.inr (Or.inr (Or.inr (Or.inr ⟨(c2 z).1, (c2 z).2, Or.inl h⟩))))) fun h5 => br_c (fun h => hg (ds_gd2 h1 h2 h3 h4 h5 h)) fun h => hb (Or.inr (Or.inr (Or.inr (Or.inr ⟨(c2 z).1, (c2 z).2, Or.inr h⟩))))
theorem ds_emX {post : Int32 → SX → Prop} {v1 v2 v3 : Int32} (hb : ds_bad v1 v2 v3 → post (-1) (fz, fk, fa, fc, ao, aa, ab, pc, ow, kd, pl, kr, kq, cs, ks, rg, pg, lt)) (hg : ¬ ds_bad v1 v2 v3 → wX_emit_52 post v1 v2 v3 fz fk fa fc ao aa ab pc ow kd pl kr kq cs ks rg pg lt) : wpX_emit post (fz, fk, fa, fc, ao, aa, ab, pc, ow, kd, pl, kr, kq, cs, ks, rg, pg, lt) v1 v2 v3 :=
  br_c (fun h => ds_em15 (fun _ => Or.inl h) (fun z => absurd rfl z) hb hg) fun h1 => br_c (fun h => ds_em15 (fun _ => Or.inr h) (fun z => absurd rfl z) hb hg) fun h2 => ds_em15 (fun z => absurd z (by decide)) (fun _ => ⟨h1, h2⟩) hb hg
theorem ds_emY {post : Int32 → SY → Prop} {v1 v2 v3 : Int32} (hb : ds_bad v1 v2 v3 → post (-1) (fz, fa, fc, ao, aa, ab, th, kd, pl, cs, ce, ks, ro, lt)) (hg : ¬ ds_bad v1 v2 v3 → wY_emit_40 post v1 v2 v3 fz fa fc ao aa ab th kd pl cs ce ks ro lt) : wpY_emit post (fz, fa, fc, ao, aa, ab, th, kd, pl, cs, ce, ks, ro, lt) v1 v2 v3 :=
  br_c (fun h => hb (Or.inl h)) fun h1 => br_c (fun h => hb (Or.inr (Or.inl h))) fun h2 => br_c (fun h => hb (Or.inr (Or.inr (Or.inl h)))) fun h3 => br_c (fun h => hb (Or.inr (Or.inr (Or.inr (Or.inl h))))) fun h4 =>
    br_c (fun z => hg (ds_gd1 h1 h2 h3 h4 (Or.inl z))) fun z1 => br_c (fun z => hg (ds_gd1 h1 h2 h3 h4 (Or.inr z))) fun z2 => br_c (fun h => hb (Or.inr (Or.inr (Or.inr (Or.inr ⟨z1, z2, Or.inl h⟩))))) fun h5 => br_c (fun h => hg (ds_gd2 h1 h2 h3 h4 h5 h)) fun h => hb (Or.inr (Or.inr (Or.inr (Or.inr ⟨z1, z2, Or.inr h⟩))))
theorem ds_P_put {z : Nat} {v1 v2 v3 : Int32} (hz : z < 16) (hC : ds_P (nI z) ao aa ab) (h : ∃ o a, o ≤ 9 ∧ a < 4 ∧ v1 = nI o ∧ v2 = nI a ∧ (1 ≤ o → o ≤ 4 → ∃ b, b < 4 ∧ v3 = nI b)) : ds_P (nI (z + 1)) (upd ao z v1) (upd aa z v2) (upd ab z v3) := by
  refine ⟨⟨z + 1, by omega, rfl⟩, fun j => ?_⟩
  by_cases e : j = z
  · subst e
    rw [pk_us, pk_us, pk_us]
    exact h
  · rw [pk_un e, pk_un e, pk_un e]
    exact hC.2 j
theorem ds_vc_emit {k : Nat} {v1 v2 v3 : Int32} (hP : ds_P fz ao aa ab) (hB : ds_B fk th) (hI : ds_RI th kd pl kr kq ce pc ow) : wpX_emit (fun r u' => wpY_emit (fun r' v' => r' = r ∧ i_Rel (k + 4) u' v') (fz, fa, fc, ao, aa, ab, th, kd, pl, cs, ce, ks, ro, lt) v1 v2 v3) (fz, fk, fa, fc, ao, aa, ab, pc, ow, kd, pl, kr, kq, cs, ks, rg, pg, lt) v1 v2 v3 := by
  refine ds_emX (fun hb => ds_emY (fun _ => ⟨rfl, ds_mk hP hB hI⟩) (fun g => absurd hb g)) (fun g => ?_)
  obtain ⟨z, z16, rfl⟩ := hP.1
  by_cases hz : z < 16
  · have h16 : nI z < 16 := nI_lt (b := 16) hz (by decide)
    have hi : vp_in (nI z) 16 := vp_in_nI hz (by decide)
    by_cases hk : fk = 0
    · obtain ⟨o, a, o9, a4, rfl, rfl, hb⟩ := ds_good g
      have hP' := ds_P_put hz hP ⟨o, a, o9, a4, rfl, rfl, hb⟩
      refine br_t h16 (br_t hk ⟨hi, nm_r (ds_upc (ds_by (by omega))) ⟨hi, nm_r (ds_upc (ds_by (by omega))) ⟨hi, nm_r (ds_upc rfl) (nm_r (nI_1 z) ?_)⟩⟩⟩)
      refine ds_emY (fun b => absurd b g) (fun _ => br_t h16 (ds_moments hB (br_t hk ⟨hi, nm_r (ds_upc rfl) ⟨hi, nm_r (ds_upc rfl) ⟨hi, nm_r (ds_upc rfl) (nm_r (nI_1 z) ⟨rfl, ds_mk hP' hB hI⟩)⟩⟩⟩)))
    · exact br_t h16 (br_f hk (ds_emY (fun b => absurd b g) (fun _ => br_t h16 (ds_moments hB (br_f hk ⟨rfl, ds_mk hP hB hI⟩)))))
  · have h16 : ¬ nI z < 16 := nI_nlt (b := 16) (by omega) (by omega)
    exact br_f h16 (ds_emY (fun b => absurd b g) (fun _ => br_f h16 ⟨rfl, ds_mk hP hB hI⟩))
theorem ds_fx26 {post : Int32 → SX → Prop} {m : Nat} (hm : m < 12) : ∀ (d j : Nat) (ow : Nat → Int32) (Q : Nat → Nat), j + d = 4 → ds_OW Q ow → (∀ i, j ≤ i → i < 4 → Q (4 * m + i) < 56 ∧ kq (4 * m + i) = nI (Q (4 * m + i))) →
    (∀ ow' Q', ds_OW Q' ow' → (∀ i, j ≤ i → i < 4 → Q' (4 * m + i) = 99) → (∀ s, (s < 4 * m + j ∨ 4 * m + 4 ≤ s) → Q' s = Q s) → post 1 (fz, fk, fa, fc, ao, aa, ab, pc, ow', kd, pl, kr, kq, cs, ks, rg, pg, lt)) → wX_forget_26 post (nI m) fz fk fa fc (d + 1) (nI j) ao aa ab pc ow kd pl kr kq cs ks rg pg lt := by
  intro d
  induction d with
  | zero =>
    intro j ow Q hj hO hq hp
    obtain rfl : j = 4 := by omega
    exact br_t (nI_le (a := 4) (by omega) (by omega)) (hp ow Q hO (fun i h1 h2 => absurd h1 (by omega)) (fun _ _ => rfl))
  | succ d ih =>
    intro j ow Q hj hO hq hp
    obtain ⟨q6, eq⟩ := hq j (by omega) (by omega)
    have hp6 : vp_in (nI (Q (4 * m + j))) 56 := vp_in_nI q6 (by decide)
    have H := ih (j + 1) (upd ow (Q (4 * m + j)) (vp_nar .byte (ow (Q (4 * m + j)) - 1).toInt8.toInt32)) (ds_up Q (4 * m + j) 99) (by omega) (ds_OW_dec hO (by omega) rfl q6)
      (fun i h1 h2 => by rw [ds_up_n (by omega)]; exact hq i (by omega) h2)
      (fun ow' Q' hO' h1 h2 => hp ow' Q' hO' (fun i hi1 hi2 => by
        by_cases z : i = j
        · subst z
          rw [h2 _ (by omega), ds_up_s]
        · exact h1 i (by omega) hi2) (fun s hs => by rw [h2 s (by omega), ds_up_n (by omega)]))
    refine br_f (nI_ge (b := 4) (by omega) (by decide)) ?_
    rw [ds_c4, nI_clamp (show 4 * m + j < 2 ^ 31 by omega), eq, nI_clamp (show Q (4 * m + j) < 2 ^ 31 by omega)]
    exact ⟨vp_in_nI (by omega) (by decide), hp6, hp6, nm_e (nm_r (nI_1 j) H)⟩
theorem ds_forX {post : Int32 → SX → Prop} {m : Nat} (hm : m < 12) (t : th m ≠ 0) (hB : ds_B fk th) (hI : ds_RI th kd pl kr kq ce pc ow)
    (hp : ∀ fk' ow', ds_B fk' (upd th m 0) → ds_RI (upd th m 0) kd pl kr kq ce pc ow' → post 1 (fz, fk', fa, fc, ao, aa, ab, pc, ow', kd, pl, kr, kq, cs, ks, rg, pg, lt)) : wpX_forget post (fz, fk, fa, fc, ao, aa, ab, pc, ow, kd, pl, kr, kq, cs, ks, rg, pg, lt) (nI m) := by
  obtain ⟨Q, hO, hM, h9⟩ := hI
  have g := ((hM m hm).2 t).2
  unfold wpX_forget
  dsimp only
  refine ds_hasX (nI m) hB (fun _ => br_f (by decide) (nm_e ⟨5, ?_⟩)) (fun z => absurd ((ds_h_m hm).mpr t) z)
  refine ds_fx26 hm 4 0 ow Q rfl hO (fun i _ hi => ⟨(g i hi).1, (g i hi).2.1⟩) (fun ow' Q' hO' h1 h2 => hp _ ow' (ds_B_and hB hm) ⟨Q', hO', ds_M_forget hM (fun s hs => h2 s (by omega)) (fun i hi => h1 i (by omega) hi), fun i hi => ?_⟩)
  rw [h2 _ (by omega)]
  exact h9 i hi
theorem ds_forX0 {post : Int32 → SX → Prop} {x : Int32} (h : ¬ ds_h th x) (hB : ds_B fk th) (hp : post 0 (fz, fk, fa, fc, ao, aa, ab, pc, ow, kd, pl, kr, kq, cs, ks, rg, pg, lt)) : wpX_forget post (fz, fk, fa, fc, ao, aa, ab, pc, ow, kd, pl, kr, kq, cs, ks, rg, pg, lt) x := by
  unfold wpX_forget
  dsimp only
  exact ds_hasX x hB (fun w => absurd w h) (fun _ => br_t rfl hp)
theorem ds_forY {post : Int32 → SY → Prop} {m : Nat} (hm : m < 12) (t : th m ≠ 0) (hp : post 1 (fz, fa, fc, ao, aa, ab, upd th m 0, kd, pl, cs, ce, ks, ro, lt)) : wpY_forget post (fz, fa, fc, ao, aa, ab, th, kd, pl, cs, ce, ks, ro, lt) (nI m) := by
  have hi : vp_in (nI m) 12 := vp_in_nI hm (by decide)
  exact br_f (nI_pos (by omega)) (br_f (nI_ge (b := 12) hm (by decide)) ⟨hi, br_f (by rw [nI_clamp (by omega)]; exact t) ⟨hi, nm_r (ds_upc ds_nb0) hp⟩⟩)
theorem ds_forY0 {post : Int32 → SY → Prop} {x : Int32} (h : ¬ ds_h th x) (hp : post 0 (fz, fa, fc, ao, aa, ab, th, kd, pl, cs, ce, ks, ro, lt)) : wpY_forget post (fz, fa, fc, ao, aa, ab, th, kd, pl, cs, ce, ks, ro, lt) x := by
  by_cases a : x < 0
  · exact br_t a hp
  · by_cases b : (12 : Int32) ≤ x
    · exact br_f a (br_t b hp)
    · obtain ⟨m, hm2, rfl⟩ := nI_of a
      have hm : m < 12 := Nat.lt_of_not_le fun z => b (nI_le (a := 12) z hm2)
      refine br_f a (br_f b ⟨vp_in_nI hm (by decide), br_t ?_ hp⟩)
      rw [nI_clamp hm2]
      exact Classical.byContradiction fun c => h ((ds_h_m hm).mpr c)
theorem ds_vc_forget {k : Nat} {v1 : Int32} (hP : ds_P fz ao aa ab) (hB : ds_B fk th) (hI : ds_RI th kd pl kr kq ce pc ow) : wpX_forget (fun r u' => wpY_forget (fun r' v' => r' = r ∧ i_Rel (k + 4) u' v') (fz, fa, fc, ao, aa, ab, th, kd, pl, cs, ce, ks, ro, lt) v1) (fz, fk, fa, fc, ao, aa, ab, pc, ow, kd, pl, kr, kq, cs, ks, rg, pg, lt) v1 := by
  by_cases w : ds_h th v1
  · obtain ⟨m, hm, rfl, t⟩ := w
    exact ds_forX hm t hB hI (fun fk' ow' hB' hI' => ds_forY hm t ⟨rfl, ds_mk hP hB' hI'⟩)
  · exact ds_forX0 w hB (ds_forY0 w ⟨rfl, ds_mk hP hB hI⟩)
theorem ds_upd0 {f : Nat → Int32} {j : Nat} (h : f j = 0) : upd f j 0 = f := by
  funext i
  by_cases e : i = j
  · subst e
    rw [pk_us, h]
  · rw [pk_un e]
theorem ds_fax {post : SX → Prop} : ∀ (d j : Nat) (fk : Int32) (ow : Nat → Int32), j + d = 12 → ds_B fk (ds_bk th 0 (fun _ => 0) j) → ds_RI (ds_bk th 0 (fun _ => 0) j) kd pl kr kq ce pc ow →
    (∀ fk' ow', ds_B fk' (ds_bk th 0 (fun _ => 0) 12) → ds_RI (ds_bk th 0 (fun _ => 0) 12) kd pl kr kq ce pc ow' → post (fz, fk', fa, fc, ao, aa, ab, pc, ow', kd, pl, kr, kq, cs, ks, rg, pg, lt)) → wX_forgetAll_2 post (d + 1) (nI j) fz fk fa fc ao aa ab pc ow kd pl kr kq cs ks rg pg lt := by
  intro d
  induction d with
  | zero =>
    intro j fk ow hj hB hI hp
    obtain rfl : j = 12 := by omega
    exact br_t (nI_le (a := 12) (by omega) (by omega)) (hp fk ow hB hI)
  | succ d ih =>
    intro j fk ow hj hB hI hp
    have e := ds_bk_z (d := th) (s := fun _ => 0) (n := j)
    refine br_f (nI_ge (b := 12) (by omega) (by decide)) ?_
    by_cases t : ds_bk th 0 (fun _ => 0) j j = 0
    · rw [ds_upd0 t] at e
      refine ds_forX0 (fun w => (ds_h_m (by omega)).mp w t) hB ?_
      rw [e] at hB hI
      exact nm_r (nI_1 j) (ih (j + 1) fk ow (by omega) hB hI hp)
    · refine ds_forX (by omega) t hB hI (fun fk' ow' hB' hI' => ?_)
      have hB2 : ds_B fk' (ds_bk th 0 (fun _ => 0) (j + 1)) := by rw [← e]; exact hB'
      have hI2 : ds_RI (ds_bk th 0 (fun _ => 0) (j + 1)) kd pl kr kq ce pc ow' := by rw [← e]; exact hI'
      exact nm_r (nI_1 j) (ih (j + 1) fk' ow' (by omega) hB2 hI2 hp)
theorem ds_faX {post : SX → Prop} (hB : ds_B fk th) (hI : ds_RI th kd pl kr kq ce pc ow) (hp : ∀ fk' ow', ds_B fk' (ds_bk th 0 (fun _ => 0) 12) → ds_RI (ds_bk th 0 (fun _ => 0) 12) kd pl kr kq ce pc ow' → post (fz, fk', fa, fc, ao, aa, ab, pc, ow', kd, pl, kr, kq, cs, ks, rg, pg, lt)) : wpX_forgetAll post (fz, fk, fa, fc, ao, aa, ab, pc, ow, kd, pl, kr, kq, cs, ks, rg, pg, lt) := by
  have e : ds_bk th 0 (fun _ => 0) 0 = th := ds_bk_0
  exact ⟨_, ds_fax (th := th) 12 0 fk ow rfl (by rw [e]; exact hB) (by rw [e]; exact hI) hp⟩
theorem ds_fay {post : SY → Prop} (hp : post (fz, fa, fc, ao, aa, ab, ds_bk th 0 (fun _ => 0) 12, kd, pl, cs, ce, ks, ro, lt)) : ∀ d j, j + d = 12 → wY_forgetAll_2 post fz fa fc (d + 1) (nI j) ao aa ab (ds_bk th 0 (fun _ => 0) j) kd pl cs ce ks ro lt := by
  intro d
  induction d with
  | zero =>
    intro j hj
    obtain rfl : j = 12 := by omega
    exact br_t (nI_le (a := 12) (by omega) (by omega)) hp
  | succ d ih =>
    intro j hj
    refine br_f (nI_ge (b := 12) (by omega) (by decide)) ⟨vp_in_nI (by omega) (by decide), nm_r ?_ (nm_r (nI_1 j) (ih (j + 1) (by omega)))⟩
    rw [nI_clamp (by omega), ds_nb0]
    exact ds_bk_z (s := fun _ => 0)
theorem ds_faY {post : SY → Prop} (hp : post (fz, fa, fc, ao, aa, ab, ds_bk th 0 (fun _ => 0) 12, kd, pl, cs, ce, ks, ro, lt)) : wpY_forgetAll post (fz, fa, fc, ao, aa, ab, th, kd, pl, cs, ce, ks, ro, lt) := by
  have H := ds_fay hp 12 0 rfl
  rw [ds_bk_0] at H
  exact ⟨_, H⟩
theorem ds_vc_forgetAll {k : Nat} (hP : ds_P fz ao aa ab) (hB : ds_B fk th) (hI : ds_RI th kd pl kr kq ce pc ow) : wpX_forgetAll (fun u' => wpY_forgetAll (fun v' => i_Rel (k + 4) u' v') (fz, fa, fc, ao, aa, ab, th, kd, pl, cs, ce, ks, ro, lt)) (fz, fk, fa, fc, ao, aa, ab, pc, ow, kd, pl, kr, kq, cs, ks, rg, pg, lt) :=
  ds_faX hB hI (fun _ _ hB' hI' => ds_faY (ds_mk hP hB' hI'))
theorem ds_vc_clear {k : Nat} (hP : ds_P fz ao aa ab) (hB : ds_B fk th) (hI : ds_RI th kd pl kr kq ce pc ow) : wpX_clear (fun u' => wpY_clear (fun v' => i_Rel (k + 4) u' v') (fz, fa, fc, ao, aa, ab, th, kd, pl, cs, ce, ks, ro, lt)) (fz, fk, fa, fc, ao, aa, ab, pc, ow, kd, pl, kr, kq, cs, ks, rg, pg, lt) := by
  unfold wpX_clear
  dsimp only
  refine ds_faX hB hI (fun _ _ hB' hI' => ?_)
  dsimp only
  unfold wpY_clear
  dsimp only
  exact ds_faY (ds_mk ⟨⟨0, by omega, rfl⟩, hP.2⟩ hB' hI')
end
end
section
/-! start, answer, goOn -/
section
variable {fz fk fa fc : Int32} {ao aa ab pc ow kd pl kr kq cs ks rg pg lt th ce ro : Nat → Int32}
theorem ds_sx24s {post : Int32 → SX → Prop} {x1 : Int32} (hI : ds_RI th kd pl kr kq ce pc ow)
    (hp : ∀ pc' ow' pg', ds_RR th kd pl kr kq ce pc' ow' (ds_bk ro 0 (fun _ => 0) 20) (ds_bk rg 0 (fun _ => 0) 4) pg' → wX_start_55 post x1 fz fk fa fc 1 (nI 8) ao aa ab pc' ow' kd pl kr kq cs ks (ds_bk rg 0 (fun _ => 0) 4) pg' (ds_bk lt 0 (fun _ => 0) 8)) : ∃ n, wX_start_24 post x1 n 0 fz fk fa fc ao aa ab pc ow kd pl kr kq cs ks rg pg lt := by
  obtain ⟨Q, hO, hM, h9⟩ := hI
  have H := ds_sx24 4 0 pc ow pg Q rfl hO hM (fun i hi => absurd hi (by omega)) (fun i _ hi => h9 i hi) hp
  rw [ds_bk_0] at H
  exact ⟨5, H⟩
theorem ds_sy24s {post : Int32 → SY → Prop} {x1 : Int32} (hp : wY_start_24 post x1 fz fa fc 1 (nI 20) ao aa ab th kd pl cs ce ks (ds_bk ro 0 (fun _ => 0) 20) (ds_bk lt 0 (fun _ => 0) 8)) : ∃ n, wY_start_24 post x1 fz fa fc n 0 ao aa ab th kd pl cs ce ks ro lt := by
  have H := ds_sy24 hp 20 0 0 rfl (by omega) (by omega) (by omega)
  rw [ds_bk_0, ds_bk_0] at H
  exact ⟨21, H⟩
theorem ds_vc_start {k : Nat} (hP : ds_P fz ao aa ab) (hB : ds_B fk th) (hI : ds_RI th kd pl kr kq ce pc ow) : wpX_start (fun r u' => wpY_start (fun r' v' => r' = r ∧ i_Rel (k + 4) u' v') (fz, fa, fc, ao, aa, ab, th, kd, pl, cs, ce, ks, ro, lt)) (fz, fk, fa, fc, ao, aa, ab, pc, ow, kd, pl, kr, kq, cs, ks, rg, pg, lt) := by
  obtain ⟨r, hr, RX, RY⟩ := ds_room (fz := fz) (fk := fk) (fa := fa) (fc := fc) (ao := ao) (aa := aa) (ab := ab) (pc := pc) (ow := ow) (kd := kd) (pl := pl) (kr := kr) (kq := kq) (cs := cs) (ks := ks) (rg := rg) (pg := pg) (lt := lt) (th := th) (ce := ce) (ro := ro) hB
  unfold wpX_start
  dsimp only
  refine RX _ ?_
  rcases hr with rfl | ⟨m, hm, rfl, t⟩
  · refine br_f (by decide) ?_
    unfold wpY_start
    dsimp only
    exact RY _ (br_f (by decide) ⟨rfl, ds_mk hP hB hI⟩)
  · have h0 : (0 : Int32) ≤ nI m := nI_pos' (by omega)
    refine br_t h0 (ds_sx24s (th := th) (ce := ce) (ro := ro) hI (fun pc' ow' pg' hRR => ?_))
    obtain ⟨r, fa', fc', pc2, ow2, rg2, pg2, lt2, ro2, fk2, kd2, pl2, kr2, kq2, cs2, ks2, th2, ce2, hB2, hI2, HX, KX, HY⟩ := ds_run (fa := 0) (fc := 0) (cs := cs) (ks := ks) (lt := ds_bk lt 0 (fun _ => 0) 8) hm t hP hB hRR
    refine br_t (nI_le (a := 8) (by omega) (by omega)) (HX _ (KX _ ?_))
    dsimp only
    unfold wpY_start
    dsimp only
    refine RY _ (br_t h0 (ds_sy24s ?_))
    exact br_t (nI_le (a := 20) (by omega) (by omega)) (HY _ ⟨rfl, ds_mk hP hB2 hI2⟩)
theorem ds_vc_goOn {k : Nat} {v1 : Int32} (hP : ds_P fz ao aa ab) (hB : ds_B fk th) (hI : ds_RI th kd pl kr kq ce pc ow) : wpX_goOn (fun r u' => wpY_goOn (fun r' v' => r' = r ∧ i_Rel (k + 4) u' v') (fz, fa, fc, ao, aa, ab, th, kd, pl, cs, ce, ks, ro, lt) v1) (fz, fk, fa, fc, ao, aa, ab, pc, ow, kd, pl, kr, kq, cs, ks, rg, pg, lt) v1 := by
  obtain ⟨r, hr, RX, RY⟩ := ds_room (fz := fz) (fk := fk) (fa := fa) (fc := fc) (ao := ao) (aa := aa) (ab := ab) (pc := pc) (ow := ow) (kd := kd) (pl := pl) (kr := kr) (kq := kq) (cs := cs) (ks := ks) (rg := rg) (pg := pg) (lt := lt) (th := th) (ce := ce) (ro := ro) hB
  unfold wpX_goOn
  dsimp only
  refine ds_hasX v1 hB (fun w => ?_) (fun w => br_t rfl ?_)
  · obtain ⟨m, hm, rfl, t⟩ := w
    refine br_f (by decide) ⟨vp_in_nI hm (by decide), ?_⟩
    rw [nI_clamp (show m < 2 ^ 31 by omega)]
    by_cases e : kd m = 3
    · refine br_t e (RX _ ?_)
      rcases hr with rfl | ⟨m2, hm2, rfl, t2⟩
      · refine br_f (by decide) ?_
        unfold wpY_goOn
        dsimp only
        exact ds_isYm hm t (fun _ => br_f (by decide) (RY _ (br_f (by decide) ⟨rfl, ds_mk hP hB hI⟩))) (fun z => absurd e z)
      · have h0 : (0 : Int32) ≤ nI m2 := nI_pos' (by omega)
        refine br_t h0 (ds_recX (ro := ro) hm t hI (fun ow' rg' pg' hRR => ?_))
        obtain ⟨r, fa', fc', pc2, ow2, rg2, pg2, lt2, ro2, fk2, kd2, pl2, kr2, kq2, cs2, ks2, th2, ce2, hB2, hI2, HX, KX, HY⟩ := ds_run (fa := pl m) (fc := cs m) (cs := cs) (ks := ks) (lt := ds_bk lt 0 (fun k => ks (8 * m + k)) 8) hm2 t2 hP hB hRR
        dsimp only
        refine HX _ (KX _ ?_)
        dsimp only
        unfold wpY_goOn
        dsimp only
        refine ds_isYm hm t (fun _ => br_f (by decide) (RY _ (br_t h0 (ds_takeY hm ?_)))) (fun z => absurd e z)
        exact HY _ ⟨rfl, ds_mk hP hB2 hI2⟩
    · refine br_f e ?_
      unfold wpY_goOn
      dsimp only
      exact ds_isYm hm t (fun z => absurd z e) (fun _ => br_t rfl ⟨rfl, ds_mk hP hB hI⟩)
  · unfold wpY_goOn
    dsimp only
    exact ds_isYn w (br_t rfl ⟨rfl, ds_mk hP hB hI⟩)
theorem ds_15 {p : Nat} (h : p < 16) : nI p &&& 15 = nI p := by
  rw [pk_andN (by omega) 4 (by decide)]
  exact congrArg nI (by omega)
theorem ds_vc_answer {k : Nat} {v1 v2 : Int32} (hP : ds_P fz ao aa ab) (hB : ds_B fk th) (hI : ds_RI th kd pl kr kq ce pc ow) : wpX_answer (fun r u' => wpY_answer (fun r' v' => r' = r ∧ i_Rel (k + 4) u' v') (fz, fa, fc, ao, aa, ab, th, kd, pl, cs, ce, ks, ro, lt) v1 v2) (fz, fk, fa, fc, ao, aa, ab, pc, ow, kd, pl, kr, kq, cs, ks, rg, pg, lt) v1 v2 := by
  obtain ⟨r, hr, RX, RY⟩ := ds_room (fz := fz) (fk := fk) (fa := fa) (fc := fc) (ao := ao) (aa := aa) (ab := ab) (pc := pc) (ow := ow) (kd := kd) (pl := pl) (kr := kr) (kq := kq) (cs := cs) (ks := ks) (rg := rg) (pg := pg) (lt := lt) (th := th) (ce := ce) (ro := ro) hB
  unfold wpX_answer
  dsimp only
  refine ds_hasX v1 hB (fun w => ?_) (fun w => br_t rfl ?_)
  · obtain ⟨m, hm, rfl, t⟩ := w
    refine br_f (by decide) ⟨vp_in_nI hm (by decide), ?_⟩
    rw [nI_clamp (show m < 2 ^ 31 by omega)]
    by_cases e : kd m = 2
    · refine br_t e (RX _ ?_)
      rcases hr with rfl | ⟨m2, hm2, rfl, t2⟩
      · refine br_f (by decide) ?_
        unfold wpY_answer
        dsimp only
        exact ds_isYm hm t (fun _ => br_f (by decide) (RY _ (br_f (by decide) ⟨rfl, ds_mk hP hB hI⟩))) (fun z => absurd e z)
      · have h0 : (0 : Int32) ≤ nI m2 := nI_pos' (by omega)
        obtain ⟨p, p16, ep⟩ : ∃ p, p < 16 ∧ pl m = nI p := by
          obtain ⟨Q, _, hM, _⟩ := hI
          exact ((hM m hm).2 t).1 e
        obtain ⟨o, a, _, a4, _, ea, _⟩ := hP.2 p
        refine br_t h0 (ds_recX (ro := ro) hm t hI (fun ow' rg' pg' hRR => ?_))
        obtain ⟨r, fa', fc', pc2, ow2, rg2, pg2, lt2, ro2, fk2, kd2, pl2, kr2, kq2, cs2, ks2, th2, ce2, hB2, hI2, HX, KX, HY⟩ := ds_run (fa := pl m + 1) (fc := cs m) (cs := cs) (ks := ks) (lt := ds_bk lt 0 (fun k => ks (8 * m + k)) 8) hm2 t2 hP hB (ds_RR_reg (v := v2) a4 hRR)
        dsimp only
        refine ⟨by rw [ep]; exact vp_in_nI p16 (by decide), by rw [ep, nI_clamp (by omega), ea]; exact vp_in_nI a4 (by decide), nm_r (e' := upd rg' a v2) ?_ (nm_e (HX _ (KX _ ?_)))⟩
        · rw [ep, nI_clamp (by omega), ea, nI_clamp (by omega)]
        · dsimp only
          unfold wpY_answer
          dsimp only
          refine ds_isYm hm t (fun _ => br_f (by decide) (RY _ (br_t h0 (ds_takeY hm ?_)))) (fun z => absurd e z)
          dsimp only
          have e1 : pl m &&& 15 = nI p := by rw [ep, ds_15 p16]
          have e2 : aa (pl m &&& 15).toNatClampNeg &&& 3 = nI a := by rw [e1, nI_clamp (by omega), ea, ds_a3 a4]
          refine ⟨by rw [e1]; exact vp_in_nI p16 (by decide), by rw [e2]; exact vp_in_nI (by omega) (by decide), nm_r (e' := upd (ds_bk ro 0 (fun k => ce (20 * m + k)) 20) a v2) ?_ (nm_e (HY _ ⟨rfl, ds_mk hP hB2 hI2⟩))⟩
          rw [e2, nI_clamp (by omega)]
    · refine br_f e ?_
      unfold wpY_answer
      dsimp only
      exact ds_isYm hm t (fun z => absurd z e) (fun _ => br_t rfl ⟨rfl, ds_mk hP hB hI⟩)
  · unfold wpY_answer
    dsimp only
    exact ds_isYn w (br_t rfl ⟨rfl, ds_mk hP hB hI⟩)
end
end
section
/-! the answers: kind, position, said, lastSaid, peek, moments -/
section
variable {fz fk fa fc : Int32} {ao aa ab pc ow kd pl kr kq cs ks rg pg lt th ce ro : Nat → Int32}
theorem ds_vc_moments {k : Nat} (hP : ds_P fz ao aa ab) (hB : ds_B fk th) (hI : ds_RI th kd pl kr kq ce pc ow) : wpX_moments (fun r => wpY_moments (fun r' => r' = r ∧ i_Rel (k + 4) (fz, fk, fa, fc, ao, aa, ab, pc, ow, kd, pl, kr, kq, cs, ks, rg, pg, lt) (fz, fa, fc, ao, aa, ab, th, kd, pl, cs, ce, ks, ro, lt)) (fz, fa, fc, ao, aa, ab, th, kd, pl, cs, ce, ks, ro, lt)) (fz, fk, fa, fc, ao, aa, ab, pc, ow, kd, pl, kr, kq, cs, ks, rg, pg, lt) := by
  unfold wpX_moments
  dsimp only
  exact ds_moments hB ⟨rfl, ds_mk hP hB hI⟩
theorem ds_vc_kind {k : Nat} {v1 : Int32} (hP : ds_P fz ao aa ab) (hB : ds_B fk th) (hI : ds_RI th kd pl kr kq ce pc ow) : wpX_kind (fun r => wpY_kind (fun r' => r' = r ∧ i_Rel (k + 4) (fz, fk, fa, fc, ao, aa, ab, pc, ow, kd, pl, kr, kq, cs, ks, rg, pg, lt) (fz, fa, fc, ao, aa, ab, th, kd, pl, cs, ce, ks, ro, lt)) (fz, fa, fc, ao, aa, ab, th, kd, pl, cs, ce, ks, ro, lt) v1) (fz, fk, fa, fc, ao, aa, ab, pc, ow, kd, pl, kr, kq, cs, ks, rg, pg, lt) v1 := by
  have J : i_Rel (k + 4) (fz, fk, fa, fc, ao, aa, ab, pc, ow, kd, pl, kr, kq, cs, ks, rg, pg, lt) (fz, fa, fc, ao, aa, ab, th, kd, pl, cs, ce, ks, ro, lt) := ds_mk hP hB hI
  unfold wpX_kind wpY_kind
  dsimp only
  refine ds_hasX v1 hB (fun w => ?_) (fun w => br_t rfl (ds_keptY v1 (fun z => absurd z w) (fun _ => br_t rfl ⟨rfl, J⟩)))
  obtain ⟨m, hm, e, t⟩ := id w
  have hi : vp_in v1 12 := by rw [e]; exact vp_in_nI hm (by decide)
  exact br_f (by decide) ⟨hi, ds_keptY v1 (fun _ => br_f (by decide) ⟨hi, rfl, J⟩) (fun z => absurd w z)⟩
theorem ds_vc_position {k : Nat} {v1 : Int32} (hP : ds_P fz ao aa ab) (hB : ds_B fk th) (hI : ds_RI th kd pl kr kq ce pc ow) : wpX_position (fun r => wpY_position (fun r' => r' = r ∧ i_Rel (k + 4) (fz, fk, fa, fc, ao, aa, ab, pc, ow, kd, pl, kr, kq, cs, ks, rg, pg, lt) (fz, fa, fc, ao, aa, ab, th, kd, pl, cs, ce, ks, ro, lt)) (fz, fa, fc, ao, aa, ab, th, kd, pl, cs, ce, ks, ro, lt) v1) (fz, fk, fa, fc, ao, aa, ab, pc, ow, kd, pl, kr, kq, cs, ks, rg, pg, lt) v1 := by
  have J : i_Rel (k + 4) (fz, fk, fa, fc, ao, aa, ab, pc, ow, kd, pl, kr, kq, cs, ks, rg, pg, lt) (fz, fa, fc, ao, aa, ab, th, kd, pl, cs, ce, ks, ro, lt) := ds_mk hP hB hI
  unfold wpX_position wpY_position
  dsimp only
  refine ds_hasX v1 hB (fun w => ?_) (fun w => br_t rfl (ds_keptY v1 (fun z => absurd z w) (fun _ => br_t rfl ⟨rfl, J⟩)))
  obtain ⟨m, hm, e, t⟩ := id w
  have hi : vp_in v1 12 := by rw [e]; exact vp_in_nI hm (by decide)
  exact br_f (by decide) ⟨hi, ds_keptY v1 (fun _ => br_f (by decide) ⟨hi, rfl, J⟩) (fun z => absurd w z)⟩
theorem ds_vc_said {k : Nat} {v1 : Int32} (hP : ds_P fz ao aa ab) (hB : ds_B fk th) (hI : ds_RI th kd pl kr kq ce pc ow) : wpX_said (fun r => wpY_said (fun r' => r' = r ∧ i_Rel (k + 4) (fz, fk, fa, fc, ao, aa, ab, pc, ow, kd, pl, kr, kq, cs, ks, rg, pg, lt) (fz, fa, fc, ao, aa, ab, th, kd, pl, cs, ce, ks, ro, lt)) (fz, fa, fc, ao, aa, ab, th, kd, pl, cs, ce, ks, ro, lt) v1) (fz, fk, fa, fc, ao, aa, ab, pc, ow, kd, pl, kr, kq, cs, ks, rg, pg, lt) v1 := by
  have J : i_Rel (k + 4) (fz, fk, fa, fc, ao, aa, ab, pc, ow, kd, pl, kr, kq, cs, ks, rg, pg, lt) (fz, fa, fc, ao, aa, ab, th, kd, pl, cs, ce, ks, ro, lt) := ds_mk hP hB hI
  unfold wpX_said wpY_said
  dsimp only
  refine ds_hasX v1 hB (fun w => ?_) (fun w => br_t rfl (ds_keptY v1 (fun z => absurd z w) (fun _ => br_t rfl ⟨rfl, J⟩)))
  obtain ⟨m, hm, e, t⟩ := id w
  have hi : vp_in v1 12 := by rw [e]; exact vp_in_nI hm (by decide)
  exact br_f (by decide) ⟨hi, ds_keptY v1 (fun _ => br_f (by decide) ⟨hi, rfl, J⟩) (fun z => absurd w z)⟩
theorem ds_vc_lastSaid {k : Nat} {v1 v2 : Int32} (hP : ds_P fz ao aa ab) (hB : ds_B fk th) (hI : ds_RI th kd pl kr kq ce pc ow) : wpX_lastSaid (fun r => wpY_lastSaid (fun r' => r' = r ∧ i_Rel (k + 4) (fz, fk, fa, fc, ao, aa, ab, pc, ow, kd, pl, kr, kq, cs, ks, rg, pg, lt) (fz, fa, fc, ao, aa, ab, th, kd, pl, cs, ce, ks, ro, lt)) (fz, fa, fc, ao, aa, ab, th, kd, pl, cs, ce, ks, ro, lt) v1 v2) (fz, fk, fa, fc, ao, aa, ab, pc, ow, kd, pl, kr, kq, cs, ks, rg, pg, lt) v1 v2 := by
  have J : i_Rel (k + 4) (fz, fk, fa, fc, ao, aa, ab, pc, ow, kd, pl, kr, kq, cs, ks, rg, pg, lt) (fz, fa, fc, ao, aa, ab, th, kd, pl, cs, ce, ks, ro, lt) := ds_mk hP hB hI
  unfold wpX_lastSaid wpY_lastSaid
  dsimp only
  refine ds_hasX v1 hB (fun w => ?_) (fun w => br_t rfl (ds_keptY v1 (fun z => absurd z w) (fun _ => br_t rfl ⟨rfl, J⟩)))
  obtain ⟨m, hm, e, t⟩ := id w
  have hi : vp_in v1 12 := by rw [e]; exact vp_in_nI hm (by decide)
  refine br_f (by decide) (br_c (fun h1 => ?_) fun h1 => br_c (fun h2 => ?_) fun h2 => ⟨hi, br_c (fun h3 => ?_) fun h3 => ?_⟩)
  · exact ds_keptY v1 (fun _ => br_f (by decide) (br_t h1 ⟨rfl, J⟩)) (fun z => absurd w z)
  · have h8 : (8 : Int32) ≤ v2 := by
      obtain ⟨j, hj, rfl⟩ := nI_of h1
      rw [show (7 : Int32) = nI 7 from rfl, nI_ltI (by decide) hj] at h2
      exact nI_le (a := 8) h2 hj
    exact ds_keptY v1 (fun _ => br_f (by decide) (br_f h1 (br_t h8 ⟨rfl, J⟩))) (fun z => absurd w z)
  · obtain ⟨j, j7, rfl⟩ := nI_of2 (n := 7) (M := 7) (by decide) h1 (Int32.not_lt.mp h2)
    subst e
    have h8 : ¬ (8 : Int32) ≤ nI j := nI_ge (b := 8) (by omega) (by decide)
    have hj : vp_in (nI (8 * m + j)) 96 := vp_in_nI (by omega) (by decide)
    refine ⟨by rw [ds_c8]; exact hj, ds_keptY (nI m) (fun _ => br_f (by decide) (br_f h1 (br_f h8 ⟨hi, br_f (Int32.not_le.mpr h3) ⟨by rw [ds_y8]; exact hj, ?_, J⟩⟩))) (fun z => absurd w z)⟩
    rw [ds_c8, ds_y8]
  · obtain ⟨j, j7, rfl⟩ := nI_of2 (n := 7) (M := 7) (by decide) h1 (Int32.not_lt.mp h2)
    have h8 : ¬ (8 : Int32) ≤ nI j := nI_ge (b := 8) (by omega) (by decide)
    exact ds_keptY v1 (fun _ => br_f (by decide) (br_f h1 (br_f h8 ⟨hi, br_t (Int32.not_lt.mp h3) ⟨rfl, J⟩⟩))) (fun z => absurd w z)
theorem ds_y20m (p k : Nat) (h : 12 ≤ k) : 20 * nI p + (nI k - 12) = nI (20 * p + (k - 12)) := by
  show nI 20 * nI p + (nI k - nI 12) = _
  rw [pk_sub h, pk_mul, nI_add]
theorem ds_vc_peek {k : Nat} {v1 v2 : Int32} (hP : ds_P fz ao aa ab) (hB : ds_B fk th) (hI : ds_RI th kd pl kr kq ce pc ow) : wpX_peek (fun r => wpY_peek (fun r' => r' = r ∧ i_Rel (k + 4) (fz, fk, fa, fc, ao, aa, ab, pc, ow, kd, pl, kr, kq, cs, ks, rg, pg, lt) (fz, fa, fc, ao, aa, ab, th, kd, pl, cs, ce, ks, ro, lt)) (fz, fa, fc, ao, aa, ab, th, kd, pl, cs, ce, ks, ro, lt) v1 v2) (fz, fk, fa, fc, ao, aa, ab, pc, ow, kd, pl, kr, kq, cs, ks, rg, pg, lt) v1 v2 := by
  have J : i_Rel (k + 4) (fz, fk, fa, fc, ao, aa, ab, pc, ow, kd, pl, kr, kq, cs, ks, rg, pg, lt) (fz, fa, fc, ao, aa, ab, th, kd, pl, cs, ce, ks, ro, lt) := ds_mk hP hB hI
  unfold wpX_peek wpY_peek
  dsimp only
  refine ds_hasX v1 hB (fun w => ?_) (fun w => br_t rfl (ds_keptY v1 (fun z => absurd z w) (fun _ => br_t rfl ⟨rfl, J⟩)))
  obtain ⟨m, hm, rfl, t⟩ := id w
  obtain ⟨Q, _, hM, _⟩ := hI
  have g := ((hM m hm).2 t).2
  refine br_f (by decide) ?_
  by_cases h1 : v2 < 0
  · have h16 : v2 < 16 := Int32.lt_trans h1 (by decide)
    exact br_t h1 (br_t h16 (ds_keptY (nI m) (fun _ => br_f (by decide) (br_t h1 ⟨rfl, J⟩)) (fun z => absurd w z)))
  · obtain ⟨j, hj, rfl⟩ := nI_of h1
    by_cases h4 : j < 4
    · have n4 : ¬ (4 : Int32) ≤ nI j := nI_ge (b := 4) h4 (by decide)
      have n31 : ¬ (31 : Int32) < nI j := nI_nlt (a := 31) (by omega) (by decide)
      have y3 : nI j ≤ 3 := nI_le (b := 3) (by omega) (by decide)
      refine br_f h1 (br_f n4 ?_)
      rw [ds_c4, nI_clamp (by omega)]
      refine ⟨vp_in_nI (by omega) (by decide), ds_keptY (nI m) (fun _ => br_f (by decide) (br_f h1 (br_f n31 (br_t y3 (br_f n4 ?_))))) (fun z => absurd w z)⟩
      rw [ds_y20, nI_clamp (by omega)]
      exact ⟨vp_in_nI (by omega) (by decide), (g j h4).2.2.1, J⟩
    · have y4 : (4 : Int32) ≤ nI j := nI_le (a := 4) (by omega) hj
      have n3 : ¬ nI j ≤ 3 := nI_ge (a := 3) (by omega) hj
      refine br_f h1 (br_t y4 ?_)
      by_cases h16 : j < 16
      · have n31 : ¬ (31 : Int32) < nI j := nI_nlt (a := 31) (by omega) (by decide)
        have n16 : ¬ (16 : Int32) ≤ nI j := nI_ge (b := 16) h16 (by decide)
        exact br_t (nI_lt (b := 16) h16 (by decide)) (ds_keptY (nI m) (fun _ => br_f (by decide) (br_f h1 (br_f n31 (br_f n3 (br_f n16 ⟨rfl, J⟩))))) (fun z => absurd w z))
      · refine br_f (nI_nlt (b := 16) (by omega) hj) ?_
        by_cases h32 : j < 32
        · have n31 : ¬ (31 : Int32) < nI j := nI_nlt (a := 31) (by omega) (by decide)
          have y16 : (16 : Int32) ≤ nI j := nI_le (a := 16) (by omega) hj
          obtain ⟨c, rfl⟩ : ∃ c, j = c + 16 := ⟨j - 16, by omega⟩
          have es : nI (c + 16) - 16 = nI c := by
            show nI (c + 16) - nI 16 = _
            rw [pk_sub (by omega)]
            exact congrArg nI (by omega)
          obtain ⟨q6, eq, _, ev⟩ := g (c / 4) (by omega)
          refine br_f (nI_ge (b := 32) h32 (by decide)) (nm_r es ?_)
          rw [ds_c2 (by omega), ds_c3 (by omega), ds_c4, nI_clamp (show 4 * m + c / 4 < 2 ^ 31 by omega), eq, ds_c4, nI_clamp (by omega)]
          refine ⟨vp_in_nI (by omega) (by decide), vp_in_nI (by omega) (by decide), ds_keptY (nI m) (fun _ => br_f (by decide) (br_f h1 (br_f n31 (br_f n3 (br_t y16 (br_t y4 ?_)))))) (fun z => absurd w z)⟩
          rw [ds_y20m _ _ (by omega), nI_clamp (by omega)]
          refine ⟨vp_in_nI (by omega) (by decide), ?_, J⟩
          rw [← ev (c % 4) (by omega)]
          exact congrArg ce (by omega)
        · have y31 : (31 : Int32) < nI j := nI_lt (a := 31) (by omega) hj
          exact br_t (nI_le (a := 32) (by omega) hj) (ds_keptY (nI m) (fun _ => br_f (by decide) (br_f h1 (br_t y31 ⟨rfl, J⟩))) (fun z => absurd w z))
end
end
section
/-! difference: both sides by their bits -/
def ds_D (ce : Nat → Int32) (m n c : Nat) : Bool := decide (ce (20 * m + c) ≠ ce (20 * n + c))
def ds_S (ce : Nat → Int32) (m n : Nat) (x : Int32) : Prop := ∀ b, b < 32 → bt x b = ((decide (b < 4) && ds_D ce m n b) || (decide (16 ≤ b) && ds_D ce m n (b - 12)))
theorem ds_S_u {ce : Nat → Int32} {m n : Nat} {x y : Int32} (h1 : ds_S ce m n x) (h2 : ds_S ce m n y) : x = y := b_ext fun i hi => by rw [h1 i hi, h2 i hi]
section
variable {fz fk fa fc : Int32} {ao aa ab pc ow kd pl kr kq cs ks rg pg lt th ce ro : Nat → Int32}
theorem ds_df5 {post : Int32 → Prop} {p q : Nat} (p6 : p < 56) (q6 : q < 56) (hp : ∀ x, (∀ i, i < 32 → bt x i = (decide (i < 4) && decide (pc (4 * p + i) ≠ pc (4 * q + i)))) → post x) :
    ∀ d j x, j + d = 4 → (∀ i, i < 32 → bt x i = (decide (i < j) && decide (pc (4 * p + i) ≠ pc (4 * q + i)))) → wX_differing_5 post (nI p) (nI q) fz fk fa fc ao aa ab pc ow kd pl kr kq cs ks rg pg lt (d + 1) x (nI j) := by
  intro d
  induction d with
  | zero =>
    intro j x hj hx
    obtain rfl : j = 4 := by omega
    exact br_t (nI_le (a := 4) (by omega) (by omega)) (hp x hx)
  | succ d ih =>
    intro j x hj hx
    refine br_f (nI_ge (b := 4) (by omega) (by decide)) ?_
    rw [ds_c4, ds_c4, nI_clamp (show 4 * p + j < 2 ^ 31 by omega), nI_clamp (show 4 * q + j < 2 ^ 31 by omega)]
    refine ⟨vp_in_nI (by omega) (by decide), vp_in_nI (by omega) (by decide), ?_⟩
    by_cases z : pc (4 * p + j) = pc (4 * q + j)
    · refine br_t z (nm_r (nI_1 j) (ih (j + 1) x (by omega) (fun i hi => ?_)))
      rw [hx i hi]
      by_cases e : i = j
      · subst e
        rw [decide_eq_false (show ¬ pc (4 * p + i) ≠ pc (4 * q + i) from fun y => y z), Bool.and_false, Bool.and_false]
      · rw [show decide (i < j + 1) = decide (i < j) from decide_eq_decide.mpr (by omega)]
    · refine br_f z (nm_e (nm_r (nI_1 j) (ih (j + 1) _ (by omega) (fun i hi => ?_))))
      rw [b_or, ds_1sh (by omega) hi, hx i hi]
      by_cases e : i = j
      · subst e
        rw [decide_eq_true (show pc (4 * p + i) ≠ pc (4 * q + i) from z), decide_eq_true rfl, Bool.or_true, decide_eq_true (show i < i + 1 by omega), Bool.and_true]
      · rw [show decide (i < j + 1) = decide (i < j) from decide_eq_decide.mpr (by omega), decide_eq_false e, Bool.or_false]
theorem ds_dfX {post : Int32 → Prop} {p q : Nat} (p6 : p < 56) (q6 : q < 56) (hp : ∀ x, (∀ i, i < 32 → bt x i = (decide (i < 4) && decide (pc (4 * p + i) ≠ pc (4 * q + i)))) → post x) : wpX_differing post (fz, fk, fa, fc, ao, aa, ab, pc, ow, kd, pl, kr, kq, cs, ks, rg, pg, lt) (nI p) (nI q) :=
  ⟨_, ds_df5 p6 q6 hp 4 0 0 rfl (fun i _ => by rw [b_0, decide_eq_false (by omega), Bool.false_and])⟩
def ds_S1 (ce : Nat → Int32) (m n j l : Nat) (x : Int32) : Prop := ∀ b, b < 32 → bt x b = ((decide (b < j) && ds_D ce m n b) || (decide (16 ≤ b) && decide (b < 16 + 4 * l) && ds_D ce m n (b - 12)))
theorem ds_S1_reg {m n j l : Nat} {x : Int32} (hj : j < 4) (h : ds_S1 ce m n j l x) (z : ce (20 * m + j) = ce (20 * n + j)) : ds_S1 ce m n (j + 1) l x := by
  intro b hb
  rw [h b hb]
  by_cases e : b = j
  · subst e
    rw [show ds_D ce m n b = false from decide_eq_false fun y => y z, Bool.and_false, Bool.and_false]
  · rw [show decide (b < j + 1) = decide (b < j) from decide_eq_decide.mpr (by omega)]
theorem ds_S1_reg1 {m n j l : Nat} {x : Int32} (hj : j < 4) (h : ds_S1 ce m n j l x) (z : ¬ ce (20 * m + j) = ce (20 * n + j)) : ds_S1 ce m n (j + 1) l (x ||| ((1 : Int32) <<< (nI j &&& 31))) := by
  intro b hb
  rw [b_or, ds_1sh (by omega) hb, h b hb]
  by_cases e : b = j
  · subst e
    rw [show ds_D ce m n b = true from decide_eq_true z, decide_eq_true rfl, Bool.or_true, decide_eq_true (show b < b + 1 by omega), Bool.and_true, Bool.true_or]
  · rw [show decide (b < j + 1) = decide (b < j) from decide_eq_decide.mpr (by omega), decide_eq_false e, Bool.or_false]
theorem ds_S1_pg {m n j l : Nat} {x : Int32} (h : ds_S1 ce m n j l x) (z : ∀ i, i < 4 → ds_D ce m n (4 + 4 * l + i) = false) : ds_S1 ce m n j (l + 1) x := by
  intro b hb
  rw [h b hb]
  by_cases e : 16 + 4 * l ≤ b ∧ b < 16 + 4 * (l + 1)
  · obtain ⟨i, rfl⟩ : ∃ i, b = 16 + 4 * l + i := ⟨b - (16 + 4 * l), by omega⟩
    rw [show 16 + 4 * l + i - 12 = 4 + 4 * l + i by omega, z i (by omega), Bool.and_false, Bool.and_false]
  · rw [show decide (b < 16 + 4 * (l + 1)) = decide (b < 16 + 4 * l) from decide_eq_decide.mpr (by omega)]
theorem ds_S1_pg1 {m n j l : Nat} {x y : Int32} (hl : l < 4) (h : ds_S1 ce m n j l x) (z : ∀ i, i < 32 → bt y i = (decide (i < 4) && ds_D ce m n (4 + 4 * l + i))) : ds_S1 ce m n j (l + 1) (x ||| (y <<< ((16 + 4 * nI l) &&& 31))) := by
  have es : (16 : Int32) + 4 * nI l = nI (16 + 4 * l) := by
    show nI 16 + nI 4 * nI l = _
    rw [pk_mul, nI_add]
  intro b hb
  rw [es, b_or, b_shl _ (by omega) _ hb, h b hb, z _ (by omega)]
  by_cases e1 : b < 16 + 4 * l
  · rw [decide_eq_false (show ¬ 16 + 4 * l ≤ b by omega), Bool.false_and, Bool.or_false, show decide (b < 16 + 4 * (l + 1)) = decide (b < 16 + 4 * l) from decide_eq_decide.mpr (by omega)]
  · by_cases e2 : b < 16 + 4 * (l + 1)
    · obtain ⟨i, rfl⟩ : ∃ i, b = 16 + 4 * l + i := ⟨b - (16 + 4 * l), by omega⟩
      rw [show 16 + 4 * l + i - 12 = 4 + 4 * l + i by omega, show 16 + 4 * l + i - (16 + 4 * l) = i by omega, decide_eq_true e2, decide_eq_false e1, decide_eq_true (show 16 + 4 * l ≤ 16 + 4 * l + i by omega), decide_eq_true (show i < 4 by omega), decide_eq_true (show 16 ≤ 16 + 4 * l + i by omega)]
      simp
    · rw [decide_eq_false e1, decide_eq_false e2, decide_eq_false (show ¬ b - (16 + 4 * l) < 4 by omega)]
      simp
theorem ds_d61 {post : Int32 → Prop} {J23 : Int32 → Int32 → Prop} {m n j : Nat} {x : Int32} {Q : Nat → Nat} (hm : m < 12) (hn : n < 12) (hj : j < 4) (tm : th m ≠ 0) (tn : th n ≠ 0) (hM : ds_M th kd pl kr kq ce pc Q) (h : ds_S1 ce m n (j + 1) j x)
    (hp : ∀ y, ds_S1 ce m n (j + 1) (j + 1) y → J23 y (nI (j + 1))) : wX_difference_61 post J23 (nI m) (nI n) x (nI j) fz fk fa fc ao aa ab pc ow kd pl kr kq cs ks rg pg lt := by
  obtain ⟨a6, ae, _, ac⟩ := ((hM m hm).2 tm).2 j hj
  obtain ⟨b6, be, _, bc⟩ := ((hM n hn).2 tn).2 j hj
  have hD : ∀ i, i < 4 → ds_D ce m n (4 + 4 * j + i) = decide (pc (4 * Q (4 * m + j) + i) ≠ pc (4 * Q (4 * n + j) + i)) := fun i hi => by
    unfold ds_D
    rw [ac i hi, bc i hi]
  unfold wX_difference_61
  rw [ds_c4, ds_c4, nI_clamp (show 4 * m + j < 2 ^ 31 by omega), nI_clamp (show 4 * n + j < 2 ^ 31 by omega), ae, be]
  refine ⟨vp_in_nI (by omega) (by decide), nm_e ⟨vp_in_nI (by omega) (by decide), nm_e ?_⟩⟩
  by_cases z : Q (4 * m + j) = Q (4 * n + j)
  · refine br_t (by rw [z]) (nm_r (nI_1 j) (hp x (ds_S1_pg h (fun i hi => ?_))))
    rw [hD i hi, z]
    exact decide_eq_false fun y => y rfl
  · refine br_f (fun y => z ((nI_eq (by omega) (by omega)).mp y)) (ds_dfX a6 b6 (fun y hy => nm_e (nm_r (nI_1 j) (hp _ (ds_S1_pg1 hj h (fun i hi => ?_))))))
    rw [hy i hi]
    by_cases i4 : i < 4
    · rw [hD i i4]
    · rw [decide_eq_false i4, Bool.false_and, Bool.false_and]
theorem ds_d23 {post : Int32 → Prop} {m n : Nat} {Q : Nat → Nat} (hm : m < 12) (hn : n < 12) (tm : th m ≠ 0) (tn : th n ≠ 0) (hM : ds_M th kd pl kr kq ce pc Q) (hp : ∀ x, ds_S ce m n x → post x) :
    ∀ d j x, j + d = 4 → ds_S1 ce m n j j x → wX_difference_23 post (nI m) (nI n) fz fk fa fc ao aa ab pc ow kd pl kr kq cs ks rg pg lt (d + 1) x (nI j) := by
  intro d
  induction d with
  | zero =>
    intro j x hj hx
    obtain rfl : j = 4 := by omega
    refine br_t (nI_le (a := 4) (by omega) (by omega)) (hp x (fun b hb => ?_))
    rw [hx b hb, decide_eq_true (show b < 16 + 4 * 4 by omega), Bool.and_true]
  | succ d ih =>
    intro j x hj hx
    obtain ⟨_, _, ac, _⟩ := ((hM m hm).2 tm).2 j (by omega)
    obtain ⟨_, _, bc, _⟩ := ((hM n hn).2 tn).2 j (by omega)
    refine br_f (nI_ge (b := 4) (by omega) (by decide)) ?_
    rw [ds_c4, ds_c4, nI_clamp (show 4 * m + j < 2 ^ 31 by omega), nI_clamp (show 4 * n + j < 2 ^ 31 by omega), ← ac, ← bc]
    refine ⟨vp_in_nI (by omega) (by decide), vp_in_nI (by omega) (by decide), ?_⟩
    by_cases z : ce (20 * m + j) = ce (20 * n + j)
    · exact br_t z (ds_d61 hm hn (by omega) tm tn hM (ds_S1_reg (by omega) hx z) (fun y hy => ih (j + 1) y (by omega) hy))
    · exact br_f z (nm_e (ds_d61 hm hn (by omega) tm tn hM (ds_S1_reg1 (by omega) hx z) (fun y hy => ih (j + 1) y (by omega) hy)))
def ds_S2 (ce : Nat → Int32) (m n j : Nat) (x : Int32) : Prop := ∀ b, b < 32 → bt x b = ((decide (b < 4) && decide (b < j) && ds_D ce m n b) || (decide (16 ≤ b) && decide (b - 12 < j) && ds_D ce m n (b - 12)))
theorem ds_S2_0 {m n j : Nat} {x : Int32} (h : ds_S2 ce m n j x) (z : ce (20 * m + j) = ce (20 * n + j)) : ds_S2 ce m n (j + 1) (x ||| 0) := by
  have hz : ds_D ce m n j = false := decide_eq_false fun y => y z
  intro b hb
  rw [b_or, b_0, Bool.or_false, h b hb]
  have e1 : (decide (b < j + 1) && ds_D ce m n b) = (decide (b < j) && ds_D ce m n b) := by
    by_cases e : b = j
    · subst e
      rw [hz, Bool.and_false, Bool.and_false]
    · rw [show decide (b < j + 1) = decide (b < j) from decide_eq_decide.mpr (by omega)]
  have e2 : (decide (b - 12 < j + 1) && ds_D ce m n (b - 12)) = (decide (b - 12 < j) && ds_D ce m n (b - 12)) := by
    by_cases e : b - 12 = j
    · rw [e, hz, Bool.and_false, Bool.and_false]
    · rw [show decide (b - 12 < j + 1) = decide (b - 12 < j) from decide_eq_decide.mpr (by omega)]
  rw [Bool.and_assoc, Bool.and_assoc, Bool.and_assoc, Bool.and_assoc, e1, e2]
theorem ds_S2_1 {m n j z0 : Nat} {x : Int32} (h0 : z0 < 32) (hz0 : (j < 4 ∧ z0 = j) ∨ (4 ≤ j ∧ z0 = j + 12)) (h : ds_S2 ce m n j x) (z : ¬ ce (20 * m + j) = ce (20 * n + j)) : ds_S2 ce m n (j + 1) (x ||| ((1 : Int32) <<< (nI z0 &&& 31))) := by
  have hz : ds_D ce m n j = true := decide_eq_true z
  intro b hb
  rw [b_or, ds_1sh h0 hb, h b hb]
  by_cases e : b = z0
  · rw [decide_eq_true e, Bool.or_true]
    rcases hz0 with ⟨h4, hz0⟩ | ⟨h4, hz0⟩
    · rw [show b = j by omega, hz, decide_eq_true h4, decide_eq_true (show j < j + 1 by omega)]
      simp
    · rw [show b - 12 = j by omega, hz, decide_eq_true (show 16 ≤ b by omega), decide_eq_true (show j < j + 1 by omega)]
      simp
  · rw [decide_eq_false e, Bool.or_false]
    have e1 : (decide (b < 4) && decide (b < j + 1)) = (decide (b < 4) && decide (b < j)) := by
      rw [← Bool.decide_and, ← Bool.decide_and]
      exact decide_eq_decide.mpr (by omega)
    have e2 : (decide (16 ≤ b) && decide (b - 12 < j + 1)) = (decide (16 ≤ b) && decide (b - 12 < j)) := by
      rw [← Bool.decide_and, ← Bool.decide_and]
      exact decide_eq_decide.mpr (by omega)
    rw [e1, e2]
theorem ds_y44 {post : Int32 → Prop} {J5 : Int32 → Int32 → Prop} {m n j z0 : Nat} {x : Int32} (hm : m < 12) (hn : n < 12) (hj : j < 20) (h0 : z0 < 32) (hz0 : (j < 4 ∧ z0 = j) ∨ (4 ≤ j ∧ z0 = j + 12)) (h : ds_S2 ce m n j x)
    (hp : ∀ y, ds_S2 ce m n (j + 1) y → J5 y (nI (j + 1))) : wY_difference_44 post J5 (nI m) (nI n) x (nI j) (nI z0) fz fa fc ao aa ab th kd pl cs ce ks ro lt := by
  unfold wY_difference_44
  rw [ds_y20, ds_y20, nI_clamp (show 20 * m + j < 2 ^ 31 by omega), nI_clamp (show 20 * n + j < 2 ^ 31 by omega)]
  refine ⟨vp_in_nI (by omega) (by decide), vp_in_nI (by omega) (by decide), ?_⟩
  by_cases z : ce (20 * m + j) = ce (20 * n + j)
  · exact br_t z (nm_e (nm_r (nI_1 j) (hp _ (ds_S2_0 h z))))
  · exact br_f z (nm_e (nm_r (nI_1 j) (hp _ (ds_S2_1 h0 hz0 h z))))
theorem ds_y5 {post : Int32 → Prop} {m n : Nat} (hm : m < 12) (hn : n < 12) (tm : th m ≠ 0) (tn : th n ≠ 0) (hp : ∀ x, ds_S ce m n x → post x) :
    ∀ d j x, j + d = 20 → ds_S2 ce m n j x → wY_difference_5 post (nI m) (nI n) fz fa fc ao aa ab th kd pl cs ce ks ro lt (d + 1) x (nI j) := by
  intro d
  induction d with
  | zero =>
    intro j x hj hx
    obtain rfl : j = 20 := by omega
    refine br_t (nI_le (a := 20) (by omega) (by omega)) (hp x (fun b hb => ?_))
    rw [hx b hb, decide_eq_true (show b - 12 < 20 by omega), Bool.and_true]
    rw [← Bool.decide_and, show decide (b < 4 ∧ b < 20) = decide (b < 4) from decide_eq_decide.mpr (by omega)]
  | succ d ih =>
    intro j x hj hx
    have wm : ds_h th (nI m) := (ds_h_m hm).mpr tm
    have wn : ds_h th (nI n) := (ds_h_m hn).mpr tn
    have H := fun y hy => ih (j + 1) y (by omega) hy
    refine br_f (nI_ge (b := 20) (by omega) (by decide)) (ds_keptY (nI m) (fun _ => br_f (by decide) (ds_keptY (nI n) (fun _ => br_f (by decide) ?_) (fun z => absurd wn z))) (fun z => absurd wm z))
    by_cases h4 : 4 ≤ j
    · have e : nI j + 12 = nI (j + 12) := nI_add j 12
      refine br_t (nI_le (a := 4) h4 (by omega)) ?_
      rw [e]
      exact ds_y44 hm hn (by omega) (by omega) (Or.inr ⟨h4, rfl⟩) hx H
    · exact br_f (nI_ge (b := 4) (by omega) (by decide)) (ds_y44 hm hn (by omega) (by omega) (Or.inl ⟨by omega, rfl⟩) hx H)
theorem ds_yd0 {post : Int32 → Prop} {v1 v2 : Int32} (h : ¬ (ds_h th v1 ∧ ds_h th v2)) (hp : post 0) : wpY_difference post (fz, fa, fc, ao, aa, ab, th, kd, pl, cs, ce, ks, ro, lt) v1 v2 := by
  refine ⟨1, br_f (by decide) (ds_keptY v1 (fun w1 => br_f (by decide) (ds_keptY v2 (fun w2 => absurd ⟨w1, w2⟩ h) (fun _ => br_t rfl hp))) (fun _ => br_t rfl hp))⟩
theorem ds_vc_difference {k : Nat} {v1 v2 : Int32} (hP : ds_P fz ao aa ab) (hB : ds_B fk th) (hI : ds_RI th kd pl kr kq ce pc ow) : wpX_difference (fun r => wpY_difference (fun r' => r' = r ∧ i_Rel (k + 4) (fz, fk, fa, fc, ao, aa, ab, pc, ow, kd, pl, kr, kq, cs, ks, rg, pg, lt) (fz, fa, fc, ao, aa, ab, th, kd, pl, cs, ce, ks, ro, lt)) (fz, fa, fc, ao, aa, ab, th, kd, pl, cs, ce, ks, ro, lt) v1 v2) (fz, fk, fa, fc, ao, aa, ab, pc, ow, kd, pl, kr, kq, cs, ks, rg, pg, lt) v1 v2 := by
  have J : i_Rel (k + 4) (fz, fk, fa, fc, ao, aa, ab, pc, ow, kd, pl, kr, kq, cs, ks, rg, pg, lt) (fz, fa, fc, ao, aa, ab, th, kd, pl, cs, ce, ks, ro, lt) := ds_mk hP hB hI
  unfold wpX_difference
  dsimp only
  refine ds_hasX v1 hB (fun w1 => br_f (by decide) (ds_hasX v2 hB (fun w2 => br_f (by decide) ⟨5, ?_⟩) (fun w2 => br_t rfl (ds_yd0 (fun z => w2 z.2) ⟨rfl, J⟩)))) (fun w1 => br_t rfl (ds_yd0 (fun z => w1 z.1) ⟨rfl, J⟩))
  obtain ⟨m, hm, rfl, tm⟩ := w1
  obtain ⟨n, hn, rfl, tn⟩ := w2
  obtain ⟨Q, _, hM, _⟩ := hI
  refine ds_d23 hm hn tm tn hM (fun x hx => ?_) 4 0 0 rfl (fun b hb => ?_)
  · refine ⟨21, ds_y5 hm hn tm tn (fun y hy => ⟨ds_S_u hy hx, J⟩) 20 0 0 rfl (fun b hb => ?_)⟩
    rw [b_0, decide_eq_false (show ¬ b < 0 by omega), decide_eq_false (show ¬ b - 12 < 0 by omega)]
    simp
  · rw [b_0, decide_eq_false (show ¬ b < 0 by omega)]
    by_cases e : 16 ≤ b
    · rw [decide_eq_false (show ¬ b < 16 + 4 * 0 by omega)]
      simp
    · rw [decide_eq_false e]
      simp
end
end
section
/-! the owed statements -/
theorem i_vc_emit {k : Nat} {u : SX} {v : SY} (I : i_Rel k u v) (hk : k + 4 ≤ 2048) (v1 : Int32) (v2 : Int32) (v3 : Int32) : wpX_emit (fun r u' => wpY_emit (fun r' v' => r' = r ∧ i_Rel (k + 4) u' v') v v1 v2 v3) u v1 v2 v3 :=
  ds_el (P := fun u v => wpX_emit (fun r u' => wpY_emit (fun r' v' => r' = r ∧ i_Rel (k + 4) u' v') v v1 v2 v3) u v1 v2 v3) (fun fz fk fa fc ao aa ab pc ow kd pl kr kq cs ks rg pg lt th ce ro hP hB hI => ds_vc_emit hP hB hI) I
theorem i_vc_forgetAll {k : Nat} {u : SX} {v : SY} (I : i_Rel k u v) (hk : k + 4 ≤ 2048) : wpX_forgetAll (fun u' => wpY_forgetAll (fun v' => i_Rel (k + 4) u' v') v) u :=
  ds_el (P := fun u v => wpX_forgetAll (fun u' => wpY_forgetAll (fun v' => i_Rel (k + 4) u' v') v) u) (fun fz fk fa fc ao aa ab pc ow kd pl kr kq cs ks rg pg lt th ce ro hP hB hI => ds_vc_forgetAll hP hB hI) I
theorem i_vc_clear {k : Nat} {u : SX} {v : SY} (I : i_Rel k u v) (hk : k + 4 ≤ 2048) : wpX_clear (fun u' => wpY_clear (fun v' => i_Rel (k + 4) u' v') v) u :=
  ds_el (P := fun u v => wpX_clear (fun u' => wpY_clear (fun v' => i_Rel (k + 4) u' v') v) u) (fun fz fk fa fc ao aa ab pc ow kd pl kr kq cs ks rg pg lt th ce ro hP hB hI => ds_vc_clear hP hB hI) I
theorem i_vc_start {k : Nat} {u : SX} {v : SY} (I : i_Rel k u v) (hk : k + 4 ≤ 2048) : wpX_start (fun r u' => wpY_start (fun r' v' => r' = r ∧ i_Rel (k + 4) u' v') v) u :=
  ds_el (P := fun u v => wpX_start (fun r u' => wpY_start (fun r' v' => r' = r ∧ i_Rel (k + 4) u' v') v) u) (fun fz fk fa fc ao aa ab pc ow kd pl kr kq cs ks rg pg lt th ce ro hP hB hI => ds_vc_start hP hB hI) I
theorem i_vc_answer {k : Nat} {u : SX} {v : SY} (I : i_Rel k u v) (hk : k + 4 ≤ 2048) (v1 : Int32) (v2 : Int32) : wpX_answer (fun r u' => wpY_answer (fun r' v' => r' = r ∧ i_Rel (k + 4) u' v') v v1 v2) u v1 v2 :=
  ds_el (P := fun u v => wpX_answer (fun r u' => wpY_answer (fun r' v' => r' = r ∧ i_Rel (k + 4) u' v') v v1 v2) u v1 v2) (fun fz fk fa fc ao aa ab pc ow kd pl kr kq cs ks rg pg lt th ce ro hP hB hI => ds_vc_answer hP hB hI) I
theorem i_vc_goOn {k : Nat} {u : SX} {v : SY} (I : i_Rel k u v) (hk : k + 4 ≤ 2048) (v1 : Int32) : wpX_goOn (fun r u' => wpY_goOn (fun r' v' => r' = r ∧ i_Rel (k + 4) u' v') v v1) u v1 :=
  ds_el (P := fun u v => wpX_goOn (fun r u' => wpY_goOn (fun r' v' => r' = r ∧ i_Rel (k + 4) u' v') v v1) u v1) (fun fz fk fa fc ao aa ab pc ow kd pl kr kq cs ks rg pg lt th ce ro hP hB hI => ds_vc_goOn hP hB hI) I
theorem i_vc_forget {k : Nat} {u : SX} {v : SY} (I : i_Rel k u v) (hk : k + 4 ≤ 2048) (v1 : Int32) : wpX_forget (fun r u' => wpY_forget (fun r' v' => r' = r ∧ i_Rel (k + 4) u' v') v v1) u v1 :=
  ds_el (P := fun u v => wpX_forget (fun r u' => wpY_forget (fun r' v' => r' = r ∧ i_Rel (k + 4) u' v') v v1) u v1) (fun fz fk fa fc ao aa ab pc ow kd pl kr kq cs ks rg pg lt th ce ro hP hB hI => ds_vc_forget hP hB hI) I
theorem i_vc_moments {k : Nat} {u : SX} {v : SY} (I : i_Rel k u v) (hk : k + 4 ≤ 2048) : wpX_moments (fun r => wpY_moments (fun r' => r' = r ∧ i_Rel (k + 4) u v) v) u :=
  ds_el (P := fun u v => wpX_moments (fun r => wpY_moments (fun r' => r' = r ∧ i_Rel (k + 4) u v) v) u) (fun fz fk fa fc ao aa ab pc ow kd pl kr kq cs ks rg pg lt th ce ro hP hB hI => ds_vc_moments hP hB hI) I
theorem i_vc_kind {k : Nat} {u : SX} {v : SY} (I : i_Rel k u v) (hk : k + 4 ≤ 2048) (v1 : Int32) : wpX_kind (fun r => wpY_kind (fun r' => r' = r ∧ i_Rel (k + 4) u v) v v1) u v1 :=
  ds_el (P := fun u v => wpX_kind (fun r => wpY_kind (fun r' => r' = r ∧ i_Rel (k + 4) u v) v v1) u v1) (fun fz fk fa fc ao aa ab pc ow kd pl kr kq cs ks rg pg lt th ce ro hP hB hI => ds_vc_kind hP hB hI) I
theorem i_vc_position {k : Nat} {u : SX} {v : SY} (I : i_Rel k u v) (hk : k + 4 ≤ 2048) (v1 : Int32) : wpX_position (fun r => wpY_position (fun r' => r' = r ∧ i_Rel (k + 4) u v) v v1) u v1 :=
  ds_el (P := fun u v => wpX_position (fun r => wpY_position (fun r' => r' = r ∧ i_Rel (k + 4) u v) v v1) u v1) (fun fz fk fa fc ao aa ab pc ow kd pl kr kq cs ks rg pg lt th ce ro hP hB hI => ds_vc_position hP hB hI) I
theorem i_vc_peek {k : Nat} {u : SX} {v : SY} (I : i_Rel k u v) (hk : k + 4 ≤ 2048) (v1 : Int32) (v2 : Int32) : wpX_peek (fun r => wpY_peek (fun r' => r' = r ∧ i_Rel (k + 4) u v) v v1 v2) u v1 v2 :=
  ds_el (P := fun u v => wpX_peek (fun r => wpY_peek (fun r' => r' = r ∧ i_Rel (k + 4) u v) v v1 v2) u v1 v2) (fun fz fk fa fc ao aa ab pc ow kd pl kr kq cs ks rg pg lt th ce ro hP hB hI => ds_vc_peek hP hB hI) I
theorem i_vc_said {k : Nat} {u : SX} {v : SY} (I : i_Rel k u v) (hk : k + 4 ≤ 2048) (v1 : Int32) : wpX_said (fun r => wpY_said (fun r' => r' = r ∧ i_Rel (k + 4) u v) v v1) u v1 :=
  ds_el (P := fun u v => wpX_said (fun r => wpY_said (fun r' => r' = r ∧ i_Rel (k + 4) u v) v v1) u v1) (fun fz fk fa fc ao aa ab pc ow kd pl kr kq cs ks rg pg lt th ce ro hP hB hI => ds_vc_said hP hB hI) I
theorem i_vc_lastSaid {k : Nat} {u : SX} {v : SY} (I : i_Rel k u v) (hk : k + 4 ≤ 2048) (v1 : Int32) (v2 : Int32) : wpX_lastSaid (fun r => wpY_lastSaid (fun r' => r' = r ∧ i_Rel (k + 4) u v) v v1 v2) u v1 v2 :=
  ds_el (P := fun u v => wpX_lastSaid (fun r => wpY_lastSaid (fun r' => r' = r ∧ i_Rel (k + 4) u v) v v1 v2) u v1 v2) (fun fz fk fa fc ao aa ab pc ow kd pl kr kq cs ks rg pg lt th ce ro hP hB hI => ds_vc_lastSaid hP hB hI) I
theorem i_vc_difference {k : Nat} {u : SX} {v : SY} (I : i_Rel k u v) (hk : k + 4 ≤ 2048) (v1 : Int32) (v2 : Int32) : wpX_difference (fun r => wpY_difference (fun r' => r' = r ∧ i_Rel (k + 4) u v) v v1 v2) u v1 v2 :=
  ds_el (P := fun u v => wpX_difference (fun r => wpY_difference (fun r' => r' = r ∧ i_Rel (k + 4) u v) v v1 v2) u v1 v2) (fun fz fk fa fc ao aa ab pc ow kd pl kr kq cs ks rg pg lt th ce ro hP hB hI => ds_vc_difference hP hB hI) I
end
