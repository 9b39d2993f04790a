section
/-! ===== numbers as bits ===== -/
theorem bf_and (a b : Nat) : nI a &&& nI b = nI (a &&& b) := by
  apply Int32.toBitVec_inj.1
  show BitVec.ofNat 32 a &&& BitVec.ofNat 32 b = BitVec.ofNat 32 (a &&& b)
  apply BitVec.eq_of_getLsbD_eq
  intro i hi
  simp [hi]
theorem bf_or (a b : Nat) : nI a ||| nI b = nI (a ||| b) := by
  apply Int32.toBitVec_inj.1
  show BitVec.ofNat 32 a ||| BitVec.ofNat 32 b = BitVec.ofNat 32 (a ||| b)
  apply BitVec.eq_of_getLsbD_eq
  intro i hi
  simp [hi]
theorem bf_xor (a b : Nat) : nI a ^^^ nI b = nI (a ^^^ b) := by
  apply Int32.toBitVec_inj.1
  show BitVec.ofNat 32 a ^^^ BitVec.ofNat 32 b = BitVec.ofNat 32 (a ^^^ b)
  apply BitVec.eq_of_getLsbD_eq
  intro i hi
  simp [hi]
theorem bf_sl : ∀ n, n < 32 → ((nI n &&& 31).toBitVec.smod 32).toNat = n := by decide +kernel
theorem bf_shr {s v : Nat} (hs : s < 2 ^ 31) (hv : v < 32) : nI s >>> (nI v &&& 31) = nI (s / 2 ^ v) := pk_shrN hs _ v (bf_sl v hv)
theorem bf_shl {b v : Nat} (hv : v < 32) (h : b * 2 ^ v < 2 ^ 32) : nI b <<< (nI v &&& 31) = nI (b * 2 ^ v) := pk_shlN _ v (bf_sl v hv) h
theorem bf_one {v : Nat} (hv : v < 31) : (1 : Int32) <<< (nI v &&& 31) = nI (2 ^ v) := by
  have h : 2 ^ v < 2 ^ 31 := Nat.pow_lt_pow_right (by decide) hv
  have e := bf_shl (b := 1) (v := v) (by omega) (by omega)
  rw [Nat.one_mul] at e
  exact e
theorem bf_bit {s v : Nat} (hs : s < 2 ^ 31) (hv : v < 32) : (nI s >>> (nI v &&& 31)) &&& 1 = nI (s / 2 ^ v % 2) := by
  rw [bf_shr hs hv]
  show nI (s / 2 ^ v) &&& nI 1 = _
  rw [bf_and, Nat.and_one_is_mod]
theorem bf_b2 (s v : Nat) : s / 2 ^ v % 2 < 2 := Nat.mod_lt _ (by decide)
theorem bf_tbi (s v : Nat) : s.testBit v = true ↔ s / 2 ^ v % 2 = 1 := by
  rw [Nat.testBit_eq_decide_div_mod_eq, decide_eq_true_iff]
theorem bf_tbz (s v : Nat) : s.testBit v = false ↔ s / 2 ^ v % 2 = 0 := by
  rw [Nat.testBit_eq_decide_div_mod_eq, decide_eq_false_iff_not]
  have := bf_b2 s v
  omega
theorem bf_tb {s v : Nat} (hs : s < 2 ^ 31) (hv : v < 32) : ((nI s >>> (nI v &&& 31)) &&& 1) = 1 ↔ s.testBit v = true := by
  rw [bf_bit hs hv, bf_tbi]
  show nI (s / 2 ^ v % 2) = nI 1 ↔ _
  have h := bf_b2 s v
  exact nI_eq (by omega) (by decide)
theorem bf_tb0 {s v : Nat} (hs : s < 2 ^ 31) (hv : v < 32) : ((nI s >>> (nI v &&& 31)) &&& 1) = 0 ↔ s.testBit v = false := by
  rw [bf_bit hs hv, bf_tbz]
  show nI (s / 2 ^ v % 2) = nI 0 ↔ _
  have h := bf_b2 s v
  exact nI_eq (by omega) (by decide)
theorem bf_nf {x : Bool} (h : ¬ x = true) : x = false := by cases x <;> first | rfl | exact absurd rfl h
theorem bf_nt {x : Bool} (h : ¬ x = false) : x = true := by cases x <;> first | rfl | exact absurd rfl h
/-- a without b -/
def bf_dl (a b : Nat) : Nat := a &&& (b ^^^ 4294967295)
theorem bf_m1 : (-1 : Int32) = nI 4294967295 := by decide
theorem bf_not (a b : Nat) : nI a &&& (nI b ^^^ (-1)) = nI (bf_dl a b) := by
  rw [bf_m1, bf_xor, bf_and]
  rfl
theorem bf_dlt {a b : Nat} (ha : a < 2 ^ 32) (i : Nat) : (bf_dl a b).testBit i = (a.testBit i && !b.testBit i) := by
  unfold bf_dl
  rw [Nat.testBit_and, Nat.testBit_xor]
  rcases Nat.lt_or_ge i 32 with h | h
  · rw [show (4294967295 : Nat) = 2 ^ 32 - 1 from rfl, Nat.testBit_two_pow_sub_one, decide_eq_true h]
    cases a.testBit i <;> cases b.testBit i <;> rfl
  · have e : a.testBit i = false := Nat.testBit_lt_two_pow (Nat.lt_of_lt_of_le ha (Nat.pow_le_pow_right (by decide) h))
    rw [e]
    rfl
theorem bf_dle (a b : Nat) : bf_dl a b ≤ a := Nat.and_le_left
theorem bf_tlt {s i : Nat} (k : Nat) (hs : s < 2 ^ k) (hi : k ≤ i) : s.testBit i = false :=
  Nat.testBit_lt_two_pow (Nat.lt_of_lt_of_le hs (Nat.pow_le_pow_right (by decide) hi))
theorem bf_idx {s i : Nat} (k : Nat) (hs : s < 2 ^ k) (hi : s.testBit i = true) : i < k := by
  rcases Nat.lt_or_ge i k with h | h
  · exact h
  · rw [bf_tlt k hs h] at hi
    exact absurd hi (by decide)
theorem bf_p7 {v : Nat} (hv : v < 7) : 2 ^ v ≤ 64 := Nat.pow_le_pow_right (by decide) (show v ≤ 6 by omega)
theorem bf_or7 {a b : Nat} (ha : a < 128) (hb : b < 128) : a ||| b < 128 := Nat.or_lt_two_pow (n := 7) ha hb
theorem bf_2or {z v i : Nat} : (z ||| 2 ^ v).testBit i = (z.testBit i || decide (v = i)) := by
  rw [Nat.testBit_or, Nat.testBit_two_pow]
/-! ===== loops whose values are known functions of the counter ===== -/
theorem bf_loop (W : Nat → Nat → Prop) (e : Nat) (hx : ∀ n, W (n + 1) e) (hs : ∀ n i, i < e → W n (i + 1) → W (n + 1) i) : ∃ n, W n 0 :=
  pk_loop (σ := Unit) (fun n i _ => W n i) (fun _ _ => True) e 0 () (Nat.zero_le e) trivial (fun n _ _ => hx n) (fun n i _ hi _ hw => hs n i hi (hw () trivial))
/-! ===== ones ===== -/
def bf_on (s : Nat) : Nat → Nat
  | 0 => 0
  | k + 1 => bf_on s k + s / 2 ^ k % 2
theorem bf_on_le (s k : Nat) : bf_on s k ≤ k := by
  induction k with
  | zero => exact Nat.le_refl 0
  | succ k ih =>
    have h := bf_b2 s k
    show bf_on s k + s / 2 ^ k % 2 ≤ k + 1
    omega
theorem bf_ones {post : Int32 → Prop} {s : Nat} (hs : s < 2 ^ 31) (H : post (nI (bf_on s 7))) : wpX_ones post () (nI s) := by
  unfold wpX_ones
  refine bf_loop (fun n i => wX_ones_4 post (nI s) n (nI (bf_on s i)) (nI i)) 7 (fun n => ?_) (fun n i hi hw => ?_)
  · exact pk_le 7 7 (fun _ => H) (fun z => absurd z (by omega))
  · refine pk_le 7 i (fun z => absurd z (by omega)) (fun _ => nm_r ?_ (nm_r (nI_1 i) hw))
    rw [bf_bit hs (by omega), nI_add]
    rfl
/-! ===== packed ===== -/
def bf_pk (x s : Nat) : Nat → Nat
  | 0 => 0
  | k + 1 => if s.testBit k = true then bf_pk x s k + (x / 2 ^ k % 2) * 2 ^ (bf_on s k) else bf_pk x s k
theorem bf_on_t {s k : Nat} (h : s.testBit k = true) : bf_on s (k + 1) = bf_on s k + 1 := by
  show bf_on s k + s / 2 ^ k % 2 = _
  rw [(bf_tbi s k).mp h]
theorem bf_on_f {s k : Nat} (h : ¬ s.testBit k = true) : bf_on s (k + 1) = bf_on s k := by
  show bf_on s k + s / 2 ^ k % 2 = _
  rw [(bf_tbz s k).mp (bf_nf h)]
  rfl
theorem bf_pk_t {x s k : Nat} (h : s.testBit k = true) : bf_pk x s (k + 1) = bf_pk x s k + (x / 2 ^ k % 2) * 2 ^ (bf_on s k) := if_pos h
theorem bf_pk_f {x s k : Nat} (h : ¬ s.testBit k = true) : bf_pk x s (k + 1) = bf_pk x s k := if_neg h
theorem bf_bmul (x k p : Nat) : (x / 2 ^ k % 2) * p ≤ p := by
  have h := bf_b2 x k
  calc (x / 2 ^ k % 2) * p ≤ 1 * p := Nat.mul_le_mul_right p (by omega)
    _ = p := Nat.one_mul p
theorem bf_pk_lt (x s k : Nat) : bf_pk x s k < 2 ^ (bf_on s k) := by
  induction k with
  | zero => exact Nat.one_pos
  | succ k ih =>
    by_cases h : s.testBit k = true
    · rw [bf_pk_t h, bf_on_t h, Nat.pow_succ]
      have := bf_bmul x k (2 ^ (bf_on s k))
      omega
    · rw [bf_pk_f h, bf_on_f h]
      exact ih
theorem bf_pk_7 (x s : Nat) : bf_pk x s 7 < 128 :=
  Nat.lt_of_lt_of_le (bf_pk_lt x s 7) (Nat.pow_le_pow_right (n := 2) (by decide) (bf_on_le s 7))
theorem bf_pk_congr {x y s k : Nat} (h : ∀ i, i < k → s.testBit i = true → x / 2 ^ i % 2 = y / 2 ^ i % 2) : bf_pk x s k = bf_pk y s k := by
  induction k with
  | zero => rfl
  | succ k ih =>
    have e := ih (fun i hi => h i (by omega))
    by_cases t : s.testBit k = true
    · rw [bf_pk_t t, bf_pk_t t, e, h k (by omega) t]
    · rw [bf_pk_f t, bf_pk_f t, e]
theorem bf_pk_inj {x y s k : Nat} (h : bf_pk x s k = bf_pk y s k) : ∀ i, i < k → s.testBit i = true → x / 2 ^ i % 2 = y / 2 ^ i % 2 := by
  induction k with
  | zero => exact fun i hi => absurd hi (by omega)
  | succ k ih =>
    by_cases t : s.testBit k = true
    · rw [bf_pk_t t, bf_pk_t t] at h
      have h1 := bf_pk_lt x s k
      have h2 := bf_pk_lt y s k
      have hx := bf_b2 x k
      have hy := bf_b2 y k
      generalize 2 ^ (bf_on s k) = p at h h1 h2
      have e : x / 2 ^ k % 2 = y / 2 ^ k % 2 := by
        rcases Nat.lt_or_ge (x / 2 ^ k % 2) 1 with a | a
        · rcases Nat.lt_or_ge (y / 2 ^ k % 2) 1 with b | b
          · omega
          · rw [show x / 2 ^ k % 2 = 0 by omega, show y / 2 ^ k % 2 = 1 by omega] at h
            omega
        · rcases Nat.lt_or_ge (y / 2 ^ k % 2) 1 with b | b
          · rw [show x / 2 ^ k % 2 = 1 by omega, show y / 2 ^ k % 2 = 0 by omega] at h
            omega
          · omega
      rw [e] at h
      intro i hi ti
      by_cases ei : i = k
      · rw [ei]; exact e
      · exact ih (by omega) i (by omega) ti
    · rw [bf_pk_f t, bf_pk_f t] at h
      intro i hi ti
      by_cases ei : i = k
      · rw [ei] at ti; exact absurd ti t
      · exact ih h i (by omega) ti
theorem bf_bt {x y i : Nat} (h : x / 2 ^ i % 2 = y / 2 ^ i % 2) : x.testBit i = y.testBit i := by
  rw [Nat.testBit_eq_decide_div_mod_eq, Nat.testBit_eq_decide_div_mod_eq, h]
theorem bf_tn {x y i : Nat} (h : x.testBit i = y.testBit i) : x / 2 ^ i % 2 = y / 2 ^ i % 2 := by
  have hx := bf_b2 x i
  have hy := bf_b2 y i
  cases t : x.testBit i
  · rw [t] at h
    rw [(bf_tbz x i).mp t, (bf_tbz y i).mp h.symm]
  · rw [t] at h
    rw [(bf_tbi x i).mp t, (bf_tbi y i).mp h.symm]
theorem bf_pk_and (x s : Nat) : bf_pk (x &&& s) s 7 = bf_pk x s 7 := by
  refine bf_pk_congr (fun i _ t => bf_tn ?_)
  rw [Nat.testBit_and, t, Bool.and_true]
theorem bf_pk_eq {x y s : Nat} (hs : s < 128) (h : bf_pk x s 7 = bf_pk y s 7) : x &&& s = y &&& s := by
  apply Nat.eq_of_testBit_eq
  intro i
  rw [Nat.testBit_and, Nat.testBit_and]
  by_cases t : s.testBit i = true
  · rw [bf_bt (bf_pk_inj h i (bf_idx 7 hs t) t)]
  · rw [bf_nf t, Bool.and_false, Bool.and_false]
theorem bf_pk_mono (x s k : Nat) : bf_pk x s k ≤ bf_pk s s k := by
  induction k with
  | zero => exact Nat.le_refl _
  | succ k ih =>
    by_cases t : s.testBit k = true
    · rw [bf_pk_t t, bf_pk_t t, (bf_tbi s k).mp t, Nat.one_mul]
      exact Nat.add_le_add ih (bf_bmul x k _)
    · rw [bf_pk_f t, bf_pk_f t]
      exact ih
theorem bf_pk_0 (s k : Nat) : bf_pk 0 s k = 0 := by
  induction k with
  | zero => rfl
  | succ k ih =>
    by_cases t : s.testBit k = true
    · rw [bf_pk_t t, ih, Nat.zero_div]
      simp
    · rw [bf_pk_f t, ih]
theorem bf_packed {post : Int32 → Prop} {x s : Nat} (hx : x < 2 ^ 31) (hs : s < 2 ^ 31) (H : post (nI (bf_pk x s 7))) : wpX_packed post () (nI x) (nI s) := by
  unfold wpX_packed
  refine bf_loop (fun n i => wX_packed_7 post (nI x) (nI s) n (nI (bf_pk x s i)) (nI (bf_on s i)) (nI i)) 7 (fun n => ?_) (fun n i hi hw => ?_)
  · exact pk_le 7 7 (fun _ => H) (fun z => absurd z (by omega))
  · refine pk_le 7 i (fun z => absurd z (by omega)) (fun _ => ek_if (bf_tb hs (by omega)) (fun t => ?_) (fun t => ?_))
    · rw [bf_pk_t t, bf_on_t t] at hw
      refine nm_r ?_ (nm_r (nI_1 _) (nm_r (nI_1 i) hw))
      have ho := bf_on_le s i
      have hb := bf_b2 x i
      have hp : 2 ^ bf_on s i ≤ 2 ^ 7 := Nat.pow_le_pow_right (by decide) (by omega)
      have hm := bf_bmul x i (2 ^ bf_on s i)
      rw [bf_bit hx (by omega), bf_shl (by omega) (by omega), bf_or]
      have e := Nat.two_pow_add_eq_or_of_lt (bf_pk_lt x s i) (x / 2 ^ i % 2)
      rw [Nat.mul_comm] at e
      rw [Nat.or_comm, ← e, Nat.add_comm]
    · rw [bf_pk_f t, bf_on_f t] at hw
      exact nm_r (nI_1 i) hw
/-! ===== the next subset ===== -/
def bf_nx (m s : Nat) : Nat := (m + 4294967296 - s) &&& s
theorem bf_wrap {m s : Nat} (hs : s < 4294967296) : nI m - nI s = nI (m + 4294967296 - s) := by
  have e : nI m = nI (m + 4294967296) := by
    apply Int32.toBitVec_inj.1
    show BitVec.ofNat 32 m = BitVec.ofNat 32 (m + 4294967296)
    apply BitVec.eq_of_toNat_eq
    rw [BitVec.toNat_ofNat, BitVec.toNat_ofNat]
    omega
  rw [e, pk_sub (by omega)]
theorem bf_next {m s : Nat} (hs : s < 4294967296) : (nI m - nI s) &&& nI s = nI (bf_nx m s) := by
  rw [bf_wrap hs, bf_and]
  rfl
theorem bf_nx_sub (m s : Nat) : bf_nx m s &&& s = bf_nx m s := by
  unfold bf_nx
  rw [Nat.and_assoc, Nat.and_self]
theorem bf_nx_pk : ∀ s, s < 128 → ∀ m, m < 128 → m &&& s = m → ¬ m = s → bf_pk (bf_nx m s) s 7 = bf_pk m s 7 + 1 := by decide +kernel
/-! ===== arrays of numbers ===== -/
def bf_fn (f : Nat → Nat) : Nat → Int32 := fun j => nI (f j)
def bf_up (f : Nat → Nat) (k x : Nat) : Nat → Nat := fun j => if j = k then x else f j
theorem bf_at {f : Nat → Nat} {k : Nat} (h : k < 2 ^ 31) : bf_fn f (nI k).toNatClampNeg = nI (f k) := by
  rw [nI_clamp h]
  rfl
theorem bf_st {f : Nat → Nat} {k x : Nat} (h : k < 2 ^ 31) : upd (bf_fn f) (nI k).toNatClampNeg (nI x) = bf_fn (bf_up f k x) := by
  rw [nI_clamp h]
  funext j
  show (if j = k then nI x else nI (f j)) = nI (if j = k then x else f j)
  by_cases e : j = k
  · rw [if_pos e, if_pos e]
  · rw [if_neg e, if_neg e]
theorem bf_us {f : Nat → Nat} {k x : Nat} : bf_up f k x k = x := if_pos rfl
theorem bf_un {f : Nat → Nat} {k x j : Nat} (h : j ≠ k) : bf_up f k x j = f j := if_neg h
end
section
/-! ===== the two ways to gather: g = 0 sums, else the greatest ===== -/
def bf_op (g a b : Nat) : Nat := if g = 0 then a + b else max a b
theorem bf_op_4 (g a b c d : Nat) : bf_op g (bf_op g a b) (bf_op g c d) = bf_op g (bf_op g a c) (bf_op g b d) := by
  unfold bf_op
  split <;> omega
theorem bf_op_as (g a b c : Nat) : bf_op g (bf_op g a b) c = bf_op g a (bf_op g b c) := by
  unfold bf_op
  split <;> omega
theorem bf_op_z (g a : Nat) : bf_op g a 0 = a := by
  unfold bf_op
  split <;> omega
theorem bf_op_y (g a : Nat) : bf_op g 0 a = a := by
  unfold bf_op
  split <;> omega
theorem bf_op_le (g a b : Nat) : bf_op g a b ≤ a + b := by
  unfold bf_op
  split <;> omega
theorem bf_op_mul (g c a b : Nat) : c * bf_op g a b = bf_op g (c * a) (c * b) := by
  unfold bf_op
  by_cases h : g = 0
  · rw [if_pos h, if_pos h, Nat.mul_add]
  · rw [if_neg h, if_neg h]
    rcases Nat.le_total a b with q | q
    · rw [Nat.max_eq_right q, Nat.max_eq_right (Nat.mul_le_mul_left c q)]
    · rw [Nat.max_eq_left q, Nat.max_eq_left (Nat.mul_le_mul_left c q)]
/-! ===== over all assignments of the free variables below k ===== -/
def bf_ag (g o : Nat) (P : Nat → Nat) : Nat → Nat → Nat
  | 0, y => P y
  | k + 1, y => if o.testBit k = true then bf_op g (bf_ag g o P k y) (bf_ag g o P k (y ||| 2 ^ k)) else bf_ag g o P k y
theorem bf_ag_t {g o : Nat} {P : Nat → Nat} {k y : Nat} (h : o.testBit k = true) : bf_ag g o P (k + 1) y = bf_op g (bf_ag g o P k y) (bf_ag g o P k (y ||| 2 ^ k)) := if_pos h
theorem bf_ag_f {g o : Nat} {P : Nat → Nat} {k y : Nat} (h : ¬ o.testBit k = true) : bf_ag g o P (k + 1) y = bf_ag g o P k y := if_neg h
theorem bf_ag_op (g o : Nat) (P Q : Nat → Nat) (k : Nat) : ∀ y, bf_ag g o (fun z => bf_op g (P z) (Q z)) k y = bf_op g (bf_ag g o P k y) (bf_ag g o Q k y) := by
  induction k with
  | zero => exact fun y => rfl
  | succ k ih =>
    intro y
    by_cases h : o.testBit k = true
    · rw [bf_ag_t h, bf_ag_t h, bf_ag_t h, ih, ih, bf_op_4]
    · rw [bf_ag_f h, bf_ag_f h, bf_ag_f h, ih]
theorem bf_orc (a b c : Nat) : a ||| b ||| c = a ||| c ||| b := by rw [Nat.or_assoc, Nat.or_comm b c, ← Nat.or_assoc]
theorem bf_ag_sh (g o : Nat) (P : Nat → Nat) (b k : Nat) : ∀ y, bf_ag g o (fun z => P (z ||| b)) k y = bf_ag g o P k (y ||| b) := by
  induction k with
  | zero => exact fun y => rfl
  | succ k ih =>
    intro y
    by_cases h : o.testBit k = true
    · rw [bf_ag_t h, bf_ag_t h, ih, ih, bf_orc y (2 ^ k) b]
    · rw [bf_ag_f h, bf_ag_f h, ih]
theorem bf_ag_o {g o o' : Nat} {P : Nat → Nat} {k : Nat} (h : ∀ i, i < k → o.testBit i = o'.testBit i) : ∀ y, bf_ag g o P k y = bf_ag g o' P k y := by
  induction k with
  | zero => exact fun y => rfl
  | succ k ih =>
    intro y
    have ih := ih (fun i hi => h i (by omega))
    have e := h k (by omega)
    by_cases t : o.testBit k = true
    · rw [bf_ag_t t, bf_ag_t (e ▸ t), ih, ih]
    · rw [bf_ag_f t, bf_ag_f (e ▸ t), ih]
theorem bf_dl2 {o v i : Nat} (ho : o < 2 ^ 32) (h : v ≠ i) : (bf_dl o (2 ^ v)).testBit i = o.testBit i := by
  rw [bf_dlt ho, Nat.testBit_two_pow_of_ne h]
  simp
theorem bf_dl1 {o v : Nat} (ho : o < 2 ^ 32) : ¬ (bf_dl o (2 ^ v)).testBit v = true := by
  rw [bf_dlt ho, Nat.testBit_two_pow_self]
  simp
theorem bf_ag_out {g o v : Nat} {P : Nat → Nat} {k : Nat} (ho : o < 2 ^ 32) (hv : v < k) (t : o.testBit v = true) : ∀ y, bf_ag g o P k y = bf_ag g (bf_dl o (2 ^ v)) (fun z => bf_op g (P z) (P (z ||| 2 ^ v))) k y := by
  induction k with
  | zero => exact absurd hv (by omega)
  | succ k ih =>
    intro y
    by_cases e : v = k
    · subst e
      rw [bf_ag_t t, bf_ag_f (bf_dl1 ho), bf_ag_o (o' := o) (fun i hi => bf_dl2 ho (by omega)), bf_ag_op g o P (fun z => P (z ||| 2 ^ v)), bf_ag_sh]
    · have ih := ih (by omega)
      have e2 := bf_dl2 ho e
      by_cases q : o.testBit k = true
      · rw [bf_ag_t q, bf_ag_t (e2 ▸ q), ih, ih]
      · rw [bf_ag_f q, bf_ag_f (e2 ▸ q), ih]
theorem bf_ag_congr {g o : Nat} {P Q : Nat → Nat} {k : Nat} : ∀ y, (∀ z, (∀ i, z.testBit i = true → o.testBit i = true ∨ y.testBit i = true) → P z = Q z) → bf_ag g o P k y = bf_ag g o Q k y := by
  induction k with
  | zero => exact fun y h => h y (fun i hi => Or.inr hi)
  | succ k ih =>
    intro y h
    by_cases q : o.testBit k = true
    · rw [bf_ag_t q, bf_ag_t q, ih y h, ih (y ||| 2 ^ k)]
      intro z hz
      refine h z (fun i hi => ?_)
      rcases hz i hi with a | a
      · exact Or.inl a
      · rw [bf_2or] at a
        by_cases e : k = i
        · exact Or.inl (e ▸ q)
        · rw [decide_eq_false e, Bool.or_false] at a
          exact Or.inr a
    · rw [bf_ag_f q, bf_ag_f q, ih y h]
theorem bf_ag_0 {g o : Nat} {P : Nat → Nat} {k : Nat} (h : ∀ i, i < k → ¬ o.testBit i = true) (y : Nat) : bf_ag g o P k y = P y := by
  induction k with
  | zero => rfl
  | succ k ih => rw [bf_ag_f (h k (by omega)), ih (fun i hi => h i (by omega))]
theorem bf_ag_ext {g o : Nat} {P : Nat → Nat} {n y : Nat} (d : Nat) (h : ∀ i, n ≤ i → ¬ o.testBit i = true) : bf_ag g o P (n + d) y = bf_ag g o P n y := by
  induction d with
  | zero => rfl
  | succ d ih =>
    show bf_ag g o P (n + d + 1) y = _
    rw [bf_ag_f (h (n + d) (by omega)), ih]
/-! ===== products over the factors in use ===== -/
def bf_pr (us : Nat → Bool) (G : Nat → Nat) : Nat → Nat
  | 0 => 1
  | k + 1 => if us k = true then bf_pr us G k * G k else bf_pr us G k
theorem bf_pr_t {us : Nat → Bool} {G : Nat → Nat} {k : Nat} (h : us k = true) : bf_pr us G (k + 1) = bf_pr us G k * G k := if_pos h
theorem bf_pr_f {us : Nat → Bool} {G : Nat → Nat} {k : Nat} (h : ¬ us k = true) : bf_pr us G (k + 1) = bf_pr us G k := if_neg h
theorem bf_pr_congr {us us' : Nat → Bool} {G G' : Nat → Nat} {k : Nat} (h : ∀ f, f < k → us f = us' f) (h2 : ∀ f, f < k → us f = true → G f = G' f) : bf_pr us G k = bf_pr us' G' k := by
  induction k with
  | zero => rfl
  | succ k ih =>
    have ih := ih (fun f hf => h f (by omega)) (fun f hf => h2 f (by omega))
    have e := h k (by omega)
    by_cases t : us k = true
    · rw [bf_pr_t t, bf_pr_t (e ▸ t), ih, h2 k (by omega) t]
    · rw [bf_pr_f t, bf_pr_f (e ▸ t), ih]
theorem bf_pr_mono {us : Nat → Bool} {G G' : Nat → Nat} {k : Nat} (h2 : ∀ f, f < k → us f = true → G f ≤ G' f) : bf_pr us G k ≤ bf_pr us G' k := by
  induction k with
  | zero => exact Nat.le_refl _
  | succ k ih =>
    have ih := ih (fun f hf => h2 f (by omega))
    by_cases t : us k = true
    · rw [bf_pr_t t, bf_pr_t t]
      exact Nat.mul_le_mul ih (h2 k (by omega) t)
    · rw [bf_pr_f t, bf_pr_f t]
      exact ih
theorem bf_pr_split (us c : Nat → Bool) (G : Nat → Nat) (k : Nat) : bf_pr us G k = bf_pr (fun f => us f && !c f) G k * bf_pr (fun f => us f && c f) G k := by
  induction k with
  | zero => rfl
  | succ k ih =>
    by_cases t : us k = true
    · rw [bf_pr_t t, ih]
      by_cases q : c k = true
      · rw [bf_pr_f (us := fun f => us f && !c f) (by simp [t, q]), bf_pr_t (us := fun f => us f && c f) (by simp [t, q]), Nat.mul_assoc]
      · rw [bf_pr_t (us := fun f => us f && !c f) (by simp [t, q]), bf_pr_f (us := fun f => us f && c f) (by simp [t, q]), Nat.mul_assoc, Nat.mul_comm _ (G k), ← Nat.mul_assoc]
    · rw [bf_pr_f t, ih, bf_pr_f (us := fun f => us f && !c f) (by simp [t]), bf_pr_f (us := fun f => us f && c f) (by simp [t])]
theorem bf_pr_pos {us : Nat → Bool} {G : Nat → Nat} (h : ∀ f, 1 ≤ G f) (k : Nat) : 1 ≤ bf_pr us G k := by
  induction k with
  | zero => exact Nat.le_refl _
  | succ k ih =>
    by_cases t : us k = true
    · rw [bf_pr_t t]
      exact Nat.mul_le_mul ih (h k)
    · rw [bf_pr_f t]
      exact ih
theorem bf_pr_c {G : Nat → Nat} {us : Nat → Bool} {k c : Nat} (hu : ∀ f, f < k → us f = true) (h : ∀ f, G f = c) : bf_pr us G k = c ^ k := by
  induction k with
  | zero => rfl
  | succ k ih => rw [bf_pr_t (hu k (by omega)), ih (fun f hf => hu f (by omega)), h, Nat.pow_succ]
/-! ===== the union of the scopes with v ===== -/
def bf_js (sc : Nat → Nat) (us : Nat → Bool) (v : Nat) : Nat → Nat
  | 0 => 0
  | k + 1 => if (us k && (sc k).testBit v) = true then bf_js sc us v k ||| sc k else bf_js sc us v k
theorem bf_js_t {sc : Nat → Nat} {us : Nat → Bool} {v k : Nat} (h : (us k && (sc k).testBit v) = true) : bf_js sc us v (k + 1) = bf_js sc us v k ||| sc k := if_pos h
theorem bf_js_f {sc : Nat → Nat} {us : Nat → Bool} {v k : Nat} (h : ¬ (us k && (sc k).testBit v) = true) : bf_js sc us v (k + 1) = bf_js sc us v k := if_neg h
theorem bf_js_in {sc : Nat → Nat} {us : Nat → Bool} {v k f j : Nat} (hf : f < k) (h : (us f && (sc f).testBit v) = true) (hj : (sc f).testBit j = true) : (bf_js sc us v k).testBit j = true := by
  induction k with
  | zero => exact absurd hf (by omega)
  | succ k ih =>
    by_cases q : (us k && (sc k).testBit v) = true
    · rw [bf_js_t q, Nat.testBit_or]
      by_cases e : f = k
      · subst e; rw [hj, Bool.or_true]
      · rw [ih (by omega), Bool.true_or]
    · rw [bf_js_f q]
      by_cases e : f = k
      · subst e; exact absurd h q
      · exact ih (by omega)
theorem bf_js_out {sc : Nat → Nat} {us : Nat → Bool} {v k j : Nat} (hj : (bf_js sc us v k).testBit j = true) : ∃ f, f < k ∧ (us f && (sc f).testBit v) = true ∧ (sc f).testBit j = true := by
  induction k with
  | zero =>
    rw [show bf_js sc us v 0 = 0 from rfl, Nat.zero_testBit] at hj
    exact absurd hj (by decide)
  | succ k ih =>
    by_cases q : (us k && (sc k).testBit v) = true
    · rw [bf_js_t q, Nat.testBit_or] at hj
      by_cases e : (sc k).testBit j = true
      · exact ⟨k, by omega, q, e⟩
      · rw [bf_nf e, Bool.or_false] at hj
        obtain ⟨f, h1, h2⟩ := ih hj
        exact ⟨f, by omega, h2⟩
    · rw [bf_js_f q] at hj
      obtain ⟨f, h1, h2⟩ := ih hj
      exact ⟨f, by omega, h2⟩
theorem bf_js_lt {sc : Nat → Nat} {us : Nat → Bool} {v k : Nat} (h : ∀ f, f < k → sc f < 128) : bf_js sc us v k < 128 := by
  induction k with
  | zero => exact (by decide : 0 < 128)
  | succ k ih =>
    have ih := ih (fun f hf => h f (by omega))
    by_cases q : (us k && (sc k).testBit v) = true
    · rw [bf_js_t q]
      exact bf_or7 ih (h k (by omega))
    · rw [bf_js_f q]
      exact ih
/-! ===== the elimination: what holds of the factors when i variables are out, o are free; T is the answer ===== -/
def bf_E (g K o i T : Nat) (sc : Nat → Nat) (us : Nat → Bool) (F : Nat → Nat → Nat) : Prop :=
  (∀ f, f < K → us f = true → ∀ j, (sc f).testBit j = true → o.testBit j = true) ∧
  (∀ f, f < K → us f = true → ∀ m, F f (m &&& sc f) = F f m) ∧
  (∃ B : Nat → Nat, (∀ f, 1 ≤ B f) ∧ (∀ f, f < K → us f = true → ∀ m, F f m ≤ B f) ∧ bf_pr us B K ≤ 9 ^ 7 * 2 ^ i) ∧
  bf_ag g o (fun z => bf_pr us (fun f => F f z) K) 7 0 = T
def bf_J (sc : Nat → Nat) (us : Nat → Bool) (F : Nat → Nat → Nat) (v K x : Nat) : Nat := bf_pr (fun f => us f && (sc f).testBit v) (fun f => F f x) K
def bf_tt (sc : Nat → Nat) (us : Nat → Bool) (v K : Nat) : Nat := bf_dl (bf_js sc us v K) (2 ^ v)
def bf_val (g : Nat) (sc : Nat → Nat) (us : Nat → Bool) (F : Nat → Nat → Nat) (v K m : Nat) : Nat := bf_op g (bf_J sc us F v K m) (bf_J sc us F v K (m ||| 2 ^ v))
def bf_us1 (sc : Nat → Nat) (us : Nat → Bool) (v K : Nat) : Nat → Bool := fun f => if f = K then true else us f && !(sc f).testBit v
def bf_F1 (g : Nat) (sc : Nat → Nat) (us : Nat → Bool) (F : Nat → Nat → Nat) (v K : Nat) : Nat → Nat → Nat := fun f => if f = K then (fun y => bf_val g sc us F v K (y &&& bf_tt sc us v K)) else F f
theorem bf_F1_K {g : Nat} {sc : Nat → Nat} {us : Nat → Bool} {F : Nat → Nat → Nat} {v K : Nat} : bf_F1 g sc us F v K K = fun y => bf_val g sc us F v K (y &&& bf_tt sc us v K) := if_pos rfl
theorem bf_F1_n {g : Nat} {sc : Nat → Nat} {us : Nat → Bool} {F : Nat → Nat → Nat} {v K f : Nat} (h : f ≠ K) : bf_F1 g sc us F v K f = F f := if_neg h
theorem bf_us1_K {sc : Nat → Nat} {us : Nat → Bool} {v K : Nat} : bf_us1 sc us v K K = true := if_pos rfl
theorem bf_us1_n {sc : Nat → Nat} {us : Nat → Bool} {v K f : Nat} (h : f ≠ K) : bf_us1 sc us v K f = (us f && !(sc f).testBit v) := if_neg h
theorem bf_us1_i {sc : Nat → Nat} {us : Nat → Bool} {v K f : Nat} (h : f ≠ K) (q : bf_us1 sc us v K f = true) : us f = true ∧ (sc f).testBit v = false := by
  rw [bf_us1_n h] at q
  cases a : us f <;> cases b : (sc f).testBit v <;> simp [a, b] at q ⊢
/-- the joint product depends on the joint scope alone -/
theorem bf_J_dep {sc : Nat → Nat} {us : Nat → Bool} {F : Nat → Nat → Nat} {v K x y : Nat} (hd : ∀ f, f < K → us f = true → ∀ m, F f (m &&& sc f) = F f m) (h : ∀ j, (bf_js sc us v K).testBit j = true → x.testBit j = y.testBit j) : bf_J sc us F v K x = bf_J sc us F v K y := by
  refine bf_pr_congr (fun f hf => rfl) (fun f hf hu => ?_)
  have hu' : us f = true := by
    cases q : us f
    · rw [q] at hu; exact hu
    · rfl
  rw [← hd f hf hu' x, ← hd f hf hu' y]
  have e : x &&& sc f = y &&& sc f := by
    apply Nat.eq_of_testBit_eq
    intro i
    rw [Nat.testBit_and, Nat.testBit_and]
    by_cases t : (sc f).testBit i = true
    · rw [h i (bf_js_in hf hu t)]
    · rw [bf_nf t, Bool.and_false, Bool.and_false]
  rw [e]
theorem bf_J_le {g K o i T : Nat} {sc : Nat → Nat} {us : Nat → Bool} {F : Nat → Nat → Nat} (hE : bf_E g K o i T sc us F) (v x : Nat) : bf_J sc us F v K x ≤ 9 ^ 7 * 2 ^ i := by
  obtain ⟨_, _, ⟨B, b1, b2, b3⟩, _⟩ := hE
  have h1 : bf_J sc us F v K x ≤ bf_pr (fun f => us f && (sc f).testBit v) B K := bf_pr_mono (fun f hf hu => b2 f hf (by
    cases q : us f
    · rw [q] at hu; exact hu
    · rfl) x)
  have h2 := bf_pr_split us (fun f => (sc f).testBit v) B K
  have h3 := bf_pr_pos (us := fun f => us f && !(sc f).testBit v) b1 K
  have h4 : 1 * bf_pr (fun f => us f && (sc f).testBit v) B K ≤ bf_pr us B K := by
    rw [h2]
    exact Nat.mul_le_mul_right _ h3
  rw [Nat.one_mul] at h4
  exact Nat.le_trans h1 (Nat.le_trans h4 b3)
end
section
/-! ===== one variable is taken out ===== -/
theorem bf_pr_s2 (sc : Nat → Nat) (us : Nat → Bool) (v : Nat) (G : Nat → Nat) (K : Nat) : bf_pr us G K = bf_pr (fun f => us f && !(sc f).testBit v) G K * bf_pr (fun f => us f && (sc f).testBit v) G K := bf_pr_split us (fun f => (sc f).testBit v) G K
theorem bf_tt_bit {sc : Nat → Nat} {us : Nat → Bool} {v K j : Nat} (hs : ∀ f, f < K → sc f < 128) : (bf_tt sc us v K).testBit j = ((bf_js sc us v K).testBit j && decide (v ≠ j)) := by
  unfold bf_tt
  have h := bf_js_lt (us := us) (v := v) hs
  rw [bf_dlt (by omega), Nat.testBit_two_pow]
  by_cases e : v = j
  · simp [e]
  · simp [e]
theorem bf_and_l {a b : Bool} (h : (a && b) = true) : a = true := by cases a <;> cases b <;> first | rfl | exact h
theorem bf_and_r {a b : Bool} (h : (a && b) = true) : b = true := by cases a <;> cases b <;> first | rfl | exact h
theorem bf_E_step {g K o i T v : Nat} {sc : Nat → Nat} {us : Nat → Bool} {F : Nat → Nat → Nat} (hE : bf_E g K o i T sc us F) (hs : ∀ f, f < K → sc f < 128) (ho : o < 128) (hv : v < 7) (t : o.testBit v = true) :
    bf_E g (K + 1) (bf_dl o (2 ^ v)) (i + 1) T (bf_up sc K (bf_tt sc us v K)) (bf_us1 sc us v K) (bf_F1 g sc us F v K) := by
  obtain ⟨h1, h2, ⟨B, b1, b2, b3⟩, h4⟩ := hE
  have ho2 : o < 2 ^ 32 := by omega
  refine ⟨fun f hf hu j hj => ?_, fun f hf hu m => ?_, ⟨fun f => if f = K then 2 * bf_pr (fun f => us f && (sc f).testBit v) B K else B f, fun f => ?_, fun f hf hu m => ?_, ?_⟩, ?_⟩
  · by_cases e : f = K
    · rw [e, bf_us, bf_tt_bit hs] at hj
      have j1 := bf_and_l hj
      have j2 : v ≠ j := of_decide_eq_true (bf_and_r hj)
      obtain ⟨f', a1, a2, a3⟩ := bf_js_out j1
      rw [bf_dl2 ho2 j2]
      exact h1 f' a1 (bf_and_l a2) j a3
    · rw [bf_un e] at hj
      have hu := bf_us1_i e hu
      have ne : v ≠ j := fun z => by
        rw [← z, hu.2] at hj
        exact absurd hj (by decide)
      rw [bf_dl2 ho2 ne]
      exact h1 f (by omega) hu.1 j hj
  · by_cases e : f = K
    · rw [e, bf_us, bf_F1_K]
      show bf_val g sc us F v K (m &&& bf_tt sc us v K &&& bf_tt sc us v K) = bf_val g sc us F v K (m &&& bf_tt sc us v K)
      rw [Nat.and_assoc, Nat.and_self]
    · rw [bf_un e, bf_F1_n e]
      exact h2 f (by omega) (bf_us1_i e hu).1 m
  · show 1 ≤ if f = K then 2 * bf_pr (fun f => us f && (sc f).testBit v) B K else B f
    by_cases e : f = K
    · rw [if_pos e]
      have := bf_pr_pos (us := fun f => us f && (sc f).testBit v) b1 K
      omega
    · rw [if_neg e]
      exact b1 f
  · show bf_F1 g sc us F v K f m ≤ if f = K then 2 * bf_pr (fun f => us f && (sc f).testBit v) B K else B f
    by_cases e : f = K
    · rw [if_pos e, e, bf_F1_K]
      have q : ∀ x, bf_J sc us F v K x ≤ bf_pr (fun f => us f && (sc f).testBit v) B K := fun x => bf_pr_mono (fun f hf hu => b2 f hf (bf_and_l hu) x)
      have a := q (m &&& bf_tt sc us v K)
      have b := q (m &&& bf_tt sc us v K ||| 2 ^ v)
      have c := bf_op_le g (bf_J sc us F v K (m &&& bf_tt sc us v K)) (bf_J sc us F v K (m &&& bf_tt sc us v K ||| 2 ^ v))
      show bf_op g (bf_J sc us F v K (m &&& bf_tt sc us v K)) (bf_J sc us F v K (m &&& bf_tt sc us v K ||| 2 ^ v)) ≤ _
      omega
    · rw [if_neg e, bf_F1_n e]
      exact b2 f (by omega) (bf_us1_i e hu).1 m
  · rw [bf_pr_t bf_us1_K]
    have e1 : bf_pr (bf_us1 sc us v K) (fun f => if f = K then 2 * bf_pr (fun f => us f && (sc f).testBit v) B K else B f) K = bf_pr (fun f => us f && !(sc f).testBit v) B K := bf_pr_congr (fun f hf => bf_us1_n (by omega)) (fun f hf _ => if_neg (by omega))
    rw [e1]
    show bf_pr (fun f => us f && !(sc f).testBit v) B K * (if K = K then 2 * bf_pr (fun f => us f && (sc f).testBit v) B K else B K) ≤ _
    rw [if_pos rfl]
    have e2 := bf_pr_s2 sc us v B K
    calc bf_pr (fun f => us f && !(sc f).testBit v) B K * (2 * bf_pr (fun f => us f && (sc f).testBit v) B K) = 2 * bf_pr us B K := by rw [Nat.mul_left_comm, ← e2]
      _ ≤ 2 * (9 ^ 7 * 2 ^ i) := Nat.mul_le_mul_left 2 b3
      _ = 9 ^ 7 * 2 ^ (i + 1) := by rw [Nat.pow_succ]; omega
  · rw [← h4, bf_ag_out ho2 hv t]
    refine bf_ag_congr 0 (fun z hz => ?_)
    have zv : z.testBit v = false := by
      refine bf_nf (fun q => ?_)
      rcases hz v q with a | a
      · exact absurd a (bf_dl1 ho2)
      · rw [Nat.zero_testBit] at a
        exact absurd a (by decide)
    rw [bf_pr_t bf_us1_K]
    have eA : bf_pr (bf_us1 sc us v K) (fun f => bf_F1 g sc us F v K f z) K = bf_pr (fun f => us f && !(sc f).testBit v) (fun f => F f z) K :=
      bf_pr_congr (fun f hf => bf_us1_n (by omega)) (fun f hf _ => by
        show bf_F1 g sc us F v K f z = F f z
        rw [bf_F1_n (by omega)])
    have eA2 : bf_pr (fun f => us f && !(sc f).testBit v) (fun f => F f (z ||| 2 ^ v)) K = bf_pr (fun f => us f && !(sc f).testBit v) (fun f => F f z) K :=
      bf_pr_congr (fun f hf => rfl) (fun f hf hu => by
        have u1 := bf_and_l hu
        have u2 := bf_and_r hu
        have e : (z ||| 2 ^ v) &&& sc f = z &&& sc f := by
          apply Nat.eq_of_testBit_eq
          intro j
          rw [Nat.testBit_and, Nat.testBit_and, bf_2or]
          by_cases ej : v = j
          · subst ej
            have u3 : (sc f).testBit v = false := by
              cases q : (sc f).testBit v
              · rfl
              · rw [q] at u2; exact u2.symm
            rw [u3, Bool.and_false, Bool.and_false]
          · rw [decide_eq_false ej, Bool.or_false]
        show F f (z ||| 2 ^ v) = F f z
        rw [← h2 f hf u1 (z ||| 2 ^ v), e, h2 f hf u1 z])
    rw [eA, bf_pr_s2 sc us v (fun f => F f z) K, bf_pr_s2 sc us v (fun f => F f (z ||| 2 ^ v)) K, eA2, ← bf_op_mul]
    show _ * bf_F1 g sc us F v K K z = _ * bf_op g (bf_J sc us F v K z) (bf_J sc us F v K (z ||| 2 ^ v))
    rw [bf_F1_K]
    show _ * bf_op g (bf_J sc us F v K (z &&& bf_tt sc us v K)) (bf_J sc us F v K (z &&& bf_tt sc us v K ||| 2 ^ v)) = _
    rw [bf_J_dep (y := z) h2 (fun j hj => ?_), bf_J_dep (x := z &&& bf_tt sc us v K ||| 2 ^ v) (y := z ||| 2 ^ v) h2 (fun j hj => ?_)]
    · rw [bf_2or, bf_2or, Nat.testBit_and, bf_tt_bit hs, hj]
      by_cases e : v = j
      · simp [e]
      · simp [e]
    · rw [Nat.testBit_and, bf_tt_bit hs, hj]
      by_cases e : v = j
      · subst e; rw [zv]; rfl
      · simp [e]
/-! ===== the tables ===== -/
def bf_ent (pS eN : Nat → Nat) (v x : Nat) : Nat := eN (16 * v + 2 * bf_pk x (pS v) 7 + x / 2 ^ v % 2)
def bf_wt (pS eN : Nat → Nat) (x : Nat) : Nat → Nat
  | 0 => 1
  | k + 1 => bf_wt pS eN x k * bf_ent pS eN k x
theorem bf_ent_congr {pS eN : Nat → Nat} {v x y : Nat} (h : ∀ i, (pS v).testBit i = true ∨ v = i → x.testBit i = y.testBit i) : bf_ent pS eN v x = bf_ent pS eN v y := by
  unfold bf_ent
  rw [bf_pk_congr (y := y) (fun i _ t => bf_tn (h i (Or.inl t))), bf_tn (h v (Or.inr rfl))]
def bf_sc0 (pS : Nat → Nat) (o f : Nat) : Nat := (pS f ||| 2 ^ f) &&& o
def bf_F0 (pS eN : Nat → Nat) (o s f m : Nat) : Nat := bf_ent pS eN f ((m &&& bf_sc0 pS o f) ||| s)
theorem bf_F0_z {pS eN : Nat → Nat} {o s f z : Nat} (hz : ∀ i, z.testBit i = true → o.testBit i = true) : bf_F0 pS eN o s f z = bf_ent pS eN f (z ||| s) := by
  refine bf_ent_congr (fun i hi => ?_)
  unfold bf_sc0
  rw [Nat.testBit_or, Nat.testBit_or, Nat.testBit_and, Nat.testBit_and, bf_2or]
  by_cases q : z.testBit i = true
  · rw [q, hz i q]
    rcases hi with a | a
    · rw [a]; rfl
    · rw [decide_eq_true a, Bool.or_true]; rfl
  · rw [bf_nf q]; rfl
theorem bf_F0_pr {pS eN : Nat → Nat} {o s z : Nat} (hz : ∀ i, z.testBit i = true → o.testBit i = true) (n : Nat) : bf_pr (fun _ => true) (fun f => bf_F0 pS eN o s f z) n = bf_wt pS eN (z ||| s) n := by
  induction n with
  | zero => rfl
  | succ n ih =>
    rw [bf_pr_t rfl, ih, bf_F0_z hz]
    rfl
theorem bf_E_init {pS eN : Nat → Nat} {g n o s : Nat} (hn : n ≤ 7) (he : ∀ k, eN k ≤ 9) : bf_E g n o 0 (bf_ag g o (fun z => bf_wt pS eN (z ||| s) n) 7 0) (bf_sc0 pS o) (fun _ => true) (bf_F0 pS eN o s) := by
  refine ⟨fun f hf hu j hj => ?_, fun f hf hu m => ?_, ⟨fun _ => 9, fun f => (by decide : 1 ≤ 9), fun f hf hu m => he _, ?_⟩, ?_⟩
  · unfold bf_sc0 at hj
    rw [Nat.testBit_and] at hj
    exact bf_and_r hj
  · unfold bf_F0
    rw [Nat.and_assoc, Nat.and_self]
  · rw [bf_pr_c (c := 9) (fun _ _ => rfl) (fun _ => rfl)]
    have h : 9 ^ n ≤ 9 ^ 7 := Nat.pow_le_pow_right (by decide) hn
    omega
  · refine bf_ag_congr 0 (fun z hz => bf_F0_pr (fun i hi => ?_) n)
    rcases hz i hi with a | a
    · exact a
    · rw [Nat.zero_testBit] at a
      exact absurd a (by decide)
/-! ===== in the order of the numbers ===== -/
def bf_rf (g : Nat) (G : Nat → Nat) : Nat → Nat
  | 0 => 0
  | k + 1 => bf_op g (bf_rf g G k) (G k)
theorem bf_rf_congr {g : Nat} {G G' : Nat → Nat} {k : Nat} (h : ∀ x, x < k → G x = G' x) : bf_rf g G k = bf_rf g G' k := by
  induction k with
  | zero => rfl
  | succ k ih =>
    show bf_op g (bf_rf g G k) (G k) = bf_op g (bf_rf g G' k) (G' k)
    rw [ih (fun x hx => h x (by omega)), h k (by omega)]
theorem bf_rf_add (g : Nat) (G : Nat → Nat) (a b : Nat) : bf_rf g G (a + b) = bf_op g (bf_rf g G a) (bf_rf g (fun x => G (a + x)) b) := by
  induction b with
  | zero => exact (bf_op_z g _).symm
  | succ b ih =>
    show bf_op g (bf_rf g G (a + b)) (G (a + b)) = bf_op g (bf_rf g G a) (bf_op g (bf_rf g (fun x => G (a + x)) b) (G (a + b)))
    rw [ih, bf_op_as]
theorem bf_rf_0 {g : Nat} {G : Nat → Nat} {k : Nat} (h : ∀ x, x < k → G x = 0) : bf_rf g G k = 0 := by
  induction k with
  | zero => rfl
  | succ k ih =>
    show bf_op g (bf_rf g G k) (G k) = 0
    rw [ih (fun x hx => h x (by omega)), h k (by omega), bf_op_z]
/-- x has the fixed values c (2: free) below k -/
def bf_co (c : Nat → Nat) (x : Nat) : Nat → Bool
  | 0 => true
  | k + 1 => bf_co c x k && (decide (c k = 2) || decide (c k = x / 2 ^ k % 2))
theorem bf_co_iff {c : Nat → Nat} {x n : Nat} : bf_co c x n = true ↔ ∀ k, k < n → c k = 2 ∨ c k = x / 2 ^ k % 2 := by
  induction n with
  | zero => exact ⟨fun _ k hk => absurd hk (by omega), fun _ => rfl⟩
  | succ n ih =>
    show (bf_co c x n && (decide (c n = 2) || decide (c n = x / 2 ^ n % 2))) = true ↔ _
    rw [Bool.and_eq_true, ih, Bool.or_eq_true, decide_eq_true_iff, decide_eq_true_iff]
    constructor
    · rintro ⟨h1, h2⟩ k hk
      by_cases e : k = n
      · rw [e]; exact h2
      · exact h1 k (by omega)
    · exact fun h => ⟨fun k hk => h k (by omega), h n (by omega)⟩
theorem bf_co_congr {c : Nat → Nat} {x y n : Nat} (h : ∀ i, i < n → x / 2 ^ i % 2 = y / 2 ^ i % 2) : bf_co c x n = bf_co c y n := by
  induction n with
  | zero => rfl
  | succ n ih =>
    show (bf_co c x n && (decide (c n = 2) || decide (c n = x / 2 ^ n % 2))) = (bf_co c y n && (decide (c n = 2) || decide (c n = y / 2 ^ n % 2)))
    rw [ih (fun i hi => h i (by omega)), h n (by omega)]
def bf_cg (g : Nat) (c : Nat → Nat) (P : Nat → Nat) : Nat → Nat → Nat
  | 0, y => P y
  | k + 1, y => if c k = 2 then bf_op g (bf_cg g c P k y) (bf_cg g c P k (y + 2 ^ k)) else bf_cg g c P k (y + c k * 2 ^ k)
theorem bf_co_lo {c : Nat → Nat} {k x : Nat} (hx : x < 2 ^ k) : bf_co c x (k + 1) = (bf_co c x k && (decide (c k = 2) || decide (c k = 0))) := by
  show (bf_co c x k && (decide (c k = 2) || decide (c k = x / 2 ^ k % 2))) = _
  rw [Nat.div_eq_of_lt hx]
theorem bf_co_hi {c : Nat → Nat} {k x : Nat} (hx : x < 2 ^ k) : bf_co c (2 ^ k + x) (k + 1) = (bf_co c x k && (decide (c k = 2) || decide (c k = 1))) := by
  show (bf_co c (2 ^ k + x) k && (decide (c k = 2) || decide (c k = (2 ^ k + x) / 2 ^ k % 2))) = _
  have e : (2 ^ k + x) / 2 ^ k % 2 = 1 := by
    rw [Nat.add_div_left x (Nat.two_pow_pos k), Nat.div_eq_of_lt hx]
  rw [e, bf_co_congr (y := x) (fun i hi => bf_tn (Nat.testBit_two_pow_add_gt hi x))]
theorem bf_cg_rf {g : Nat} {c P : Nat → Nat} (hc : ∀ k, c k ≤ 2) (k : Nat) : ∀ y, bf_cg g c P k y = bf_rf g (fun x => if bf_co c x k = true then P (x + y) else 0) (2 ^ k) := by
  induction k with
  | zero =>
    intro y
    show P y = bf_op g 0 (P (0 + y))
    rw [bf_op_y, Nat.zero_add]
  | succ k ih =>
    intro y
    rw [Nat.pow_succ, Nat.mul_two, bf_rf_add]
    have h2 := hc k
    have L1 : (c k = 2 ∨ c k = 0) → bf_rf g (fun x => if bf_co c x (k + 1) = true then P (x + y) else 0) (2 ^ k) = bf_cg g c P k y := by
      intro h
      rw [ih]
      refine bf_rf_congr (fun x hx => ?_)
      rw [bf_co_lo hx, show (decide (c k = 2) || decide (c k = 0)) = true by simpa using h, Bool.and_true]
    have L0 : c k = 1 → bf_rf g (fun x => if bf_co c x (k + 1) = true then P (x + y) else 0) (2 ^ k) = 0 := by
      intro h
      refine bf_rf_0 (fun x hx => ?_)
      rw [bf_co_lo hx, show (decide (c k = 2) || decide (c k = 0)) = false by rw [h]; rfl, Bool.and_false]
      rfl
    have H1 : (c k = 2 ∨ c k = 1) → bf_rf g (fun x => if bf_co c (2 ^ k + x) (k + 1) = true then P (2 ^ k + x + y) else 0) (2 ^ k) = bf_cg g c P k (y + 2 ^ k) := by
      intro h
      rw [ih]
      refine bf_rf_congr (fun x hx => ?_)
      rw [bf_co_hi hx, show (decide (c k = 2) || decide (c k = 1)) = true by simpa using h, Bool.and_true, show 2 ^ k + x + y = x + (y + 2 ^ k) by omega]
    have H0 : c k = 0 → bf_rf g (fun x => if bf_co c (2 ^ k + x) (k + 1) = true then P (2 ^ k + x + y) else 0) (2 ^ k) = 0 := by
      intro h
      refine bf_rf_0 (fun x hx => ?_)
      rw [bf_co_hi hx, show (decide (c k = 2) || decide (c k = 1)) = false by rw [h]; rfl, Bool.and_false]
      rfl
    show (if c k = 2 then bf_op g (bf_cg g c P k y) (bf_cg g c P k (y + 2 ^ k)) else bf_cg g c P k (y + c k * 2 ^ k)) = bf_op g (bf_rf g (fun x => if bf_co c x (k + 1) = true then P (x + y) else 0) (2 ^ k)) (bf_rf g (fun x => if bf_co c (2 ^ k + x) (k + 1) = true then P (2 ^ k + x + y) else 0) (2 ^ k))
    by_cases e2 : c k = 2
    · rw [if_pos e2, L1 (Or.inl e2), H1 (Or.inl e2)]
    · rw [if_neg e2]
      by_cases e1 : c k = 1
      · rw [L0 e1, H1 (Or.inr e1), bf_op_y, e1, Nat.one_mul]
      · have e0 : c k = 0 := by omega
        rw [L1 (Or.inr e0), H0 e0, bf_op_z, e0, Nat.zero_mul, Nat.add_zero]
/-! ===== the masks of the free and of the fixed ===== -/
def bf_om (c : Nat → Nat) : Nat → Nat
  | 0 => 0
  | k + 1 => if c k = 2 then bf_om c k ||| 2 ^ k else bf_om c k
def bf_sm (c : Nat → Nat) : Nat → Nat
  | 0 => 0
  | k + 1 => if c k = 2 then bf_sm c k else bf_sm c k ||| (c k * 2 ^ k)
theorem bf_om_bit {c : Nat → Nat} {n : Nat} (i : Nat) : (bf_om c n).testBit i = true ↔ i < n ∧ c i = 2 := by
  induction n with
  | zero =>
    rw [show bf_om c 0 = 0 from rfl, Nat.zero_testBit]
    exact ⟨fun h => absurd h (by decide), fun h => absurd h.1 (by omega)⟩
  | succ n ih =>
    show (if c n = 2 then bf_om c n ||| 2 ^ n else bf_om c n).testBit i = true ↔ _
    by_cases e : c n = 2
    · rw [if_pos e, bf_2or, Bool.or_eq_true, ih, decide_eq_true_iff]
      constructor
      · rintro (a | a)
        · exact ⟨by omega, a.2⟩
        · exact ⟨by omega, a ▸ e⟩
      · rintro ⟨a, b⟩
        by_cases q : n = i
        · exact Or.inr q
        · exact Or.inl ⟨by omega, b⟩
    · rw [if_neg e, ih]
      constructor
      · exact fun a => ⟨by omega, a.2⟩
      · rintro ⟨a, b⟩
        refine ⟨?_, b⟩
        by_cases q : i = n
        · rw [q] at b; exact absurd b e
        · omega
theorem bf_om_lt (c : Nat → Nat) (n : Nat) : bf_om c n < 2 ^ n :=
  Nat.lt_pow_two_of_testBit _ (fun i hi => bf_nf (fun h => absurd ((bf_om_bit i).mp h).1 (by omega)))
theorem bf_sm_bit {c : Nat → Nat} (hc : ∀ k, c k ≤ 2) {n : Nat} (i : Nat) : (bf_sm c n).testBit i = true ↔ i < n ∧ c i = 1 := by
  induction n with
  | zero =>
    rw [show bf_sm c 0 = 0 from rfl, Nat.zero_testBit]
    exact ⟨fun h => absurd h (by decide), fun h => absurd h.1 (by omega)⟩
  | succ n ih =>
    show (if c n = 2 then bf_sm c n else bf_sm c n ||| (c n * 2 ^ n)).testBit i = true ↔ _
    have h2 := hc n
    have keep : c n ≠ 1 → (i < n ∧ c i = 1 ↔ i < n + 1 ∧ c i = 1) := by
      intro q
      constructor
      · exact fun a => ⟨by omega, a.2⟩
      · rintro ⟨a, b⟩
        refine ⟨?_, b⟩
        by_cases z : i = n
        · rw [z] at b; exact absurd b q
        · omega
    by_cases e : c n = 2
    · rw [if_pos e, ih]
      exact keep (by omega)
    · rw [if_neg e]
      by_cases e1 : c n = 1
      · rw [e1, Nat.one_mul, bf_2or, Bool.or_eq_true, ih, decide_eq_true_iff]
        constructor
        · rintro (a | a)
          · exact ⟨by omega, a.2⟩
          · exact ⟨by omega, a ▸ e1⟩
        · rintro ⟨a, b⟩
          by_cases q : n = i
          · exact Or.inr q
          · exact Or.inl ⟨by omega, b⟩
      · rw [show c n = 0 by omega, Nat.zero_mul, Nat.or_zero, ih]
        exact keep e1
theorem bf_sm_lt {c : Nat → Nat} (hc : ∀ k, c k ≤ 2) (n : Nat) : bf_sm c n < 2 ^ n :=
  Nat.lt_pow_two_of_testBit _ (fun i hi => bf_nf (fun h => absurd ((bf_sm_bit hc i).mp h).1 (by omega)))
theorem bf_hi (w k : Nat) : w / 2 ^ (k + 1) * 2 ^ (k + 1) + w / 2 ^ k % 2 * 2 ^ k = w / 2 ^ k * 2 ^ k := by
  have e1 : w / 2 ^ (k + 1) = w / 2 ^ k / 2 := by rw [Nat.pow_succ, Nat.div_div_eq_div_mul]
  rw [e1, Nat.pow_succ]
  generalize w / 2 ^ k = q
  generalize 2 ^ k = p
  calc q / 2 * (p * 2) + q % 2 * p = (q / 2 * 2 + q % 2) * p := by rw [Nat.add_mul, Nat.mul_comm p 2, ← Nat.mul_assoc]
    _ = q * p := by rw [show q / 2 * 2 + q % 2 = q by omega]
theorem bf_cg_ag {g : Nat} {c P : Nat → Nat} (hc : ∀ k, c k ≤ 2) {n k : Nat} (hk : k ≤ n) : ∀ z, (∀ i, i < k → z.testBit i = false) → bf_cg g c P k ((z ||| bf_sm c n) / 2 ^ k * 2 ^ k) = bf_ag g (bf_om c n) (fun z => P (z ||| bf_sm c n)) k z := by
  induction k with
  | zero =>
    intro z _
    show P ((z ||| bf_sm c n) / 2 ^ 0 * 2 ^ 0) = P (z ||| bf_sm c n)
    rw [Nat.pow_zero, Nat.div_one, Nat.mul_one]
  | succ k ih =>
    intro z hz
    have ih := ih (by omega)
    have hs : (bf_sm c n).testBit k = decide (c k = 1) := by
      by_cases q : c k = 1
      · rw [decide_eq_true q]; exact (bf_sm_bit hc k).mpr ⟨by omega, q⟩
      · rw [decide_eq_false q]; exact bf_nf (fun h => q ((bf_sm_bit hc k).mp h).2)
    have hb : (z ||| bf_sm c n).testBit k = decide (c k = 1) := by rw [Nat.testBit_or, hz k (by omega), hs, Bool.false_or]
    have e := bf_hi (z ||| bf_sm c n) k
    have i1 := ih z (fun i hi => hz i (by omega))
    by_cases q : c k = 2
    · have to : (bf_om c n).testBit k = true := (bf_om_bit k).mpr ⟨by omega, q⟩
      rw [bf_ag_t to]
      show (if c k = 2 then bf_op g (bf_cg g c P k _) (bf_cg g c P k (_ + 2 ^ k)) else _) = _
      rw [if_pos q]
      have b0 : (z ||| bf_sm c n) / 2 ^ k % 2 = 0 := (bf_tbz _ _).mp (by rw [hb, q]; rfl)
      rw [b0, Nat.zero_mul, Nat.add_zero] at e
      have i2 := ih (z ||| 2 ^ k) (fun i hi => by rw [bf_2or, hz i (by omega), decide_eq_false (by omega)]; rfl)
      have e2 := bf_hi (z ||| 2 ^ k ||| bf_sm c n) k
      have b1 : (z ||| 2 ^ k ||| bf_sm c n) / 2 ^ k % 2 = 1 := (bf_tbi _ _).mp (by rw [Nat.testBit_or, bf_2or, decide_eq_true rfl, Bool.or_true, Bool.true_or])
      have b2 : (z ||| 2 ^ k ||| bf_sm c n) / 2 ^ (k + 1) = (z ||| bf_sm c n) / 2 ^ (k + 1) := by
        rw [bf_orc, Nat.or_div_two_pow, Nat.div_eq_of_lt (a := 2 ^ k) (Nat.pow_lt_pow_right (by decide) (by omega)), Nat.or_zero]
      rw [b1, b2, Nat.one_mul] at e2
      rw [← i1, ← i2, ← e, ← e2]
    · have to : ¬ (bf_om c n).testBit k = true := fun h => q ((bf_om_bit k).mp h).2
      rw [bf_ag_f to]
      show (if c k = 2 then bf_op g (bf_cg g c P k _) (bf_cg g c P k (_ + 2 ^ k)) else bf_cg g c P k (_ + c k * 2 ^ k)) = _
      rw [if_neg q, ← i1, ← e]
      have h2 := hc k
      have b0 : (z ||| bf_sm c n) / 2 ^ k % 2 = c k := by
        by_cases q1 : c k = 1
        · rw [(bf_tbi _ _).mp (by rw [hb]; exact decide_eq_true q1), q1]
        · rw [(bf_tbz _ _).mp (by rw [hb]; exact decide_eq_false q1)]; omega
      rw [b0]
/-- the answer of solve -/
def bf_S (g : Nat) (c : Nat → Nat) (W : Nat → Nat) (n : Nat) : Nat := bf_rf g (fun x => if bf_co c x n = true then W x else 0) (2 ^ n)
theorem bf_S_eq {g : Nat} {c W : Nat → Nat} (hc : ∀ k, c k ≤ 2) {n : Nat} (hn : n ≤ 7) : bf_ag g (bf_om c n) (fun z => W (z ||| bf_sm c n)) 7 0 = bf_S g c W n := by
  have e : bf_ag g (bf_om c n) (fun z => W (z ||| bf_sm c n)) (n + (7 - n)) 0 = bf_ag g (bf_om c n) (fun z => W (z ||| bf_sm c n)) n 0 :=
    bf_ag_ext (7 - n) (fun i hi h => absurd ((bf_om_bit i).mp h).1 (by omega))
  rw [show n + (7 - n) = 7 by omega] at e
  rw [e, ← bf_cg_ag hc (Nat.le_refl n) 0 (fun i _ => Nat.zero_testBit i), Nat.zero_or, Nat.div_eq_of_lt (bf_sm_lt hc n), Nat.zero_mul, bf_cg_rf hc]
  rfl
end
section
/-! ===== going round and round until nothing changes ===== -/
def bf_it {α : Type} (st : Nat → α → α) (m : Nat) (s0 : α) : Nat → α
  | 0 => s0
  | i + 1 => st (i % m) (bf_it st m s0 i)
theorem bf_it_inv {α : Type} {st : Nat → α → α} {m : Nat} {s0 : α} {Inv : α → Prop} (hm : 0 < m) (h0 : Inv s0) (hI : ∀ v s, v < m → Inv s → Inv (st v s)) : ∀ i, Inv (bf_it st m s0 i) := by
  intro i
  induction i with
  | zero => exact h0
  | succ i ih => exact hI _ _ (Nat.mod_lt _ hm) ih
theorem bf_it_at {α : Type} {st : Nat → α → α} {m : Nat} {s0 : α} {j i : Nat} (hi : i < m) : bf_it st m s0 (j * m + i + 1) = st i (bf_it st m s0 (j * m + i)) := by
  show st ((j * m + i) % m) (bf_it st m s0 (j * m + i)) = _
  rw [Nat.mul_comm j m, Nat.mul_add_mod, Nat.mod_eq_of_lt hi]
theorem bf_fix {α : Type} {st : Nat → α → α} {m : Nat} {s0 : α} (Inv : α → Prop) (μ : α → Nat) (N R : Nat) (hm : 0 < m) (h0 : Inv s0) (hI : ∀ v s, v < m → Inv s → Inv (st v s))
    (hμ : ∀ v s, v < m → Inv s → st v s = s ∨ μ s < μ (st v s)) (hN : ∀ s, Inv s → μ s ≤ N) (hR : N < μ s0 + R) : ∀ v, v < m → st v (bf_it st m s0 (R * m)) = bf_it st m s0 (R * m) := by
  have inv := bf_it_inv hm h0 hI
  have key : ∀ j, (∀ v, v < m → st v (bf_it st m s0 (j * m)) = bf_it st m s0 (j * m)) ∨ μ s0 + j ≤ μ (bf_it st m s0 (j * m)) := by
    intro j
    induction j with
    | zero =>
      rw [Nat.zero_mul]
      exact Or.inr (Nat.le_refl _)
    | succ j ih =>
      have ej : (j + 1) * m = j * m + m := by rw [Nat.add_mul, Nat.one_mul]
      rw [ej]
      rcases ih with h | h
      · have same : ∀ i, i ≤ m → bf_it st m s0 (j * m + i) = bf_it st m s0 (j * m) := by
          intro i
          induction i with
          | zero => exact fun _ => rfl
          | succ i ih =>
            intro hi
            show bf_it st m s0 (j * m + i + 1) = _
            rw [bf_it_at (by omega), ih (by omega), h i (by omega)]
        rw [same m (Nat.le_refl m)]
        exact Or.inl h
      · have sub : ∀ i, i ≤ m → (bf_it st m s0 (j * m + i) = bf_it st m s0 (j * m) ∧ ∀ v, v < i → st v (bf_it st m s0 (j * m)) = bf_it st m s0 (j * m)) ∨ μ (bf_it st m s0 (j * m)) < μ (bf_it st m s0 (j * m + i)) := by
          intro i
          induction i with
          | zero => exact fun _ => Or.inl ⟨rfl, fun v hv => absurd hv (by omega)⟩
          | succ i ih =>
            intro hi
            have e : bf_it st m s0 (j * m + (i + 1)) = st i (bf_it st m s0 (j * m + i)) := bf_it_at (by omega)
            rw [e]
            rcases ih (by omega) with ⟨a, b⟩ | a
            · rw [a]
              rcases hμ i (bf_it st m s0 (j * m)) (by omega) (inv _) with q | q
              · refine Or.inl ⟨q, fun v hv => ?_⟩
                by_cases ev : v = i
                · rw [ev]; exact q
                · exact b v (by omega)
              · exact Or.inr q
            · rcases hμ i (bf_it st m s0 (j * m + i)) (by omega) (inv _) with q | q
              · rw [q]; exact Or.inr a
              · exact Or.inr (by omega)
        rcases sub m (Nat.le_refl m) with ⟨a, b⟩ | a
        · rw [a]; exact Or.inl b
        · exact Or.inr (by omega)
  rcases key R with h | h
  · exact h
  · have := hN _ (inv (R * m))
    omega
theorem bf_on_or : ∀ a, a < 128 → ∀ b, b < 128 → a ||| b = a ∨ bf_on a 7 < bf_on (a ||| b) 7 := by decide +kernel
theorem bf_on_2 : ∀ u, u < 7 → bf_on (2 ^ u) 7 = 1 := by decide +kernel
theorem bf_or_mono {a b i : Nat} (h : a ||| b = a) (hb : b.testBit i = true) : a.testBit i = true := by
  rw [← h, Nat.testBit_or, hb, Bool.or_true]
theorem bf_or_i {a b i : Nat} : (a ||| b).testBit i = true ↔ a.testBit i = true ∨ b.testBit i = true := by
  rw [Nat.testBit_or, Bool.or_eq_true]
theorem bf_and_i {a b i : Nat} : (a &&& b).testBit i = true ↔ a.testBit i = true ∧ b.testBit i = true := by
  rw [Nat.testBit_and, Bool.and_eq_true]
theorem bf_2_i {v i : Nat} : (2 ^ v).testBit i = true ↔ v = i := by
  rw [Nat.testBit_two_pow, decide_eq_true_iff]
theorem bf_dl_i {a b i : Nat} (ha : a < 2 ^ 32) : (bf_dl a b).testBit i = true ↔ a.testBit i = true ∧ ¬ b.testBit i = true := by
  rw [bf_dlt ha, Bool.and_eq_true, Bool.not_eq_true']
  cases b.testBit i <;> simp
/-! ===== the ball ===== -/
def bf_ch (pS : Nat → Nat) (v : Nat) : Nat → Nat
  | 0 => 0
  | k + 1 => if (pS k).testBit v = true then bf_ch pS v k ||| 2 ^ k else bf_ch pS v k
theorem bf_ch_t {pS : Nat → Nat} {v k : Nat} (h : (pS k).testBit v = true) : bf_ch pS v (k + 1) = bf_ch pS v k ||| 2 ^ k := if_pos h
theorem bf_ch_f {pS : Nat → Nat} {v k : Nat} (h : ¬ (pS k).testBit v = true) : bf_ch pS v (k + 1) = bf_ch pS v k := if_neg h
theorem bf_ch_i {pS : Nat → Nat} {v n : Nat} (w : Nat) : (bf_ch pS v n).testBit w = true ↔ w < n ∧ (pS w).testBit v = true := by
  induction n with
  | zero =>
    rw [show bf_ch pS v 0 = 0 from rfl, Nat.zero_testBit]
    exact ⟨fun h => absurd h (by decide), fun h => absurd h.1 (by omega)⟩
  | succ n ih =>
    by_cases e : (pS n).testBit v = true
    · rw [bf_ch_t e, bf_or_i, ih, bf_2_i]
      constructor
      · rintro (a | a)
        · exact ⟨by omega, a.2⟩
        · exact ⟨by omega, a ▸ e⟩
      · rintro ⟨a, b⟩
        by_cases q : n = w
        · exact Or.inr q
        · exact Or.inl ⟨by omega, b⟩
    · rw [bf_ch_f e, ih]
      constructor
      · exact fun a => ⟨by omega, a.2⟩
      · rintro ⟨a, b⟩
        refine ⟨?_, b⟩
        by_cases q : w = n
        · rw [q] at b; exact absurd b e
        · omega
theorem bf_ch_lt (pS : Nat → Nat) (v n : Nat) : bf_ch pS v n < 2 ^ n :=
  Nat.lt_pow_two_of_testBit _ (fun i hi => bf_nf (fun h => absurd ((bf_ch_i i).mp h).1 (by omega)))
theorem bf_ch_7 {pS : Nat → Nat} {v n : Nat} (hn : n ≤ 7) : bf_ch pS v n < 128 :=
  Nat.lt_of_lt_of_le (bf_ch_lt pS v n) (Nat.pow_le_pow_right (n := 2) (by decide) hn)
def bf_bs (pS sN : Nat → Nat) (n v : Nat) (s : Nat × Nat) : Nat × Nat :=
  (if (s.1.testBit v = true ∧ sN v = 2) ∨ (s.2.testBit v = true ∧ ¬ sN v = 2) then s.1 ||| pS v else s.1,
   if (s.1.testBit v = true ∨ s.2.testBit v = true) ∧ sN v = 2 then s.2 ||| bf_ch pS v n else s.2)
def bf_ms (pS : Nat → Nat) (mem sh w r : Nat) : Nat :=
  if mem.testBit w = true ∧ ¬ r &&& (pS w ||| 2 ^ w) = 0 then r ||| bf_dl (pS w ||| 2 ^ w) sh else r
/-! ===== the ancestors ===== -/
def bf_cl (pS : Nat → Nat) (s : Nat) : Nat → Nat
  | 0 => s
  | j + 1 => if (bf_cl pS s j).testBit (6 - j) = true then bf_cl pS s j ||| pS (6 - j) else bf_cl pS s j
theorem bf_cl_t {pS : Nat → Nat} {s j : Nat} (h : (bf_cl pS s j).testBit (6 - j) = true) : bf_cl pS s (j + 1) = bf_cl pS s j ||| pS (6 - j) := if_pos h
theorem bf_cl_f {pS : Nat → Nat} {s j : Nat} (h : ¬ (bf_cl pS s j).testBit (6 - j) = true) : bf_cl pS s (j + 1) = bf_cl pS s j := if_neg h
theorem bf_cl_mono {pS : Nat → Nat} {s i : Nat} (j d : Nat) (h : (bf_cl pS s j).testBit i = true) : (bf_cl pS s (j + d)).testBit i = true := by
  induction d with
  | zero => exact h
  | succ d ih =>
    show (bf_cl pS s (j + d + 1)).testBit i = true
    by_cases q : (bf_cl pS s (j + d)).testBit (6 - (j + d)) = true
    · rw [bf_cl_t q]
      exact bf_or_i.mpr (Or.inl ih)
    · rw [bf_cl_f q]
      exact ih
theorem bf_cl_keep {pS : Nat → Nat} {s w : Nat} (hp : ∀ w, w < 7 → pS w < 2 ^ w) (j d : Nat) (hj : j + d ≤ 7) (hw : 6 ≤ w + j) (h : (bf_cl pS s (j + d)).testBit w = true) : (bf_cl pS s j).testBit w = true := by
  induction d with
  | zero => exact h
  | succ d ih =>
    refine ih (by omega) ?_
    have h : (bf_cl pS s (j + d + 1)).testBit w = true := h
    by_cases q : (bf_cl pS s (j + d)).testBit (6 - (j + d)) = true
    · rw [bf_cl_t q] at h
      rcases bf_or_i.mp h with a | a
      · exact a
      · have := bf_idx (6 - (j + d)) (hp (6 - (j + d)) (by omega)) a
        omega
    · rw [bf_cl_f q] at h
      exact h
theorem bf_cl_closed {pS : Nat → Nat} {s w p : Nat} (hp : ∀ w, w < 7 → pS w < 2 ^ w) (hw : w < 7) (h : (bf_cl pS s 7).testBit w = true) (q : (pS w).testBit p = true) : (bf_cl pS s 7).testBit p = true := by
  have h1 : (bf_cl pS s (6 - w)).testBit w = true := bf_cl_keep hp (6 - w) (w + 1) (by omega) (by omega) (by rw [show 6 - w + (w + 1) = 7 by omega]; exact h)
  have e : 6 - (6 - w) = w := by omega
  have h2 : (bf_cl pS s (6 - w + 1)).testBit p = true := by
    rw [bf_cl_t (by rw [e]; exact h1), e]
    exact bf_or_i.mpr (Or.inr q)
  have h3 := bf_cl_mono (6 - w + 1) w h2
  rw [show 6 - w + 1 + w = 7 by omega] at h3
  exact h3
theorem bf_cl_ind {pS : Nat → Nat} {s : Nat} (Q : Nat → Prop) (h0 : ∀ i, s.testBit i = true → Q i) (hs : ∀ w p, w < 7 → Q w → (pS w).testBit p = true → Q p) : ∀ j i, (bf_cl pS s j).testBit i = true → Q i := by
  intro j
  induction j with
  | zero => exact h0
  | succ j ih =>
    intro i h
    by_cases q : (bf_cl pS s j).testBit (6 - j) = true
    · rw [bf_cl_t q] at h
      rcases bf_or_i.mp h with a | a
      · exact ih i a
      · exact hs (6 - j) i (by omega) (ih _ q) a
    · rw [bf_cl_f q] at h
      exact ih i h
/-! ===== the ball and the moral graph say the same ===== -/
theorem bf_fam {pS : Nat → Nat} {w i : Nat} : (pS w ||| 2 ^ w).testBit i = true ↔ (pS w).testBit i = true ∨ w = i := by
  rw [bf_or_i, bf_2_i]
theorem bf_p128 {pS : Nat → Nat} (hp : ∀ w, w < 7 → pS w < 2 ^ w) {w : Nat} (hw : w < 7) : pS w < 128 := by
  have := hp w hw
  have := bf_p7 hw
  omega
theorem bf_f128 {pS : Nat → Nat} (hp : ∀ w, w < 7 → pS w < 2 ^ w) {w : Nat} (hw : w < 7) : pS w ||| 2 ^ w < 128 :=
  bf_or7 (bf_p128 hp hw) (by have := bf_p7 hw; omega)
theorem bf_ball_fix {pS sN : Nat → Nat} {n u : Nat} (hp : ∀ w, w < 7 → pS w < 2 ^ w) (hn : n ≤ 7) (hu : u < n) : ∀ w, w < n → bf_bs pS sN n w (bf_it (bf_bs pS sN n) n (2 ^ u, 0) (14 * n)) = bf_it (bf_bs pS sN n) n (2 ^ u, 0) (14 * n) := by
  refine bf_fix (fun s => s.1 < 128 ∧ s.2 < 128) (fun s => bf_on s.1 7 + bf_on s.2 7) 14 14 (by omega) ⟨?_, (by decide : 0 < 128)⟩ ?_ ?_ ?_ ?_
  · have := bf_p7 (show u < 7 by omega)
    show 2 ^ u < 128
    omega
  · rintro v ⟨b, a⟩ hv ⟨hb, ha⟩
    have h1 := bf_p128 hp (show v < 7 by omega)
    have h2 := bf_ch_7 (pS := pS) (v := v) hn
    refine ⟨?_, ?_⟩
    · show (if _ then b ||| pS v else b) < 128
      split
      · exact bf_or7 hb h1
      · exact hb
    · show (if _ then a ||| bf_ch pS v n else a) < 128
      split
      · exact bf_or7 ha h2
      · exact ha
  · rintro v ⟨b, a⟩ hv ⟨hb, ha⟩
    have h1 := bf_p128 hp (show v < 7 by omega)
    have h2 := bf_ch_7 (pS := pS) (v := v) hn
    have q1 := bf_on_or b hb _ h1
    have q2 := bf_on_or a ha _ h2
    unfold bf_bs
    dsimp only
    by_cases c1 : (b.testBit v = true ∧ sN v = 2) ∨ (a.testBit v = true ∧ ¬ sN v = 2)
    · rw [if_pos c1]
      by_cases c2 : (b.testBit v = true ∨ a.testBit v = true) ∧ sN v = 2
      · rw [if_pos c2]
        rcases q1 with q1 | q1
        · rcases q2 with q2 | q2
          · rw [q1, q2]; exact Or.inl rfl
          · rw [q1]; exact Or.inr (by omega)
        · rcases q2 with q2 | q2
          · rw [q2]; exact Or.inr (by omega)
          · exact Or.inr (by omega)
      · rw [if_neg c2]
        rcases q1 with q1 | q1
        · rw [q1]; exact Or.inl rfl
        · exact Or.inr (by omega)
    · rw [if_neg c1]
      by_cases c2 : (b.testBit v = true ∨ a.testBit v = true) ∧ sN v = 2
      · rw [if_pos c2]
        rcases q2 with q2 | q2
        · rw [q2]; exact Or.inl rfl
        · exact Or.inr (by omega)
      · rw [if_neg c2]
        exact Or.inl rfl
  · rintro ⟨b, a⟩ _
    have h1 := bf_on_le b 7
    have h2 := bf_on_le a 7
    show bf_on b 7 + bf_on a 7 ≤ 14
    omega
  · show 14 < bf_on (2 ^ u) 7 + bf_on 0 7 + 14
    rw [bf_on_2 u (by omega)]
    omega
theorem bf_moral_fix {pS : Nat → Nat} {mem sh u : Nat} (hp : ∀ w, w < 7 → pS w < 2 ^ w) (hu : u < 7) : ∀ w, w < 7 → bf_ms pS mem sh w (bf_it (bf_ms pS mem sh) 7 (2 ^ u) 49) = bf_it (bf_ms pS mem sh) 7 (2 ^ u) 49 := by
  refine bf_fix (R := 7) (fun s => s < 128) (fun s => bf_on s 7) 7 (by decide) ?_ ?_ ?_ (fun s _ => bf_on_le s 7) ?_
  · have := bf_p7 hu
    show 2 ^ u < 128
    omega
  · intro w r hw hr
    have h1 := bf_f128 hp hw
    have h2 := bf_dle (pS w ||| 2 ^ w) sh
    show (if _ then r ||| bf_dl (pS w ||| 2 ^ w) sh else r) < 128
    split
    · exact bf_or7 hr (by omega)
    · exact hr
  · intro w r hw hr
    have h1 := bf_f128 hp hw
    have h2 := bf_dle (pS w ||| 2 ^ w) sh
    have q := bf_on_or r hr (bf_dl (pS w ||| 2 ^ w) sh) (by omega)
    unfold bf_ms
    split
    · exact q
    · exact Or.inl rfl
  · show 7 < bf_on (2 ^ u) 7 + 7
    rw [bf_on_2 u hu]
    omega
theorem bf_dsep {pS sN : Nat → Nat} {n u v sh : Nat} (hn : n ≤ 7) (hp : ∀ w, w < 7 → pS w < 2 ^ w) (hu : u < n) (hv : v < n) (su : sN u = 2) (sv : sN v = 2) (hsh : ∀ i, sh.testBit i = true ↔ i < n ∧ ¬ sN i = 2) :
    ((bf_it (bf_bs pS sN n) n (2 ^ u, 0) (14 * n)).1 ||| (bf_it (bf_bs pS sN n) n (2 ^ u, 0) (14 * n)).2).testBit v = true ↔ (bf_it (bf_ms pS (bf_cl pS (sh ||| 2 ^ u ||| 2 ^ v) 7) sh) 7 (2 ^ u) 49).testBit v = true := by
  have st0 : ∀ i, (sh ||| 2 ^ u ||| 2 ^ v).testBit i = true ↔ sh.testBit i = true ∨ u = i ∨ v = i := by
    intro i
    rw [bf_or_i, bf_or_i, bf_2_i, bf_2_i, or_assoc]
  generalize hmem : bf_cl pS (sh ||| 2 ^ u ||| 2 ^ v) 7 = mem
  have m0 : ∀ i, sh.testBit i = true ∨ u = i ∨ v = i → mem.testBit i = true := by
    intro i hi
    rw [← hmem]
    exact bf_cl_mono 0 7 ((st0 i).mpr hi)
  have mc : ∀ w p, w < 7 → mem.testBit w = true → (pS w).testBit p = true → mem.testBit p = true := by
    intro w p hw h q
    rw [← hmem] at h ⊢
    exact bf_cl_closed hp hw h q
  have mind : ∀ Q : Nat → Prop, (∀ i, sh.testBit i = true ∨ u = i ∨ v = i → Q i) → (∀ w p, w < 7 → Q w → (pS w).testBit p = true → Q p) → ∀ i, mem.testBit i = true → Q i := by
    intro Q h0 hs i hi
    rw [← hmem] at hi
    exact bf_cl_ind Q (fun i h => h0 i ((st0 i).mp h)) hs 7 i hi
  have mn : ∀ i, mem.testBit i = true → i < n := by
    refine mind (fun i => i < n) ?_ ?_
    · rintro i (a | a | a)
      · exact ((hsh i).mp a).1
      · omega
      · omega
    · intro w p hw h q
      have := bf_idx w (hp w hw) q
      omega
  have mfix := bf_moral_fix (mem := mem) (sh := sh) hp (show u < 7 by omega)
  have bfix := bf_ball_fix (sN := sN) hp hn hu
  have sh2 : ∀ i, i < n → sN i = 2 → ¬ sh.testBit i = true := fun i hi h q => ((hsh i).mp q).2 h
  -- the moral set
  have Cu : ∀ i, (bf_it (bf_ms pS mem sh) 7 (2 ^ u) i).testBit u = true := by
    refine bf_it_inv (Inv := fun r : Nat => r.testBit u = true) (by decide) (bf_2_i.mpr rfl) (fun w r hw h => ?_)
    show (if _ then r ||| bf_dl (pS w ||| 2 ^ w) sh else r).testBit u = true
    split
    · exact bf_or_i.mpr (Or.inl h)
    · exact h
  have C49 := Cu 49
  have Bu : ∀ i, (bf_it (bf_bs pS sN n) n (2 ^ u, 0) i).1.testBit u = true := by
    refine bf_it_inv (Inv := fun s : Nat × Nat => s.1.testBit u = true) (by omega) (bf_2_i.mpr rfl) (fun w s hw h => ?_)
    show (if _ then s.1 ||| pS w else s.1).testBit u = true
    split
    · exact bf_or_i.mpr (Or.inl h)
    · exact h
  have B14 := Bu (14 * n)
  constructor
  · -- the ball comes nowhere but there
    generalize bf_it (bf_ms pS mem sh) 7 (2 ^ u) 49 = C at mfix C49
    have cl : ∀ w x i, w < 7 → mem.testBit w = true → C.testBit x = true → ((pS w).testBit x = true ∨ w = x) → ((pS w).testBit i = true ∨ w = i) → ¬ sh.testBit i = true → C.testBit i = true := by
      intro w x i hw hm hx hf hi hs
      have f := mfix w hw
      unfold bf_ms at f
      have ne : ¬ C &&& (pS w ||| 2 ^ w) = 0 := by
        intro z
        have : (C &&& (pS w ||| 2 ^ w)).testBit x = true := bf_and_i.mpr ⟨hx, bf_fam.mpr hf⟩
        rw [z, Nat.zero_testBit] at this
        exact absurd this (by decide)
      rw [if_pos ⟨hm, ne⟩] at f
      have h1 := bf_f128 hp hw
      exact bf_or_mono f ((bf_dl_i (by omega)).mpr ⟨bf_fam.mpr hi, hs⟩)
    have inv := bf_it_inv (st := bf_bs pS sN n) (m := n) (s0 := (2 ^ u, 0)) (Inv := fun s : Nat × Nat => (∀ w, s.1.testBit w = true → mem.testBit w = true ∧ (sh.testBit w = true ∨ C.testBit w = true)) ∧ (∀ w, s.2.testBit w = true → w < n ∧ (mem.testBit w = true → ∃ i, C.testBit i = true ∧ ((pS w).testBit i = true ∨ w = i)))) (by omega) ⟨?_, ?_⟩ ?_ (14 * n)
    · intro h
      obtain ⟨i1, i2⟩ := inv
      have nsv := sh2 v hv sv
      rcases bf_or_i.mp h with a | a
      · rcases (i1 v a).2 with b | b
        · exact absurd b nsv
        · exact b
      · have hm := m0 v (Or.inr (Or.inr rfl))
        obtain ⟨x, c1, c2⟩ := (i2 v a).2 hm
        exact cl v x v (by omega) hm c1 c2 (Or.inr rfl) nsv
    · intro w h
      have e : u = w := bf_2_i.mp h
      subst e
      exact ⟨m0 u (Or.inr (Or.inl rfl)), Or.inr C49⟩
    · intro w h
      rw [show ((2 ^ u, 0) : Nat × Nat).2 = 0 from rfl, Nat.zero_testBit] at h
      exact absurd h (by decide)
    · rintro x ⟨b, a⟩ hx ⟨i1, i2⟩
      have i1 : ∀ w, b.testBit w = true → mem.testBit w = true ∧ (sh.testBit w = true ∨ C.testBit w = true) := i1
      have i2 : ∀ w, a.testBit w = true → w < n ∧ (mem.testBit w = true → ∃ i, C.testBit i = true ∧ ((pS w).testBit i = true ∨ w = i)) := i2
      have cx : (b.testBit x = true ∨ a.testBit x = true) → sN x = 2 → mem.testBit x = true → C.testBit x = true := by
        intro h so hm
        have ns := sh2 x hx so
        rcases h with h | h
        · rcases (i1 x h).2 with q | q
          · exact absurd q ns
          · exact q
        · obtain ⟨y, c1, c2⟩ := (i2 x h).2 hm
          exact cl x y x (by omega) hm c1 c2 (Or.inr rfl) ns
      refine ⟨?_, ?_⟩
      · show ∀ w, (if (b.testBit x = true ∧ sN x = 2) ∨ (a.testBit x = true ∧ ¬ sN x = 2) then b ||| pS x else b).testBit w = true → _
        intro w hw
        by_cases c : (b.testBit x = true ∧ sN x = 2) ∨ (a.testBit x = true ∧ ¬ sN x = 2)
        · rw [if_pos c] at hw
          rcases bf_or_i.mp hw with q | q
          · exact i1 w q
          · have hm : mem.testBit x = true := by
              rcases c with c | c
              · exact (i1 x c.1).1
              · exact m0 x (Or.inl ((hsh x).mpr ⟨hx, c.2⟩))
            refine ⟨mc x w (by omega) hm q, ?_⟩
            by_cases hs : sh.testBit w = true
            · exact Or.inl hs
            · refine Or.inr ?_
              rcases c with c | c
              · exact cl x x w (by omega) hm (cx (Or.inl c.1) c.2 hm) (Or.inr rfl) (Or.inl q) hs
              · obtain ⟨y, c1, c2⟩ := (i2 x c.1).2 hm
                exact cl x y w (by omega) hm c1 c2 (Or.inl q) hs
        · rw [if_neg c] at hw
          exact i1 w hw
      · show ∀ w, (if (b.testBit x = true ∨ a.testBit x = true) ∧ sN x = 2 then a ||| bf_ch pS x n else a).testBit w = true → _
        intro w hw
        by_cases c : (b.testBit x = true ∨ a.testBit x = true) ∧ sN x = 2
        · rw [if_pos c] at hw
          rcases bf_or_i.mp hw with q | q
          · exact i2 w q
          · obtain ⟨q1, q2⟩ := (bf_ch_i w).mp q
            exact ⟨q1, fun hm => ⟨x, cx c.1 c.2 (mc w x (by omega) hm q2), Or.inl q2⟩⟩
        · rw [if_neg c] at hw
          exact i2 w hw
  · -- and it comes there
    generalize bf_it (bf_bs pS sN n) n (2 ^ u, 0) (14 * n) = B at bfix B14
    obtain ⟨b, a⟩ := B
    have B14 : b.testBit u = true := B14
    show _ → (b ||| a).testBit v = true
    have f1 : ∀ w, w < n → ((b.testBit w = true ∧ sN w = 2) ∨ (a.testBit w = true ∧ ¬ sN w = 2)) → ∀ p, (pS w).testBit p = true → b.testBit p = true := by
      intro w hw c p q
      have f : (if (b.testBit w = true ∧ sN w = 2) ∨ (a.testBit w = true ∧ ¬ sN w = 2) then b ||| pS w else b) = b := congrArg Prod.fst (bfix w hw)
      rw [if_pos c] at f
      exact bf_or_mono f q
    have f2 : ∀ w c, w < n → c < n → (b.testBit w = true ∨ a.testBit w = true) → sN w = 2 → (pS c).testBit w = true → a.testBit c = true := by
      intro w c hw hc h so q
      have f : (if (b.testBit w = true ∨ a.testBit w = true) ∧ sN w = 2 then a ||| bf_ch pS w n else a) = a := congrArg Prod.snd (bfix w hw)
      rw [if_pos ⟨h, so⟩] at f
      exact bf_or_mono f ((bf_ch_i c).mpr ⟨hc, q⟩)
    by_cases hr : b.testBit v = true ∨ a.testBit v = true
    · exact fun _ => bf_or_i.mpr hr
    · have Q := mind (fun w => w < n ∧ (a.testBit w = true → sh.testBit w = true ∨ b.testBit w = true)) ?_ ?_
      · have inv := bf_it_inv (st := bf_ms pS mem sh) (m := 7) (s0 := 2 ^ u) (Inv := fun r : Nat => ∀ i, r.testBit i = true → i < n ∧ sN i = 2 ∧ b.testBit i = true) (by decide) ?_ ?_ 49
        · exact fun h => bf_or_i.mpr (Or.inl (inv v h).2.2)
        · intro i h
          have e : u = i := bf_2_i.mp h
          subst e
          exact ⟨hu, su, B14⟩
        · intro w r hw hI
          show ∀ i, (if mem.testBit w = true ∧ ¬ r &&& (pS w ||| 2 ^ w) = 0 then r ||| bf_dl (pS w ||| 2 ^ w) sh else r).testBit i = true → _
          intro i hi
          by_cases c : mem.testBit w = true ∧ ¬ r &&& (pS w ||| 2 ^ w) = 0
          · rw [if_pos c] at hi
            rcases bf_or_i.mp hi with q | q
            · exact hI i q
            · have h1 := bf_f128 hp hw
              obtain ⟨q1, q2⟩ := (bf_dl_i (by omega)).mp q
              have q1 := bf_fam.mp q1
              obtain ⟨x, hx⟩ := Nat.exists_testBit_of_ne_zero c.2
              obtain ⟨x1, x2⟩ := bf_and_i.mp hx
              have x2 := bf_fam.mp x2
              have wn := mn w c.1
              have hin : i < n := by
                rcases q1 with z | z
                · have := bf_idx w (hp w hw) z
                  omega
                · omega
              have so : sN i = 2 := by
                by_cases z : sN i = 2
                · exact z
                · exact absurd ((hsh i).mpr ⟨hin, z⟩) q2
              refine ⟨hin, so, ?_⟩
              obtain ⟨y1, y2, y3⟩ := hI x x1
              by_cases ow : sN w = 2
              · have bw : b.testBit w = true := by
                  rcases x2 with z | z
                  · have aw := f2 x w y1 wn (Or.inl y3) y2 z
                    rcases (Q w c.1).2 aw with t | t
                    · exact absurd t (sh2 w wn ow)
                    · exact t
                  · rw [z]; exact y3
                rcases q1 with z | z
                · exact f1 w wn (Or.inl ⟨bw, ow⟩) i z
                · rw [← z]; exact bw
              · rcases q1 with z | z
                · rcases x2 with t | t
                  · exact f1 w wn (Or.inr ⟨f2 x w y1 wn (Or.inl y3) y2 t, ow⟩) i z
                  · rw [t] at ow; exact absurd y2 ow
                · rw [z] at ow; exact absurd so ow
          · rw [if_neg c] at hi
            exact hI i hi
      · rintro i (z | z | z)
        · exact ⟨((hsh i).mp z).1, fun _ => Or.inl z⟩
        · subst z; exact ⟨hu, fun _ => Or.inr B14⟩
        · subst z; exact ⟨hv, fun t => absurd (Or.inr t) hr⟩
      · rintro c p hc ⟨cn, hQ⟩ q
        have pc := bf_idx c (hp c hc) q
        refine ⟨by omega, fun ap => ?_⟩
        by_cases op : sN p = 2
        · have ac := f2 p c (by omega) cn (Or.inr ap) op q
          by_cases oc : sN c = 2
          · rcases hQ ac with t | t
            · exact absurd t (sh2 c cn oc)
            · exact Or.inr (f1 c cn (Or.inl ⟨t, oc⟩) p q)
          · exact Or.inr (f1 c cn (Or.inr ⟨ac, oc⟩) p q)
        · exact Or.inl ((hsh p).mpr ⟨by omega, op⟩)
end
section
/-! ===== the methods that set and read ===== -/
def bf_ok (n : Nat) (pS eN sN : Nat → Nat) : Prop := 2 ≤ n ∧ n ≤ 7 ∧ (∀ v, pS v < 2 ^ v) ∧ (∀ v, bf_on (pS v) 7 ≤ 3) ∧ (∀ k, eN k ≤ 9) ∧ (∀ k, sN k ≤ 2)
section
variable {n : Nat} {pS eN sN fN : Nat → Nat} {f1 f2 f3 : Int32} {a1 a2 a3 a4 a5 a7 : Nat → Int32} {a6 : Nat → Int64}
theorem bf_good {post : Int32 → Prop} {p : Int32} (hn : n ≤ 7) (h0 : post 0) (h1 : ∀ j, j < n → p = nI j → post 1) : wpX_isGood post (nI n, f2, f3, a1, a2, a3, a4, a5, a6, a7) p := by
  unfold wpX_isGood
  dsimp only
  rcases pk_ix p (n := n) (by omega) with h | h | ⟨j, hj, e⟩
  · exact br_t h h0
  · by_cases q : p < 0
    · exact br_t q h0
    · exact br_f q (br_t h h0)
  · rw [e]
    exact br_f (nI_pos (by omega)) (br_f (nI_ge hj (by omega)) (h1 j hj e))
theorem bf_goodY {post : Int32 → Prop} {j : Nat} (hn : n ≤ 7) (hj : j < n) (h1 : post 1) : wpX_isGood post (nI n, f2, f3, a1, a2, a3, a4, a5, a6, a7) (nI j) := by
  unfold wpX_isGood
  dsimp only
  exact br_f (nI_pos (by omega)) (br_f (nI_ge hj (by omega)) h1)
theorem bf_goodN {post : Int32 → Prop} {j : Nat} (hn : n ≤ 7) (hj : n ≤ j) (hj2 : j < 7) (h1 : post 0) : wpX_isGood post (nI n, f2, f3, a1, a2, a3, a4, a5, a6, a7) (nI j) := by
  unfold wpX_isGood
  dsimp only
  exact br_f (nI_pos (by omega)) (br_t (nI_le hj (by omega)) h1)
theorem bf_pS7 {v : Nat} (hp : ∀ v, pS v < 2 ^ v) (hv : v < 7) : pS v < 128 := by
  have := hp v
  have := bf_p7 hv
  omega
theorem bf_observe {post : Int32 → St1 → Prop} {p q : Int32} (hn : n ≤ 7) (hs : ∀ k, sN k ≤ 2)
    (H0 : ∀ r, r < 0 → post r (nI n, f2, f3, a1, a2, bf_fn sN, a4, a5, a6, a7))
    (H1 : ∀ j b, j < n → b ≤ 2 → p = nI j → q = nI b → ∀ r, ¬ r < 0 → post r (nI n, f2, f3, a1, a2, bf_fn (bf_up sN j b), a4, a5, a6, a7)) :
    wpX_observe post (nI n, f2, f3, a1, a2, bf_fn sN, a4, a5, a6, a7) p q := by
  unfold wpX_observe
  dsimp only
  refine bf_good hn (br_t rfl (H0 _ (by decide))) (fun j hj e => br_f (by decide) ?_)
  refine br_c (fun _ => H0 _ (by decide)) (fun hq => br_c (fun hq2 => ?_) (fun _ => H0 _ (by decide)))
  obtain ⟨b, hb, eb⟩ := nI_of2 (n := 2) (by decide) hq hq2
  rw [e, eb]
  have hs := hs j
  refine ⟨pk_in j 7 (by omega), nm_r (bf_at (by omega)) ⟨pk_in j 7 (by omega), nm_r (bf_st (by omega)) ?_⟩⟩
  exact H1 j b hj hb e eb _ (nI_pos (by omega))
theorem bf_upd_le {f : Nat → Nat} {k x c : Nat} (h : ∀ k, f k ≤ c) (hx : x ≤ c) : ∀ j, bf_up f k x j ≤ c := by
  intro j
  unfold bf_up
  split
  · exact hx
  · exact h j
theorem bf_sow {post : Int32 → St1 → Prop} {p q : Int32} (hn : n ≤ 7) (hp : ∀ v, pS v < 2 ^ v) (ho : ∀ v, bf_on (pS v) 7 ≤ 3) (he : ∀ k, eN k ≤ 9)
    (H : ∀ r eN', (∀ k, eN' k ≤ 9) → post r (nI n, f2, f3, bf_fn pS, bf_fn eN', a3, a4, a5, a6, a7)) :
    wpX_sow post (nI n, f2, f3, bf_fn pS, bf_fn eN, a3, a4, a5, a6, a7) p q := by
  unfold wpX_sow
  dsimp only
  refine bf_good hn (br_t rfl (H _ _ he)) (fun j hj e => br_f (by decide) ?_)
  refine br_c (fun _ => H _ _ he) (fun hq => br_c (fun hq2 => ?_) (fun _ => H _ _ he))
  obtain ⟨b, hb, eb⟩ := nI_of2 (n := 9) (by decide) hq hq2
  rw [e, eb]
  refine ⟨pk_in j 7 (by omega), ?_⟩
  rw [bf_at (by omega)]
  have h7 := bf_pS7 hp (show j < 7 by omega)
  refine bf_ones (by omega) ?_
  have hr := ho j
  have hr2 : 2 ^ bf_on (pS j) 7 ≤ 2 ^ 3 := Nat.pow_le_pow_right (by decide) hr
  refine nm_r (bf_one (by omega)) ?_
  generalize 2 ^ bf_on (pS j) 7 = R at hr2
  have e2 : (2 : Int32) * nI R = nI (2 * R) := pk_mul 2 R
  refine pk_loop (fun m i s => wX_sow_38 post (nI j) (nI b) (nI R) (nI n) f2 f3 m (nI i) (bf_fn pS) s a3 a4 a5 a6 a7) (fun i s => ∃ e', s = bf_fn e' ∧ ∀ k, e' k ≤ 9) (2 * R) 0 (bf_fn eN) (by omega) ⟨eN, rfl, he⟩ ?_ ?_
  · rintro m s ⟨e', rfl, he'⟩
    exact pk_le (2 * R) (2 * R) (fun _ => H _ _ he') (fun z => absurd z (by omega)) e2
  · rintro m i s hi ⟨e', rfl, he'⟩ hw
    refine pk_le (2 * R) i (fun z => absurd z (by omega)) (fun _ => ?_) e2
    refine nm_r (bf_shr (v := 1) (by omega) (by omega)) (nm_r (bf_and i 1) ⟨by decide, ?_⟩)
    have e3 : (16 * nI j) + nI i = nI (16 * j + i) := by
      show nI 16 * nI j + nI i = _
      rw [pk_mul, nI_add]
    rw [e3]
    refine ⟨pk_in (16 * j + i) 112 (by omega), ?_⟩
    have hr : i / 2 ^ 1 < 8 := by omega
    have hb2 : i &&& 1 ≤ 1 := Nat.and_le_right
    generalize i / 2 ^ 1 = r at hr
    generalize i &&& 1 = c at hb2
    have e4 : ((nI b + (3 * nI r)) + (5 * nI c)) + (nI r * nI c) = nI (b + 3 * r + 5 * c + r * c) := by
      show ((nI b + (nI 3 * nI r)) + (nI 5 * nI c)) + (nI r * nI c) = _
      rw [pk_mul, pk_mul, pk_mul, nI_add, nI_add, nI_add]
    have hrc : r * c ≤ 7 * 1 := Nat.mul_le_mul (by omega) hb2
    rw [e4]
    have e5 : nI (b + 3 * r + 5 * c + r * c) - nI (b + 3 * r + 5 * c + r * c) / 10 * 10 = nI ((b + 3 * r + 5 * c + r * c) % 10) := pk_rem (d := 10) (by omega) (by decide) (by decide)
    rw [e5]
    exact nm_r (bf_st (by omega)) (nm_r (nI_1 i) (hw _ ⟨_, rfl, bf_upd_le he' (by omega)⟩))
theorem bf_enter {post : Int32 → St1 → Prop} {p q r t : Int32} (hn : n ≤ 7) (hp : ∀ v, pS v < 2 ^ v) (ho : ∀ v, bf_on (pS v) 7 ≤ 3) (he : ∀ k, eN k ≤ 9)
    (H : ∀ r eN', (∀ k, eN' k ≤ 9) → post r (nI n, f2, f3, bf_fn pS, bf_fn eN', a3, a4, a5, a6, a7)) :
    wpX_enter post (nI n, f2, f3, bf_fn pS, bf_fn eN, a3, a4, a5, a6, a7) p q r t := by
  unfold wpX_enter
  dsimp only
  refine bf_good hn (br_t rfl (H _ _ he)) (fun j hj e => br_f (by decide) ?_)
  rw [e]
  refine ⟨pk_in j 7 (by omega), ?_⟩
  rw [bf_at (by omega)]
  have h7 := bf_pS7 hp (show j < 7 by omega)
  refine bf_ones (by omega) ?_
  have hr := ho j
  have hr2 : 2 ^ bf_on (pS j) 7 ≤ 2 ^ 3 := Nat.pow_le_pow_right (by decide) hr
  refine nm_r (bf_one (by omega)) ?_
  generalize 2 ^ bf_on (pS j) 7 = R at hr2
  refine br_c (fun _ => H _ _ he) (fun hq => br_c (fun hq2 => ?_) (fun _ => H _ _ he))
  obtain ⟨w, hw, ew⟩ := nI_of hq
  rw [ew] at hq2 ⊢
  have hwR : w < R := (nI_ltI hw (by omega)).mp hq2
  have key : ∀ b, b ≤ 1 → wX_enter_48 post (nI j) (nI w) (nI b) t (nI n) f2 f3 (bf_fn pS) (bf_fn eN) a3 a4 a5 a6 a7 := by
    intro b hb
    unfold wX_enter_48
    refine br_c (fun _ => H _ _ he) (fun ht => br_c (fun ht2 => ?_) (fun _ => H _ _ he))
    obtain ⟨x, hx, ex⟩ := nI_of2 (n := 9) (by decide) ht ht2
    have e3 : ((16 * nI j) + (2 * nI w)) + nI b = nI (16 * j + 2 * w + b) := by
      show ((nI 16 * nI j) + (nI 2 * nI w)) + nI b = _
      rw [pk_mul, pk_mul, nI_add, nI_add]
    rw [e3, ex]
    exact ⟨pk_in (16 * j + 2 * w + b) 112 (by omega), nm_e ⟨pk_in (16 * j + 2 * w + b) 112 (by omega), nm_r (bf_st (by omega)) (H _ _ (bf_upd_le he hx))⟩⟩
  exact br_c (fun z => by rw [z]; exact key 0 (by omega)) (fun _ => br_c (fun z => by rw [z]; exact key 1 (by omega)) (fun _ => H _ _ he))
theorem bf_parents {post : Int32 → St1 → Prop} {p q : Int32} (hn : n ≤ 7) (hp : ∀ v, pS v < 2 ^ v) (ho : ∀ v, bf_on (pS v) 7 ≤ 3) (he : ∀ k, eN k ≤ 9)
    (H : ∀ r pS' eN', (∀ v, pS' v < 2 ^ v) → (∀ v, bf_on (pS' v) 7 ≤ 3) → (∀ k, eN' k ≤ 9) → post r (nI n, f2, f3, bf_fn pS', bf_fn eN', a3, a4, a5, a6, a7)) :
    wpX_parents post (nI n, f2, f3, bf_fn pS, bf_fn eN, a3, a4, a5, a6, a7) p q := by
  unfold wpX_parents
  dsimp only
  have H0 : ∀ r, post r (nI n, f2, f3, bf_fn pS, bf_fn eN, a3, a4, a5, a6, a7) := fun r => H r pS eN hp ho he
  refine bf_good hn (br_t rfl (H0 _)) (fun j hj e => br_f (by decide) ?_)
  refine br_c (fun _ => H0 _) (fun hq => ?_)
  obtain ⟨w, hw, ew⟩ := nI_of hq
  have hj7 := bf_p7 (show j < 7 by omega)
  rw [e, ew, bf_one (by omega)]
  refine pk_le (2 ^ j) w (fun _ => H0 _) (fun hwj => ?_)
  refine bf_ones hw ?_
  have ho7 := bf_on_le w 7
  refine pk_le (bf_on w 7) 3 (fun h3 => ?_) (fun _ => H0 _)
  refine ⟨pk_in j 7 (by omega), nm_e ⟨pk_in j 7 (by omega), nm_r (bf_st (by omega)) ?_⟩⟩
  have hp' : ∀ v, bf_up pS j w v < 2 ^ v := by
    intro v
    by_cases ev : v = j
    · rw [ev, bf_us]; exact hwj
    · rw [bf_un ev]; exact hp v
  have ho' : ∀ v, bf_on (bf_up pS j w v) 7 ≤ 3 := by
    intro v
    by_cases ev : v = j
    · rw [ev, bf_us]; exact h3
    · rw [bf_un ev]; exact ho v
  refine pk_loop (fun m i s => wX_parents_49 post (nI j) _ (nI n) f2 f3 m (nI i) (bf_fn (bf_up pS j w)) s a3 a4 a5 a6 a7) (fun i s => ∃ e', s = bf_fn e' ∧ ∀ k, e' k ≤ 9) 16 0 (bf_fn eN) (by omega) ⟨eN, rfl, he⟩ ?_ ?_
  · rintro m s ⟨e', rfl, he'⟩
    exact pk_le 16 16 (fun _ => H _ _ _ hp' ho' he') (fun z => absurd z (by omega))
  · rintro m i s hi ⟨e', rfl, he'⟩ hw
    refine pk_le 16 i (fun z => absurd z (by omega)) (fun _ => ?_)
    have e3 : (16 * nI j) + nI i = nI (16 * j + i) := by
      show nI 16 * nI j + nI i = _
      rw [pk_mul, nI_add]
    rw [e3]
    exact ⟨pk_in (16 * j + i) 112 (by omega), nm_r (bf_st (x := 1) (by omega)) (nm_r (nI_1 i) (hw _ ⟨_, rfl, bf_upd_le he' (by omega)⟩))⟩
theorem bf_call {post : Int32 → St1 → Prop} {o : Nat} {p q r t : Int32} (hk : bf_ok n pS eN sN) (ho : o < 16)
    (H1 : o ≤ 10 → ∀ x pS' eN', bf_ok n pS' eN' sN → post x (nI n, f2, f3, bf_fn pS', bf_fn eN', bf_fn sN, a4, a5, a6, a7))
    (H2 : 10 < o → (∀ x, x < 0 → post x (nI n, f2, f3, bf_fn pS, bf_fn eN, bf_fn sN, a4, a5, a6, a7)))
    (H3 : 10 < o → ∀ j b, j < n → b ≤ 2 → p = nI j → q = nI b → ∀ x, ¬ x < 0 → post x (nI n, f2, f3, bf_fn pS, bf_fn eN, bf_fn (bf_up sN j b), a4, a5, a6, a7)) :
    wpL_call post (nI n, f2, f3, bf_fn pS, bf_fn eN, bf_fn sN, a4, a5, a6, a7) (nI o) p q r t := by
  obtain ⟨k1, k2, k3, k4, k5, k6⟩ := hk
  unfold wpL_call
  dsimp only
  refine pk_le 5 o (fun _ => pk_le 10 o (fun _ => pk_eq o 10 (fun h => ?_) (fun h => ?_)) (fun h => ?_)) (fun h => ?_)
  · exact bf_sow k2 k3 k4 k5 (fun x eN' he => H1 (by omega) x pS eN' ⟨k1, k2, k3, k4, he, k6⟩)
  · exact bf_observe k2 k6 (H2 (by omega)) (H3 (by omega))
  · exact bf_enter k2 k3 k4 k5 (fun x eN' he => H1 (by omega) x pS eN' ⟨k1, k2, k3, k4, he, k6⟩)
  · exact bf_parents k2 k3 k4 k5 (fun x pS' eN' hp ho he => H1 (by omega) x pS' eN' ⟨k1, k2, hp, ho, he, k6⟩)
/-! ===== the constructor ===== -/
theorem bf_init {post : St1 → Prop} {p : Int32} (H : ∀ n pS eN sN fN f2 f3 a5 a6 a7, bf_ok n pS eN sN → (∀ k, fN k ≤ 2) → (∀ k, k < 7 → sN k = 2) → post (nI n, f2, f3, bf_fn pS, bf_fn eN, bf_fn sN, bf_fn fN, a5, a6, a7)) : wpX_init post 7 2083 (0, 0, 0) p := by
  unfold wpX_init
  dsimp only
  have z : (fun _ => 0 : Nat → Int32) = bf_fn (fun _ => 0) := rfl
  have on0 : ∀ k, bf_on 0 k = 0 := by
    intro k
    induction k with
    | zero => rfl
    | succ k ih =>
      show bf_on 0 k + 0 / 2 ^ k % 2 = 0
      rw [ih, Nat.zero_div]
  have key : ∀ n, 2 ≤ n → n ≤ 7 → ∃ fu92 : Nat, wX_init_92 post 7 2083 7 2083 (nI n) 0 0 fu92 0 (fun _ => 0) (fun _ => 0) (fun _ => 0) (fun _ => 0) (fun _ => 0) (fun _ => 0) (fun _ => 0) := by
    intro n h2 h7
    refine pk_loop (fun m i s => wX_init_92 post 7 2083 7 2083 (nI n) 0 0 m (nI i) (bf_fn (fun _ => 0)) (fun _ => 0) s (bf_fn (fun _ => 0)) (fun _ => 0) (fun _ => 0) (fun _ => 0)) (fun i s => ∃ sN, s = bf_fn sN ∧ (∀ k, sN k ≤ 2) ∧ ∀ k, k < i → sN k = 2) 7 0 (fun _ => 0) (by omega) ⟨fun _ => 0, rfl, fun k => (by decide : 0 ≤ 2), fun k hk => absurd hk (by omega)⟩ ?_ ?_
    · rintro m s ⟨sN, rfl, s2, s3⟩
      refine pk_le 7 7 (fun _ => ?_) (fun z => absurd z (by omega))
      refine pk_loop (fun m i s => wX_init_113 post 7 2083 7 2083 (nI n) 0 0 m (nI i) (bf_fn (fun _ => 0)) s (bf_fn sN) (bf_fn (fun _ => 0)) (fun _ => 0) (fun _ => 0) (fun _ => 0)) (fun i s => ∃ eN, s = bf_fn eN ∧ (∀ k, eN k ≤ 9)) 112 0 (fun _ => 0) (by omega) ⟨fun _ => 0, rfl, fun k => (by decide : 0 ≤ 9)⟩ ?_ ?_
      · rintro m s ⟨eN, rfl, e2⟩
        refine pk_le 112 112 (fun _ => ?_) (fun z => absurd z (by omega))
        exact H n (fun _ => 0) eN sN (fun _ => 0) _ _ _ _ _ ⟨h2, h7, fun v => Nat.two_pow_pos v, fun v => by rw [on0]; decide, e2, s2⟩ (fun k => (by decide : 0 ≤ 2)) s3
      · rintro m i s hi ⟨eN, rfl, e2⟩ hw
        exact pk_le 112 i (fun z => absurd z (by omega)) (fun _ => ⟨pk_in i 112 hi, nm_r (bf_st (x := 1) (by omega)) (nm_r (nI_1 i) (hw _ ⟨_, rfl, bf_upd_le e2 (by omega)⟩))⟩)
    · rintro m i s hi ⟨sN, rfl, s2, s3⟩ hw
      refine pk_le 7 i (fun z => absurd z (by omega)) (fun _ => ⟨pk_in i 7 hi, nm_r (bf_st (x := 2) (by omega)) (nm_r (nI_1 i) (hw _ ⟨_, rfl, bf_upd_le s2 (by omega), fun k hk => ?_⟩))⟩)
      by_cases e : k = i
      · rw [e, bf_us]
      · rw [bf_un e]; exact s3 k (by omega)
  refine ⟨by decide, by decide, by decide, by decide, by decide, by decide, by decide, by decide, by decide, by decide, by decide, by decide, by decide, by decide, ?_⟩
  refine br_c (fun h => ?_) (fun h => ?_)
  · unfold wX_init_72
    refine br_c (fun h7 => ?_) (fun h7 => key 7 (by omega) (by omega))
    have h0 : ¬ p < 0 := by
      intro q
      have q1 := Int32.lt_iff_toInt_lt.mp q
      have q2 := Int32.le_iff_toInt_le.mp h
      have q3 : (2 : Int32).toInt = 2 := by decide
      have q4 : (0 : Int32).toInt = 0 := by decide
      omega
    obtain ⟨k, hk, ek⟩ := nI_of2 (n := 7) (by decide) h0 h7
    rw [ek] at h ⊢
    have : 2 ≤ k := (nI_leI (a := 2) (by omega) (by omega)).mp h
    exact key k this hk
  · unfold wX_init_72
    exact br_t (by decide) (key 2 (by omega) (by omega))
end
end
section
/-! ===== the methods that only read, and the two small ones that store ===== -/
def bf_ts (sN fN : Nat → Nat) (i : Nat) : Nat → Nat := fun j => if j < i then sN j else fN j
def bf_bl (pS : Nat → Nat) (v : Nat) : Nat → Nat
  | 0 => pS v
  | k + 1 => if (pS k).testBit v = true then bf_bl pS v k ||| 2 ^ k ||| pS k else bf_bl pS v k
theorem bf_bl_t {pS : Nat → Nat} {v k : Nat} (h : (pS k).testBit v = true) : bf_bl pS v (k + 1) = bf_bl pS v k ||| 2 ^ k ||| pS k := if_pos h
theorem bf_bl_f {pS : Nat → Nat} {v k : Nat} (h : ¬ (pS k).testBit v = true) : bf_bl pS v (k + 1) = bf_bl pS v k := if_neg h
section
variable {n : Nat} {pS eN sN fN : Nat → Nat} {f1 f2 f3 : Int32} {a1 a2 a3 a4 a5 a7 : Nat → Int32} {a6 : Nat → Int64}
theorem bf_entryFor {post : Int32 → Prop} {v x : Nat} (hp : ∀ v, pS v < 2 ^ v) (ho : ∀ v, bf_on (pS v) 7 ≤ 3) (hv : v < 7) (hx : x < 2 ^ 31) (H : post (nI (bf_ent pS eN v x))) :
    wpX_entryFor post (f1, f2, f3, bf_fn pS, bf_fn eN, a3, a4, a5, a6, a7) (nI v) (nI x) := by
  unfold wpX_entryFor
  dsimp only
  refine ⟨pk_in v 7 hv, ?_⟩
  rw [bf_at (by omega)]
  have h7 := bf_pS7 hp hv
  refine bf_packed hx (by omega) ?_
  have hlt := bf_pk_lt x (pS v) 7
  have hr2 : 2 ^ bf_on (pS v) 7 ≤ 2 ^ 3 := Nat.pow_le_pow_right (by decide) (ho v)
  have hb := bf_b2 x v
  have e : ((16 * nI v) + (2 * nI (bf_pk x (pS v) 7))) + ((nI x >>> (nI v &&& 31)) &&& 1) = nI (16 * v + 2 * bf_pk x (pS v) 7 + x / 2 ^ v % 2) := by
    rw [bf_bit hx (by omega)]
    show ((nI 16 * nI v) + (nI 2 * nI (bf_pk x (pS v) 7))) + nI (x / 2 ^ v % 2) = _
    rw [pk_mul, pk_mul, nI_add, nI_add]
  rw [e]
  refine ⟨pk_in (16 * v + 2 * bf_pk x (pS v) 7 + x / 2 ^ v % 2) 112 (by omega), ?_⟩
  rw [bf_at (by omega)]
  exact H
theorem bf_weightOf {post : Int32 → Prop} {x : Nat} (hn : n ≤ 7) (hp : ∀ v, pS v < 2 ^ v) (ho : ∀ v, bf_on (pS v) 7 ≤ 3) (hx : x < 2 ^ 31) (H : post (nI (bf_wt pS eN x n))) :
    wpX_weightOf post (nI n, f2, f3, bf_fn pS, bf_fn eN, a3, a4, a5, a6, a7) (nI x) := by
  unfold wpX_weightOf
  dsimp only
  refine bf_loop (fun m i => wX_weightOf_4 post (nI x) (nI n) f2 f3 (bf_fn pS) (bf_fn eN) a3 a4 a5 a6 a7 m (nI (bf_wt pS eN x i)) (nI i)) n (fun m => ?_) (fun m i hi hw => ?_)
  · exact pk_le n n (fun _ => H) (fun z => absurd z (by omega))
  · refine pk_le n i (fun z => absurd z (by omega)) (fun _ => ?_)
    exact bf_entryFor hp ho (by omega) hx (nm_r (pk_mul _ _) (nm_r (nI_1 i) hw))
theorem bf_weight {post : Int32 → Prop} {x : Nat} (hn : n ≤ 7) (hp : ∀ v, pS v < 2 ^ v) (ho : ∀ v, bf_on (pS v) 7 ≤ 3) (hx : x < 2 ^ n) (H : post (nI (bf_wt pS eN x n))) :
    wpX_weight post (nI n, f2, f3, bf_fn pS, bf_fn eN, a3, a4, a5, a6, a7) (nI x) := by
  have h7 : 2 ^ n ≤ 2 ^ 7 := Nat.pow_le_pow_right (by decide) hn
  unfold wpX_weight
  dsimp only
  rw [bf_one (by omega)]
  exact br_f (nI_pos (by omega)) (br_t (nI_lt hx (by omega)) (bf_weightOf hn hp ho (by omega) H))
theorem bf_ts_s (sN fN : Nat → Nat) (i : Nat) : bf_up (bf_ts sN fN i) i (sN i) = bf_ts sN fN (i + 1) := by
  funext j
  unfold bf_up bf_ts
  by_cases e : j = i
  · rw [if_pos e, if_pos (by omega), e]
  · rw [if_neg e]
    by_cases q : j < i
    · rw [if_pos q, if_pos (by omega)]
    · rw [if_neg q, if_neg (by omega)]
theorem bf_ts_0 (sN fN : Nat → Nat) : bf_ts sN fN 0 = fN := by
  funext j
  unfold bf_ts
  rw [if_neg (by omega)]
theorem bf_takeSeen {post : St1 → Prop} (hn : n ≤ 7) (H : post (nI n, f2, f3, a1, a2, bf_fn sN, bf_fn (bf_ts sN fN n), a5, a6, a7)) :
    wpX_takeSeen post (nI n, f2, f3, a1, a2, bf_fn sN, bf_fn fN, a5, a6, a7) := by
  unfold wpX_takeSeen
  dsimp only
  have L : ∃ m, wX_takeSeen_2 post (nI n) f2 f3 m (nI 0) a1 a2 (bf_fn sN) (bf_fn (bf_ts sN fN 0)) a5 a6 a7 := by
    refine bf_loop (fun m i => wX_takeSeen_2 post (nI n) f2 f3 m (nI i) a1 a2 (bf_fn sN) (bf_fn (bf_ts sN fN i)) a5 a6 a7) n (fun m => ?_) (fun m i hi hw => ?_)
    · exact pk_le n n (fun _ => H) (fun z => absurd z (by omega))
    · refine pk_le n i (fun z => absurd z (by omega)) (fun _ => ⟨pk_in i 7 (by omega), pk_in i 7 (by omega), ?_⟩)
      rw [bf_at (f := sN) (by omega)]
      refine nm_r (bf_st (by omega)) ?_
      rw [bf_ts_s]
      exact nm_r (nI_1 i) hw
  rw [bf_ts_0] at L
  exact L
theorem bf_fixv {post : Int32 → St1 → Prop} {v b : Nat} (hv : v < 7) (hb : b ≤ 1) (hf : fN v ≤ 2) (H0 : fN v = 1 - b → post 0 (f1, f2, f3, a1, a2, a3, bf_fn fN, a5, a6, a7)) (H1 : fN v ≠ 1 - b → post 1 (f1, f2, f3, a1, a2, a3, bf_fn (bf_up fN v b), a5, a6, a7)) :
    wpX_fix post (f1, f2, f3, a1, a2, a3, bf_fn fN, a5, a6, a7) (nI v) (nI b) := by
  unfold wpX_fix
  dsimp only
  rw [bf_at (by omega)]
  refine ⟨pk_in v 7 hv, pk_eq (fN v) (1 - b) H0 (fun h => ⟨pk_in v 7 hv, nm_r (bf_st (by omega)) (H1 h)⟩) rfl (pk_sub (a := 1) hb)⟩
theorem bf_parentsOf {post : Int32 → Prop} {v : Nat} (hn : n ≤ 7) (hv : v < n) (H : post (nI (pS v))) :
    wpX_parentsOf post (nI n, f2, f3, bf_fn pS, a2, a3, a4, a5, a6, a7) (nI v) := by
  unfold wpX_parentsOf
  dsimp only
  refine bf_goodY hn hv (br_f (by decide) ⟨pk_in v 7 (by omega), ?_⟩)
  rw [bf_at (by omega)]
  exact H
theorem bf_parentsOfN {post : Int32 → Prop} {v : Nat} (hn : n ≤ 7) (hv : n ≤ v) (hv2 : v < 7) (H : post (-1)) :
    wpX_parentsOf post (nI n, f2, f3, bf_fn pS, a2, a3, a4, a5, a6, a7) (nI v) := by
  unfold wpX_parentsOf
  dsimp only
  exact bf_goodN hn hv hv2 (br_t rfl H)
theorem bf_blanket {post : Int32 → Prop} {v : Nat} (hn : n ≤ 7) (hp : ∀ v, pS v < 2 ^ v) (hv : v < n) (H : post (nI (bf_dl (bf_bl pS v n) (2 ^ v)))) :
    wpX_blanket post (nI n, f2, f3, bf_fn pS, a2, a3, a4, a5, a6, a7) (nI v) := by
  unfold wpX_blanket
  dsimp only
  refine bf_goodY hn hv (br_f (by decide) ⟨pk_in v 7 (by omega), nm_r (bf_at (by omega)) ?_⟩)
  refine bf_loop (fun m i => wX_blanket_19 post (nI v) (nI n) f2 f3 (bf_fn pS) a2 a3 a4 a5 a6 a7 m (nI (bf_bl pS v i)) (nI i)) n (fun m => ?_) (fun m i hi hw => ?_)
  · refine pk_le n n (fun _ => ?_) (fun z => absurd z (by omega))
    rw [bf_one (by omega), bf_not]
    exact H
  · refine pk_le n i (fun z => absurd z (by omega)) (fun _ => ⟨pk_in i 7 (by omega), ?_⟩)
    have h7 := bf_pS7 hp (show i < 7 by omega)
    rw [bf_at (by omega)]
    refine ek_if (bf_tb (by omega) (by omega)) (fun t => ⟨pk_in i 7 (by omega), ?_⟩) (fun t => ?_)
    · rw [bf_bl_t t] at hw
      rw [bf_one (by omega), bf_or, bf_or]
      exact nm_e (nm_r (nI_1 i) hw)
    · rw [bf_bl_f t] at hw
      exact nm_r (nI_1 i) hw
theorem bf_childrenOf {post : Int32 → Prop} {v : Nat} (hn : n ≤ 7) (hp : ∀ v, pS v < 2 ^ v) (hv : v < n) (H : post (nI (bf_ch pS v n))) :
    wpX_childrenOf post (nI n, f2, f3, bf_fn pS, a2, a3, a4, a5, a6, a7) (nI v) := by
  unfold wpX_childrenOf
  dsimp only
  refine bf_loop (fun m i => wX_childrenOf_4 post (nI v) (nI n) f2 f3 (bf_fn pS) a2 a3 a4 a5 a6 a7 m (nI (bf_ch pS v i)) (nI i)) n (fun m => ?_) (fun m i hi hw => ?_)
  · exact pk_le n n (fun _ => H) (fun z => absurd z (by omega))
  · refine pk_le n i (fun z => absurd z (by omega)) (fun _ => ⟨pk_in i 7 (by omega), ?_⟩)
    have h7 := bf_pS7 hp (show i < 7 by omega)
    rw [bf_at (by omega)]
    refine ek_if (bf_tb (by omega) (by omega)) (fun t => ?_) (fun t => ?_)
    · rw [bf_ch_t t] at hw
      rw [bf_one (by omega), bf_or]
      exact nm_e (nm_r (nI_1 i) hw)
    · rw [bf_ch_f t] at hw
      exact nm_r (nI_1 i) hw
/-! ===== bounce ===== -/
theorem bf_b120 {post : Int32 → Prop} {J9 J19 : Int32 → Int32 → Int32 → Prop} {x2 x4 : Int32} {a v b : Nat} (hn : n ≤ 7) (hp : ∀ v, pS v < 2 ^ v) (hv : v < n) (hb : b ≤ 1)
    (h0 : b = 0 → J19 x2 (nI (a ||| bf_ch pS v n)) (nI (v + 1))) (h1 : b = 1 → J19 x2 (nI a) (nI (v + 1))) :
    wX_bounce_120 post J9 J19 x2 (nI a) x4 (nI v) (nI b) (nI n) f2 f3 (bf_fn pS) a2 a3 a4 a5 a6 a7 := by
  unfold wX_bounce_120
  refine pk_eq b 0 (fun e => ?_) (fun e => nm_r (nI_1 v) (h1 (by omega)))
  exact bf_childrenOf hn hp hv (nm_r (bf_or _ _) (nm_r (nI_1 v) (h0 e)))
/-- one variable's turn -/
theorem bf_b44 {post : Int32 → Prop} {J9 J19 : Int32 → Int32 → Int32 → Prop} {x4 : Int32} {b a v : Nat} (hn : n ≤ 7) (hp : ∀ v, pS v < 2 ^ v) (hs : ∀ v, sN v ≤ 2) (hv : v < n) (hb : b < 128) (ha : a < 128)
    (H : J19 (nI (bf_bs pS sN n v (b, a)).1) (nI (bf_bs pS sN n v (b, a)).2) (nI (v + 1))) (c : Nat) (hc : c = if sN v = 2 then 0 else 1) :
    wX_bounce_44 post J9 J19 (nI b) (nI a) x4 (nI v) (nI c) (nI n) f2 f3 (bf_fn pS) a2 (bf_fn sN) a4 a5 a6 a7 := by
  have hc1 : c ≤ 1 := by rw [hc]; split <;> omega
  have hc0 : sN v = 2 ↔ c = 0 := by rw [hc]; split <;> simp [*]
  have key : ∀ fb fa : Nat, fb ≤ 1 → fa ≤ 1 → (b.testBit v = true ↔ fb = 1) → (a.testBit v = true ↔ fa = 1) → wX_bounce_78 post J9 J19 (nI b) (nI a) x4 (nI v) (nI c) (nI fb) (nI fa) (nI n) f2 f3 (bf_fn pS) a2 (bf_fn sN) a4 a5 a6 a7 := by
    intro fb fa hfb hfa eb ea
    have H : J19 (nI (if (fb = 1 ∧ c = 0) ∨ (fa = 1 ∧ ¬ c = 0) then b ||| pS v else b)) (nI (if (fb = 1 ∨ fa = 1) ∧ c = 0 then a ||| bf_ch pS v n else a)) (nI (v + 1)) := by
      unfold bf_bs at H
      dsimp only at H
      simp only [hc0, eb, ea] at H
      exact H
    have k110 : ∀ y : Nat, y = (if (fb = 1 ∧ c = 0) ∨ (fa = 1 ∧ ¬ c = 0) then b ||| pS v else b) → wX_bounce_110 post J9 J19 (nI y) (nI a) x4 (nI v) (nI c) (nI fb) (nI fa) (nI n) f2 f3 (bf_fn pS) a2 (bf_fn sN) a4 a5 a6 a7 := by
      intro y ey
      rw [← ey] at H
      unfold wX_bounce_110
      refine pk_eq fb 0 (fun e1 => pk_eq fa 0 (fun e2 => nm_r (nI_1 v) ?_) (fun e2 => ?_)) (fun e1 => ?_)
      · rw [if_neg (by omega)] at H
        exact H
      · refine bf_b120 hn hp hv hc1 (fun e3 => ?_) (fun e3 => ?_)
        · rw [if_pos (by omega)] at H
          exact H
        · rw [if_neg (by omega)] at H
          exact H
      · refine bf_b120 hn hp hv hc1 (fun e3 => ?_) (fun e3 => ?_)
        · rw [if_pos (by omega)] at H
          exact H
        · rw [if_neg (by omega)] at H
          exact H
    have k100 : ((fb = 1 ∧ c = 0) ∨ (fa = 1 ∧ ¬ c = 0)) → wX_bounce_100 post J9 J19 (nI b) (nI a) x4 (nI v) (nI c) (nI fb) (nI fa) (nI n) f2 f3 (bf_fn pS) a2 (bf_fn sN) a4 a5 a6 a7 := by
      intro q
      unfold wX_bounce_100
      rw [bf_at (by omega)]
      refine ⟨pk_in v 7 (by omega), nm_r (bf_or _ _) (k110 _ ?_)⟩
      rw [if_pos q]
    have k90 : ¬ (fb = 1 ∧ c = 0) → wX_bounce_90 post J9 J19 (nI b) (nI a) x4 (nI v) (nI c) (nI fb) (nI fa) (nI n) f2 f3 (bf_fn pS) a2 (bf_fn sN) a4 a5 a6 a7 := by
      intro q
      unfold wX_bounce_90
      refine pk_eq fa 0 (fun e1 => k110 b ?_) (fun e1 => pk_eq c 0 (fun e2 => k110 b ?_) (fun e2 => k100 (Or.inr ⟨by omega, e2⟩)))
      · rw [if_neg (by omega)]
      · rw [if_neg (by omega)]
    unfold wX_bounce_78
    exact pk_eq fb 0 (fun e1 => k90 (by omega)) (fun e1 => pk_eq c 0 (fun e2 => k100 (Or.inl ⟨by omega, e2⟩)) (fun e2 => k90 (by omega)))
  unfold wX_bounce_44
  refine ek_if (bf_tb (by omega) (by omega)) (fun t => ?_) (fun t => ?_)
  · unfold wX_bounce_61
    refine ek_if (bf_tb (by omega) (by omega)) (fun t2 => key 1 1 (by omega) (by omega) ?_ ?_) (fun t2 => key 1 0 (by omega) (by omega) ?_ ?_)
    · exact ⟨fun _ => rfl, fun _ => t⟩
    · exact ⟨fun _ => rfl, fun _ => t2⟩
    · exact ⟨fun _ => rfl, fun _ => t⟩
    · exact ⟨fun z => absurd z t2, fun z => absurd z (by decide)⟩
  · unfold wX_bounce_61
    refine ek_if (bf_tb (by omega) (by omega)) (fun t2 => key 0 1 (by omega) (by omega) ?_ ?_) (fun t2 => key 0 0 (by omega) (by omega) ?_ ?_)
    · exact ⟨fun z => absurd z t, fun z => absurd z (by decide)⟩
    · exact ⟨fun _ => rfl, fun _ => t2⟩
    · exact ⟨fun z => absurd z t, fun z => absurd z (by decide)⟩
    · exact ⟨fun z => absurd z t2, fun z => absurd z (by decide)⟩
def bf_bi (pS sN : Nat → Nat) (n u i : Nat) : Nat × Nat := bf_it (bf_bs pS sN n) n (2 ^ u, 0) i
theorem bf_bi_lt {u : Nat} (hn : n ≤ 7) (hp : ∀ v, pS v < 2 ^ v) (hu : u < n) (i : Nat) : (bf_bi pS sN n u i).1 < 128 ∧ (bf_bi pS sN n u i).2 < 128 := by
  refine bf_it_inv (Inv := fun s : Nat × Nat => s.1 < 128 ∧ s.2 < 128) (by omega) ⟨?_, (by decide : 0 < 128)⟩ ?_ i
  · have := bf_p7 (show u < 7 by omega)
    show 2 ^ u < 128
    omega
  · rintro v ⟨b, a⟩ hv ⟨hb, ha⟩
    have h1 := bf_pS7 hp (show v < 7 by omega)
    have h2 := bf_ch_7 (pS := pS) (v := v) hn
    refine ⟨?_, ?_⟩
    · show (if _ then b ||| pS v else b) < 128
      split
      · exact bf_or7 hb h1
      · exact hb
    · show (if _ then a ||| bf_ch pS v n else a) < 128
      split
      · exact bf_or7 ha h2
      · exact ha
theorem bf_bounce {post : Int32 → Prop} {u : Nat} (hn : n ≤ 7) (hp : ∀ v, pS v < 2 ^ v) (hs : ∀ v, sN v ≤ 2) (hu : u < n) (H : post (nI ((bf_bi pS sN n u (14 * n)).1 ||| (bf_bi pS sN n u (14 * n)).2))) :
    wpX_bounce post (nI n, f2, f3, bf_fn pS, a2, bf_fn sN, a4, a5, a6, a7) (nI u) := by
  unfold wpX_bounce
  dsimp only
  refine nm_r (bf_one (by omega)) ?_
  have L : ∃ m, wX_bounce_9 post (nI n) f2 f3 (bf_fn pS) a2 (bf_fn sN) a4 a5 a6 a7 m (nI (bf_bi pS sN n u (0 * n)).1) (nI (bf_bi pS sN n u (0 * n)).2) (nI 0) := by
    refine bf_loop (fun m r => wX_bounce_9 post (nI n) f2 f3 (bf_fn pS) a2 (bf_fn sN) a4 a5 a6 a7 m (nI (bf_bi pS sN n u (r * n)).1) (nI (bf_bi pS sN n u (r * n)).2) (nI r)) 14 (fun m => ?_) (fun m r hr hw => ?_)
    · refine pk_le 14 14 (fun _ => ?_) (fun z => absurd z (by omega))
      rw [bf_or]
      exact H
    · refine pk_le 14 r (fun z => absurd z (by omega)) (fun _ => ?_)
      refine bf_loop (fun k v => wX_bounce_19 post (wX_bounce_9 post (nI n) f2 f3 (bf_fn pS) a2 (bf_fn sN) a4 a5 a6 a7 m) (nI r) (nI n) f2 f3 (bf_fn pS) a2 (bf_fn sN) a4 a5 a6 a7 k (nI (bf_bi pS sN n u (r * n + v)).1) (nI (bf_bi pS sN n u (r * n + v)).2) (nI v)) n (fun k => ?_) (fun k v hv hk => ?_)
      · refine pk_le n n (fun _ => nm_r (nI_1 r) ?_) (fun z => absurd z (by omega))
        rw [Nat.add_mul, Nat.one_mul] at hw
        exact hw
      · refine pk_le n v (fun z => absurd z (by omega)) (fun _ => ⟨pk_in v 7 (by omega), ?_⟩)
        have hl := bf_bi_lt (sN := sN) hn hp hu (r * n + v)
        have hk : wX_bounce_19 post (wX_bounce_9 post (nI n) f2 f3 (bf_fn pS) a2 (bf_fn sN) a4 a5 a6 a7 m) (nI r) (nI n) f2 f3 (bf_fn pS) a2 (bf_fn sN) a4 a5 a6 a7 k (nI (bf_bs pS sN n v (bf_bi pS sN n u (r * n + v))).1) (nI (bf_bs pS sN n v (bf_bi pS sN n u (r * n + v))).2) (nI (v + 1)) := by
          have e : bf_bi pS sN n u (r * n + (v + 1)) = bf_bs pS sN n v (bf_bi pS sN n u (r * n + v)) := bf_it_at hv
          rw [e] at hk
          exact hk
        rw [bf_at (by omega)]
        have hs2 := hs v
        refine pk_eq (sN v) 2 (fun e => ?_) (fun e => ?_)
        · exact bf_b44 hn hp hs hv hl.1 hl.2 hk 0 (by rw [if_pos e])
        · exact bf_b44 hn hp hs hv hl.1 hl.2 hk 1 (by rw [if_neg e])
  rw [Nat.zero_mul] at L
  exact L
theorem bf_separated {post : Int32 → Prop} {u v : Nat} (hn : n ≤ 7) (hp : ∀ v, pS v < 2 ^ v) (hs : ∀ v, sN v ≤ 2) (hu : u < n) (hv : v < n)
    (H0 : u = v → post (-2)) (H1 : u ≠ v → (¬ sN u = 2 ∨ ¬ sN v = 2) → post (-3))
    (H2 : u ≠ v → sN u = 2 → sN v = 2 → ∀ b, b ≤ 1 → (((bf_bi pS sN n u (14 * n)).1 ||| (bf_bi pS sN n u (14 * n)).2).testBit v = true ↔ b = 0) → post (nI b)) :
    wpX_separated post (nI n, f2, f3, bf_fn pS, a2, bf_fn sN, a4, a5, a6, a7) (nI u) (nI v) := by
  unfold wpX_separated
  dsimp only
  refine bf_goodY hn hu (br_f (by decide) (bf_goodY hn hv (br_f (by decide) ?_)))
  have su := hs u
  have sv := hs v
  refine pk_eq u v (fun e => H0 e) (fun e => ⟨pk_in u 7 (by omega), ?_⟩)
  rw [bf_at (by omega), bf_at (by omega)]
  refine pk_eq (sN u) 2 (fun e1 => ⟨pk_in v 7 (by omega), pk_eq (sN v) 2 (fun e2 => ?_) (fun e2 => H1 e (Or.inr e2))⟩) (fun e1 => H1 e (Or.inl e1))
  refine bf_bounce hn hp hs hu ?_
  have hl := bf_bi_lt (sN := sN) hn hp hu (14 * n)
  have hl2 := bf_or7 hl.1 hl.2
  refine ek_if (bf_tb (by omega) (by omega)) (fun t => H2 e e1 e2 0 (by omega) ⟨fun _ => rfl, fun _ => t⟩) (fun t => H2 e e1 e2 1 (by omega) ⟨fun z => absurd z t, fun z => absurd z (by decide)⟩)
/-! ===== closed ===== -/
theorem bf_cl_lt {s : Nat} (hn : n ≤ 7) (hp : ∀ v, pS v < 2 ^ v) (hs : ∀ i, s.testBit i = true → i < n) (j i : Nat) (h : (bf_cl pS s j).testBit i = true) : i < n := by
  refine bf_cl_ind (pS := pS) (s := s) (fun i => i < n) hs (fun w p hw h q => ?_) j i h
  have := bf_idx w (hp w) q
  omega
theorem bf_closed {post : Int32 → Prop} {s : Nat} (hn : n ≤ 7) (hp : ∀ v, pS v < 2 ^ v) (hs : ∀ i, s.testBit i = true → i < n) (H : post (nI (bf_cl pS s 7))) :
    wpL_closed post (nI n, f2, f3, bf_fn pS, a2, a3, a4, a5, a6, a7) (nI s) := by
  have lt : ∀ j, bf_cl pS s j < 2 ^ 7 := fun j => Nat.lt_pow_two_of_testBit _ (fun i hi => bf_nf (fun h => absurd (bf_cl_lt hn hp hs j i h) (by omega)))
  unfold wpL_closed
  dsimp only
  have step : ∀ m j, j < 7 → wL_closed_5 post (nI n) f2 f3 (bf_fn pS) a2 a3 a4 a5 a6 a7 m (nI (bf_cl pS s (j + 1))) (nI (6 - j) + (-1)) → wL_closed_5 post (nI n) f2 f3 (bf_fn pS) a2 a3 a4 a5 a6 a7 (m + 1) (nI (bf_cl pS s j)) (nI (6 - j)) := by
    intro m j hj hw
    have hl := lt j
    refine br_f (nI_pos (by omega)) (ek_if (bf_tb (by omega) (by omega)) (fun t => ?_) (fun t => ?_))
    · rw [bf_cl_t t] at hw
      exact bf_parentsOf hn (bf_cl_lt hn hp hs j _ t) (nm_r (bf_or _ _) (nm_e hw))
    · rw [bf_cl_f t] at hw
      exact nm_r (by rw [show (0 : Int32) = nI 0 from rfl, bf_or, Nat.or_zero]) (nm_e hw)
  have fin : wL_closed_5 post (nI n) f2 f3 (bf_fn pS) a2 a3 a4 a5 a6 a7 1 (nI (bf_cl pS s 7)) (-1) := br_t (by decide) H
  refine ⟨8, ?_⟩
  have s6 := step 1 6 (by omega) fin
  have s5 := step 2 5 (by omega) s6
  have s4 := step 3 4 (by omega) s5
  have s3 := step 4 3 (by omega) s4
  have s2 := step 5 2 (by omega) s3
  have s1 := step 6 1 (by omega) s2
  have s0 := step 7 0 (by omega) s1
  exact s0
end
end
section
/-! ===== the factors in the arrays ===== -/
def bf_A (k : Nat) (sc : Nat → Nat) (us : Nat → Bool) (a5 a7 : Nat → Int32) : Prop :=
  k ≤ 14 ∧ ∀ f, f < k → sc f < 128 ∧ a5 f = nI (sc f) ∧ (us f = true → a7 f = 1) ∧ (us f = false → a7 f = 0)
def bf_V (k : Nat) (sc : Nat → Nat) (us : Nat → Bool) (F : Nat → Nat → Nat) (a6 : Nat → Int64) : Prop :=
  ∀ f, f < k → us f = true → ∀ m, a6 (128 * f + bf_pk m (sc f) 7) = lN (F f m)
/-- i places of the new factor K over t are filled; m is the next number -/
def bf_I (K t : Nat) (val : Nat → Nat) (a0 : Nat → Int64) (i m : Nat) (a : Nat → Int64) : Prop :=
  m &&& t = m ∧ bf_pk m t 7 = i ∧ (∀ j, j < 128 * K → a j = a0 j) ∧ (∀ y, bf_pk y t 7 < i → a (128 * K + bf_pk y t 7) = lN (val (y &&& t)))
theorem bf_I_0 {K t : Nat} {val : Nat → Nat} {a0 : Nat → Int64} : bf_I K t val a0 0 0 a0 :=
  ⟨Nat.zero_and t, bf_pk_0 t 7, fun _ _ => rfl, fun y h => absurd h (by omega)⟩
theorem bf_I_lt {K t : Nat} {val : Nat → Nat} {a0 a : Nat → Int64} {i m : Nat} (ht : t < 128) (h : bf_I K t val a0 i m a) : m < 128 ∧ i < 128 := by
  obtain ⟨h1, h2, _, _⟩ := h
  refine ⟨?_, ?_⟩
  · rw [← h1]
    exact Nat.lt_of_le_of_lt Nat.and_le_right ht
  · rw [← h2]
    exact bf_pk_7 m t
theorem bf_I_st {K t : Nat} {val : Nat → Nat} {a0 a : Nat → Int64} {i m : Nat} (ht : t < 128) (h : bf_I K t val a0 i m a) :
    (∀ j, j < 128 * K → vp_updL a (128 * K + i) (lN (val m)) j = a0 j) ∧ (∀ y, bf_pk y t 7 < i + 1 → vp_updL a (128 * K + i) (lN (val m)) (128 * K + bf_pk y t 7) = lN (val (y &&& t))) := by
  obtain ⟨h1, h2, h3, h4⟩ := h
  refine ⟨fun j hj => ?_, fun y hy => ?_⟩
  · rw [pk_uLn (by omega)]
    exact h3 j hj
  · by_cases e : bf_pk y t 7 = i
    · rw [e, pk_uLs]
      have e2 := bf_pk_eq ht (e.trans h2.symm)
      rw [e2, h1]
    · rw [pk_uLn (by omega)]
      exact h4 y (by omega)
theorem bf_I_next {K t : Nat} {val : Nat → Nat} {a0 a : Nat → Int64} {i m : Nat} (ht : t < 128) (h : bf_I K t val a0 i m a) (ne : ¬ m = t) : bf_I K t val a0 (i + 1) (bf_nx m t) (vp_updL a (128 * K + i) (lN (val m))) := by
  have hl := bf_I_lt ht h
  have hs := bf_I_st ht h
  obtain ⟨h1, h2, _, _⟩ := h
  exact ⟨bf_nx_sub m t, by rw [bf_nx_pk t ht m hl.1 h1 ne, h2], hs.1, hs.2⟩
theorem bf_I_end {K t : Nat} {val : Nat → Nat} {a0 a : Nat → Int64} {i m : Nat} (ht : t < 128) (h : bf_I K t val a0 i m a) (e : m = t) (y : Nat) : vp_updL a (128 * K + i) (lN (val m)) (128 * K + bf_pk y t 7) = lN (val (y &&& t)) := by
  refine (bf_I_st ht h).2 y ?_
  have h1 := bf_pk_mono y t 7
  have h2 := h.2.1
  rw [e] at h2
  omega
theorem bf_I_ne {K t : Nat} {val : Nat → Nat} {a0 a : Nat → Int64} {i m : Nat} (h : bf_I K t val a0 i m a) (hi : i < bf_pk t t 7) : ¬ m = t := by
  intro e
  have h2 := h.2.1
  rw [e] at h2
  omega
theorem bf_I_eq {K t : Nat} {val : Nat → Nat} {a0 a : Nat → Int64} {m : Nat} (ht : t < 128) (h : bf_I K t val a0 (bf_pk t t 7) m a) : m = t := by
  have e := bf_pk_eq ht h.2.1
  rw [h.1, Nat.and_self] at e
  exact e
theorem bf_V_keep {k : Nat} {sc : Nat → Nat} {us : Nat → Bool} {F : Nat → Nat → Nat} {a a' : Nat → Int64} (h : bf_V k sc us F a) (he : ∀ j, j < 128 * k → a' j = a j) : bf_V k sc us F a' := by
  intro f hf hu m
  have h7 := bf_pk_7 m (sc f)
  rw [he _ (by omega)]
  exact h f hf hu m
section
variable {n : Nat} {pS eN sN fN : Nat → Nat} {f1 f2 f3 : Int32} {a1 a2 a3 a4 a5 a7 : Nat → Int32} {a6 : Nat → Int64} {K v : Nat} {sc : Nat → Nat} {us : Nat → Bool} {F : Nat → Nat → Nat}
theorem bf_jointScope {post : Int32 → Prop} (hA : bf_A K sc us a5 a7) (hv : v < 7) (H : post (nI (bf_js sc us v K))) : wpX_jointScope post (f1, nI K, f3, a1, a2, a3, a4, a5, a6, a7) (nI v) := by
  obtain ⟨h14, hA⟩ := hA
  unfold wpX_jointScope
  dsimp only
  refine bf_loop (fun m i => wX_jointScope_4 post (nI v) f1 (nI K) f3 a1 a2 a3 a4 a5 a6 a7 m (nI (bf_js sc us v i)) (nI i)) K (fun m => ?_) (fun m i hi hw => ?_)
  · exact pk_le K K (fun _ => H) (fun z => absurd z (by omega))
  · obtain ⟨q1, q2, q3, q4⟩ := hA i hi
    refine pk_le K i (fun z => absurd z (by omega)) (fun _ => ⟨pk_in i 15 (by omega), ?_⟩)
    rw [nI_clamp (show i < 2 ^ 31 by omega)]
    by_cases hu : us i = true
    · refine br_f (by rw [q3 hu]; decide) ⟨pk_in i 15 (by omega), ?_⟩
      rw [q2]
      refine ek_if (bf_tb (by omega) (by omega)) (fun t => ⟨pk_in i 15 (by omega), ?_⟩) (fun t => ?_)
      · rw [bf_js_t (by rw [hu, t]; rfl)] at hw
        exact nm_r (bf_or _ _) (nm_r (nI_1 i) hw)
      · rw [bf_js_f (by rw [hu, Bool.true_and]; exact t)] at hw
        exact nm_r (nI_1 i) hw
    · have hu := bf_nf hu
      rw [bf_js_f (by rw [hu, Bool.false_and]; decide)] at hw
      exact br_t (q4 hu) (nm_r (nI_1 i) hw)
theorem bf_joined {post : Int64 → Prop} {x : Nat} (hA : bf_A K sc us a5 a7) (hV : bf_V K sc us F a6) (hv : v < 7) (hx : x < 2 ^ 31) (H : post (lN (bf_J sc us F v K x))) : wpX_joined post (f1, nI K, f3, a1, a2, a3, a4, a5, a6, a7) (nI v) (nI x) := by
  obtain ⟨h14, hA⟩ := hA
  unfold wpX_joined
  dsimp only
  refine bf_loop (fun m i => wX_joined_5 post (nI v) (nI x) f1 (nI K) f3 a1 a2 a3 a4 a5 a6 a7 m (lN (bf_J sc us F v i x)) (nI i)) K (fun m => ?_) (fun m i hi hw => ?_)
  · exact pk_le K K (fun _ => H) (fun z => absurd z (by omega))
  · obtain ⟨q1, q2, q3, q4⟩ := hA i hi
    refine pk_le K i (fun z => absurd z (by omega)) (fun _ => ⟨pk_in i 15 (by omega), ?_⟩)
    rw [nI_clamp (show i < 2 ^ 31 by omega)]
    by_cases hu : us i = true
    · refine br_f (by rw [q3 hu]; decide) ⟨pk_in i 15 (by omega), ?_⟩
      rw [q2]
      refine ek_if (bf_tb (by omega) (by omega)) (fun t => ⟨pk_in i 15 (by omega), ?_⟩) (fun t => ?_)
      · have ej : bf_J sc us F v (i + 1) x = bf_J sc us F v i x * F i x := bf_pr_t (us := fun f => us f && (sc f).testBit v) (by show (us i && (sc i).testBit v) = true; rw [hu, t]; rfl)
        rw [ej] at hw
        refine bf_packed hx (by omega) ?_
        have h7 := bf_pk_7 x (sc i)
        have ei : (128 * nI i) + nI (bf_pk x (sc i) 7) = nI (128 * i + bf_pk x (sc i) 7) := by
          show (nI 128 * nI i) + nI (bf_pk x (sc i) 7) = _
          rw [pk_mul, nI_add]
        rw [ei, nI_clamp (by omega), hV i hi hu x]
        exact ⟨pk_in (128 * i + bf_pk x (sc i) 7) 1920 (by omega), nm_r (lN_mul _ _) (nm_r (nI_1 i) hw)⟩
      · have ej : bf_J sc us F v (i + 1) x = bf_J sc us F v i x := bf_pr_f (us := fun f => us f && (sc f).testBit v) (by show ¬ (us i && (sc i).testBit v) = true; rw [hu, Bool.true_and]; exact t)
        rw [ej] at hw
        exact nm_r (nI_1 i) hw
    · have hu := bf_nf hu
      have ej : bf_J sc us F v (i + 1) x = bf_J sc us F v i x := bf_pr_f (us := fun f => us f && (sc f).testBit v) (by show ¬ (us i && (sc i).testBit v) = true; rw [hu, Bool.false_and]; decide)
      rw [ej] at hw
      exact br_t (q4 hu) (nm_r (nI_1 i) hw)
theorem bf_cheapest {post : Int32 → Prop} {o : Nat} (hn : n ≤ 7) (hA : bf_A K sc us a5 a7) (ho : o < 128) (hne : ∃ w, w < n ∧ o.testBit w = true) (H : ∀ w, w < n → o.testBit w = true → post (nI w)) :
    wpX_cheapest post (nI n, nI K, f3, a1, a2, a3, a4, a5, a6, a7) (nI o) := by
  unfold wpX_cheapest
  dsimp only
  refine pk_loop (fun m i s => wX_cheapest_7 post (nI o) (nI n) (nI K) f3 a1 a2 a3 a4 a5 a6 a7 m s.1 s.2 (nI i)) (fun i s => (s.1 = -1 ∧ ∀ j, j < i → ¬ o.testBit j = true) ∨ ∃ b, b < i ∧ s.1 = nI b ∧ o.testBit b = true) n 0 ((-1, 0) : Int32 × Int32) (by omega) (Or.inl ⟨rfl, fun j hj => absurd hj (by omega)⟩) ?_ ?_
  · rintro m ⟨x2, x3⟩ h
    refine pk_le n n (fun _ => ?_) (fun z => absurd z (by omega))
    rcases h with ⟨_, h⟩ | ⟨b, h1, h2, h3⟩
    · obtain ⟨w, w1, w2⟩ := hne
      exact absurd w2 (h w w1)
    · have h2 : x2 = nI b := h2
      rw [h2]
      exact H b h1 h3
  · rintro m i ⟨x2, x3⟩ hi h hw
    refine pk_le n i (fun z => absurd z (by omega)) (fun _ => ?_)
    refine ek_if (bf_tb (by omega) (by omega)) (fun t => ?_) (fun t => ?_)
    · refine bf_jointScope hA (by omega) ?_
      have hj := bf_js_lt (us := us) (v := i) (fun f hf => (hA.2 f hf).1)
      refine bf_ones (by omega) ?_
      have hw1 : ∀ z, wX_cheapest_7 post (nI o) (nI n) (nI K) f3 a1 a2 a3 a4 a5 a6 a7 m (nI i) z (nI (i + 1)) := fun z => hw (nI i, z) (Or.inr ⟨i, by omega, rfl, t⟩)
      refine br_c (fun _ => nm_r (nI_1 i) (hw1 _)) (fun h0 => br_c (fun _ => nm_r (nI_1 i) ?_) (fun _ => nm_r (nI_1 i) (hw1 _)))
      refine hw (x2, x3) (Or.inr ?_)
      rcases h with ⟨h1, h2⟩ | ⟨b, h1, h2, h3⟩
      · have h1 : x2 = -1 := h1
        rw [h1] at h0
        exact absurd (by decide : (-1 : Int32) < 0) h0
      · exact ⟨b, by omega, h2, h3⟩
    · refine nm_r (nI_1 i) (hw (x2, x3) ?_)
      rcases h with ⟨h1, h2⟩ | ⟨b, h1, h2, h3⟩
      · refine Or.inl ⟨h1, fun j hj => ?_⟩
        by_cases e : j = i
        · rw [e]; exact t
        · exact h2 j (by omega)
      · exact Or.inr ⟨b, by omega, h2, h3⟩
/-! ===== takeOut ===== -/
theorem bf_131 {post : St1 → Prop} {t : Nat} (hA : bf_A K sc us a5 a7) (hK : K ≤ 13) (hv : v < 7) (ht : t < 128)
    (H : ∀ a5' a7', bf_A (K + 1) (bf_up sc K t) (bf_us1 sc us v K) a5' a7' → post (f1, nI (K + 1), f3, a1, a2, a3, a4, a5', a6, a7')) :
    ∃ fu, wX_takeOut_131 post (nI v) (nI t) f1 (nI K) f3 fu 0 a1 a2 a3 a4 a5 a6 a7 := by
  obtain ⟨h14, hA⟩ := hA
  refine pk_loop (fun m i s => wX_takeOut_131 post (nI v) (nI t) f1 (nI K) f3 m (nI i) a1 a2 a3 a4 a5 a6 s) (fun i s => ∀ f, f < K → (f < i → (bf_us1 sc us v K f = true → s f = 1) ∧ (bf_us1 sc us v K f = false → s f = 0)) ∧ (i ≤ f → s f = a7 f)) K 0 a7 (by omega) (fun f hf => ⟨fun h => absurd h (by omega), fun _ => rfl⟩) ?_ ?_
  · intro m s h
    refine pk_le K K (fun _ => ⟨pk_in K 15 (by omega), nm_e ⟨pk_in K 15 (by omega), nm_e (nm_r (nI_1 K) ?_)⟩⟩) (fun z => absurd z (by omega))
    rw [nI_clamp (by omega)]
    refine H _ _ ⟨by omega, fun f hf => ?_⟩
    by_cases e : f = K
    · rw [e, bf_us, pk_us, pk_us]
      exact ⟨ht, rfl, fun _ => rfl, fun q => absurd (q.symm.trans bf_us1_K) (by decide)⟩
    · rw [bf_un e, pk_un e, pk_un e]
      obtain ⟨q1, q2, _, _⟩ := hA f (by omega)
      obtain ⟨q3, q4⟩ := (h f (by omega)).1 (by omega)
      exact ⟨q1, q2, q3, q4⟩
  · intro m i s hi h hw
    obtain ⟨q1, q2, q3, q4⟩ := hA i hi
    refine pk_le K i (fun z => absurd z (by omega)) (fun _ => ⟨pk_in i 15 (by omega), ?_⟩)
    rw [nI_clamp (show i < 2 ^ 31 by omega), q2]
    refine ek_if (bf_tb (by omega) (by omega)) (fun t => ⟨pk_in i 15 (by omega), nm_e (nm_r (nI_1 i) (hw _ (fun f hf => ⟨fun hfi => ?_, fun hfi => ?_⟩)))⟩) (fun t => nm_r (nI_1 i) (hw _ (fun f hf => ⟨fun hfi => ?_, fun hfi => ?_⟩)))
    · by_cases e : f = i
      · rw [e, pk_us]
        refine ⟨fun q => ?_, fun _ => rfl⟩
        have := (bf_us1_i (show i ≠ K by omega) q).2
        rw [t] at this
        exact absurd this (by decide)
      · rw [pk_un e]
        exact (h f hf).1 (by omega)
    · rw [pk_un (by omega)]
      exact (h f hf).2 (by omega)
    · by_cases e : f = i
      · rw [e, (h i hi).2 (Nat.le_refl i), bf_us1_n (show i ≠ K by omega), bf_nf t, Bool.not_false, Bool.and_true]
        exact ⟨q3, q4⟩
      · exact (h f hf).1 (by omega)
    · exact (h f hf).2 (by omega)
theorem bf_takeOut {post : St1 → Prop} {g : Nat} (hA : bf_A K sc us a5 a7) (hV : bf_V K sc us F a6) (hK : K ≤ 13) (hv : v < 7) (hg : g ≤ 1) (hJ : ∀ x, bf_J sc us F v K x < 2 ^ 31)
    (H : ∀ a5' a6' a7', bf_A (K + 1) (bf_up sc K (bf_tt sc us v K)) (bf_us1 sc us v K) a5' a7' → bf_V (K + 1) (bf_up sc K (bf_tt sc us v K)) (bf_us1 sc us v K) (bf_F1 g sc us F v K) a6' → post (f1, nI (K + 1), nI g, a1, a2, a3, a4, a5', a6', a7')) :
    wpX_takeOut post (f1, nI K, nI g, a1, a2, a3, a4, a5, a6, a7) (nI v) := by
  unfold wpX_takeOut
  dsimp only
  refine nm_r (bf_one (by omega)) (bf_jointScope hA hv (nm_r (bf_not _ _) ?_))
  have hjs := bf_js_lt (us := us) (v := v) (fun f hf => (hA.2 f hf).1)
  have ht : bf_tt sc us v K < 128 := Nat.lt_of_le_of_lt (bf_dle _ _) hjs
  show ∃ fu20 : Nat, wX_takeOut_20 post (nI v) (nI (2 ^ v)) (nI (bf_tt sc us v K)) f1 (nI K) (nI g) fu20 0 0 a1 a2 a3 a4 a5 a6 a7
  have hp7 := bf_p7 hv
  -- the way out
  have out : ∀ i m (a : Nat → Int64), bf_I K (bf_tt sc us v K) (bf_val g sc us F v K) a6 i m a → m = bf_tt sc us v K → ∃ fu131 : Nat, wX_takeOut_131 post (nI v) (nI (bf_tt sc us v K)) f1 (nI K) (nI g) fu131 0 a1 a2 a3 a4 a5 (vp_updL a (128 * K + i) (lN (bf_val g sc us F v K m))) a7 := by
    intro i m a hI e
    refine bf_131 hA hK hv ht (fun a5' a7' hA' => H a5' _ a7' hA' (fun f hf hu y => ?_))
    by_cases ef : f = K
    · rw [ef, bf_us, bf_F1_K]
      exact bf_I_end ht hI e y
    · rw [bf_un ef, bf_F1_n ef]
      have h7 := bf_pk_7 y (sc f)
      rw [(bf_I_st ht hI).1 _ (by omega)]
      exact hV f (by omega) (bf_us1_i ef hu).1 y
  -- one number's turn
  have turn : ∀ k i m (a : Nat → Int64), bf_I K (bf_tt sc us v K) (bf_val g sc us F v K) a6 i m a →
      (m = bf_tt sc us v K → ∃ fu131 : Nat, wX_takeOut_131 post (nI v) (nI (bf_tt sc us v K)) f1 (nI K) (nI g) fu131 0 a1 a2 a3 a4 a5 (vp_updL a (128 * K + i) (lN (bf_val g sc us F v K m))) a7) →
      (¬ m = bf_tt sc us v K → wX_takeOut_20 post (nI v) (nI (2 ^ v)) (nI (bf_tt sc us v K)) f1 (nI K) (nI g) k (nI (bf_nx m (bf_tt sc us v K))) (nI (i + 1)) a1 a2 a3 a4 a5 (vp_updL a (128 * K + i) (lN (bf_val g sc us F v K m))) a7) →
      wX_takeOut_20 post (nI v) (nI (2 ^ v)) (nI (bf_tt sc us v K)) f1 (nI K) (nI g) (k + 1) (nI m) (nI i) a1 a2 a3 a4 a5 a a7 := by
    intro k i m a hI h1 h2
    have hl := bf_I_lt ht hI
    have hV' : bf_V K sc us F a := bf_V_keep hV hI.2.2.1
    have store : ∀ z : Nat, z = bf_val g sc us F v K m → wX_takeOut_79 post (wX_takeOut_20 post (nI v) (nI (2 ^ v)) (nI (bf_tt sc us v K)) f1 (nI K) (nI g) k) (nI v) (nI (2 ^ v)) (nI (bf_tt sc us v K)) (nI m) (nI i) (lN z) f1 (nI K) (nI g) a1 a2 a3 a4 a5 a a7 := by
      intro z ez
      rw [ez]
      unfold wX_takeOut_79
      refine bf_packed (by omega) (by omega) ?_
      have ei : (128 * nI K) + nI (bf_pk m (bf_tt sc us v K) 7) = nI (128 * K + i) := by
        show (nI 128 * nI K) + nI (bf_pk m (bf_tt sc us v K) 7) = _
        rw [pk_mul, nI_add, hI.2.1]
      rw [ei, nI_clamp (by omega)]
      refine ⟨pk_in (128 * K + i) 1920 (by omega), nm_e ?_⟩
      refine pk_eq m (bf_tt sc us v K) (fun e => h1 e) (fun e => nm_r (bf_next (by omega)) (nm_r (nI_1 i) (h2 e)))
    refine pk_le 128 i (fun z => absurd z (by omega)) (fun _ => ?_)
    refine bf_joined hA hV' hv (by omega) ?_
    rw [bf_or]
    have hor : m ||| 2 ^ v < 128 := bf_or7 hl.1 (by omega)
    refine bf_joined hA hV' hv (by omega) (nm_r (lN_add _ _) ?_)
    have hj0 := hJ m
    have hj1 := hJ (m ||| 2 ^ v)
    refine pk_eq g 0 (fun e => store _ ?_) (fun e => ek_if (lN_le hj0 hj1) (fun q => ?_) (fun q => ?_))
    · unfold bf_val bf_op
      rw [if_pos e]
    · unfold wX_takeOut_77
      refine store _ ?_
      unfold bf_val bf_op
      rw [if_neg e, Nat.max_eq_right q]
    · unfold wX_takeOut_77
      refine store _ ?_
      unfold bf_val bf_op
      rw [if_neg e, Nat.max_eq_left (by omega)]
  refine pk_loop (fun k i (s : Nat × (Nat → Int64)) => wX_takeOut_20 post (nI v) (nI (2 ^ v)) (nI (bf_tt sc us v K)) f1 (nI K) (nI g) k (nI s.1) (nI i) a1 a2 a3 a4 a5 s.2 a7) (fun i s => bf_I K (bf_tt sc us v K) (bf_val g sc us F v K) a6 i s.1 s.2) (bf_pk (bf_tt sc us v K) (bf_tt sc us v K) 7) 0 (0, a6) (by omega) bf_I_0 ?_ ?_
  · rintro k ⟨m, a⟩ hI
    have hI : bf_I K (bf_tt sc us v K) (bf_val g sc us F v K) a6 (bf_pk (bf_tt sc us v K) (bf_tt sc us v K) 7) m a := hI
    exact turn k _ m a hI (out _ m a hI) (fun ne => absurd (bf_I_eq ht hI) ne)
  · rintro k i ⟨m, a⟩ hi hI hw
    have hI : bf_I K (bf_tt sc us v K) (bf_val g sc us F v K) a6 i m a := hI
    have ne := bf_I_ne hI hi
    exact turn k i m a hI (fun e => absurd e ne) (fun _ => hw (bf_nx m (bf_tt sc us v K), _) (bf_I_next ht hI ne))
/-! ===== makeTable ===== -/
theorem bf_makeTable {post : St1 → Prop} {o s : Nat} (hp : ∀ v, pS v < 2 ^ v) (ho : ∀ v, bf_on (pS v) 7 ≤ 3) (he : ∀ k, eN k ≤ 9) (hv : v < 7) (hs : s < 128)
    (hA : bf_A v (bf_sc0 pS o) (fun _ => true) a5 a7) (hV : bf_V v (bf_sc0 pS o) (fun _ => true) (bf_F0 pS eN o s) a6)
    (H : ∀ a5' a6' a7', bf_A (v + 1) (bf_sc0 pS o) (fun _ => true) a5' a7' → bf_V (v + 1) (bf_sc0 pS o) (fun _ => true) (bf_F0 pS eN o s) a6' → post (f1, nI (v + 1), f3, bf_fn pS, bf_fn eN, a3, a4, a5', a6', a7')) :
    wpX_makeTable post (f1, nI v, f3, bf_fn pS, bf_fn eN, a3, a4, a5, a6, a7) (nI v) (nI o) (nI s) := by
  unfold wpX_makeTable
  dsimp only
  have h7 := bf_pS7 hp hv
  have hp7 := bf_p7 hv
  have ht : bf_sc0 pS o v < 128 := Nat.lt_of_le_of_lt Nat.and_le_left (bf_or7 h7 (by omega))
  rw [bf_at (by omega), bf_one (by omega), bf_or, bf_and]
  refine ⟨pk_in v 7 hv, nm_e ⟨pk_in v 15 (by omega), nm_e ⟨pk_in v 15 (by omega), nm_e ?_⟩⟩⟩
  rw [nI_clamp (by omega)]
  show ∃ fu41 : Nat, wX_makeTable_41 post (nI v) (nI s) (nI (bf_sc0 pS o v)) f1 (nI v) f3 fu41 0 0 (bf_fn pS) (bf_fn eN) a3 a4 (upd a5 v (nI (bf_sc0 pS o v))) a6 (upd a7 v 1)
  have hA' : bf_A (v + 1) (bf_sc0 pS o) (fun _ => true) (upd a5 v (nI (bf_sc0 pS o v))) (upd a7 v 1) := by
    refine ⟨by omega, fun f hf => ?_⟩
    by_cases e : f = v
    · rw [e, pk_us, pk_us]
      exact ⟨ht, rfl, fun _ => rfl, fun q => absurd q (by decide : ¬ true = false)⟩
    · rw [pk_un e, pk_un e]
      exact hA.2 f (by omega)
  have turn : ∀ k i m (a : Nat → Int64), bf_I v (bf_sc0 pS o v) (fun m => bf_ent pS eN v (m ||| s)) a6 i m a →
      (¬ m = bf_sc0 pS o v → wX_makeTable_41 post (nI v) (nI s) (nI (bf_sc0 pS o v)) f1 (nI v) f3 k (nI (bf_nx m (bf_sc0 pS o v))) (nI (i + 1)) (bf_fn pS) (bf_fn eN) a3 a4 (upd a5 v (nI (bf_sc0 pS o v))) (vp_updL a (128 * v + i) (lN (bf_ent pS eN v (m ||| s)))) (upd a7 v 1)) →
      wX_makeTable_41 post (nI v) (nI s) (nI (bf_sc0 pS o v)) f1 (nI v) f3 (k + 1) (nI m) (nI i) (bf_fn pS) (bf_fn eN) a3 a4 (upd a5 v (nI (bf_sc0 pS o v))) a (upd a7 v 1) := by
    intro k i m a hI h2
    have hl := bf_I_lt ht hI
    have hor : m ||| s < 128 := bf_or7 hl.1 hs
    refine pk_le 128 i (fun z => absurd z (by omega)) (fun _ => ?_)
    refine bf_packed (by omega) (by omega) ?_
    rw [bf_or]
    refine bf_entryFor hp ho hv (by omega) ?_
    have ei : (128 * nI v) + nI (bf_pk m (bf_sc0 pS o v) 7) = nI (128 * v + i) := by
      show (nI 128 * nI v) + nI (bf_pk m (bf_sc0 pS o v) 7) = _
      rw [pk_mul, nI_add, hI.2.1]
    have hent : bf_ent pS eN v (m ||| s) ≤ 9 := he _
    rw [ei, nI_clamp (by omega), nI_l (by omega)]
    refine ⟨pk_in (128 * v + i) 1920 (by omega), nm_e ?_⟩
    refine pk_eq m (bf_sc0 pS o v) (fun e => nm_r (nI_1 v) (H _ _ _ hA' (fun f hf hu y => ?_))) (fun e => nm_r (bf_next (by omega)) (nm_r (nI_1 i) (h2 e)))
    by_cases ef : f = v
    · rw [ef]
      exact bf_I_end ht hI e y
    · have h7 := bf_pk_7 y (bf_sc0 pS o f)
      have q := (bf_I_st ht hI).1 (128 * f + bf_pk y (bf_sc0 pS o f) 7) (by omega)
      exact q.trans (hV f (by omega) hu y)
  refine pk_loop (fun k i (x : Nat × (Nat → Int64)) => wX_makeTable_41 post (nI v) (nI s) (nI (bf_sc0 pS o v)) f1 (nI v) f3 k (nI x.1) (nI i) (bf_fn pS) (bf_fn eN) a3 a4 (upd a5 v (nI (bf_sc0 pS o v))) x.2 (upd a7 v 1)) (fun i x => bf_I v (bf_sc0 pS o v) (fun m => bf_ent pS eN v (m ||| s)) a6 i x.1 x.2) (bf_pk (bf_sc0 pS o v) (bf_sc0 pS o v) 7) 0 (0, a6) (by omega) bf_I_0 ?_ ?_
  · rintro k ⟨m, a⟩ hI
    have hI : bf_I v (bf_sc0 pS o v) (fun m => bf_ent pS eN v (m ||| s)) a6 (bf_pk (bf_sc0 pS o v) (bf_sc0 pS o v) 7) m a := hI
    exact turn k _ m a hI (fun ne => absurd (bf_I_eq ht hI) ne)
  · rintro k i ⟨m, a⟩ hi hI hw
    have hI : bf_I v (bf_sc0 pS o v) (fun m => bf_ent pS eN v (m ||| s)) a6 i m a := hI
    have ne := bf_I_ne hI hi
    exact turn k i m a hI (fun _ => hw (bf_nx m (bf_sc0 pS o v), _) (bf_I_next ht hI ne))
end
end
section
/-! ===== solve ===== -/
theorem bf_on_z : ∀ o, o < 128 → bf_on o 7 = 0 → o = 0 := by decide +kernel
theorem bf_on_dl : ∀ o, o < 128 → ∀ v, v < 7 → o.testBit v = true → bf_on (bf_dl o (2 ^ v)) 7 + 1 = bf_on o 7 := by decide +kernel
theorem bf_bool {g : Nat} (hg : g ≤ 1) : narrow .boolean (.int (nI g)) = .int (nI g) ∧ fits .boolean (.int (nI g)) = true := by
  have h : g = 0 ∨ g = 1 := by omega
  rcases h with h | h
  · subst h; exact ⟨rfl, rfl⟩
  · subst h; exact ⟨rfl, rfl⟩
section
variable {n : Nat} {pS eN sN fN : Nat → Nat} {f1 f2 f3 : Int32} {a1 a2 a3 a4 a5 a7 : Nat → Int32} {a6 : Nat → Int64} {K v g : Nat} {sc : Nat → Nat} {us : Nat → Bool} {F : Nat → Nat → Nat}
theorem bf_s140 {post : Int64 → St1 → Prop} (hA : bf_A K sc us a5 a7) (hV : bf_V K sc us F a6) (H : post (lN (bf_pr us (fun f => F f 0) K)) (f1, nI K, f3, a1, a2, a3, a4, a5, a6, a7)) :
    ∃ fu, wX_solve_140 post f1 (nI K) f3 a1 a2 a3 a4 a5 a6 a7 fu 1 0 := by
  obtain ⟨h14, hA⟩ := hA
  refine bf_loop (fun m i => wX_solve_140 post f1 (nI K) f3 a1 a2 a3 a4 a5 a6 a7 m (lN (bf_pr us (fun f => F f 0) i)) (nI i)) K (fun m => ?_) (fun m i hi hw => ?_)
  · exact pk_le K K (fun _ => H) (fun z => absurd z (by omega))
  · obtain ⟨q1, q2, q3, q4⟩ := hA i hi
    refine pk_le K i (fun z => absurd z (by omega)) (fun _ => ⟨pk_in i 15 (by omega), ?_⟩)
    rw [nI_clamp (show i < 2 ^ 31 by omega)]
    by_cases hu : us i = true
    · rw [bf_pr_t hu] at hw
      have ei : 128 * nI i = nI (128 * i) := pk_mul 128 i
      have ev := hV i hi hu 0
      rw [bf_pk_0, Nat.add_zero] at ev
      rw [ei, nI_clamp (show 128 * i < 2 ^ 31 by omega), ev]
      exact br_f (by rw [q3 hu]; decide) ⟨pk_in (128 * i) 1920 (by omega), nm_r (lN_mul _ _) (nm_r (nI_1 i) hw)⟩
    · rw [bf_pr_f hu] at hw
      exact br_t (q4 (bf_nf hu)) (nm_r (nI_1 i) hw)
theorem bf_s95 {post : Int64 → St1 → Prop} {o T : Nat} (hn : n ≤ 7) (hg : g ≤ 1) (hA : bf_A n sc us a5 a7) (hV : bf_V n sc us F a6) (hE : bf_E g n o 0 T sc us F) (ho : o < 128) (hon : ∀ j, o.testBit j = true → j < n)
    (H : ∀ x2 x3 a5 a6 a7, post (lN T) (nI n, x2, x3, a1, a2, a3, a4, a5, a6, a7)) :
    ∃ fu, wX_solve_95 post fu (nI o) 0 (nI n) (nI n) (nI g) a1 a2 a3 a4 a5 a6 a7 := by
  have he7 := bf_on_le o 7
  refine pk_loop (fun m i (s : Nat × (Nat → Int32) × (Nat → Int64) × (Nat → Int32)) => wX_solve_95 post m (nI s.1) (nI i) (nI n) (nI (n + i)) (nI g) a1 a2 a3 a4 s.2.1 s.2.2.1 s.2.2.2)
    (fun i s => s.1 < 128 ∧ (∀ j, s.1.testBit j = true → j < n) ∧ bf_on s.1 7 + i = bf_on o 7 ∧ ∃ sc us F, bf_A (n + i) sc us s.2.1 s.2.2.2 ∧ bf_V (n + i) sc us F s.2.2.1 ∧ bf_E g (n + i) s.1 i T sc us F)
    (bf_on o 7) 0 (o, a5, a6, a7) (by omega) ⟨ho, hon, rfl, sc, us, F, hA, hV, hE⟩ ?_ ?_
  · rintro m ⟨o', b5, b6, b7⟩ ⟨h1, h2, h3, sc, us, F, hA, hV, hE⟩
    have h1 : o' < 128 := h1
    have h3 : bf_on o' 7 + bf_on o 7 = bf_on o 7 := h3
    have hz := bf_on_z o' h1 (by omega)
    subst hz
    have fin : ∃ fu, wX_solve_140 post (nI n) (nI (n + bf_on o 7)) (nI g) a1 a2 a3 a4 b5 b6 b7 fu 1 0 := by
      refine bf_s140 hA hV ?_
      have e := hE.2.2.2
      have e2 : bf_ag g 0 (fun z => bf_pr us (fun f => F f z) (n + bf_on o 7)) 7 0 = bf_pr us (fun f => F f 0) (n + bf_on o 7) := bf_ag_0 (fun i _ => by rw [Nat.zero_testBit]; decide) 0
      rw [← e2]
      have e : bf_ag g 0 (fun z => bf_pr us (fun f => F f z) (n + bf_on o 7)) 7 0 = T := e
      rw [e]
      exact H _ _ _ _ _
    exact pk_le 7 (bf_on o 7) (fun _ => fin) (fun _ => br_t rfl fin)
  · rintro m i ⟨o', b5, b6, b7⟩ hi ⟨h1, h2, h3, sc, us, F, hA, hV, hE⟩ hw
    have h1 : o' < 128 := h1
    have h3 : bf_on o' 7 + i = bf_on o 7 := h3
    have h2 : ∀ j, o'.testBit j = true → j < n := h2
    have hA : bf_A (n + i) sc us b5 b7 := hA
    have hV : bf_V (n + i) sc us F b6 := hV
    have hE : bf_E g (n + i) o' i T sc us F := hE
    have o0 : o' ≠ 0 := by
      intro z
      rw [z] at h3
      have : bf_on 0 7 = 0 := by decide
      omega
    refine pk_le 7 i (fun z => absurd z (by omega)) (fun _ => br_f (nI_ne0 (by omega) (by omega)) ?_)
    obtain ⟨w, hw1⟩ := Nat.exists_testBit_of_ne_zero o0
    refine bf_cheapest hn hA h1 ⟨w, h2 w hw1, hw1⟩ (fun v hv tv => ?_)
    have hp7 := bf_p7 (show v < 7 by omega)
    have hJ : ∀ x, bf_J sc us F v (n + i) x < 2 ^ 31 := by
      intro x
      have q := bf_J_le hE v x
      have q2 : 2 ^ i ≤ 2 ^ 7 := Nat.pow_le_pow_right (by decide) (by omega)
      omega
    refine bf_takeOut hA hV (by omega) (by omega) hg hJ (fun a5' a6' a7' hA' hV' => ?_)
    rw [bf_one (by omega), bf_not]
    refine nm_e (nm_r (nI_1 i) ?_)
    have hon := bf_on_dl o' h1 v (by omega) tv
    have hle := bf_dle o' (2 ^ v)
    refine hw (bf_dl o' (2 ^ v), a5', a6', a7') ⟨Nat.lt_of_le_of_lt hle h1, fun j hj => ?_, ?_, _, _, _, hA', hV', bf_E_step hE (fun f hf => (hA.2 f hf).1) h1 (by omega) tv⟩
    · exact h2 j ((bf_dl_i (by omega)).mp hj).1
    · show bf_on (bf_dl o' (2 ^ v)) 7 + (i + 1) = bf_on o 7
      omega
theorem bf_solve {post : Int64 → St1 → Prop} (hn : n ≤ 7) (hp : ∀ v, pS v < 2 ^ v) (ho : ∀ v, bf_on (pS v) 7 ≤ 3) (he : ∀ k, eN k ≤ 9) (hf : ∀ k, fN k ≤ 2) (hg : g ≤ 1)
    (H : ∀ x2 x3 a5 a6 a7, post (lN (bf_S g fN (fun x => bf_wt pS eN x n) n)) (nI n, x2, x3, bf_fn pS, bf_fn eN, a3, bf_fn fN, a5, a6, a7)) :
    wpX_solve post (nI n, f2, f3, bf_fn pS, bf_fn eN, a3, bf_fn fN, a5, a6, a7) (nI g) := by
  unfold wpX_solve
  dsimp only
  refine ⟨(bf_bool hg).1, (bf_bool hg).2, ?_⟩
  have h7 : 2 ^ n ≤ 2 ^ 7 := Nat.pow_le_pow_right (by decide) hn
  have hom : bf_om fN n < 128 := by have := bf_om_lt fN n; omega
  have hsm : bf_sm fN n < 128 := by have := bf_sm_lt hf n; omega
  refine bf_loop (fun m i => wX_solve_12 post (nI n) f2 (nI g) (bf_fn pS) (bf_fn eN) a3 (bf_fn fN) a5 a6 a7 m (nI (bf_om fN i)) (nI (bf_sm fN i)) (nI i)) n (fun m => ?_) (fun m i hi hw => ?_)
  · refine pk_le n n (fun _ => ?_) (fun z => absurd z (by omega))
    refine pk_loop (fun k i (s : (Nat → Int32) × (Nat → Int64) × (Nat → Int32)) => wX_solve_69 post (nI (bf_om fN n)) (nI (bf_sm fN n)) k (nI i) (nI n) (nI i) (nI g) (bf_fn pS) (bf_fn eN) a3 (bf_fn fN) s.1 s.2.1 s.2.2)
      (fun i s => bf_A i (bf_sc0 pS (bf_om fN n)) (fun _ => true) s.1 s.2.2 ∧ bf_V i (bf_sc0 pS (bf_om fN n)) (fun _ => true) (bf_F0 pS eN (bf_om fN n) (bf_sm fN n)) s.2.1)
      n 0 (a5, a6, a7) (by omega) ⟨⟨by omega, fun f hf => absurd hf (by omega)⟩, fun f hf => absurd hf (by omega)⟩ ?_ ?_
    · rintro k ⟨b5, b6, b7⟩ ⟨hA, hV⟩
      refine pk_le n n (fun _ => ?_) (fun z => absurd z (by omega))
      have hE := bf_E_init (pS := pS) (g := g) (o := bf_om fN n) (s := bf_sm fN n) hn he
      rw [bf_S_eq (W := fun x => bf_wt pS eN x n) hf hn] at hE
      exact bf_s95 hn hg hA hV hE hom (fun j hj => ((bf_om_bit j).mp hj).1) H
    · rintro k i ⟨b5, b6, b7⟩ hi ⟨hA, hV⟩ hw
      refine pk_le n i (fun z => absurd z (by omega)) (fun _ => ?_)
      exact bf_makeTable hp ho he (by omega) hsm hA hV (fun a5' a6' a7' hA' hV' => nm_r (nI_1 i) (hw (a5', a6', a7') ⟨hA', hV'⟩))
  · refine pk_le n i (fun z => absurd z (by omega)) (fun _ => ⟨pk_in i 7 (by omega), ?_⟩)
    have hf2 := hf i
    have hp7 := bf_p7 (show i < 7 by omega)
    rw [bf_at (by omega)]
    refine pk_eq (fN i) 2 (fun e => ?_) (fun e => ⟨pk_in i 7 (by omega), ?_⟩)
    · have e1 : bf_om fN (i + 1) = bf_om fN i ||| 2 ^ i := if_pos e
      have e2 : bf_sm fN (i + 1) = bf_sm fN i := if_pos e
      rw [e1, e2] at hw
      rw [bf_one (by omega), bf_or]
      exact nm_e (nm_r (nI_1 i) hw)
    · have e1 : bf_om fN (i + 1) = bf_om fN i := if_neg e
      have e2 : bf_sm fN (i + 1) = bf_sm fN i ||| (fN i * 2 ^ i) := if_neg e
      rw [e1, e2] at hw
      have hm : fN i * 2 ^ i ≤ 2 * 64 := Nat.mul_le_mul hf2 hp7
      rw [bf_shl (by omega) (by omega), bf_or]
      exact nm_e (nm_r (nI_1 i) hw)
end
end
section
/-! ===== what the answers are, in the order of the numbers ===== -/
theorem bf_co_c {c c' : Nat → Nat} {x n : Nat} (h : ∀ k, k < n → c k = c' k) : bf_co c x n = bf_co c' x n := by
  induction n with
  | zero => rfl
  | succ n ih =>
    show (bf_co c x n && (decide (c n = 2) || decide (c n = x / 2 ^ n % 2))) = (bf_co c' x n && (decide (c' n = 2) || decide (c' n = x / 2 ^ n % 2)))
    rw [ih (fun k hk => h k (by omega)), h n (by omega)]
theorem bf_S_c {g n : Nat} {c c' W : Nat → Nat} (h : ∀ k, k < n → c k = c' k) : bf_S g c W n = bf_S g c' W n := by
  refine bf_rf_congr (fun x _ => ?_)
  rw [bf_co_c h]
theorem bf_ts_lt {sN fN : Nat → Nat} {n : Nat} : ∀ k, k < n → bf_ts sN fN n k = sN k := fun k hk => if_pos hk
theorem bf_ts_le {sN fN : Nat → Nat} {n : Nat} (h : ∀ k, sN k ≤ 2) (h2 : ∀ k, fN k ≤ 2) : ∀ k, bf_ts sN fN n k ≤ 2 := by
  intro k
  unfold bf_ts
  split
  · exact h k
  · exact h2 k
theorem bf_co_up {c : Nat → Nat} {v b x n : Nat} (hv : v < n) (hb : b ≤ 1) (hc : c v ≤ 2) (h : c v ≠ 1 - b) : bf_co (bf_up c v b) x n = true ↔ bf_co c x n = true ∧ x / 2 ^ v % 2 = b := by
  rw [bf_co_iff, bf_co_iff]
  constructor
  · intro H
    have hv2 := H v hv
    rw [bf_us] at hv2
    refine ⟨fun k hk => ?_, by omega⟩
    by_cases e : k = v
    · rw [e]
      omega
    · have := H k hk
      rw [bf_un e] at this
      exact this
  · rintro ⟨H, hx⟩ k hk
    by_cases e : k = v
    · rw [e, bf_us]
      exact Or.inr hx.symm
    · rw [bf_un e]
      exact H k hk
theorem bf_co_no {c : Nat → Nat} {v b x n : Nat} (hv : v < n) (hb : b ≤ 1) (h : c v = 1 - b) (H : bf_co c x n = true) : ¬ x / 2 ^ v % 2 = b := by
  have := bf_co_iff.mp H v hv
  omega
/-- the sums that the law makes -/
def bf_G2 (c W : Nat → Nat) (n v x : Nat) : Nat := if bf_co c x n = true ∧ x / 2 ^ v % 2 = 1 then W x else 0
def bf_G3 (c W : Nat → Nat) (n u v x : Nat) : Nat := if (bf_co c x n = true ∧ x / 2 ^ u % 2 = 0) ∧ x / 2 ^ v % 2 = 1 then W x else 0
theorem bf_S2 {g n v : Nat} {c W : Nat → Nat} (hv : v < n) (hc : c v ≤ 2) (h : c v ≠ 0) : bf_S g (bf_up c v 1) W n = bf_rf g (bf_G2 c W n v) (2 ^ n) := by
  refine bf_rf_congr (fun x _ => ?_)
  show (if bf_co (bf_up c v 1) x n = true then W x else 0) = if bf_co c x n = true ∧ x / 2 ^ v % 2 = 1 then W x else 0
  have e := bf_co_up (x := x) hv (show 1 ≤ 1 by omega) hc (by omega)
  by_cases q : bf_co (bf_up c v 1) x n = true
  · rw [if_pos q, if_pos (e.mp q)]
  · rw [if_neg q, if_neg (fun z => q (e.mpr z))]
theorem bf_S2z {g n v : Nat} {c W : Nat → Nat} (hv : v < n) (h : c v = 0) : bf_rf g (bf_G2 c W n v) (2 ^ n) = 0 := by
  refine bf_rf_0 (fun x _ => if_neg ?_)
  rintro ⟨h1, h2⟩
  exact bf_co_no (b := 1) hv (by omega) (by omega) h1 h2
theorem bf_S3 {g n u v : Nat} {c W : Nat → Nat} (hu : u < n) (hv : v < n) (hc : ∀ k, c k ≤ 2) (h : c u ≠ 1) (h2 : bf_up c u 0 v ≠ 0) : bf_S g (bf_up (bf_up c u 0) v 1) W n = bf_rf g (bf_G3 c W n u v) (2 ^ n) := by
  refine bf_rf_congr (fun x _ => ?_)
  show (if bf_co (bf_up (bf_up c u 0) v 1) x n = true then W x else 0) = if (bf_co c x n = true ∧ x / 2 ^ u % 2 = 0) ∧ x / 2 ^ v % 2 = 1 then W x else 0
  have e := bf_co_up (x := x) (c := bf_up c u 0) hv (show 1 ≤ 1 by omega) (bf_upd_le hc (by omega) v) (by omega)
  rw [bf_co_up (x := x) hu (show 0 ≤ 1 by omega) (hc u) (by omega)] at e
  by_cases q : bf_co (bf_up (bf_up c u 0) v 1) x n = true
  · rw [if_pos q, if_pos (e.mp q)]
  · rw [if_neg q, if_neg (fun z => q (e.mpr z))]
theorem bf_S3z {g n u v : Nat} {c W : Nat → Nat} (hu : u < n) (h : c u = 1) : bf_rf g (bf_G3 c W n u v) (2 ^ n) = 0 := by
  refine bf_rf_0 (fun x _ => if_neg ?_)
  rintro ⟨⟨h1, h2⟩, _⟩
  exact bf_co_no (b := 0) hu (by omega) (by omega) h1 h2
theorem bf_S3y {g n u v : Nat} {c W : Nat → Nat} (hu : u < n) (hv : v < n) (hc : ∀ k, c k ≤ 2) (h : c u ≠ 1) (h2 : bf_up c u 0 v = 0) : bf_rf g (bf_G3 c W n u v) (2 ^ n) = 0 := by
  refine bf_rf_0 (fun x _ => if_neg ?_)
  rintro ⟨h1, h3⟩
  have h4 := (bf_co_up (x := x) hu (by omega) (hc u) (show c u ≠ 1 - 0 by omega)).mpr h1
  exact bf_co_no (b := 1) hv (by omega) (by omega) h4 h3
/-! ===== the greatest ===== -/
theorem bf_rf1_ge {G : Nat → Nat} {k x : Nat} (hx : x < k) : G x ≤ bf_rf 1 G k := by
  induction k with
  | zero => exact absurd hx (by omega)
  | succ k ih =>
    show G x ≤ max (bf_rf 1 G k) (G k)
    by_cases e : x = k
    · rw [e]; omega
    · have := ih (by omega)
      omega
theorem bf_rf1_le {G : Nat → Nat} {k M : Nat} (h : ∀ x, x < k → G x ≤ M) : bf_rf 1 G k ≤ M := by
  induction k with
  | zero => exact Nat.zero_le _
  | succ k ih =>
    show max (bf_rf 1 G k) (G k) ≤ M
    have h1 := ih (fun x hx => h x (by omega))
    have h2 := h k (by omega)
    omega
theorem bf_rf1_ex {G : Nat → Nat} {k : Nat} (h : 0 < bf_rf 1 G k) : ∃ x, x < k ∧ G x = bf_rf 1 G k := by
  induction k with
  | zero => exact absurd h (by decide : ¬ 0 < 0)
  | succ k ih =>
    have h : 0 < max (bf_rf 1 G k) (G k) := h
    show ∃ x, x < k + 1 ∧ G x = max (bf_rf 1 G k) (G k)
    by_cases e : bf_rf 1 G k ≤ G k
    · exact ⟨k, by omega, by omega⟩
    · obtain ⟨x, h1, h2⟩ := ih (by omega)
      exact ⟨x, by omega, by omega⟩
/-- b is the smallest of the numbers of the greatest weight -/
def bf_B (c W : Nat → Nat) (n b : Nat) : Prop :=
  b < 2 ^ n ∧ bf_co c b n = true ∧ (∀ x, x < 2 ^ n → bf_co c x n = true → W x ≤ W b) ∧ (∀ x, x < b → bf_co c x n = true → W x < W b)
theorem bf_S_max {c W : Nat → Nat} {n b : Nat} (h1 : b < 2 ^ n) (h2 : bf_co c b n = true) (h3 : ∀ x, x < 2 ^ n → bf_co c x n = true → W x ≤ W b) : bf_S 1 c W n = W b := by
  apply Nat.le_antisymm
  · refine bf_rf1_le (fun x hx => ?_)
    split
    · exact h3 x hx (by assumption)
    · exact Nat.zero_le _
  · have h := bf_rf1_ge (G := fun x => if bf_co c x n = true then W x else 0) h1
    have e : (if bf_co c b n = true then W b else 0) = W b := if_pos h2
    have h : (if bf_co c b n = true then W b else 0) ≤ bf_S 1 c W n := h
    omega
theorem bf_bn {c sN W : Nat → Nat} {n b j : Nat} (hB : bf_B sN W n b) (hj : j < n) (hc1 : ∀ k, j < k → k < n → c k = b / 2 ^ k % 2) (hc2 : ∀ k, k < j → c k = sN k) (hs : sN j = 2) : bf_S 1 (bf_up c j 0) W n = W b ↔ b / 2 ^ j % 2 = 0 := by
  obtain ⟨b1, b2, b3, b4⟩ := hB
  have b2' := bf_co_iff.mp b2
  have imp : ∀ x, bf_co (bf_up c j 0) x n = true → bf_co sN x n = true := by
    intro x hx
    have hx := bf_co_iff.mp hx
    refine bf_co_iff.mpr (fun k hk => ?_)
    by_cases e : k = j
    · rw [e]; exact Or.inl hs
    · have q := hx k hk
      rw [bf_un e] at q
      by_cases l : k < j
      · rw [hc2 k l] at q; exact q
      · rw [hc1 k (by omega) hk] at q
        have := bf_b2 b k
        have := b2' k hk
        omega
  constructor
  · intro H
    have hb := bf_b2 b j
    rcases Nat.lt_or_ge (b / 2 ^ j % 2) 1 with z | z
    · omega
    · exfalso
      have hx : ∃ x, x < 2 ^ n ∧ bf_co (bf_up c j 0) x n = true ∧ W x = W b := by
        by_cases w : 0 < W b
        · obtain ⟨x, x1, x2⟩ := bf_rf1_ex (G := fun x => if bf_co (bf_up c j 0) x n = true then W x else 0) (k := 2 ^ n) (by
            have H : bf_rf 1 (fun x => if bf_co (bf_up c j 0) x n = true then W x else 0) (2 ^ n) = W b := H
            omega)
          have H : bf_rf 1 (fun x => if bf_co (bf_up c j 0) x n = true then W x else 0) (2 ^ n) = W b := H
          rw [H] at x2
          have x2 : (if bf_co (bf_up c j 0) x n = true then W x else 0) = W b := x2
          by_cases q : bf_co (bf_up c j 0) x n = true
          · rw [if_pos q] at x2
            exact ⟨x, x1, q, x2⟩
          · rw [if_neg q] at x2
            omega
        · have hco : bf_co (bf_up c j 0) (b / 2 ^ (j + 1) * 2 ^ (j + 1) + b % 2 ^ j) n = true := by
            refine bf_co_iff.mpr (fun k hk => ?_)
            have et : (b / 2 ^ (j + 1) * 2 ^ (j + 1) + b % 2 ^ j).testBit k = if k = j then false else b.testBit k := by
              have hm : b % 2 ^ j < 2 ^ (j + 1) := Nat.lt_of_lt_of_le (Nat.mod_lt _ (Nat.two_pow_pos j)) (Nat.pow_le_pow_right (by decide) (by omega))
              rw [Nat.mul_comm, Nat.testBit_two_pow_mul_add _ hm]
              by_cases l : k < j + 1
              · rw [if_pos l, Nat.testBit_mod_two_pow]
                by_cases e : k = j
                · rw [if_pos e, e, decide_eq_false (by omega)]; rfl
                · rw [if_neg e, decide_eq_true (by omega)]; rfl
              · rw [if_neg l, Nat.testBit_div_two_pow, if_neg (by omega), show k - (j + 1) + (j + 1) = k by omega]
            by_cases e : k = j
            · rw [if_pos e] at et
              rw [e, bf_us]
              rw [e] at et
              exact Or.inr ((bf_tbz _ _).mp et).symm
            · rw [if_neg e] at et
              rw [bf_un e, bf_tn et]
              by_cases l : k < j
              · rw [hc2 k l]; exact b2' k hk
              · rw [hc1 k (by omega) hk]; exact Or.inr rfl
          have hle : b / 2 ^ (j + 1) * 2 ^ (j + 1) + b % 2 ^ j ≤ b := by
            have h1 := bf_hi b j
            have h2 := Nat.div_add_mod b (2 ^ j)
            rw [Nat.mul_comm] at h2
            omega
          have hlt := Nat.lt_of_le_of_lt hle b1
          have := b3 _ hlt (imp _ hco)
          exact ⟨_, hlt, hco, by omega⟩
      obtain ⟨x, x1, x2, x3⟩ := hx
      have hxx := bf_co_iff.mp x2
      have xj : x / 2 ^ j % 2 = 0 := by
        have q := hxx j hj
        rw [bf_us] at q
        omega
      have top : x / 2 ^ (j + 1) = b / 2 ^ (j + 1) := by
        apply Nat.eq_of_testBit_eq
        intro i
        rw [Nat.testBit_div_two_pow, Nat.testBit_div_two_pow]
        by_cases l : i + (j + 1) < n
        · have q := hxx _ l
          rw [bf_un (by omega), hc1 _ (by omega) l] at q
          have := bf_b2 b (i + (j + 1))
          exact bf_bt (by omega)
        · rw [bf_tlt n x1 (by omega), bf_tlt n b1 (by omega)]
      have hb1 : b / 2 ^ j % 2 = 1 := by omega
      have g1 := bf_hi x j
      have g2 := bf_hi b j
      rw [xj, Nat.zero_mul, Nat.add_zero, top] at g1
      rw [hb1, Nat.one_mul] at g2
      have g3 := Nat.div_add_mod x (2 ^ j)
      have g4 := Nat.div_add_mod b (2 ^ j)
      have g5 := Nat.mod_lt x (Nat.two_pow_pos j)
      rw [Nat.mul_comm] at g3 g4
      have lt : x < b := by omega
      have := b4 x lt (imp x x2)
      omega
  · intro hb
    refine bf_S_max b1 ?_ (fun x hx hco => b3 x hx (imp x hco))
    refine bf_co_iff.mpr (fun k hk => ?_)
    by_cases e : k = j
    · rw [e, bf_us]
      exact Or.inr hb.symm
    · rw [bf_un e]
      by_cases l : k < j
      · rw [hc2 k l]; exact b2' k hk
      · rw [hc1 k (by omega) hk]; exact Or.inr rfl
theorem bf_wt_le {pS eN : Nat → Nat} (he : ∀ k, eN k ≤ 9) (x n : Nat) : bf_wt pS eN x n ≤ 9 ^ n := by
  induction n with
  | zero => exact Nat.le_refl _
  | succ n ih =>
    show bf_wt pS eN x n * bf_ent pS eN n x ≤ 9 ^ (n + 1)
    rw [Nat.pow_succ]
    exact Nat.mul_le_mul ih (he _)
theorem bf_wt_7 {pS eN : Nat → Nat} (he : ∀ k, eN k ≤ 9) (x : Nat) {n : Nat} (hn : n ≤ 7) : bf_wt pS eN x n ≤ 4782969 :=
  Nat.le_trans (bf_wt_le he x n) (Nat.pow_le_pow_right (n := 9) (by decide) hn)
theorem bf_S_le {c W : Nat → Nat} {n M : Nat} (h : ∀ x, W x ≤ M) : bf_S 1 c W n ≤ M := by
  refine bf_rf1_le (fun x _ => ?_)
  split
  · exact h x
  · exact Nat.zero_le _
end
section
/-! ===== the six answers, walked ===== -/
theorem bf_up_c {c c' : Nat → Nat} {n v b : Nat} (h : ∀ k, k < n → c k = c' k) : ∀ k, k < n → bf_up c v b k = bf_up c' v b k := by
  intro k hk
  unfold bf_up
  split
  · rfl
  · exact h k hk
section
variable {n : Nat} {pS eN sN fN : Nat → Nat} {f1 f2 f3 : Int32} {a1 a2 a3 a4 a5 a7 : Nat → Int32} {a6 : Nat → Int64} {u v : Nat}
theorem bf_total {post : Int64 → St1 → Prop} (hk : bf_ok n pS eN sN) (hf : ∀ k, fN k ≤ 2)
    (H : ∀ x2 x3 fN' a5 a6 a7, (∀ k, fN' k ≤ 2) → post (lN (bf_S 0 sN (fun x => bf_wt pS eN x n) n)) (nI n, x2, x3, bf_fn pS, bf_fn eN, bf_fn sN, bf_fn fN', a5, a6, a7)) :
    wpX_total post (nI n, f2, f3, bf_fn pS, bf_fn eN, bf_fn sN, bf_fn fN, a5, a6, a7) := by
  obtain ⟨k1, k2, k3, k4, k5, k6⟩ := hk
  have ht := bf_ts_le (n := n) k6 hf
  unfold wpX_total
  dsimp only
  refine bf_takeSeen k2 ?_
  refine bf_solve (g := 0) k2 k3 k4 k5 ht (by omega) (fun x2 x3 a5 a6 a7 => ?_)
  have h := H x2 x3 _ a5 a6 a7 ht
  rw [← bf_S_c (c := bf_ts sN fN n) bf_ts_lt] at h
  exact h
theorem bf_best {post : Int32 → St1 → Prop} (hk : bf_ok n pS eN sN) (hf : ∀ k, fN k ≤ 2)
    (H : ∀ x2 x3 fN' a5 a6 a7, (∀ k, fN' k ≤ 2) → post (nI (bf_S 1 sN (fun x => bf_wt pS eN x n) n)) (nI n, x2, x3, bf_fn pS, bf_fn eN, bf_fn sN, bf_fn fN', a5, a6, a7)) :
    wpX_best post (nI n, f2, f3, bf_fn pS, bf_fn eN, bf_fn sN, bf_fn fN, a5, a6, a7) := by
  obtain ⟨k1, k2, k3, k4, k5, k6⟩ := hk
  have ht := bf_ts_le (n := n) k6 hf
  unfold wpX_best
  dsimp only
  refine bf_takeSeen k2 ?_
  refine bf_solve (g := 1) k2 k3 k4 k5 ht (by omega) (fun x2 x3 a5 a6 a7 => ?_)
  have h := H x2 x3 _ a5 a6 a7 ht
  rw [← bf_S_c (c := bf_ts sN fN n) bf_ts_lt, ← lN_i] at h
  exact h
theorem bf_totalWith {post : Int64 → St1 → Prop} (hk : bf_ok n pS eN sN) (hf : ∀ k, fN k ≤ 2) (hv : v < n)
    (H : ∀ x2 x3 fN' a5 a6 a7, (∀ k, fN' k ≤ 2) → post (lN (bf_rf 0 (bf_G2 sN (fun x => bf_wt pS eN x n) n v) (2 ^ n))) (nI n, x2, x3, bf_fn pS, bf_fn eN, bf_fn sN, bf_fn fN', a5, a6, a7)) :
    wpX_totalWith post (nI n, f2, f3, bf_fn pS, bf_fn eN, bf_fn sN, bf_fn fN, a5, a6, a7) (nI v) 1 := by
  obtain ⟨k1, k2, k3, k4, k5, k6⟩ := hk
  have ht := bf_ts_le (n := n) k6 hf
  unfold wpX_totalWith
  dsimp only
  refine bf_goodY k2 hv (br_f (by decide) (br_f (by decide) (br_t rfl ?_)))
  unfold wX_totalWith_25
  refine bf_takeSeen k2 ?_
  have ev : bf_ts sN fN n v = sN v := bf_ts_lt v hv
  refine bf_fixv (b := 1) (by omega) (by omega) (ht v) (fun e => ?_) (fun e => ?_)
  · have h := H f2 f3 _ a5 a6 a7 ht
    rw [bf_S2z hv (by omega)] at h
    exact br_t rfl h
  · refine br_f (by decide) ?_
    refine bf_solve (g := 0) k2 k3 k4 k5 (bf_upd_le ht (by omega)) (by omega) (fun x2 x3 a5 a6 a7 => ?_)
    have h := H x2 x3 _ a5 a6 a7 (bf_upd_le (k := v) (x := 1) ht (by omega))
    rw [← bf_S2 hv (k6 v) (by omega), ← bf_S_c (c := bf_up (bf_ts sN fN n) v 1) (bf_up_c bf_ts_lt)] at h
    exact h
theorem bf_bestWith {post : Int32 → St1 → Prop} (hk : bf_ok n pS eN sN) (hf : ∀ k, fN k ≤ 2) (hv : v < n)
    (H0 : sN v = 0 → ∀ x2 x3 fN' a5 a6 a7, (∀ k, fN' k ≤ 2) → post (-3) (nI n, x2, x3, bf_fn pS, bf_fn eN, bf_fn sN, bf_fn fN', a5, a6, a7))
    (H : sN v ≠ 0 → ∀ x2 x3 fN' a5 a6 a7, (∀ k, fN' k ≤ 2) → post (nI (bf_rf 1 (bf_G2 sN (fun x => bf_wt pS eN x n) n v) (2 ^ n))) (nI n, x2, x3, bf_fn pS, bf_fn eN, bf_fn sN, bf_fn fN', a5, a6, a7)) :
    wpX_bestWith post (nI n, f2, f3, bf_fn pS, bf_fn eN, bf_fn sN, bf_fn fN, a5, a6, a7) (nI v) 1 := by
  obtain ⟨k1, k2, k3, k4, k5, k6⟩ := hk
  have ht := bf_ts_le (n := n) k6 hf
  unfold wpX_bestWith
  dsimp only
  refine bf_goodY k2 hv (br_f (by decide) (br_f (by decide) (br_t rfl ?_)))
  unfold wX_bestWith_22
  refine bf_takeSeen k2 ?_
  have ev : bf_ts sN fN n v = sN v := bf_ts_lt v hv
  refine bf_fixv (b := 1) (by omega) (by omega) (ht v) (fun e => ?_) (fun e => ?_)
  · exact br_t rfl (H0 (by omega) f2 f3 _ a5 a6 a7 ht)
  · refine br_f (by decide) ?_
    refine bf_solve (g := 1) k2 k3 k4 k5 (bf_upd_le ht (by omega)) (by omega) (fun x2 x3 a5 a6 a7 => ?_)
    have h := H (by omega) x2 x3 _ a5 a6 a7 (bf_upd_le (k := v) (x := 1) ht (by omega))
    rw [← bf_S2 hv (k6 v) (by omega), ← bf_S_c (c := bf_up (bf_ts sN fN n) v 1) (bf_up_c bf_ts_lt), ← lN_i] at h
    exact h
theorem bf_totalPair {post : Int64 → St1 → Prop} (hk : bf_ok n pS eN sN) (hf : ∀ k, fN k ≤ 2) (hu : u < n) (hv : v < n)
    (H : ∀ x2 x3 fN' a5 a6 a7, (∀ k, fN' k ≤ 2) → post (lN (bf_rf 0 (bf_G3 sN (fun x => bf_wt pS eN x n) n u v) (2 ^ n))) (nI n, x2, x3, bf_fn pS, bf_fn eN, bf_fn sN, bf_fn fN', a5, a6, a7)) :
    wpX_totalPair post (nI n, f2, f3, bf_fn pS, bf_fn eN, bf_fn sN, bf_fn fN, a5, a6, a7) (nI u) 0 (nI v) 1 := by
  obtain ⟨k1, k2, k3, k4, k5, k6⟩ := hk
  have ht := bf_ts_le (n := n) k6 hf
  unfold wpX_totalPair
  dsimp only
  refine bf_goodY k2 hu (br_f (by decide) (bf_goodY k2 hv (br_f (by decide) (br_f (by decide) (br_f (by decide) (br_f (by decide) (br_t (by decide) ?_)))))))
  unfold wpX_pairSum
  dsimp only
  refine bf_takeSeen k2 ?_
  have eu : bf_ts sN fN n u = sN u := bf_ts_lt u hu
  refine bf_fixv (b := 0) (by omega) (by omega) (ht u) (fun e => ?_) (fun e => ?_)
  · have h := H f2 f3 _ a5 a6 a7 ht
    rw [bf_S3z hu (by omega)] at h
    exact br_t rfl (br_t rfl h)
  · refine br_f (by decide) ?_
    have ht2 := bf_upd_le (k := u) (x := 0) ht (by omega)
    have ev : bf_up (bf_ts sN fN n) u 0 v = bf_up sN u 0 v := bf_up_c bf_ts_lt v hv
    refine bf_fixv (b := 1) (by omega) (by omega) (ht2 v) (fun e2 => ?_) (fun e2 => ?_)
    · have h := H f2 f3 _ a5 a6 a7 ht2
      rw [bf_S3y hu hv k6 (by omega) (by omega)] at h
      exact br_t rfl (br_t rfl h)
    · refine br_f (by decide) (br_f (by decide) ?_)
      refine bf_solve (g := 0) k2 k3 k4 k5 (bf_upd_le ht2 (by omega)) (by omega) (fun x2 x3 a5 a6 a7 => ?_)
      have h := H x2 x3 _ a5 a6 a7 (bf_upd_le (k := v) (x := 1) ht2 (by omega))
      rw [← bf_S3 hu hv k6 (by omega) (by omega), ← bf_S_c (c := bf_up (bf_up (bf_ts sN fN n) u 0) v 1) (bf_up_c (bf_up_c bf_ts_lt))] at h
      exact h
theorem bf_bestNumber {post : Int32 → St1 → Prop} {b : Nat} (hk : bf_ok n pS eN sN) (hf : ∀ k, fN k ≤ 2) (hB : bf_B sN (fun x => bf_wt pS eN x n) n b)
    (H : ∀ x2 x3 fN' a5 a6 a7, (∀ k, fN' k ≤ 2) → post (nI b) (nI n, x2, x3, bf_fn pS, bf_fn eN, bf_fn sN, bf_fn fN', a5, a6, a7)) :
    wpX_bestNumber post (nI n, f2, f3, bf_fn pS, bf_fn eN, bf_fn sN, bf_fn fN, a5, a6, a7) := by
  obtain ⟨k1, k2, k3, k4, k5, k6⟩ := hk
  have ht := bf_ts_le (n := n) k6 hf
  have b2' := bf_co_iff.mp hB.2.1
  unfold wpX_bestNumber
  dsimp only
  refine bf_takeSeen k2 ?_
  refine bf_solve (g := 1) k2 k3 k4 k5 ht (by omega) (fun x2 x3 a5 a6 a7 => ?_)
  have eg : bf_S 1 (bf_ts sN fN n) (fun x => bf_wt pS eN x n) n = bf_wt pS eN b n := by
    rw [bf_S_c (c := bf_ts sN fN n) bf_ts_lt]
    exact bf_S_max hB.1 hB.2.1 hB.2.2.1
  rw [eg]
  have hwb := bf_wt_7 (pS := pS) k5 b k2
  have e1 : nI n - 1 = nI n + (-1) := by
    rw [show n = n - 1 + 1 by omega, nI_pred, pk_m1]
  refine nm_r e1 ?_
  have e0 : b / 2 ^ n * 2 ^ n = 0 := by rw [Nat.div_eq_of_lt hB.1, Nat.zero_mul]
  have L := pk_loopD (fun m j (s : Nat × (Nat → Nat) × Int32 × Int32 × (Nat → Int32) × (Nat → Int64) × (Nat → Int32)) => wX_bestNumber_20 post (lN (bf_wt pS eN b n)) m (nI s.1) (nI j + (-1)) (nI n) s.2.2.1 s.2.2.2.1 (bf_fn pS) (bf_fn eN) (bf_fn sN) (bf_fn s.2.1) s.2.2.2.2.1 s.2.2.2.2.2.1 s.2.2.2.2.2.2)
    (fun j s => s.1 = b / 2 ^ j * 2 ^ j ∧ (∀ k, s.2.1 k ≤ 2) ∧ (∀ k, j ≤ k → k < n → s.2.1 k = b / 2 ^ k % 2) ∧ (∀ k, k < j → s.2.1 k = sN k) ∧ j ≤ n) ?_ ?_ n (b / 2 ^ n * 2 ^ n, bf_ts sN fN n, x2, x3, a5, a6, a7) ⟨rfl, ht, fun k hk1 hk2 => absurd hk1 (by omega), fun k hk => bf_ts_lt k hk, Nat.le_refl n⟩
  · dsimp only at L
    rw [e0] at L
    exact ⟨n + 1, L⟩
  · rintro m ⟨q, c, y2, y3, b5, b6, b7⟩ ⟨i1, i2, i3, i4, i5⟩
    have i1 : q = b / 2 ^ 0 * 2 ^ 0 := i1
    rw [Nat.pow_zero, Nat.div_one, Nat.mul_one] at i1
    subst i1
    exact br_t (by decide : nI 0 + (-1) < 0) (H _ _ _ _ _ _ i2)
  · rintro m j ⟨q, c, y2, y3, b5, b6, b7⟩ ⟨i1, i2, i3, i4, i5⟩ hw
    have i1 : q = b / 2 ^ (j + 1) * 2 ^ (j + 1) := i1
    have i2 : ∀ k, c k ≤ 2 := i2
    have i3 : ∀ k, j + 1 ≤ k → k < n → c k = b / 2 ^ k % 2 := i3
    have i4 : ∀ k, k < j + 1 → c k = sN k := i4
    have hj7 := bf_p7 (show j < 7 by omega)
    have hbb := bf_b2 b j
    have fin : ∀ (d : Nat → Nat) z2 z3 d5 d6 d7, (∀ k, d k ≤ 2) → d j = b / 2 ^ j % 2 → (∀ k, k ≠ j → d k = c k) →
        wX_bestNumber_70 post (wX_bestNumber_20 post (lN (bf_wt pS eN b n)) m) (lN (bf_wt pS eN b n)) (nI q) (nI j) (nI n) z2 z3 (bf_fn pS) (bf_fn eN) (bf_fn sN) (bf_fn d) d5 d6 d7 := by
      intro d z2 z3 d5 d6 d7 d1 d2 d3
      unfold wX_bestNumber_70
      have hm := bf_bmul b j (2 ^ j)
      rw [bf_at (by omega), d2, bf_shl (by omega) (by omega), nI_add, i1, bf_hi]
      refine ⟨pk_in j 7 (by omega), nm_e (nm_e (hw (b / 2 ^ j * 2 ^ j, d, z2, z3, d5, d6, d7) ⟨rfl, d1, fun k hk1 hk2 => ?_, fun k hk => ?_, by omega⟩))⟩
      · show d k = b / 2 ^ k % 2
        by_cases e : k = j
        · rw [e]; exact d2
        · rw [d3 k e]; exact i3 k (by omega) hk2
      · show d k = sN k
        rw [d3 k (by omega)]
        exact i4 k (by omega)
    show wX_bestNumber_20 post (lN (bf_wt pS eN b n)) (m + 1) (nI q) (nI (j + 1) + (-1)) (nI n) y2 y3 (bf_fn pS) (bf_fn eN) (bf_fn sN) (bf_fn c) b5 b6 b7
    rw [pk_m1]
    refine br_f (nI_pos (by omega)) ⟨pk_in j 7 (by omega), ?_⟩
    rw [bf_at (by omega)]
    have hcj := i2 j
    refine pk_eq (c j) 2 (fun e => ⟨pk_in j 7 (by omega), nm_r (bf_st (x := 0) (by omega)) ?_⟩) (fun e => ?_)
    · refine bf_solve (g := 1) k2 k3 k4 k5 (bf_upd_le i2 (by omega)) (by omega) (fun z2 z3 d5 d6 d7 => ?_)
      have hS := bf_bn (c := c) hB (show j < n by omega) (fun k h1 h2 => i3 k (by omega) h2) (fun k h1 => i4 k (by omega)) (by rw [← i4 j (by omega)]; exact e)
      have hle := bf_S_le (c := bf_up c j 0) (W := fun x => bf_wt pS eN x n) (n := n) (fun x => bf_wt_7 (pS := pS) k5 x k2)
      have hiff : lN (bf_S 1 (bf_up c j 0) (fun x => bf_wt pS eN x n) n) = lN (bf_wt pS eN b n) ↔ b / 2 ^ j % 2 = 0 := (lN_eq (by omega) (by omega)).trans hS
      have put : ∀ x, x = b / 2 ^ j % 2 → wX_bestNumber_69 post (wX_bestNumber_20 post (lN (bf_wt pS eN b n)) m) (lN (bf_wt pS eN b n)) (nI q) (nI j) (nI x) (nI j) (nI n) z2 z3 (bf_fn pS) (bf_fn eN) (bf_fn sN) (bf_fn (bf_up c j 0)) d5 d6 d7 := by
        intro x ex
        unfold wX_bestNumber_69
        refine ⟨pk_in j 7 (by omega), nm_r (bf_st (by omega)) (fin _ _ _ _ _ _ (bf_upd_le (bf_upd_le i2 (by omega)) (by omega)) (bf_us.trans ex) (fun k hk => ?_))⟩
        rw [bf_un hk, bf_un hk]
      exact ek_if hiff (fun h => put 0 h.symm) (fun h => put 1 (by omega))
    · refine fin c _ _ _ _ _ i2 ?_ (fun k _ => rfl)
      have h1 := b2' j (by omega)
      have h2 := i4 j (by omega)
      omega
end
end
section
/-! ===== the law's own copy of what was seen: two bits a variable ===== -/
def bf_sn (sm : Nat) (sN : Nat → Nat) : Prop := sm < 2 ^ 14 ∧ ∀ i, i < 14 → sm.testBit i = (sN (i / 2)).testBit (i % 2)
theorem bf_sn_nat {sm : Nat} {sN : Nat → Nat} {k : Nat} (h : bf_sn sm sN) (hk : k < 7) (hs : sN k ≤ 2) : sm / 2 ^ (2 * k) &&& 3 = sN k := by
  apply Nat.eq_of_testBit_eq
  intro j
  rw [Nat.testBit_and, Nat.testBit_div_two_pow]
  by_cases l : j < 2
  · have e3 : (3 : Nat).testBit j = true := (by decide : ∀ j, j < 2 → (3 : Nat).testBit j = true) j l
    rw [e3, Bool.and_true, h.2 _ (by omega), show (j + 2 * k) / 2 = k by omega, show (j + 2 * k) % 2 = j by omega]
  · rw [bf_tlt 2 (by decide : 3 < 2 ^ 2) (by omega), Bool.and_false, bf_tlt 2 (show sN k < 2 ^ 2 by omega) (by omega)]
theorem bf_sn_rd {sm : Nat} {sN : Nat → Nat} {k : Nat} (h : bf_sn sm sN) (hk : k < 7) (hs : sN k ≤ 2) : (nI sm >>> ((2 * nI k) &&& 31)) &&& 3 = nI (sN k) := by
  have hlt := h.1
  have e : (2 : Int32) * nI k = nI (2 * k) := pk_mul 2 k
  rw [e, bf_shr (by omega) (by omega)]
  show nI (sm / 2 ^ (2 * k)) &&& nI 3 = _
  rw [bf_and, bf_sn_nat h hk hs]
theorem bf_sn_0 {sN : Nat → Nat} (h : ∀ k, k < 7 → sN k = 2) : bf_sn 10922 sN := by
  refine ⟨by decide, fun i hi => ?_⟩
  rw [h (i / 2) (by omega)]
  exact (by decide : ∀ i, i < 14 → (10922 : Nat).testBit i = (2 : Nat).testBit (i % 2)) i hi
theorem bf_sn_up {sm : Nat} {sN : Nat → Nat} {j b : Nat} (h : bf_sn sm sN) (hj : j < 7) (hb : b ≤ 2) : bf_sn (bf_dl sm (3 * 2 ^ (2 * j)) ||| (b * 2 ^ (2 * j))) (bf_up sN j b) := by
  have hlt := h.1
  have hp : 2 ^ (2 * j) ≤ 2 ^ 12 := Nat.pow_le_pow_right (by decide) (by omega)
  refine ⟨Nat.or_lt_two_pow (Nat.lt_of_le_of_lt (bf_dle _ _) hlt) ?_, fun i hi => ?_⟩
  · have : b * 2 ^ (2 * j) ≤ 2 * 2 ^ 12 := Nat.mul_le_mul hb hp
    omega
  · rw [Nat.testBit_or, bf_dlt (by omega), Nat.testBit_mul_two_pow, Nat.testBit_mul_two_pow, h.2 i hi]
    by_cases e : i / 2 = j
    · rw [e, bf_us, decide_eq_true (show 2 * j ≤ i by omega), show i - 2 * j = i % 2 by omega]
      have e3 : (3 : Nat).testBit (i % 2) = true := (by decide : ∀ j, j < 2 → (3 : Nat).testBit j = true) _ (by omega)
      rw [e3]
      simp
    · rw [bf_un e]
      by_cases l : 2 * j ≤ i
      · rw [bf_tlt 2 (by decide : 3 < 2 ^ 2) (show 2 ≤ i - 2 * j by omega), bf_tlt 2 (show b < 2 ^ 2 by omega) (show 2 ≤ i - 2 * j by omega)]
        simp
      · rw [decide_eq_false l]
        simp
theorem bf_sn_put {sm j b : Nat} (hj : j < 7) (hb : b ≤ 2) : (nI sm &&& (((3 : Int32) <<< ((2 * nI j) &&& 31)) ^^^ (-1))) ||| (nI b <<< ((2 * nI j) &&& 31)) = nI (bf_dl sm (3 * 2 ^ (2 * j)) ||| (b * 2 ^ (2 * j))) := by
  have hp : 2 ^ (2 * j) ≤ 2 ^ 12 := Nat.pow_le_pow_right (by decide) (by omega)
  have e : (2 : Int32) * nI j = nI (2 * j) := pk_mul 2 j
  have hm : b * 2 ^ (2 * j) ≤ 2 * 2 ^ 12 := Nat.mul_le_mul hb hp
  have e3 : (3 : Int32) <<< (nI (2 * j) &&& 31) = nI (3 * 2 ^ (2 * j)) := bf_shl (b := 3) (by omega) (by omega)
  rw [e, e3, bf_shl (by omega) (by omega), bf_not, bf_or]
/-! ===== the observed ===== -/
def bf_sh (sN : Nat → Nat) : Nat → Nat
  | 0 => 0
  | k + 1 => if sN k = 2 then bf_sh sN k else bf_sh sN k ||| 2 ^ k
theorem bf_sh_i {sN : Nat → Nat} {n : Nat} (i : Nat) : (bf_sh sN n).testBit i = true ↔ i < n ∧ ¬ sN i = 2 := by
  induction n with
  | zero =>
    rw [show bf_sh sN 0 = 0 from rfl, Nat.zero_testBit]
    exact ⟨fun h => absurd h (by decide), fun h => absurd h.1 (by omega)⟩
  | succ n ih =>
    show (if sN n = 2 then bf_sh sN n else bf_sh sN n ||| 2 ^ n).testBit i = true ↔ _
    by_cases e : sN n = 2
    · rw [if_pos e, ih]
      constructor
      · exact fun a => ⟨by omega, a.2⟩
      · rintro ⟨a, b⟩
        refine ⟨?_, b⟩
        by_cases q : i = n
        · rw [q] at b; exact absurd e b
        · omega
    · rw [if_neg e, bf_or_i, ih, bf_2_i]
      constructor
      · rintro (a | a)
        · exact ⟨by omega, a.2⟩
        · exact ⟨by omega, a ▸ e⟩
      · rintro ⟨a, b⟩
        by_cases q : n = i
        · exact Or.inr q
        · exact Or.inl ⟨by omega, b⟩
theorem bf_sh_lt (sN : Nat → Nat) (n : Nat) : bf_sh sN n < 2 ^ n :=
  Nat.lt_pow_two_of_testBit _ (fun i hi => bf_nf (fun h => absurd ((bf_sh_i i).mp h).1 (by omega)))
theorem bf_mi_lt {pS : Nat → Nat} {mem sh u : Nat} (hp : ∀ v, pS v < 2 ^ v) (hu : u < 7) (i : Nat) : bf_it (bf_ms pS mem sh) 7 (2 ^ u) i < 128 := by
  refine bf_it_inv (Inv := fun s : Nat => s < 128) (by decide) ?_ ?_ i
  · have := bf_p7 hu
    show 2 ^ u < 128
    omega
  · intro w r hw hr
    have h1 := bf_f128 (pS := pS) (fun w _ => hp w) hw
    have h2 := bf_dle (pS w ||| 2 ^ w) sh
    show (if _ then r ||| bf_dl (pS w ||| 2 ^ w) sh else r) < 128
    split
    · exact bf_or7 hr (by omega)
    · exact hr
section
variable {n : Nat} {pS eN sN fN : Nat → Nat} {f1 f2 f3 : Int32} {a1 a2 a3 a4 a5 a7 : Nat → Int32} {a6 : Nat → Int64} {u v sm : Nat}
/-- the moral graph, walked -/
theorem bf_468 {post : Int32 → St1 → Prop} {b mem sh : Nat} (hn : n ≤ 7) (hp : ∀ v, pS v < 2 ^ v) (hu : u < n) (hv : v < n) (hb : b ≤ 1) (hmn : ∀ i, mem.testBit i = true → i < n)
    (hR : (bf_it (bf_ms pS mem sh) 7 (2 ^ u) 49).testBit v = true ↔ b = 0) (H : post 1 (nI n, f2, f3, bf_fn pS, a2, a3, a4, a5, a6, a7)) :
    ∃ fu, wL_holds_468 post (nI v) (nI sh) (nI b) (nI mem) (nI n) f2 f3 (bf_fn pS) a2 a3 a4 a5 a6 a7 fu (nI (2 ^ u)) 0 := by
  have hml : mem < 2 ^ 7 := Nat.lt_pow_two_of_testBit _ (fun i hi => bf_nf (fun h => absurd (hmn i h) (by omega)))
  refine bf_loop (fun m i => wL_holds_468 post (nI v) (nI sh) (nI b) (nI mem) (nI n) f2 f3 (bf_fn pS) a2 a3 a4 a5 a6 a7 m (nI (bf_it (bf_ms pS mem sh) 7 (2 ^ u) i)) (nI i)) 49 (fun m => ?_) (fun m i hi hw => ?_)
  · refine pk_le 49 49 (fun _ => ?_) (fun z => absurd z (by omega))
    have hl := bf_mi_lt (mem := mem) (sh := sh) hp (show u < 7 by omega) 49
    refine br_t ?_ H
    rw [bf_bit (by omega) (by omega)]
    have hb2 := bf_b2 (bf_it (bf_ms pS mem sh) 7 (2 ^ u) 49) v
    rw [bf_tbi] at hR
    show nI b = nI 1 - nI _
    rw [pk_sub (by omega)]
    exact congrArg nI (by omega)
  · refine pk_le 49 i (fun z => absurd z (by omega)) (fun _ => ⟨by decide, ?_⟩)
    have er : nI i - nI i / 7 * 7 = nI (i % 7) := pk_rem (d := 7) (by omega) (by decide) (by decide)
    rw [er]
    have hw : wL_holds_468 post (nI v) (nI sh) (nI b) (nI mem) (nI n) f2 f3 (bf_fn pS) a2 a3 a4 a5 a6 a7 m (nI (bf_ms pS mem sh (i % 7) (bf_it (bf_ms pS mem sh) 7 (2 ^ u) i))) (nI (i + 1)) := hw
    have h7 : i % 7 < 7 := Nat.mod_lt _ (by decide)
    have hl := bf_mi_lt (mem := mem) (sh := sh) hp (show u < 7 by omega) i
    generalize bf_it (bf_ms pS mem sh) 7 (2 ^ u) i = R at hw hl
    generalize i % 7 = w at hw h7
    have keep : ¬ (mem.testBit w = true ∧ ¬ R &&& (pS w ||| 2 ^ w) = 0) → bf_ms pS mem sh w R = R := fun h => if_neg h
    by_cases wn : w < n
    · refine bf_parentsOf hn wn ⟨by decide, ?_⟩
      rw [bf_one (by omega), bf_or]
      refine nm_e ⟨by decide, ek_if (bf_tb (by omega) (by omega)) (fun t => ?_) (fun t => ?_)⟩
      · have hand : R &&& (pS w ||| 2 ^ w) < 2 ^ 7 := Nat.lt_of_le_of_lt Nat.and_le_left hl
        rw [bf_and]
        refine pk_eq (R &&& (pS w ||| 2 ^ w)) 0 (fun e => ?_) (fun e => ?_)
        · rw [keep (fun z => z.2 e)] at hw
          exact nm_r (nI_1 i) hw
        · rw [show bf_ms pS mem sh w R = R ||| bf_dl (pS w ||| 2 ^ w) sh from if_pos ⟨t, e⟩] at hw
          rw [bf_not, bf_or]
          exact nm_e (nm_r (nI_1 i) hw)
      · rw [keep (fun z => t z.1)] at hw
        exact nm_r (nI_1 i) hw
    · have t : ¬ mem.testBit w = true := fun z => wn (hmn w z)
      rw [keep (fun z => t z.1)] at hw
      refine bf_parentsOfN hn (by omega) h7 ⟨by decide, nm_e ⟨by decide, ?_⟩⟩
      exact br_f (fun z => t ((bf_tb (by omega) (by omega)).mp z)) (nm_r (nI_1 i) hw)
/-- from the blanket on -/
theorem bf_299 {post : Int32 → St1 → Prop} (hk : bf_ok n pS eN sN) (hm : bf_sn sm sN) (hu : u < n) (hv : v < n)
    (H : post 1 (nI n, f2, f3, bf_fn pS, a2, bf_fn sN, a4, a5, a6, a7)) :
    ∃ fu, wL_holds_299 post (nI n) (nI sm) (nI u) (nI v) (nI n) f2 f3 (bf_fn pS) a2 (bf_fn sN) a4 a5 a6 a7 fu 0 (nI (pS v)) 0 := by
  obtain ⟨k1, k2, k3, k4, k5, k6⟩ := hk
  have e434 : ∀ z, wL_holds_434 post z z (nI n) f2 f3 (bf_fn pS) a2 (bf_fn sN) a4 a5 a6 a7 := by
    intro z
    unfold wL_holds_434
    exact br_t rfl H
  refine bf_loop (fun m i => wL_holds_299 post (nI n) (nI sm) (nI u) (nI v) (nI n) f2 f3 (bf_fn pS) a2 (bf_fn sN) a4 a5 a6 a7 m (nI (bf_sh sN i)) (nI (bf_bl pS v i)) (nI i)) n (fun m => ?_) (fun m i hi hw => ?_)
  · refine pk_le n n (fun _ => ?_) (fun z => absurd z (by omega))
    rw [bf_one (show v < 31 by omega), bf_one (show u < 31 by omega), bf_not, bf_or, bf_or]
    refine bf_blanket k2 k3 hv (br_t rfl ?_)
    have hp2 : 2 ^ n ≤ 2 ^ 7 := Nat.pow_le_pow_right (by decide) k2
    have hsl := bf_sh_lt sN n
    have hut := bf_tb (s := bf_sh sN n) (v := u) (by omega) (by omega)
    have hvt := bf_tb (s := bf_sh sN n) (v := v) (by omega) (by omega)
    refine bf_separated k2 k3 k6 hu hv (fun e => ?_) (fun e h => ?_) (fun e su sv b hb hball => ?_)
    · refine br_t (by rw [e]) ?_
      unfold wL_holds_419
      exact br_t (by rw [e]) (e434 _)
    · have ne : ¬ nI u = nI v := fun z => e ((nI_eq (by omega) (by omega)).mp z)
      have e419 : wL_holds_419 post (nI u) (nI v) (-3) (nI n) f2 f3 (bf_fn pS) a2 (bf_fn sN) a4 a5 a6 a7 := by
        unfold wL_holds_419
        exact br_f ne (e434 _)
      refine br_f ne (ek_if hut (fun _ => e419) (fun t => ek_if hvt (fun _ => e419) (fun t2 => ?_)))
      rcases h with h | h
      · exact absurd ((bf_sh_i u).mpr ⟨hu, h⟩) t
      · exact absurd ((bf_sh_i v).mpr ⟨hv, h⟩) t2
    · have ne : ¬ nI u = nI v := fun z => e ((nI_eq (by omega) (by omega)).mp z)
      refine br_f ne (ek_if hut (fun t => absurd su ((bf_sh_i u).mp t).2) (fun _ => ek_if hvt (fun t => absurd sv ((bf_sh_i v).mp t).2) (fun _ => ?_)))
      have hst : ∀ i, (bf_sh sN n ||| 2 ^ u ||| 2 ^ v).testBit i = true → i < n := by
        intro i hi
        rcases bf_or_i.mp hi with hi | hi
        · rcases bf_or_i.mp hi with hi | hi
          · exact ((bf_sh_i i).mp hi).1
          · have := bf_2_i.mp hi
            omega
        · have := bf_2_i.mp hi
          omega
      refine bf_closed k2 k3 hst (nm_e ?_)
      refine bf_468 k2 k3 hu hv hb (fun i hi => bf_cl_lt k2 k3 hst 7 i hi) ?_ H
      rw [← hball]
      exact (bf_dsep k2 (fun w _ => k3 w) hu hv su sv (fun i => bf_sh_i i)).symm
  · refine pk_le n i (fun z => absurd z (by omega)) (fun _ => ?_)
    rw [bf_sn_rd hm (by omega) (k6 i)]
    have h7 := bf_pS7 k3 (show i < 7 by omega)
    have s2 := k6 i
    have e326 : ∀ y : Nat, y = bf_sh sN (i + 1) → wL_holds_326 post (wL_holds_299 post (nI n) (nI sm) (nI u) (nI v) (nI n) f2 f3 (bf_fn pS) a2 (bf_fn sN) a4 a5 a6 a7 m) (nI n) (nI sm) (nI u) (nI v) (nI y) (nI (bf_bl pS v i)) (nI i) (nI n) f2 f3 (bf_fn pS) a2 (bf_fn sN) a4 a5 a6 a7 := by
      intro y ey
      rw [ey]
      unfold wL_holds_326
      refine bf_parentsOf k2 hi (ek_if (bf_tb (by omega) (by omega)) (fun t => bf_parentsOf k2 hi ?_) (fun t => ?_))
      · rw [bf_bl_t t, Nat.or_assoc] at hw
        rw [bf_one (by omega), bf_or, bf_or]
        exact nm_e (nm_r (nI_1 i) hw)
      · rw [bf_bl_f t] at hw
        exact nm_r (nI_1 i) hw
    refine pk_le 2 (sN i) (fun h => e326 _ ?_) (fun h => ?_)
    · exact (if_pos (show sN i = 2 by omega)).symm
    · rw [bf_one (by omega), bf_or]
      exact nm_e (e326 _ (if_neg (show ¬ sN i = 2 by omega)).symm)
end
end
section
/-! ===== holds ===== -/
theorem bf_co_ex {c : Nat → Nat} (hc : ∀ k, c k ≤ 2) (n : Nat) : ∃ x, x < 2 ^ n ∧ bf_co c x n = true := by
  refine ⟨bf_sm c n, bf_sm_lt hc n, bf_co_iff.mpr (fun k hk => ?_)⟩
  have h := hc k
  by_cases e : c k = 1
  · rw [e, (bf_tbi _ _).mp ((bf_sm_bit hc k).mpr ⟨hk, e⟩)]
    exact Or.inr rfl
  · rw [(bf_tbz _ _).mp (bf_nf (fun z => e ((bf_sm_bit hc k).mp z).2))]
    omega
theorem bf_neg1 {a : Nat} (h : a < 2 ^ 31) : ¬ nI a ≤ -1 := by
  intro z
  have q := Int32.le_iff_toInt_le.mp z
  rw [nI_toInt h, show (-1 : Int32).toInt = -1 from by decide] at q
  omega
/-- the best so far: its weight and its number -/
def bf_best0 (c W : Nat → Nat) (n i : Nat) (s : Int32 × Int32) : Prop :=
  (s = (-1, -1) ∧ ∀ x, x < i → ¬ bf_co c x n = true) ∨
  ∃ b, b < i ∧ bf_co c b n = true ∧ s = (nI (W b), nI b) ∧ (∀ x, x < i → bf_co c x n = true → W x ≤ W b) ∧ (∀ x, x < b → bf_co c x n = true → W x < W b)
theorem bf_best_no {c W : Nat → Nat} {n i : Nat} {s : Int32 × Int32} (h : bf_best0 c W n i s) (hi : ¬ bf_co c i n = true) : bf_best0 c W n (i + 1) s := by
  rcases h with ⟨h1, h2⟩ | ⟨b, h1, h2, h3, h4, h5⟩
  · refine Or.inl ⟨h1, fun x hx => ?_⟩
    by_cases e : x = i
    · rw [e]; exact hi
    · exact h2 x (by omega)
  · refine Or.inr ⟨b, by omega, h2, h3, fun x hx hc => ?_, h5⟩
    by_cases e : x = i
    · rw [e] at hc; exact absurd hc hi
    · exact h4 x (by omega) hc
theorem bf_best_le {c W : Nat → Nat} {n i : Nat} {s : Int32 × Int32} (hW : ∀ x, W x < 2 ^ 31) (h : bf_best0 c W n i s) (hl : nI (W i) ≤ s.1) : bf_best0 c W n (i + 1) s := by
  rcases h with ⟨h1, h2⟩ | ⟨b, h1, h2, h3, h4, h5⟩
  · rw [h1] at hl
    exact absurd hl (bf_neg1 (hW i))
  · refine Or.inr ⟨b, by omega, h2, h3, fun x hx hc => ?_, h5⟩
    by_cases e : x = i
    · rw [h3] at hl
      rw [e]
      exact (nI_leI (hW i) (hW b)).mp hl
    · exact h4 x (by omega) hc
theorem bf_best_gt {c W : Nat → Nat} {n i : Nat} {s : Int32 × Int32} (hW : ∀ x, W x < 2 ^ 31) (h : bf_best0 c W n i s) (hi : bf_co c i n = true) (hl : ¬ nI (W i) ≤ s.1) : bf_best0 c W n (i + 1) (nI (W i), nI i) := by
  rcases h with ⟨h1, h2⟩ | ⟨b, h1, h2, h3, h4, h5⟩
  · refine Or.inr ⟨i, by omega, hi, rfl, fun x hx hc => ?_, fun x hx hc => absurd hc (h2 x hx)⟩
    by_cases e : x = i
    · rw [e]; exact Nat.le_refl _
    · exact absurd hc (h2 x (by omega))
  · rw [h3] at hl
    have lt : W b < W i := by
      rcases Nat.lt_or_ge (W b) (W i) with z | z
      · exact z
      · exact absurd ((nI_leI (hW i) (hW b)).mpr z) hl
    refine Or.inr ⟨i, by omega, hi, rfl, fun x hx hc => ?_, fun x hx hc => ?_⟩
    · by_cases e : x = i
      · rw [e]; exact Nat.le_refl _
      · have := h4 x (by omega) hc
        omega
    · have := h4 x hx hc
      omega
theorem bf_rf0_s (G : Nat → Nat) (i : Nat) : bf_rf 0 G (i + 1) = bf_rf 0 G i + G i := rfl
theorem bf_rf1_s (G : Nat → Nat) (i : Nat) : bf_rf 1 G (i + 1) = max (bf_rf 1 G i) (G i) := rfl
section
variable {n : Nat} {pS eN sN fN : Nat → Nat} {f1 f2 f3 : Int32} {a1 a2 a3 a4 a5 a7 : Nat → Int32} {a6 : Nat → Int64} {u v sm : Nat}
/-- one number's turn, once it is in -/
theorem bf_in {post : Int32 → St1 → Prop} {J21 : Int64 → Int64 → Int64 → Int32 → Int32 → Int32 → Int32 → Prop} {c W : Nat → Nat} {i : Nat} {s : Int32 × Int32} {x1 x2 : Int32} (hu : u < 7) (hv : v < 7) (hi : i < 2 ^ 30) (hW : ∀ x, W x ≤ 4782969)
    (hb : bf_best0 c W n i s) (hc : bf_co c i n = true)
    (hJ : ∀ s', bf_best0 c W n (i + 1) s' → J21 (lN (bf_rf 0 (fun x => if bf_co c x n = true then W x else 0) (i + 1))) (lN (bf_rf 0 (bf_G2 c W n v) (i + 1))) (lN (bf_rf 0 (bf_G3 c W n u v) (i + 1))) s'.1 s'.2 (nI (bf_rf 1 (bf_G2 c W n v) (i + 1))) (nI (i + 1))) :
    (∀ x5 : Int64, x5 = lN (bf_rf 0 (fun x => if bf_co c x n = true then W x else 0) i) + (nI (W i)).toInt64 → ((((nI i >>> (nI v &&& 31)) &&& 1) = 1 → (∀ x7 : Int64, x7 = lN (bf_rf 0 (bf_G2 c W n v) i) + (nI (W i)).toInt64 → (wL_holds_119 post J21 x1 x2 (nI u) (nI v) x5 x7 (lN (bf_rf 0 (bf_G3 c W n u v) i)) s.1 s.2 (nI (bf_rf 1 (bf_G2 c W n v) i)) (nI i) (nI (W i)) f1 f2 f3 a1 a2 a3 a4 a5 a6 a7))) ∧ (¬ ((nI i >>> (nI v &&& 31)) &&& 1) = 1 → (wL_holds_119 post J21 x1 x2 (nI u) (nI v) x5 (lN (bf_rf 0 (bf_G2 c W n v) i)) (lN (bf_rf 0 (bf_G3 c W n u v) i)) s.1 s.2 (nI (bf_rf 1 (bf_G2 c W n v) i)) (nI i) (nI (W i)) f1 f2 f3 a1 a2 a3 a4 a5 a6 a7)))) := by
  have hW2 : ∀ x, W x < 2 ^ 31 := fun x => by have := hW x; omega
  have hm : bf_rf 1 (bf_G2 c W n v) i ≤ 4782969 := bf_rf1_le (fun x _ => by
    unfold bf_G2
    split
    · exact hW x
    · exact Nat.zero_le _)
  have eG1 : bf_rf 0 (fun x => if bf_co c x n = true then W x else 0) (i + 1) = bf_rf 0 (fun x => if bf_co c x n = true then W x else 0) i + W i := by
    rw [bf_rf0_s, if_pos hc]
  rw [eG1] at hJ
  have hvt := bf_tb (s := i) (v := v) (by omega) (by omega)
  have hut := bf_tb0 (s := i) (v := u) (by omega) (by omega)
  -- 169
  have k169 : ∀ X5 X7 X9 X11 X12, (J21 X5 X7 X9 X11 X12 (nI (bf_rf 1 (bf_G2 c W n v) (i + 1))) (nI (i + 1))) → wL_holds_169 post J21 x1 x2 (nI u) (nI v) X5 X7 X9 X11 X12 (nI (bf_rf 1 (bf_G2 c W n v) i)) (nI i) (nI (W i)) f1 f2 f3 a1 a2 a3 a4 a5 a6 a7 := by
    intro X5 X7 X9 X11 X12 h
    rw [bf_rf1_s] at h
    unfold wL_holds_169
    have hWi := hW2 i
    refine ek_if hvt (fun t => pk_le (W i) (bf_rf 1 (bf_G2 c W n v) i) (fun q => nm_r (nI_1 i) ?_) (fun q => nm_r (nI_1 i) ?_)) (fun t => nm_r (nI_1 i) ?_)
    · rw [show bf_G2 c W n v i = W i from if_pos ⟨hc, (bf_tbi _ _).mp t⟩, Nat.max_eq_left q] at h
      exact h
    · rw [show bf_G2 c W n v i = W i from if_pos ⟨hc, (bf_tbi _ _).mp t⟩, Nat.max_eq_right (by omega)] at h
      exact h
    · rw [show bf_G2 c W n v i = 0 from if_neg (fun z => t ((bf_tbi _ _).mpr z.2)), Nat.max_eq_left (Nat.zero_le _)] at h
      exact h
  -- 147
  have k147 : ∀ X5 X7 X9, (∀ s', bf_best0 c W n (i + 1) s' → J21 X5 X7 X9 s'.1 s'.2 (nI (bf_rf 1 (bf_G2 c W n v) (i + 1))) (nI (i + 1))) → wL_holds_147 post J21 x1 x2 (nI u) (nI v) X5 X7 X9 s.1 s.2 (nI (bf_rf 1 (bf_G2 c W n v) i)) (nI i) (nI (W i)) f1 f2 f3 a1 a2 a3 a4 a5 a6 a7 := by
    intro X5 X7 X9 h
    unfold wL_holds_147
    refine br_c (fun q => ?_) (fun q => ?_)
    · unfold wL_holds_158
      exact br_t q (k169 _ _ _ _ _ (h s (bf_best_le hW2 hb q)))
    · unfold wL_holds_158
      exact br_f q (k169 _ _ _ _ _ (h _ (bf_best_gt hW2 hb hc q)))
  -- 119
  have k119 : ∀ X7 : Nat, X7 = bf_rf 0 (bf_G2 c W n v) (i + 1) → wL_holds_119 post J21 x1 x2 (nI u) (nI v) (lN (bf_rf 0 (fun x => if bf_co c x n = true then W x else 0) i + W i)) (lN X7) (lN (bf_rf 0 (bf_G3 c W n u v) i)) s.1 s.2 (nI (bf_rf 1 (bf_G2 c W n v) i)) (nI i) (nI (W i)) f1 f2 f3 a1 a2 a3 a4 a5 a6 a7 := by
    intro X7 e7
    rw [← e7] at hJ
    unfold wL_holds_119
    refine ek_if hvt (fun t => ek_if hut (fun t2 => ?_) (fun t2 => ?_)) (fun t => ?_)
    · rw [nI_l (hW2 i), lN_add]
      rw [bf_rf0_s (bf_G3 c W n u v), show bf_G3 c W n u v i = W i from if_pos ⟨⟨hc, (bf_tbz _ _).mp t2⟩, (bf_tbi _ _).mp t⟩] at hJ
      exact nm_e (k147 _ _ _ hJ)
    · rw [bf_rf0_s (bf_G3 c W n u v), show bf_G3 c W n u v i = 0 from if_neg (fun z => t2 ((bf_tbz _ _).mpr z.1.2)), Nat.add_zero] at hJ
      exact k147 _ _ _ hJ
    · rw [bf_rf0_s (bf_G3 c W n u v), show bf_G3 c W n u v i = 0 from if_neg (fun z => t ((bf_tbi _ _).mpr z.2)), Nat.add_zero] at hJ
      exact k147 _ _ _ hJ
  rw [nI_l (hW2 i), lN_add, lN_add]
  refine nm_e (ek_if hvt (fun t => nm_e (k119 _ ?_)) (fun t => k119 _ ?_))
  · rw [bf_rf0_s, show bf_G2 c W n v i = W i from if_pos ⟨hc, (bf_tbi _ _).mp t⟩]
  · rw [bf_rf0_s, show bf_G2 c W n v i = 0 from if_neg (fun z => t ((bf_tbi _ _).mpr z.2)), Nat.add_zero]
theorem bf_holds {post : Int32 → St1 → Prop} (hk : bf_ok n pS eN sN) (hf : ∀ k, fN k ≤ 2) (hm : bf_sn sm sN) (hu : u < n) (hv : v < n)
    (H : ∀ x2 x3 fN' a5 a6 a7, (∀ k, fN' k ≤ 2) → post 1 (nI n, x2, x3, bf_fn pS, bf_fn eN, bf_fn sN, bf_fn fN', a5, a6, a7)) :
    wpL_holds post (nI n, f2, f3, bf_fn pS, bf_fn eN, bf_fn sN, bf_fn fN, a5, a6, a7) (nI n) (nI sm) (nI u) (nI v) := by
  have hk0 := hk
  obtain ⟨k1, k2, k3, k4, k5, k6⟩ := hk
  have h7 : 2 ^ n ≤ 2 ^ 7 := Nat.pow_le_pow_right (by decide) k2
  have hW : ∀ x, bf_wt pS eN x n ≤ 4782969 := fun x => bf_wt_7 k5 x k2
  unfold wpL_holds
  dsimp only
  generalize hWd : (fun x => bf_wt pS eN x n) = W
  have hWx : ∀ x, W x = bf_wt pS eN x n := fun x => by rw [← hWd]
  have hW : ∀ x, W x ≤ 4782969 := fun x => by rw [hWx]; exact hW x
  refine pk_loop (fun m i (s : Int32 × Int32) => wL_holds_21 post (nI n) (nI sm) (nI u) (nI v) (nI n) f2 f3 (bf_fn pS) (bf_fn eN) (bf_fn sN) (bf_fn fN) a5 a6 a7 m (lN (bf_rf 0 (fun x => if bf_co sN x n = true then W x else 0) i)) (lN (bf_rf 0 (bf_G2 sN W n v) i)) (lN (bf_rf 0 (bf_G3 sN W n u v) i)) s.1 s.2 (nI (bf_rf 1 (bf_G2 sN W n v) i)) (nI i))
    (fun i s => bf_best0 sN W n i s) (2 ^ n) 0 (-1, -1) (Nat.zero_le _) (Or.inl ⟨rfl, fun x hx => absurd hx (by omega)⟩) ?_ ?_
  · intro m s hs
    have hB : ∃ b, bf_B sN W n b ∧ s = (nI (W b), nI b) := by
      rcases hs with ⟨_, h2⟩ | ⟨b, h1, h2, h3, h4, h5⟩
      · obtain ⟨x, x1, x2⟩ := bf_co_ex k6 n
        exact absurd x2 (h2 x x1)
      · exact ⟨b, ⟨h1, h2, h4, h5⟩, h3⟩
    obtain ⟨b, hB, es⟩ := hB
    subst es
    have eS : bf_S 1 sN W n = W b := bf_S_max hB.1 hB.2.1 hB.2.2.1
    subst hWd
    refine pk_le (2 ^ n) (2 ^ n) (fun _ => ?_) (fun z => absurd z (by omega)) (bf_one (by omega))
    refine bf_total hk0 hf (fun x2 x3 fN a5 a6 a7 hf => br_t rfl ?_)
    refine bf_totalWith hk0 hf hv (fun x2 x3 fN a5 a6 a7 hf => br_t rfl ?_)
    refine bf_totalPair hk0 hf hu hv (fun x2 x3 fN a5 a6 a7 hf => br_t rfl ?_)
    refine bf_best hk0 hf (fun x2 x3 fN a5 a6 a7 hf => br_t (by rw [eS]) ?_)
    refine bf_bestNumber hk0 hf hB (fun x2 x3 fN a5 a6 a7 hf => br_t rfl ?_)
    have s2 := k6 v
    have e280 : ∀ z x2 x3 (fN : Nat → Nat) a5 a6 a7, (∀ k, fN k ≤ 2) → wL_holds_280 post (nI n) (nI sm) (nI u) (nI v) z z (nI n) x2 x3 (bf_fn pS) (bf_fn eN) (bf_fn sN) (bf_fn fN) a5 a6 a7 := by
      intro z x2 x3 fN a5 a6 a7 hf
      unfold wL_holds_280
      exact br_t rfl (bf_parentsOf k2 hv (bf_299 hk0 hm hu hv (H x2 x3 fN a5 a6 a7 hf)))
    have erd := bf_sn_rd hm (show v < 7 by omega) s2
    refine bf_bestWith hk0 hf hv (fun e x2 x3 fN a5 a6 a7 hf => ?_) (fun e x2 x3 fN a5 a6 a7 hf => ?_)
    · refine br_t (by rw [erd, e]; rfl) (e280 _ _ _ _ _ _ _ hf)
    · refine br_f (by rw [erd]; exact nI_ne0 (by omega) (by omega)) (e280 _ _ _ _ _ _ _ hf)
  · intro m i s hi hs hw
    refine pk_le (2 ^ n) i (fun z => absurd z (by omega)) (fun _ => ?_) (bf_one (by omega))
    refine bf_weight k2 k3 k4 hi ?_
    rw [← hWx]
    have hWi := hW i
    refine br_f (nI_pos (by omega)) ?_
    refine bf_loop (fun k j => wL_holds_52 post (wL_holds_21 post (nI n) (nI sm) (nI u) (nI v) (nI n) f2 f3 (bf_fn pS) (bf_fn eN) (bf_fn sN) (bf_fn fN) a5 a6 a7 m) (nI n) (nI sm) (nI u) (nI v) (lN (bf_rf 0 (fun x => if bf_co sN x n = true then W x else 0) i)) (lN (bf_rf 0 (bf_G2 sN W n v) i)) (lN (bf_rf 0 (bf_G3 sN W n u v) i)) s.1 s.2 (nI (bf_rf 1 (bf_G2 sN W n v) i)) (nI i) (nI (W i)) (nI n) f2 f3 (bf_fn pS) (bf_fn eN) (bf_fn sN) (bf_fn fN) a5 a6 a7 k (nI (if bf_co sN i j = true then 1 else 0)) (nI j)) n (fun k => ?_) (fun k j hj hwj => ?_)
    · refine pk_le n n (fun _ => ?_) (fun z => absurd z (by omega))
      by_cases hc : bf_co sN i n = true
      · rw [if_pos hc]
        exact br_f (by decide) (bf_in (by omega) (by omega) (by omega) hW hs hc hw)
      · rw [if_neg hc]
        refine br_t rfl (nm_r (nI_1 i) ?_)
        have h := hw s (bf_best_no hs hc)
        rw [bf_rf0_s, bf_rf0_s, bf_rf0_s, bf_rf1_s, if_neg hc, show bf_G2 sN W n v i = 0 from if_neg (fun z => hc z.1), show bf_G3 sN W n u v i = 0 from if_neg (fun z => hc z.1.1), Nat.add_zero, Nat.add_zero, Nat.add_zero, Nat.max_eq_left (Nat.zero_le _)] at h
        exact h
    · refine pk_le n j (fun z => absurd z (by omega)) (fun _ => ?_)
      have s2 := k6 j
      have hb := bf_b2 i j
      rw [bf_sn_rd hm (by omega) s2, bf_bit (by omega) (by omega)]
      have e1 : (1 : Int32) - nI (i / 2 ^ j % 2) = nI (1 - i / 2 ^ j % 2) := pk_sub (a := 1) (by omega)
      have eco : bf_co sN i (j + 1) = (bf_co sN i j && (decide (sN j = 2) || decide (sN j = i / 2 ^ j % 2))) := rfl
      refine pk_eq (sN j) (1 - i / 2 ^ j % 2) (fun e => nm_r (nI_1 j) ?_) (fun e => nm_r (nI_1 j) ?_) rfl e1
      · rw [eco, decide_eq_false (show ¬ sN j = 2 by omega), decide_eq_false (show ¬ sN j = i / 2 ^ j % 2 by omega), Bool.or_false, Bool.and_false] at hwj
        exact hwj
      · have e2 : (decide (sN j = 2) || decide (sN j = i / 2 ^ j % 2)) = true := by
          by_cases q : sN j = 2
          · rw [decide_eq_true q]; rfl
          · rw [decide_eq_true (show sN j = i / 2 ^ j % 2 by omega), Bool.or_true]
        rw [eco, e2, Bool.and_true] at hwj
        exact hwj
end
end
section
/-! ===== the law ===== -/
section
variable {n : Nat} {pS eN sN fN : Nat → Nat} {f2 f3 : Int32} {a5 a7 : Nat → Int32} {a6 : Nat → Int64} {sm k L : Nat} {xs : Nat → Int32}
theorem bf_120 {post : Int32 → Prop} {J31 : Int32 → Int32 → Int32 → Int32 → Int32 → (Nat → Int32) → (Nat → Int32) → (Nat → Int32) → (Nat → Int32) → (Nat → Int32) → (Nat → Int64) → (Nat → Int32) → Prop} {kc ks : Nat} (hL : L ≤ 260) (hkL : k < L) (hk : bf_ok n pS eN sN) (hf : ∀ k, fN k ≤ 2) (hm : bf_sn sm sN)
    (H : ∀ x2 x3 fN' a5 a6 a7, (∀ k, fN' k ≤ 2) → J31 (nI sm) (nI (k + 5)) (nI n) x2 x3 (bf_fn pS) (bf_fn eN) (bf_fn sN) (bf_fn fN') a5 a6 a7) :
    wL_law_120 post L xs J31 (nI n) (nI sm) (nI k) kc ks (nI n) f2 f3 (bf_fn pS) (bf_fn eN) (bf_fn sN) (bf_fn fN) a5 a6 a7 := by
  have k1 := hk.1
  have k2 := hk.2.1
  have n0 : ¬ nI n = 0 := nI_ne0 (by omega) (by omega)
  unfold wL_law_120
  refine ⟨pk_in k L hkL, n0, pk_in k L hkL, n0, ?_⟩
  obtain ⟨q, hq, eq⟩ := pk_andE (xs (nI k).toNatClampNeg >>> ((4 : Int32) &&& 31)) (m := 7) 3 (by decide)
  obtain ⟨r, hr, er⟩ := pk_andE (xs (nI k).toNatClampNeg >>> ((7 : Int32) &&& 31)) (m := 7) 3 (by decide)
  rw [eq, er, pk_rem (by omega) (by omega) (by omega), pk_rem (by omega) (by omega) (by omega)]
  refine bf_holds hk hf hm (Nat.mod_lt _ (by omega)) (Nat.mod_lt _ (by omega)) (fun x2 x3 fN' a5 a6 a7 hf' => br_f (by decide) (nm_r (nI_add k 5) ?_))
  exact H x2 x3 fN' a5 a6 a7 hf'
end
theorem i_vc (xs : Nat → Int32) (L : Nat) (hL : L ≤ 260) : wpL_law (fun r => r = 1) L xs := by
  unfold wpL_law
  refine pk_le 1 L (fun h1 => ?_) (fun _ => rfl)
  refine ⟨pk_in 0 L (by omega), 7, 2083, by omega, by omega, ?_⟩
  refine bf_init (fun n pS eN sN fN f2 f3 a5 a6 a7 hk hf hs => ?_)
  have hm := bf_sn_0 hs
  refine pk_loop (fun m i (s : Nat × (Nat → Nat) × (Nat → Nat) × (Nat → Nat) × (Nat → Nat) × Int32 × Int32 × (Nat → Int32) × (Nat → Int64) × (Nat → Int32)) => wL_law_31 (fun r => r = 1) L xs (nI n) (1 + 7) (10 + 2083) m (nI s.1) (nI (1 + 5 * i)) (nI n) s.2.2.2.2.2.1 s.2.2.2.2.2.2.1 (bf_fn s.2.1) (bf_fn s.2.2.1) (bf_fn s.2.2.2.1) (bf_fn s.2.2.2.2.1) s.2.2.2.2.2.2.2.1 s.2.2.2.2.2.2.2.2.1 s.2.2.2.2.2.2.2.2.2)
    (fun i s => bf_ok n s.2.1 s.2.2.1 s.2.2.2.1 ∧ (∀ k, s.2.2.2.2.1 k ≤ 2) ∧ bf_sn s.1 s.2.2.2.1) ((L - 1) / 5) 0 (10922, pS, eN, sN, fN, f2, f3, a5, a6, a7) (Nat.zero_le _) ⟨hk, hf, hm⟩ ?_ ?_
  · rintro m ⟨sm, pS, eN, sN, fN, f2, f3, a5, a6, a7⟩ ⟨hk, hf, hm⟩
    exact pk_le L (1 + 5 * ((L - 1) / 5) + 4) (fun _ => rfl) (fun z => absurd z (by omega)) rfl (nI_add _ 4)
  · rintro m i ⟨sm, pS, eN, sN, fN, f2, f3, a5, a6, a7⟩ hi ⟨hk, hf, hm⟩ hw
    have hk : bf_ok n pS eN sN := hk
    have hf : ∀ k, fN k ≤ 2 := hf
    have hm : bf_sn sm sN := hm
    have k2 := hk.2.1
    have hkL : 1 + 5 * i + 4 < L := by omega
    have hw : ∀ sm' pS' eN' sN' fN' x2 x3 b5 b6 b7, bf_ok n pS' eN' sN' → (∀ k, fN' k ≤ 2) → bf_sn sm' sN' → wL_law_31 (fun r => r = 1) L xs (nI n) (1 + 7) (10 + 2083) m (nI sm') (nI (1 + 5 * i + 5)) (nI n) x2 x3 (bf_fn pS') (bf_fn eN') (bf_fn sN') (bf_fn fN') b5 b6 b7 :=
      fun sm' pS' eN' sN' fN' x2 x3 b5 b6 b7 h1 h2 h3 => hw (sm', pS', eN', sN', fN', x2, x3, b5, b6, b7) ⟨h1, h2, h3⟩
    generalize 1 + 5 * i = k at hw hkL
    show wL_law_31 (fun r => r = 1) L xs (nI n) (1 + 7) (10 + 2083) (m + 1) (nI sm) (nI k) (nI n) f2 f3 (bf_fn pS) (bf_fn eN) (bf_fn sN) (bf_fn fN) a5 a6 a7
    refine pk_le L (k + 4) (fun z => absurd z (by omega)) (fun _ => ?_) rfl (nI_add k 4)
    have e1 : nI k + 1 = nI (k + 1) := nI_1 k
    have e2 : nI k + 2 = nI (k + 2) := nI_add k 2
    have e3 : nI k + 3 = nI (k + 3) := nI_add k 3
    have e4 : nI k + 4 = nI (k + 4) := nI_add k 4
    obtain ⟨o, ho, eo⟩ := pk_andE (xs (nI k).toNatClampNeg) (m := 15) 4 (by decide)
    rw [e1, e2, e3, e4, eo]
    refine ⟨pk_in k L (by omega), nm_e ⟨pk_in (k + 1) L (by omega), nm_e ⟨pk_in (k + 2) L (by omega), pk_in (k + 3) L (by omega), pk_in (k + 4) L (by omega), ?_⟩⟩⟩
    refine bf_call hk ho (fun h x pS' eN' hk' => ?_) (fun h x hx => ?_) (fun h j b hj hb ej eb x hx => ?_)
    · exact pk_le o 10 (fun _ => bf_120 hL (by omega) hk' hf hm (fun x2 x3 fN' b5 b6 b7 hf' => hw _ _ _ _ _ _ _ _ _ _ hk' hf' hm)) (fun z => absurd z (by omega))
    · exact pk_le o 10 (fun z => absurd z (by omega)) (fun _ => br_t hx (bf_120 hL (by omega) hk hf hm (fun x2 x3 fN' b5 b6 b7 hf' => hw _ _ _ _ _ _ _ _ _ _ hk hf' hm)))
    · refine pk_le o 10 (fun z => absurd z (by omega)) (fun _ => br_f hx ⟨pk_in (k + 2) L (by omega), ?_⟩)
      obtain ⟨q1, q2, q3, q4, q5, q6⟩ := hk
      have hk' : bf_ok n pS eN (bf_up sN j b) := ⟨q1, q2, q3, q4, q5, bf_upd_le q6 hb⟩
      have hm' := bf_sn_up hm (show j < 7 by omega) hb
      rw [ej, eb]
      exact nm_r (bf_sn_put (by omega) hb) (bf_120 hL (by omega) hk' hf hm' (fun x2 x3 fN' b5 b6 b7 hf' => hw _ _ _ _ _ _ _ _ _ _ hk' hf' hm'))
end
