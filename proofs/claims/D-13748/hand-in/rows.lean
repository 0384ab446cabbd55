section
/-! ===== ints and bits ===== -/
theorem ff_and (a b : Nat) : nI a &&& nI b = nI (a &&& b) := by
  apply Int32.toBitVec_inj.1
  show BitVec.ofNat 32 a &&& BitVec.ofNat 32 b = BitVec.ofNat 32 (a &&& b)
  apply BitVec.eq_of_getLsbD_eq
  intro i hi
  simp [hi]
theorem ff_xor (a b : Nat) : nI a ^^^ nI b = nI (a ^^^ b) := by
  apply Int32.toBitVec_inj.1
  show BitVec.ofNat 32 a ^^^ BitVec.ofNat 32 b = BitVec.ofNat 32 (a ^^^ b)
  apply BitVec.eq_of_getLsbD_eq
  intro i hi
  simp [hi]
theorem ff_or (a b : Nat) : nI a ||| nI b = nI (a ||| b) := by
  apply Int32.toBitVec_inj.1
  show BitVec.ofNat 32 a ||| BitVec.ofNat 32 b = BitVec.ofNat 32 (a ||| b)
  apply BitVec.eq_of_getLsbD_eq
  intro i hi
  simp [hi]
theorem ff_sl : ∀ n, n < 32 → ((nI n &&& 31).toBitVec.smod 32).toNat = n := by decide +kernel
theorem ff_orAdd {a b : Nat} (k : Nat) (h : b < 2 ^ k) : (a * 2 ^ k) ||| b = a * 2 ^ k + b := by
  rw [Nat.mul_comm, Nat.two_pow_add_eq_or_of_lt h]
/-- the level, low and high of a content -/
def ff_l (c : Nat) : Nat := c / 16777216
def ff_w (c : Nat) : Nat := c / 4096 % 4096
def ff_g (c : Nat) : Nat := c % 4096
def ff_ct (l a b : Nat) : Nat := l * 16777216 + a * 4096 + b
theorem ff_ct_l {l a b : Nat} (ha : a < 4096) (hb : b < 4096) : ff_l (ff_ct l a b) = l := by unfold ff_l ff_ct; omega
theorem ff_ct_w {l a b : Nat} (ha : a < 4096) (hb : b < 4096) : ff_w (ff_ct l a b) = a := by unfold ff_w ff_ct; omega
theorem ff_ct_g {l a b : Nat} (hb : b < 4096) : ff_g (ff_ct l a b) = b := by unfold ff_g ff_ct; omega
theorem ff_ct_lt {l a b : Nat} (hl : l ≤ 6) (ha : a < 4096) (hb : b < 4096) : ff_ct l a b < 134217728 := by unfold ff_ct; omega
theorem ff_ct_eq (c : Nat) : ff_ct (ff_l c) (ff_w c) (ff_g c) = c := by unfold ff_ct ff_l ff_w ff_g; omega
theorem ff_w_lt (c : Nat) : ff_w c < 4096 := Nat.mod_lt _ (by omega)
theorem ff_g_lt (c : Nat) : ff_g c < 4096 := Nat.mod_lt _ (by omega)
theorem ff_i_l {c : Nat} (h : c < 134217728) : nI c >>> ((24 : Int32) &&& 31) = nI (ff_l c) := pk_shrN (by omega) _ 24 (by decide)
theorem ff_i_w {c : Nat} (h : c < 134217728) : (nI c >>> ((12 : Int32) &&& 31)) &&& 4095 = nI (ff_w c) := by
  rw [pk_shrN (by omega) _ 12 (by decide), pk_andN (by omega) 12 (by decide)]
  rfl
theorem ff_i_g {c : Nat} (h : c < 134217728) : nI c &&& 4095 = nI (ff_g c) := by
  rw [pk_andN (by omega) 12 (by decide)]
  rfl
theorem ff_i_ct {l a b : Nat} (hl : l ≤ 6) (ha : a < 4096) (hb : b < 4096) : ((nI l <<< ((24 : Int32) &&& 31)) ||| (nI a <<< ((12 : Int32) &&& 31))) ||| nI b = nI (ff_ct l a b) := by
  rw [pk_shlN _ 24 (by decide) (by omega), pk_shlN _ 12 (by decide) (by omega), ff_or, ff_or]
  congr 1
  rw [ff_orAdd 24 (by omega)]
  have e : l * 2 ^ 24 + a * 2 ^ 12 = (l * 4096 + a) * 2 ^ 12 := by omega
  rw [e, ff_orAdd 12 (by omega)]
  unfold ff_ct
  omega
theorem ff_or_0 (x : Int32) : x ||| nI 0 = x := by
  apply Int32.toBitVec_inj.1
  show x.toBitVec ||| 0#32 = x.toBitVec
  simp
theorem ff_i_leaf {v : Nat} (hv : v < 4096) : (100663296 : Int32) ||| (nI v <<< ((12 : Int32) &&& 31)) = nI (ff_ct 6 v 0) := by
  have h := ff_i_ct (l := 6) (a := v) (b := 0) (by omega) hv (by omega)
  rw [← h]
  have e : nI 6 <<< ((24 : Int32) &&& 31) = 100663296 := by decide
  rw [e, ff_or_0]
/-- one bit of an int -/
theorem ff_bit {m s : Nat} (hm : m < 2 ^ 31) (hs : s < 32) : (nI m >>> (nI s &&& 31)) &&& 1 = nI (m / 2 ^ s % 2) := by
  rw [pk_shrN hm _ s (ff_sl s hs), pk_andN (Nat.lt_of_le_of_lt (Nat.div_le_self _ _) (by omega)) 1 (by decide)]
theorem ff_tb (m s : Nat) : m / 2 ^ s % 2 = if m.testBit s then 1 else 0 := by
  rw [Nat.testBit_eq_decide_div_mod_eq]
  by_cases h : m / 2 ^ s % 2 = 1
  · simp [h]
  · simp [h]
    omega
theorem ff_bit1 {m s : Nat} (hm : m < 2 ^ 31) (hs : s < 32) : ((nI m >>> (nI s &&& 31)) &&& 1 = 1) ↔ m.testBit s = true := by
  rw [ff_bit hm hs, ff_tb]
  by_cases h : m.testBit s
  · rw [if_pos h]
    exact ⟨fun _ => h, fun _ => rfl⟩
  · rw [if_neg h]
    exact ⟨fun z => absurd z (by decide), fun z => absurd z h⟩
theorem ff_bitV {m s : Nat} (hm : m < 2 ^ 31) (hs : s < 32) : (nI m >>> (nI s &&& 31)) &&& 1 = nI (if m.testBit s then 1 else 0) := by
  rw [ff_bit hm hs, ff_tb]
/-- does a header meet the cared bits below k of a match -/
def ff_mb (m h : Nat) : Nat → Bool
  | 0 => true
  | k + 1 => (!(m.testBit (6 + k)) || (h.testBit k == m.testBit k)) && ff_mb m h k
theorem ff_mb_iff (m h : Nat) : ∀ k, ff_mb m h k = true ↔ ∀ b, b < k → m.testBit (6 + b) = true → h.testBit b = m.testBit b
  | 0 => ⟨fun _ b hb => absurd hb (by omega), fun _ => rfl⟩
  | k + 1 => by
    unfold ff_mb
    rw [Bool.and_eq_true, ff_mb_iff m h k]
    constructor
    · intro ⟨h1, h2⟩ b hb hc
      by_cases e : b = k
      · subst e
        rw [hc] at h1
        simpa using h1
      · exact h2 b (by omega) hc
    · intro H
      refine ⟨?_, fun b hb => H b (by omega)⟩
      cases hc : m.testBit (6 + k)
      · rfl
      · simpa using H k (by omega) hc
/-- what a change makes of a header -/
def ff_chg (c h : Nat) : Nat := (h &&& (63 ^^^ (c / 64))) ||| ((c &&& (c / 64)) &&& 63)
theorem ff_63 (b : Nat) : (63 : Nat).testBit b = decide (b < 6) := by
  rw [show (63 : Nat) = 2 ^ 6 - 1 from rfl, Nat.testBit_two_pow_sub_one]
theorem ff_d64 (c b : Nat) : (c / 64).testBit b = c.testBit (6 + b) := by
  rw [show (64 : Nat) = 2 ^ 6 from rfl, Nat.testBit_div_two_pow, Nat.add_comm]
theorem ff_chg_b (c h : Nat) {b : Nat} (hb : b < 6) : (ff_chg c h).testBit b = if c.testBit (6 + b) then c.testBit b else h.testBit b := by
  unfold ff_chg
  rw [Nat.testBit_or, Nat.testBit_and, Nat.testBit_and, Nat.testBit_and, Nat.testBit_xor, ff_63, ff_d64, decide_eq_true hb]
  cases c.testBit (6 + b) <;> cases c.testBit b <;> cases h.testBit b <;> rfl
theorem ff_hi0 {h b : Nat} (hh : h < 64) (hb : 6 ≤ b) : h.testBit b = false := Nat.testBit_lt_two_pow (Nat.lt_of_lt_of_le hh (Nat.pow_le_pow_right (n := 2) (by decide) hb))
theorem ff_lt64 {x : Nat} (h : ∀ b, 6 ≤ b → x.testBit b = false) : x < 64 := Nat.lt_pow_two_of_testBit x (n := 6) h
theorem ff_chg_lt (c : Nat) {h : Nat} (hh : h < 64) : ff_chg c h < 64 := by
  refine ff_lt64 (fun b hb => ?_)
  unfold ff_chg
  rw [Nat.testBit_or, Nat.testBit_and, Nat.testBit_and, ff_63, ff_hi0 hh hb, decide_eq_false (by omega)]
  simp
theorem ff_ext64 {x y : Nat} (hx : x < 64) (hy : y < 64) (h : ∀ b, b < 6 → x.testBit b = y.testBit b) : x = y := by
  apply Nat.eq_of_testBit_eq
  intro b
  rcases Nat.lt_or_ge b 6 with z | z
  · exact h b z
  · rw [ff_hi0 hx z, ff_hi0 hy z]
theorem ff_m1 (m : Nat) (hm : m < 2 ^ 32) : nI m ^^^ (-1) = nI (m ^^^ 4294967295) := by
  have e : (-1 : Int32) = nI 4294967295 := by decide
  rw [e, ff_xor]
theorem ff_i_chg {c h : Nat} (hc : c < 4096) (hh : h < 64) : (nI h &&& ((nI c >>> ((6 : Int32) &&& 31)) ^^^ (-1))) ||| ((nI c &&& (nI c >>> ((6 : Int32) &&& 31))) &&& 63) = nI (ff_chg c h) := by
  rw [pk_shrN (by omega) _ 6 (by decide), ff_m1 _ (by omega), ff_and, ff_and, show (63 : Int32) = nI 63 from rfl, ff_and, ff_or]
  congr 1
  unfold ff_chg
  congr 1
  apply Nat.eq_of_testBit_eq
  intro b
  rw [Nat.testBit_and, Nat.testBit_and, Nat.testBit_xor, Nat.testBit_xor, ff_63, show (4294967295 : Nat) = 2 ^ 32 - 1 from rfl, Nat.testBit_two_pow_sub_one]
  rcases Nat.lt_or_ge b 6 with z | z
  · rw [decide_eq_true z, decide_eq_true (by omega), Bool.xor_comm]
  · rw [ff_hi0 hh z]
    rfl
theorem ff_i_mat {m h : Nat} (hm : m < 4096) (hh : h < 64) : ((((nI h ^^^ nI m) &&& (nI m >>> ((6 : Int32) &&& 31))) &&& 63) = 0) ↔ ff_mb m h 6 = true := by
  rw [pk_shrN (by omega) _ 6 (by decide), ff_xor, ff_and, show (63 : Int32) = nI 63 from rfl, ff_and, ← nI_0]
  have hlt : ((h ^^^ m) &&& (m / 2 ^ 6)) &&& 63 ≤ 63 := Nat.and_le_right
  rw [nI_eq (by omega) (by omega), ff_mb_iff]
  constructor
  · intro z b hb hc
    have t : (((h ^^^ m) &&& (m / 2 ^ 6)) &&& 63).testBit b = false := by rw [z]; exact Nat.zero_testBit b
    rw [Nat.testBit_and, Nat.testBit_and, Nat.testBit_xor, ff_63, show m / 2 ^ 6 = m / 64 from rfl, ff_d64, hc, decide_eq_true hb] at t
    cases e1 : h.testBit b <;> cases e2 : m.testBit b <;> simp_all
  · intro H
    apply Nat.eq_of_testBit_eq
    intro b
    rw [Nat.testBit_and, Nat.testBit_and, Nat.testBit_xor, ff_63, show m / 2 ^ 6 = m / 64 from rfl, ff_d64, Nat.zero_testBit]
    rcases Nat.lt_or_ge b 6 with z | z
    · cases hc : m.testBit (6 + b)
      · simp
      · rw [H b z hc]
        simp
    · rw [decide_eq_false (by omega)]
      simp
/-- what is left to care for at a level -/
theorem ff_rest0 {m h : Nat} {k : Nat} (e : m / 64 % 2 ^ k = 0) : ff_mb m h k = true := by
  rw [ff_mb_iff]
  intro b hb hc
  have t : (m / 64 % 2 ^ k).testBit b = false := by rw [e]; exact Nat.zero_testBit b
  rw [Nat.testBit_mod_two_pow, ff_d64, decide_eq_true hb, hc] at t
  exact absurd t (by decide)
theorem ff_mk : ∀ l, l < 7 → ((((1 : Int32) <<< ((6 - nI l) &&& 31)) - 1).toBitVec.toNat = 2 ^ (6 - l) - 1) := by decide +kernel
theorem ff_i_rest {m l : Nat} (hm : m < 4096) (hl : l < 7) : (nI m >>> ((6 : Int32) &&& 31)) &&& (((1 : Int32) <<< ((6 - nI l) &&& 31)) - 1) = nI (m / 64 % 2 ^ (6 - l)) := by
  rw [pk_shrN (by omega) _ 6 (by decide), pk_andN (by omega) (6 - l) (ff_mk l hl)]
end
section
/-! ===== counting over the 64 headers ===== -/
def ff_cn (q : Nat → Bool) : Nat := (List.range 64).countP q
theorem ff_cn_c {q q' : Nat → Bool} (h : ∀ i, i < 64 → q i = q' i) : ff_cn q = ff_cn q' := by
  unfold ff_cn
  exact List.countP_congr (fun x hx => by rw [h x (List.mem_range.mp hx)])
theorem ff_cn_p {f : Nat → Nat} (hp : ((List.range 64).map f).Perm (List.range 64)) (q : Nat → Bool) : ff_cn (fun h => q (f h)) = ff_cn q := by
  unfold ff_cn
  rw [← hp.countP_eq q, List.countP_map]
  rfl
theorem ff_p_rev : ((List.range 64).map (fun h => 63 - h)).Perm (List.range 64) := by decide +kernel
theorem ff_p_fl : ∀ b, b < 6 → ((List.range 64).map (fun h => h ^^^ 2 ^ b)).Perm (List.range 64) := by decide +kernel
theorem ff_cn_rev (q : Nat → Bool) : ff_cn (fun h => q (63 - h)) = ff_cn q := ff_cn_p ff_p_rev q
theorem ff_sum2 {f f' g g' : Nat → Bool} : ∀ l : List Nat, (∀ x, x ∈ l → (f x).toNat + (f' x).toNat = (g x).toNat + (g' x).toNat) → l.countP f + l.countP f' = l.countP g + l.countP g'
  | [], _ => rfl
  | x :: l, h => by
    have i := ff_sum2 l (fun y hy => h y (List.mem_cons_of_mem x hy))
    have j := h x (List.mem_cons_self)
    rw [List.countP_cons, List.countP_cons, List.countP_cons, List.countP_cons]
    cases e1 : f x <;> cases e2 : f' x <;> cases e3 : g x <;> cases e4 : g' x <;> simp_all <;> omega
theorem ff_cn_le (q : Nat → Bool) : ff_cn q ≤ 64 := by
  have h := List.countP_le_length (p := q) (l := List.range 64)
  rw [List.length_range] at h
  exact h
theorem ff_cn_0 {q : Nat → Bool} (h : ∀ i, i < 64 → q i = false) : ff_cn q = 0 := by
  rw [ff_cn_c (q' := fun _ => false) h]
  decide
theorem ff_cn_64 {q : Nat → Bool} (h : ∀ i, i < 64 → q i = true) : ff_cn q = 64 := by
  rw [ff_cn_c (q' := fun _ => true) h]
  decide
theorem ff_fl_b (h b j : Nat) : (h ^^^ 2 ^ b).testBit j = (h.testBit j ^^ decide (b = j)) := by
  rw [Nat.testBit_xor, Nat.testBit_two_pow]
theorem ff_fl_lt {h b : Nat} (hh : h < 64) (hb : b < 6) : h ^^^ 2 ^ b < 64 := by
  refine ff_lt64 (fun j hj => ?_)
  rw [ff_fl_b, ff_hi0 hh hj, decide_eq_false (by omega)]
  rfl
theorem ff_cn_half {f g0 g1 : Nat → Bool} {b : Nat} (hb : b < 6) (hf : ∀ h, h < 64 → f h = if h.testBit b then g1 h else g0 h) (h0 : ∀ h, h < 64 → g0 (h ^^^ 2 ^ b) = g0 h) (h1 : ∀ h, h < 64 → g1 (h ^^^ 2 ^ b) = g1 h) : 2 * ff_cn f = ff_cn g0 + ff_cn g1 := by
  have e := ff_cn_p (ff_p_fl b hb) f
  have s := ff_sum2 (f := f) (f' := fun h => f (h ^^^ 2 ^ b)) (g := g0) (g' := g1) (List.range 64) (fun x hx => by
    have hx' := List.mem_range.mp hx
    have hl := ff_fl_lt hx' hb
    show (f x).toNat + (f (x ^^^ 2 ^ b)).toNat = _
    rw [hf x hx', hf _ hl, h0 x hx', h1 x hx', ff_fl_b, decide_eq_true rfl]
    cases x.testBit b
    · rfl
    · exact Nat.add_comm _ _)
  unfold ff_cn at e ⊢
  rw [e] at s
  omega
/-! ===== what becomes of a packet ===== -/
def ff_t (p : Nat) : Nat := 4 * ((p / 4 + 1) % 5) + 3 - p % 4
def ff_o (a : Nat) : Nat := if a < 4 then 3 - a else a
def ff_pick (q : Nat → Bool) (base cnt : Nat) : Nat → Nat
  | 0 => 120
  | n + 1 => if q (base + (cnt - (n + 1))) then base + (cnt - (n + 1)) else ff_pick q base cnt n
def ff_out (ac : Nat → Nat) (p j : Nat) : Nat := if ac j = 5 then p else p / 4 * 4 + ac j
def ff_ms (s : Nat) : Nat := if s < 5 then 0 else 1
def ff_at (s o : Nat) : Nat := if s < 5 then 0 else 100 + o
def ff_sel (ms : Nat) (body : Nat → Nat) (j : Nat) : Nat := if 120 ≤ j then ms else body j
def ff_beh (lk ac ch : Nat → Nat) (s p : Nat) (nx : Nat → Nat → Nat) (j h : Nat) : Nat :=
  if lk (ff_out ac p j) < 20 then nx (lk (ff_out ac p j)) (ff_chg (ch j) h) else ff_at s (ff_out ac p j)
def ff_bod (lk ac ch : Nat → Nat) (s p : Nat) (nx : Nat → Nat → Nat) (j h : Nat) : Nat :=
  if ac j = 4 then ff_ms s else ff_beh lk ac ch s p nx j h
def ff_by (lk rc mt ac ch : Nat → Nat) (tb s p : Nat) (nx : Nat → Nat → Nat) (h : Nat) : Nat :=
  ff_sel (ff_ms s) (fun j => ff_bod lk ac ch s p nx j h) (ff_pick (fun j => ff_mb (mt j) h 6) (6 * (5 * tb + p / 4)) (rc (5 * tb + p / 4)) (rc (5 * tb + p / 4)))
def ff_res (lk rc mt ac ch : Nat → Nat) (tb s : Nat) : Nat → Nat → Nat → Nat
  | 0 => fun _ _ => if s < 5 then 0 else 2
  | r + 1 => fun p h => if p / 4 = s then 1 else ff_by lk rc mt ac ch tb s p (ff_res lk rc mt ac ch tb s r) h
/-- numbers in their ranges -/
def ff_Cf (rc mt ac ch : Nat → Nat) : Prop := (∀ l, l < 20 → rc l ≤ 6) ∧ (∀ j, j < 120 → mt j < 4096 ∧ ac j ≤ 5 ∧ ch j < 4096)
/-- the one turned into the other -/
def ff_Sym (lk rc mt ac ch lk' rc' mt' ac' ch' : Nat → Nat) : Prop :=
  (∀ p, p < 20 → (lk p < 20 → lk' (ff_t p) = ff_t (lk p)) ∧ (20 ≤ lk p → 20 ≤ lk' (ff_t p))) ∧
  (∀ t s, t < 4 → s < 5 → rc' (5 * t + (s + 1) % 5) = rc (5 * t + s) ∧ ∀ i, i < rc (5 * t + s) →
    mt' (6 * (5 * t + (s + 1) % 5) + i) = mt (6 * (5 * t + s) + i) ^^^ 63 ∧ ac' (6 * (5 * t + (s + 1) % 5) + i) = ff_o (ac (6 * (5 * t + s) + i)) ∧ ch' (6 * (5 * t + (s + 1) % 5) + i) = ch (6 * (5 * t + s) + i) ^^^ 63)
theorem ff_t_lt {p : Nat} (h : p < 20) : ff_t p < 20 := by unfold ff_t; omega
theorem ff_t_sw {p : Nat} (h : p < 20) : ff_t p / 4 = (p / 4 + 1) % 5 := by unfold ff_t; omega
theorem ff_t_inj {p q : Nat} (hp : p < 20) (hq : q < 20) (h : ff_t p = ff_t q) : p = q := by unfold ff_t at h; omega
theorem ff_t_in {s a : Nat} (ha : a < 4) : ff_t (4 * s + a) = 4 * ((s + 1) % 5) + (3 - a) := by unfold ff_t; omega
theorem ff_pick_in (q : Nat → Bool) (base cnt : Nat) : ∀ n, n ≤ cnt → ff_pick q base cnt n = 120 ∨ ∃ i, i < cnt ∧ ff_pick q base cnt n = base + i ∧ q (base + i) = true
  | 0, _ => Or.inl rfl
  | n + 1, h => by
    unfold ff_pick
    by_cases c : q (base + (cnt - (n + 1))) = true
    · rw [if_pos c]
      exact Or.inr ⟨cnt - (n + 1), by omega, rfl, c⟩
    · rw [if_neg c]
      exact ff_pick_in q base cnt n (by omega)
theorem ff_pick_sym {q q' : Nat → Bool} {base base' cnt : Nat} (e : ∀ i, i < cnt → q' (base' + i) = q (base + i)) : ∀ n, n ≤ cnt →
    (ff_pick q base cnt n = 120 ∧ ff_pick q' base' cnt n = 120) ∨ ∃ i, i < cnt ∧ ff_pick q base cnt n = base + i ∧ ff_pick q' base' cnt n = base' + i
  | 0, _ => Or.inl ⟨rfl, rfl⟩
  | n + 1, h => by
    unfold ff_pick
    rw [e (cnt - (n + 1)) (by omega)]
    by_cases c : q (base + (cnt - (n + 1))) = true
    · rw [if_pos c, if_pos c]
      exact Or.inr ⟨cnt - (n + 1), by omega, rfl, rfl⟩
    · rw [if_neg c, if_neg c]
      exact ff_pick_sym e n (by omega)
theorem ff_rev_b : ∀ h, h < 64 → ∀ b, b < 6 → (63 - h).testBit b = !(h.testBit b) := by decide +kernel
theorem ff_x63_hi (m b : Nat) : (m ^^^ 63).testBit (6 + b) = m.testBit (6 + b) := by
  rw [Nat.testBit_xor, ff_63, decide_eq_false (by omega)]
  simp
theorem ff_x63_lo (m : Nat) {b : Nat} (hb : b < 6) : (m ^^^ 63).testBit b = !(m.testBit b) := by
  rw [Nat.testBit_xor, ff_63, decide_eq_true hb]
  simp
theorem ff_mb_rev (m : Nat) {h : Nat} (hh : h < 64) : ∀ k, k ≤ 6 → ff_mb (m ^^^ 63) (63 - h) k = ff_mb m h k
  | 0, _ => rfl
  | k + 1, hk => by
    unfold ff_mb
    rw [ff_mb_rev m hh k (by omega), ff_x63_hi, ff_x63_lo m (by omega), ff_rev_b h hh k (by omega)]
    cases m.testBit (6 + k) <;> cases h.testBit k <;> cases m.testBit k <;> rfl
theorem ff_chg_rev (c : Nat) {h : Nat} (hh : h < 64) : ff_chg (c ^^^ 63) (63 - h) = 63 - ff_chg c h := by
  have hl := ff_chg_lt c hh
  refine ff_ext64 (ff_chg_lt _ (by omega)) (by omega) (fun b hb => ?_)
  rw [ff_chg_b _ _ hb, ff_x63_hi, ff_x63_lo c hb, ff_rev_b h hh b hb, ff_rev_b _ hl b hb, ff_chg_b _ _ hb]
  cases c.testBit (6 + b) <;> rfl
def ff_tau (v : Nat) : Nat := if 100 ≤ v then 100 + ff_t (v - 100) else v
theorem ff_tau_inj {v w : Nat} (hv : v < 120) (hw : w < 120) (h : ff_tau v = ff_tau w) : v = w := by
  unfold ff_tau at h
  split at h <;> split at h
  · have := ff_t_inj (p := v - 100) (q := w - 100) (by omega) (by omega) (by omega)
    omega
  · omega
  · omega
  · exact h
theorem ff_out_lt {ac : Nat → Nat} {p j : Nat} (hp : p < 20) (ha : ac j ≤ 5) (h4 : ac j ≠ 4) : ff_out ac p j < 20 := by
  unfold ff_out
  split <;> omega
theorem ff_idx {l i : Nat} (hl : l < 20) (hi : i < 6) : 6 * l + i < 120 := by omega
theorem ff_res_lt {lk rc mt ac ch : Nat → Nat} {tb s : Nat} (hc : ff_Cf rc mt ac ch) (htb : tb < 4) : ∀ r p h, p < 20 → ff_res lk rc mt ac ch tb s r p h < 120
  | 0, p, h, _ => by unfold ff_res; split <;> omega
  | r + 1, p, h, hp => by
    unfold ff_res
    try dsimp only
    split
    · omega
    · unfold ff_by ff_sel
      have hm : ff_ms s < 120 := by unfold ff_ms; split <;> omega
      have hl : 5 * tb + p / 4 < 20 := by omega
      have hr := hc.1 _ hl
      rcases ff_pick_in (fun j => ff_mb (mt j) h 6) (6 * (5 * tb + p / 4)) (rc (5 * tb + p / 4)) _ (Nat.le_refl _) with e | ⟨i, hi, e, _⟩
      · rw [e]
        exact hm
      · rw [e]
        have hj := ff_idx hl (Nat.lt_of_lt_of_le hi hr)
        rw [if_neg (by omega)]
        unfold ff_bod
        try dsimp only
        split
        · exact hm
        · rename_i h4
          unfold ff_beh
          split
          · exact ff_res_lt hc htb r _ _ (by assumption)
          · have ho := ff_out_lt hp (hc.2 _ hj).2.1 h4
            unfold ff_at
            split <;> omega
def ff_ts (s : Nat) : Nat := if s < 5 then (s + 1) % 5 else s
theorem ff_out_sym {ac ac' : Nat → Nat} {p j j' : Nat} (hp : p < 20) (ha : ac j ≤ 5) (h4 : ac j ≠ 4) (e : ac' j' = ff_o (ac j)) : ff_out ac' (ff_t p) j' = ff_t (ff_out ac p j) := by
  unfold ff_out
  rw [e]
  unfold ff_o
  by_cases h5 : ac j = 5
  · rw [h5]
    rfl
  · rw [if_pos (show ac j < 4 by omega), if_neg (by omega), if_neg h5, ff_t_sw hp]
    unfold ff_t
    omega
theorem ff_res_sym {lk rc mt ac ch lk' rc' mt' ac' ch' : Nat → Nat} {tb s : Nat} (hc : ff_Cf rc mt ac ch) (hS : ff_Sym lk rc mt ac ch lk' rc' mt' ac' ch') (htb : tb < 4) :
    ∀ r p h, p < 20 → h < 64 → ff_res lk' rc' mt' ac' ch' tb (ff_ts s) r (ff_t p) (63 - h) = ff_tau (ff_res lk rc mt ac ch tb s r p h)
  | 0, p, h, _, _ => by
    unfold ff_res ff_ts
    try dsimp only
    by_cases z : s < 5
    · simp [z, ff_tau, Nat.mod_lt]
    · simp [z, ff_tau]
  | r + 1, p, h, hp, hh => by
    unfold ff_res
    try dsimp only
    rw [ff_t_sw hp]
    have hms : ff_ms (ff_ts s) = ff_tau (ff_ms s) := by
      unfold ff_ms ff_ts
      by_cases z : s < 5
      · simp [z, ff_tau, Nat.mod_lt]
      · simp [z, ff_tau]
    have hs : (p / 4 + 1) % 5 = ff_ts s ↔ p / 4 = s := by
      unfold ff_ts
      split <;> omega
    by_cases z : p / 4 = s
    · rw [if_pos (hs.mpr z), if_pos z]
      rfl
    · rw [if_neg (fun g => z (hs.mp g)), if_neg z]
      unfold ff_by
      rw [ff_t_sw hp]
      have hl : 5 * tb + p / 4 < 20 := by omega
      have hr := hc.1 _ hl
      obtain ⟨k1, k2⟩ := hS.2 tb (p / 4) htb (by omega)
      rw [k1]
      rcases ff_pick_sym (q := fun j => ff_mb (mt j) h 6) (q' := fun j => ff_mb (mt' j) (63 - h) 6) (base := 6 * (5 * tb + p / 4)) (base' := 6 * (5 * tb + (p / 4 + 1) % 5)) (cnt := rc (5 * tb + p / 4))
        (fun i hi => by
          try dsimp only
          rw [(k2 i hi).1, ff_mb_rev _ hh 6 (Nat.le_refl 6)]) _ (Nat.le_refl _) with ⟨e, e'⟩ | ⟨i, hi, e, e'⟩
      · rw [e, e']
        exact hms
      · rw [e, e']
        obtain ⟨m1, m2, m3⟩ := k2 i hi
        have hj := ff_idx hl (Nat.lt_of_lt_of_le hi hr)
        have hj' : 6 * (5 * tb + (p / 4 + 1) % 5) + i < 120 := ff_idx (by omega) (Nat.lt_of_lt_of_le hi hr)
        unfold ff_sel
        rw [if_neg (by omega), if_neg (by omega)]
        unfold ff_bod
        try dsimp only
        have ha := (hc.2 _ hj).2.1
        by_cases h4 : ac (6 * (5 * tb + p / 4) + i) = 4
        · rw [if_pos h4, if_pos (by rw [m2, h4]; rfl)]
          exact hms
        · rw [if_neg h4, if_neg (by rw [m2]; unfold ff_o; split <;> omega)]
          unfold ff_beh
          have ho := ff_out_lt hp ha h4
          rw [ff_out_sym hp ha h4 m2]
          obtain ⟨g1, g2⟩ := hS.1 _ ho
          by_cases hk : lk (ff_out ac p (6 * (5 * tb + p / 4) + i)) < 20
          · rw [if_pos hk, if_pos (by rw [g1 hk]; exact ff_t_lt hk), g1 hk, m3, ff_chg_rev _ hh]
            exact ff_res_sym hc hS htb r _ _ hk (ff_chg_lt _ hh)
          · have := g2 (by omega)
            rw [if_neg hk, if_neg (by omega)]
            unfold ff_at ff_ts
            by_cases z5 : s < 5
            · simp [z5, ff_tau, Nat.mod_lt]
            · simp [z5, ff_tau]
end
section
/-! ===== diagrams in an array of contents ===== -/
def ff_L (a : Nat → Int32) (n : Nat) : Nat := ff_l (a n).toNatClampNeg
def ff_lo (a : Nat → Int32) (n : Nat) : Nat := ff_w (a n).toNatClampNeg
def ff_hi (a : Nat → Int32) (n : Nat) : Nat := ff_g (a n).toNatClampNeg
def ff_ev (a : Nat → Int32) : Nat → Nat → Nat → Nat
  | 0 => fun n _ => ff_lo a n
  | d + 1 => fun n h => if 6 ≤ ff_L a n then ff_lo a n else ff_ev a d (if h.testBit (5 - ff_L a n) then ff_hi a n else ff_lo a n) h
def ff_E (a : Nat → Int32) (n h : Nat) : Nat := ff_ev a 6 n h
def ff_Ok (a : Nat → Int32) (lv : Nat → Prop) (V n : Nat) : Prop :=
  n < 4096 ∧ (∃ c, c < 134217728 ∧ a n = nI c) ∧ ff_L a n ≤ 6 ∧ (ff_L a n = 6 → ff_hi a n = 0 ∧ ff_lo a n < V) ∧
  (ff_L a n < 6 → lv (ff_lo a n) ∧ lv (ff_hi a n) ∧ ff_L a n < ff_L a (ff_lo a n) ∧ ff_L a n < ff_L a (ff_hi a n) ∧ ff_lo a n ≠ ff_hi a n)
def ff_Wf (a : Nat → Int32) (lv : Nat → Prop) (V : Nat) : Prop := ∀ n, lv n → ff_Ok a lv V n
def ff_Un (a : Nat → Int32) (lv : Nat → Prop) : Prop := ∀ n m, lv n → lv m → a n = a m → n = m
theorem ff_Wf_c {a : Nat → Int32} {lv : Nat → Prop} {V n : Nat} (h : ff_Wf a lv V) (hn : lv n) : ∃ c, c < 134217728 ∧ a n = nI c ∧ ff_L a n = ff_l c ∧ ff_lo a n = ff_w c ∧ ff_hi a n = ff_g c := by
  obtain ⟨_, ⟨c, hc, e⟩, _⟩ := h n hn
  refine ⟨c, hc, e, ?_⟩
  unfold ff_L ff_lo ff_hi
  rw [e, nI_clamp (by omega)]
  exact ⟨rfl, rfl, rfl⟩
theorem ff_Wf_ch {a : Nat → Int32} {lv : Nat → Prop} {V n : Nat} (h : ff_Wf a lv V) (hn : lv n) (hl : ff_L a n < 6) (b : Bool) : lv (if b then ff_hi a n else ff_lo a n) ∧ ff_L a n < ff_L a (if b then ff_hi a n else ff_lo a n) := by
  obtain ⟨_, _, _, _, k⟩ := h n hn
  obtain ⟨k1, k2, k3, k4, _⟩ := k hl
  cases b
  · exact ⟨k1, k3⟩
  · exact ⟨k2, k4⟩
theorem ff_ev_s (a : Nat → Int32) (d n h : Nat) : ff_ev a (d + 1) n h = if 6 ≤ ff_L a n then ff_lo a n else ff_ev a d (if h.testBit (5 - ff_L a n) then ff_hi a n else ff_lo a n) h := rfl
theorem ff_ev_leaf {a : Nat → Int32} {n : Nat} (hl : 6 ≤ ff_L a n) (h : Nat) : ∀ d, ff_ev a d n h = ff_lo a n
  | 0 => rfl
  | d + 1 => by
    unfold ff_ev
    try dsimp only
    rw [if_pos hl]
theorem ff_ev_st {a : Nat → Int32} {lv : Nat → Prop} {V : Nat} (w : ff_Wf a lv V) (h : Nat) : ∀ d n, lv n → 6 - ff_L a n ≤ d → ff_ev a (d + 1) n h = ff_ev a d n h
  | 0, n, _, hd => by rw [ff_ev_leaf (by omega), ff_ev_leaf (by omega)]
  | d + 1, n, hn, hd => by
    by_cases hl : 6 ≤ ff_L a n
    · rw [ff_ev_leaf hl, ff_ev_leaf hl]
    · obtain ⟨c1, c2⟩ := ff_Wf_ch w hn (by omega) (h.testBit (5 - ff_L a n))
      have i := ff_ev_st w h d _ c1 (by omega)
      rw [ff_ev_s a (d + 1) n h, ff_ev_s a d n h, if_neg hl, if_neg hl]
      exact i
theorem ff_E_in {a : Nat → Int32} {lv : Nat → Prop} {V n : Nat} (w : ff_Wf a lv V) (hn : lv n) (hl : ff_L a n < 6) (h : Nat) : ff_E a n h = ff_E a (if h.testBit (5 - ff_L a n) then ff_hi a n else ff_lo a n) h := by
  obtain ⟨c1, c2⟩ := ff_Wf_ch w hn hl (h.testBit (5 - ff_L a n))
  have i := ff_ev_st w h 5 _ c1 (by omega)
  unfold ff_E
  rw [i]
  show ff_ev a (5 + 1) n h = _
  rw [ff_ev_s, if_neg (by omega)]
theorem ff_E_leaf {a : Nat → Int32} {n : Nat} (hl : ff_L a n = 6) (h : Nat) : ff_E a n h = ff_lo a n := ff_ev_leaf (by omega) h 6
theorem ff_ev_ind {a : Nat → Int32} {lv : Nat → Prop} {V l h h' : Nat} (w : ff_Wf a lv V) (hh : ∀ b, b < 6 - l → h.testBit b = h'.testBit b) : ∀ d n, lv n → l ≤ ff_L a n → ff_ev a d n h = ff_ev a d n h'
  | 0, n, _, _ => rfl
  | d + 1, n, hn, hl => by
    rw [ff_ev_s a d n h, ff_ev_s a d n h']
    by_cases h6 : 6 ≤ ff_L a n
    · rw [if_pos h6, if_pos h6]
    · obtain ⟨c1, c2⟩ := ff_Wf_ch w hn (by omega) (h.testBit (5 - ff_L a n))
      rw [if_neg h6, if_neg h6, ← hh (5 - ff_L a n) (by omega)]
      exact ff_ev_ind w hh d _ c1 (by omega)
theorem ff_E_ind {a : Nat → Int32} {lv : Nat → Prop} {V l h h' n : Nat} (w : ff_Wf a lv V) (hn : lv n) (hl : l ≤ ff_L a n) (hh : ∀ b, b < 6 - l → h.testBit b = h'.testBit b) : ff_E a n h = ff_E a n h' := ff_ev_ind w hh 6 n hn hl
/-- an array that holds all that was there -/
def ff_X (a : Nat → Int32) (lv : Nat → Prop) (a' : Nat → Int32) (lv' : Nat → Prop) : Prop := ∀ n, lv n → lv' n ∧ a' n = a n
theorem ff_X_r (a : Nat → Int32) (lv : Nat → Prop) : ff_X a lv a lv := fun _ h => ⟨h, rfl⟩
theorem ff_X_t {a a' a2 : Nat → Int32} {lv lv' lv2 : Nat → Prop} (h : ff_X a lv a' lv') (h' : ff_X a' lv' a2 lv2) : ff_X a lv a2 lv2 := fun n hn => ⟨(h' n (h n hn).1).1, (h' n (h n hn).1).2.trans (h n hn).2⟩
theorem ff_X_L {a a' : Nat → Int32} {lv lv' : Nat → Prop} (h : ff_X a lv a' lv') {n : Nat} (hn : lv n) : ff_L a' n = ff_L a n := by unfold ff_L; rw [(h n hn).2]
theorem ff_X_lo {a a' : Nat → Int32} {lv lv' : Nat → Prop} (h : ff_X a lv a' lv') {n : Nat} (hn : lv n) : ff_lo a' n = ff_lo a n := by unfold ff_lo; rw [(h n hn).2]
theorem ff_X_hi {a a' : Nat → Int32} {lv lv' : Nat → Prop} (h : ff_X a lv a' lv') {n : Nat} (hn : lv n) : ff_hi a' n = ff_hi a n := by unfold ff_hi; rw [(h n hn).2]
theorem ff_ev_X {a a' : Nat → Int32} {lv lv' : Nat → Prop} {V : Nat} (w : ff_Wf a lv V) (x : ff_X a lv a' lv') (h : Nat) : ∀ d n, lv n → ff_ev a' d n h = ff_ev a d n h
  | 0, n, hn => ff_X_lo x hn
  | d + 1, n, hn => by
    rw [ff_ev_s a' d n h, ff_ev_s a d n h]
    rw [ff_X_L x hn, ff_X_lo x hn, ff_X_hi x hn]
    by_cases h6 : 6 ≤ ff_L a n
    · rw [if_pos h6, if_pos h6]
    · obtain ⟨c1, c2⟩ := ff_Wf_ch w hn (by omega) (h.testBit (5 - ff_L a n))
      rw [if_neg h6, if_neg h6]
      exact ff_ev_X w x h d _ c1
theorem ff_E_X {a a' : Nat → Int32} {lv lv' : Nat → Prop} {V n : Nat} (w : ff_Wf a lv V) (x : ff_X a lv a' lv') (hn : lv n) (h : Nat) : ff_E a' n h = ff_E a n h := ff_ev_X w x h 6 n hn
/-- a diagram of a function, its first node at or below a level -/
def ff_D (a : Nat → Int32) (lv : Nat → Prop) (l n : Nat) (f : Nat → Nat) : Prop := lv n ∧ l ≤ ff_L a n ∧ ∀ h, h < 64 → ff_E a n h = f h
theorem ff_D_X {a a' : Nat → Int32} {lv lv' : Nat → Prop} {V l n : Nat} {f : Nat → Nat} (w : ff_Wf a lv V) (x : ff_X a lv a' lv') (d : ff_D a lv l n f) : ff_D a' lv' l n f :=
  ⟨(x n d.1).1, by rw [ff_X_L x d.1]; exact d.2.1, fun h hh => by rw [ff_E_X w x d.1]; exact d.2.2 h hh⟩
theorem ff_D_f {a : Nat → Int32} {lv : Nat → Prop} {l n : Nat} {f g : Nat → Nat} (e : ∀ h, h < 64 → f h = g h) (d : ff_D a lv l n f) : ff_D a lv l n g := ⟨d.1, d.2.1, fun h hh => (d.2.2 h hh).trans (e h hh)⟩
theorem ff_D_l {a : Nat → Int32} {lv : Nat → Prop} {l l' n : Nat} {f : Nat → Nat} (e : l' ≤ l) (d : ff_D a lv l n f) : ff_D a lv l' n f := ⟨d.1, Nat.le_trans e d.2.1, d.2.2⟩
/-- a header with a bit as wished -/
def ff_sb (h b : Nat) (v : Bool) : Nat := if h.testBit b = v then h else h ^^^ 2 ^ b
theorem ff_sb_lt {h b : Nat} (v : Bool) (hh : h < 64) (hb : b < 6) : ff_sb h b v < 64 := by
  unfold ff_sb
  split
  · exact hh
  · exact ff_fl_lt hh hb
theorem ff_sb_s (h b : Nat) (v : Bool) : (ff_sb h b v).testBit b = v := by
  unfold ff_sb
  split
  · assumption
  · rename_i z
    rw [ff_fl_b, decide_eq_true rfl]
    cases e : h.testBit b <;> cases v <;> simp_all
theorem ff_sb_n {h b j : Nat} (v : Bool) (hj : j ≠ b) : (ff_sb h b v).testBit j = h.testBit j := by
  unfold ff_sb
  split
  · rfl
  · rw [ff_fl_b, decide_eq_false (fun z => hj z.symm)]
    simp
/-- the half of a diagram for a bit -/
def ff_hf (a : Nat → Int32) (n l : Nat) (b : Bool) : Nat := if ff_L a n = l then (if b then ff_hi a n else ff_lo a n) else n
theorem ff_hf_ok {a : Nat → Int32} {lv : Nat → Prop} {V n l : Nat} (w : ff_Wf a lv V) (hn : lv n) (hl : l ≤ ff_L a n) (h6 : l < 6) (b : Bool) : lv (ff_hf a n l b) ∧ l + 1 ≤ ff_L a (ff_hf a n l b) ∧ ∀ h, h.testBit (5 - l) = b → ff_E a (ff_hf a n l b) h = ff_E a n h := by
  unfold ff_hf
  by_cases e : ff_L a n = l
  · rw [if_pos e]
    obtain ⟨c1, c2⟩ := ff_Wf_ch w hn (by omega) b
    refine ⟨c1, by omega, fun h hb => ?_⟩
    rw [ff_E_in w hn (by omega) h, e, hb]
  · rw [if_neg e]
    exact ⟨hn, by omega, fun _ _ => rfl⟩
theorem ff_hf_sb {a : Nat → Int32} {lv : Nat → Prop} {V n l : Nat} (w : ff_Wf a lv V) (hn : lv n) (hl : l ≤ ff_L a n) (h6 : l < 6) (b : Bool) (h : Nat) : ff_E a (ff_hf a n l b) h = ff_E a n (ff_sb h (5 - l) b) := by
  obtain ⟨c1, c2, c3⟩ := ff_hf_ok w hn hl h6 b
  rw [← c3 (ff_sb h (5 - l) b) (ff_sb_s h (5 - l) b)]
  exact ff_E_ind w c1 c2 (fun j hj => (ff_sb_n b (by omega)).symm)
/-- equal functions, equal nodes -/
theorem ff_can {a : Nat → Int32} {lv : Nat → Prop} {V : Nat} (w : ff_Wf a lv V) (u : ff_Un a lv) : ∀ k, k ≤ 6 → ∀ n m, lv n → lv m → 6 - k ≤ ff_L a n → 6 - k ≤ ff_L a m → (∀ h, h < 64 → ff_E a n h = ff_E a m h) → n = m
  | 0, _, n, m, hn, hm, ln, lm, e => by
    obtain ⟨_, _, n3, n4, _⟩ := w n hn
    obtain ⟨_, _, m3, m4, _⟩ := w m hm
    have en := n4 (by omega)
    have em := m4 (by omega)
    have e0 := e 0 (by omega)
    rw [ff_E_leaf (by omega), ff_E_leaf (by omega)] at e0
    obtain ⟨c, hc, c0, c1, c2, c3⟩ := ff_Wf_c w hn
    obtain ⟨d, hd, d0, d1, d2, d3⟩ := ff_Wf_c w hm
    apply u n m hn hm
    rw [c0, d0, ← ff_ct_eq c, ← ff_ct_eq d, ← c1, ← c2, ← c3, ← d1, ← d2, ← d3, e0, en.1, em.1, show ff_L a n = ff_L a m by omega]
  | k + 1, hk, n, m, hn, hm, ln, lm, e => by
    have key : ∀ b, ff_hf a n (5 - k) b = ff_hf a m (5 - k) b := by
      intro b
      obtain ⟨p1, p2, _⟩ := ff_hf_ok w hn (l := 5 - k) (by omega) (by omega) b
      obtain ⟨q1, q2, _⟩ := ff_hf_ok w hm (l := 5 - k) (by omega) (by omega) b
      refine ff_can w u k (by omega) _ _ p1 q1 (by omega) (by omega) (fun h hh => ?_)
      rw [ff_hf_sb w hn (by omega) (by omega), ff_hf_sb w hm (by omega) (by omega)]
      exact e _ (ff_sb_lt b hh (by omega))
    have k0 := key false
    have k1 := key true
    unfold ff_hf at k0 k1
    by_cases en : ff_L a n = 5 - k
    · have dn := ((w n hn).2.2.2.2 (by omega)).2.2.2.2
      rw [if_pos en] at k0 k1
      by_cases em : ff_L a m = 5 - k
      · rw [if_pos em] at k0 k1
        obtain ⟨c, hc, c0, c1, c2, c3⟩ := ff_Wf_c w hn
        obtain ⟨d, hd, d0, d1, d2, d3⟩ := ff_Wf_c w hm
        have k0' : ff_lo a n = ff_lo a m := k0
        have k1' : ff_hi a n = ff_hi a m := k1
        apply u n m hn hm
        rw [c0, d0, ← ff_ct_eq c, ← ff_ct_eq d, ← c1, ← c2, ← c3, ← d1, ← d2, ← d3, k0', k1', en, em]
      · rw [if_neg em] at k0 k1
        exact absurd (k0.trans k1.symm) dn
    · rw [if_neg en] at k0 k1
      by_cases em : ff_L a m = 5 - k
      · have dm := ((w m hm).2.2.2.2 (by omega)).2.2.2.2
        rw [if_pos em] at k0 k1
        exact absurd (k0.symm.trans k1) dm
      · rw [if_neg em] at k0
        exact k0
theorem ff_can0 {a : Nat → Int32} {lv : Nat → Prop} {V n m : Nat} (w : ff_Wf a lv V) (u : ff_Un a lv) (hn : lv n) (hm : lv m) (e : ∀ h, h < 64 → ff_E a n h = ff_E a m h) : n = m := ff_can w u 6 (by omega) n m hn hm (by omega) (by omega) e
/-! ===== lists in an array of followers ===== -/
def ff_Ch (f : Nat → Int32) : Int32 → List Nat → Prop
  | x, [] => x < 0
  | x, n :: t => x = nI n ∧ n < 4096 ∧ ff_Ch f (f n) t
theorem ff_Ch_u {f : Nat → Int32} {k : Nat} {v : Int32} : ∀ {l : List Nat} {x : Int32}, ff_Ch f x l → k ∉ l → ff_Ch (upd f k v) x l
  | [], _, h, _ => h
  | n :: t, x, h, hk => by
    refine ⟨h.1, h.2.1, ?_⟩
    rw [pk_un (fun z => hk (by rw [z]; exact List.mem_cons_self))]
    exact ff_Ch_u h.2.2 (fun z => hk (List.mem_cons_of_mem n z))
def ff_hs (x : Int32) : Int32 := ((x ^^^ (x >>> ((7 : Int32) &&& 31))) ^^^ (x >>> ((15 : Int32) &&& 31))) &&& 1023
def ff_hb (x : Int32) : Nat := (ff_hs x).toNatClampNeg
theorem ff_hb_ok (x : Int32) : ff_hb x < 1024 ∧ ff_hs x = nI (ff_hb x) := by
  obtain ⟨j, hj, e⟩ := pk_andE ((x ^^^ (x >>> ((7 : Int32) &&& 31))) ^^^ (x >>> ((15 : Int32) &&& 31))) (m := 1023) 10 (by decide)
  have e' : ff_hs x = nI j := e
  unfold ff_hb
  rw [e', nI_clamp (by omega)]
  exact ⟨hj, rfl⟩
/-- the store: live nodes lv, k free ones, leaves below V -/
def ff_NS (a f bk : Nat → Int32) (fn fc : Int32) (lv : Nat → Prop) (k V : Nat) : Prop :=
  ff_Wf a lv V ∧ ff_Un a lv ∧ fc = nI k ∧ k ≤ 4096 ∧ ∃ (F : List Nat) (B : Nat → List Nat), ff_Ch f fn F ∧ F.length = k ∧ F.Nodup ∧ (∀ n, n ∈ F → ¬ lv n) ∧
    (∀ b, b < 1024 → ff_Ch f (bk b) (B b) ∧ ∀ n, n ∈ B b → lv n) ∧ (∀ n, lv n → n ∈ B (ff_hb (a n)))
/-- a content that may be asked for -/
def ff_Cok (a : Nat → Int32) (lv : Nat → Prop) (V c : Nat) : Prop :=
  c < 134217728 ∧ ff_l c ≤ 6 ∧ (ff_l c = 6 → ff_g c = 0 ∧ ff_w c < V) ∧ (ff_l c < 6 → lv (ff_w c) ∧ lv (ff_g c) ∧ ff_l c < ff_L a (ff_w c) ∧ ff_l c < ff_L a (ff_g c) ∧ ff_w c ≠ ff_g c)
theorem ff_ins {a f bk : Nat → Int32} {fn fc : Int32} {lv : Nat → Prop} {k V c : Nat} (h : ff_NS a f bk fn fc lv k V) (hk : 0 < k) (hc : ff_Cok a lv V c) (hno : ∀ m, lv m → a m ≠ nI c) :
    ∃ n, n < 4096 ∧ fn = nI n ∧ ff_X a lv (upd a n (nI c)) (fun j => lv j ∨ j = n) ∧ upd a n (nI c) n = nI c ∧
      ff_NS (upd a n (nI c)) (upd f n (bk (ff_hb (nI c)))) (upd bk (ff_hb (nI c)) (nI n)) (f n) (fc - 1) (fun j => lv j ∨ j = n) (k - 1) V := by
  obtain ⟨w, u, e1, e2, F, B, f1, f2, f3, f4, b1, b2⟩ := h
  match F, f1, f2, f3, f4 with
  | [], _, f2, _, _ => exact absurd f2 (by simp; omega)
  | n :: F, f1, f2, f3, f4 =>
    obtain ⟨g1, g2, g3⟩ := f1
    have hn : ¬ lv n := f4 n List.mem_cons_self
    have hne : ∀ {m}, lv m → m ≠ n := fun hm z => hn (z ▸ hm)
    have x : ff_X a lv (upd a n (nI c)) (fun j => lv j ∨ j = n) := fun m hm => ⟨Or.inl hm, pk_un (hne hm)⟩
    have hL : ff_L (upd a n (nI c)) n = ff_l c := by unfold ff_L; rw [pk_us, nI_clamp (by have := hc.1; omega)]
    have hlo : ff_lo (upd a n (nI c)) n = ff_w c := by unfold ff_lo; rw [pk_us, nI_clamp (by have := hc.1; omega)]
    have hhi : ff_hi (upd a n (nI c)) n = ff_g c := by unfold ff_hi; rw [pk_us, nI_clamp (by have := hc.1; omega)]
    have hbo := ff_hb_ok (nI c)
    have hnF : n ∉ F := (List.nodup_cons.mp f3).1
    refine ⟨n, g2, g1, x, pk_us, ?_, ?_, ?_, by omega, F, fun b => if b = ff_hb (nI c) then n :: B b else B b, ?_, ?_, ?_, ?_, ?_, ?_⟩
    · intro m hm
      rcases hm with hm | rfl
      · obtain ⟨o1, o2, o3, o4, o5⟩ := w m hm
        refine ⟨o1, by rw [(x m hm).2]; exact o2, by rw [ff_X_L x hm]; exact o3, by rw [ff_X_L x hm, ff_X_hi x hm, ff_X_lo x hm]; exact o4, ?_⟩
        rw [ff_X_L x hm, ff_X_hi x hm, ff_X_lo x hm]
        intro z
        obtain ⟨q1, q2, q3, q4, q5⟩ := o5 z
        exact ⟨Or.inl q1, Or.inl q2, by rw [ff_X_L x q1]; exact q3, by rw [ff_X_L x q2]; exact q4, q5⟩
      · obtain ⟨c1, c2, c3, c4⟩ := hc
        refine ⟨g2, ⟨c, c1, pk_us⟩, by rw [hL]; exact c2, by rw [hL, hhi, hlo]; exact c3, ?_⟩
        rw [hL, hhi, hlo]
        intro z
        obtain ⟨q1, q2, q3, q4, q5⟩ := c4 z
        exact ⟨Or.inl q1, Or.inl q2, by rw [ff_X_L x q1]; exact q3, by rw [ff_X_L x q2]; exact q4, q5⟩
    · intro m m' hm hm' e
      rcases hm with hm | rfl
      · rcases hm' with hm' | rfl
        · rw [(x m hm).2, (x m' hm').2] at e
          exact u m m' hm hm' e
        · rw [(x m hm).2, pk_us] at e
          exact absurd e (hno m hm)
      · rcases hm' with hm' | rfl
        · rw [(x m' hm').2, pk_us] at e
          exact absurd e.symm (hno m' hm')
        · rfl
    · rw [e1, show k = k - 1 + 1 by omega]
      exact nI_pred (k - 1)
    · exact ff_Ch_u g3 hnF
    · rw [List.length_cons] at f2
      omega
    · exact (List.nodup_cons.mp f3).2
    · intro m hm z
      rcases z with z | z
      · exact f4 m (List.mem_cons_of_mem n hm) z
      · exact hnF (z ▸ hm)
    · intro b hb
      obtain ⟨p1, p2⟩ := b1 b hb
      have hnB : n ∉ B b := fun z => hn (p2 n z)
      try dsimp only
      by_cases e : b = ff_hb (nI c)
      · rw [if_pos e, e, pk_us]
        rw [e] at p1 p2 hnB
        refine ⟨⟨rfl, g2, ?_⟩, ?_⟩
        · rw [pk_us]
          exact ff_Ch_u p1 hnB
        · intro m hm
          rcases List.mem_cons.mp hm with z | z
          · exact Or.inr z
          · exact Or.inl (p2 m z)
      · rw [if_neg e, pk_un e]
        exact ⟨ff_Ch_u p1 hnB, fun m hm => Or.inl (p2 m hm)⟩
    · intro m hm
      rcases hm with hm | rfl
      · rw [(x m hm).2]
        try dsimp only
        split
        · exact List.mem_cons_of_mem n (b2 m hm)
        · exact b2 m hm
      · try dsimp only
        rw [pk_us, if_pos rfl]
        exact List.mem_cons_self
end
section
/-! ===== the small methods ===== -/
theorem ff_levelOf {post : Int32 → Prop} {act opl ohd fn fc kd dp gt st : Int32} {a1 a2 a3 a4 a5 a6 a7 a8 a9 a10 a11 a12 a13 a14 a15 a16 a17 a18 a19 a20 a21 a22 a23 a24 a25 a26 a27 : Nat → Int32} {lv : Nat → Prop} {V n : Nat} (w : ff_Wf a11 lv V) (hn : lv n) (H : post (nI (ff_L a11 n))) : wpX_levelOf post (act, opl, ohd, fn, fc, kd, dp, gt, st, a1, a2, a3, a4, a5, a6, a7, a8, a9, a10, a11, a12, a13, a14, a15, a16, a17, a18, a19, a20, a21, a22, a23, a24, a25, a26, a27) (nI n) := by
  obtain ⟨c, hc, e, e1, _, _⟩ := ff_Wf_c w hn
  have hlt := (w n hn).1
  unfold wpX_levelOf
  try dsimp only
  refine ⟨vp_in_nI hlt (by omega), ?_⟩
  try dsimp only
  rw [nI_clamp (by omega), e, ff_i_l hc, ← e1]
  exact H
theorem ff_lowOf {post : Int32 → Prop} {act opl ohd fn fc kd dp gt st : Int32} {a1 a2 a3 a4 a5 a6 a7 a8 a9 a10 a11 a12 a13 a14 a15 a16 a17 a18 a19 a20 a21 a22 a23 a24 a25 a26 a27 : Nat → Int32} {lv : Nat → Prop} {V n : Nat} (w : ff_Wf a11 lv V) (hn : lv n) (H : post (nI (ff_lo a11 n))) : wpX_lowOf post (act, opl, ohd, fn, fc, kd, dp, gt, st, a1, a2, a3, a4, a5, a6, a7, a8, a9, a10, a11, a12, a13, a14, a15, a16, a17, a18, a19, a20, a21, a22, a23, a24, a25, a26, a27) (nI n) := by
  obtain ⟨c, hc, e, _, e1, _⟩ := ff_Wf_c w hn
  have hlt := (w n hn).1
  unfold wpX_lowOf
  try dsimp only
  refine ⟨vp_in_nI hlt (by omega), ?_⟩
  try dsimp only
  rw [nI_clamp (by omega), e, ff_i_w hc, ← e1]
  exact H
theorem ff_highOf {post : Int32 → Prop} {act opl ohd fn fc kd dp gt st : Int32} {a1 a2 a3 a4 a5 a6 a7 a8 a9 a10 a11 a12 a13 a14 a15 a16 a17 a18 a19 a20 a21 a22 a23 a24 a25 a26 a27 : Nat → Int32} {lv : Nat → Prop} {V n : Nat} (w : ff_Wf a11 lv V) (hn : lv n) (H : post (nI (ff_hi a11 n))) : wpX_highOf post (act, opl, ohd, fn, fc, kd, dp, gt, st, a1, a2, a3, a4, a5, a6, a7, a8, a9, a10, a11, a12, a13, a14, a15, a16, a17, a18, a19, a20, a21, a22, a23, a24, a25, a26, a27) (nI n) := by
  obtain ⟨c, hc, e, _, _, e1⟩ := ff_Wf_c w hn
  have hlt := (w n hn).1
  unfold wpX_highOf
  try dsimp only
  refine ⟨vp_in_nI hlt (by omega), ?_⟩
  try dsimp only
  rw [nI_clamp (by omega), e, ff_i_g hc, ← e1]
  exact H
def ff_bn (b : Bool) : Nat := if b then 1 else 0
theorem ff_half {post : Int32 → Prop} {act opl ohd fn fc kd dp gt st : Int32} {a1 a2 a3 a4 a5 a6 a7 a8 a9 a10 a11 a12 a13 a14 a15 a16 a17 a18 a19 a20 a21 a22 a23 a24 a25 a26 a27 : Nat → Int32} {lv : Nat → Prop} {V n l : Nat} (w : ff_Wf a11 lv V) (hn : lv n) (hl : l ≤ 6) (b : Bool) (H : post (nI (ff_hf a11 n l b))) : wpX_half post (act, opl, ohd, fn, fc, kd, dp, gt, st, a1, a2, a3, a4, a5, a6, a7, a8, a9, a10, a11, a12, a13, a14, a15, a16, a17, a18, a19, a20, a21, a22, a23, a24, a25, a26, a27) (nI n) (nI l) (nI (ff_bn b)) := by
  have hL := (w n hn).2.2.1
  unfold wpX_half
  try dsimp only
  refine ff_levelOf w hn ?_
  refine pk_eq (ff_L a11 n) l (fun e => ?_) (fun e => ?_)
  · unfold ff_hf at H
    try dsimp only
    rw [if_pos e] at H
    cases b
    · exact br_t rfl (ff_lowOf w hn H)
    · exact br_f (by decide) (ff_highOf w hn H)
  · unfold ff_hf at H
    try dsimp only
    rw [if_neg e] at H
    exact H
theorem ff_push {post : St1 → Prop} {act opl ohd fn fc kd gt st : Int32} {a1 a2 a3 a4 a5 a6 a7 a8 a9 a10 a11 a12 a13 a14 a15 a16 a17 a18 a19 a20 a21 a22 a23 a24 a25 a26 a27 : Nat → Int32} {p0 p1 p2 : Int32} {d : Nat} (hd : d < 16)
    (H : post (act, opl, ohd, fn, fc, kd, nI (d + 1), gt, st, a1, a2, a3, a4, a5, a6, a7, a8, a9, a10, a11, a12, a13, a14, a15, a16, a17, upd a18 d p0, upd a19 d p1, upd a20 d p2, upd a21 d 0, a22, a23, a24, a25, a26, a27)) : wpX_push post (act, opl, ohd, fn, fc, kd, nI d, gt, st, a1, a2, a3, a4, a5, a6, a7, a8, a9, a10, a11, a12, a13, a14, a15, a16, a17, a18, a19, a20, a21, a22, a23, a24, a25, a26, a27) p0 p1 p2 := by
  unfold wpX_push
  try dsimp only
  have e : (nI d).toNatClampNeg = d := nI_clamp (by omega)
  rw [e]
  exact ⟨pk_in d 16 hd, nm_e ⟨pk_in d 16 hd, nm_e ⟨pk_in d 16 hd, nm_e ⟨pk_in d 16 hd, nm_e (nm_r (nI_1 d) H)⟩⟩⟩⟩
/-! ===== a node with a content ===== -/
theorem ff_nw_loop {post : Int32 → St1 → Prop} {ct b : Int32} {act opl ohd fn fc kd dp gt st : Int32} {a1 a2 a3 a4 a5 a6 a7 a8 a9 a10 a11 a12 a13 a14 a15 a16 a17 a18 a19 a20 a21 a22 a23 a24 a25 a26 a27 : Nat → Int32} : ∀ (l : List Nat) (x : Int32), ff_Ch a12 x l → (∀ n, n ∈ l → a11 n = ct → post (nI n) (act, opl, ohd, fn, fc, kd, dp, gt, st, a1, a2, a3, a4, a5, a6, a7, a8, a9, a10, a11, a12, a13, a14, a15, a16, a17, a18, a19, a20, a21, a22, a23, a24, a25, a26, a27)) →
    ((∀ n, n ∈ l → a11 n ≠ ct) → (0 ≤ fn → vp_in fn 4096 ∧ vp_in b 1024 ∧ post fn (act, opl, ohd, a12 fn.toNatClampNeg, fc - 1, kd, dp, gt, st, a1, a2, a3, a4, a5, a6, a7, a8, a9, a10, upd a11 fn.toNatClampNeg ct, upd a12 fn.toNatClampNeg (a14 b.toNatClampNeg), a13, upd a14 b.toNatClampNeg fn, a15, a16, a17, a18, a19, a20, a21, a22, a23, a24, a25, a26, a27)) ∧ 0 ≤ fn) →
    ∃ k, wX_nodeWith_12 post ct b act opl ohd fn fc kd dp gt st a1 a2 a3 a4 a5 a6 a7 a8 a9 a10 a11 a12 a13 a14 a15 a16 a17 a18 a19 a20 a21 a22 a23 a24 a25 a26 a27 k x
  | [], x, h, _, H => by
    obtain ⟨h1, h2⟩ := H (fun n hn => absurd hn (by simp))
    obtain ⟨g1, g2, g3⟩ := h1 h2
    exact ⟨1, br_t h (br_t h2 ⟨g1, nm_e (nm_e ⟨g1, nm_e ⟨g2, g1, nm_e ⟨g2, nm_e g3⟩⟩⟩)⟩)⟩
  | n :: t, x, h, Hf, H => by
    obtain ⟨e, hn, h'⟩ := h
    subst e
    have ec : (nI n).toNatClampNeg = n := nI_clamp (by omega)
    by_cases c : a11 n = ct
    · exact ⟨1, br_f (nI_pos (by omega)) ⟨pk_in n 4096 hn, br_t (by rw [ec]; exact c) (Hf n List.mem_cons_self c)⟩⟩
    · obtain ⟨k, hk⟩ := ff_nw_loop t (a12 n) h' (fun m hm => Hf m (List.mem_cons_of_mem n hm)) (fun g => H (fun m hm => by
        rcases List.mem_cons.mp hm with z | z
        · try dsimp only
          rw [z]
          exact c
        · exact g m z))
      exact ⟨k + 1, br_f (nI_pos (by omega)) ⟨pk_in n 4096 hn, br_f (by rw [ec]; exact c) ⟨pk_in n 4096 hn, nm_r (by rw [ec]) hk⟩⟩⟩
theorem ff_nodeWith {post : Int32 → St1 → Prop} {act opl ohd fn fc kd dp gt st : Int32} {a1 a2 a3 a4 a5 a6 a7 a8 a9 a10 a11 a12 a13 a14 a15 a16 a17 a18 a19 a20 a21 a22 a23 a24 a25 a26 a27 : Nat → Int32} {lv : Nat → Prop} {k V c : Nat} (h : ff_NS a11 a12 a14 fn fc lv k V) (hk : 0 < k) (hc : ff_Cok a11 lv V c)
    (H : ∀ (n : Nat) (fn' fc' : Int32) (a11' a12' a14' : Nat → Int32) (lv' : Nat → Prop) (k' : Nat), lv' n → a11' n = nI c → ff_NS a11' a12' a14' fn' fc' lv' k' V → k ≤ k' + 1 → ff_X a11 lv a11' lv' →
      post (nI n) (act, opl, ohd, fn', fc', kd, dp, gt, st, a1, a2, a3, a4, a5, a6, a7, a8, a9, a10, a11', a12', a13, a14', a15, a16, a17, a18, a19, a20, a21, a22, a23, a24, a25, a26, a27)) : wpX_nodeWith post (act, opl, ohd, fn, fc, kd, dp, gt, st, a1, a2, a3, a4, a5, a6, a7, a8, a9, a10, a11, a12, a13, a14, a15, a16, a17, a18, a19, a20, a21, a22, a23, a24, a25, a26, a27) (nI c) := by
  have hw := h.1
  have h0 := h
  obtain ⟨w, u, e1, e2, F, B, f1, f2, f3, f4, b1, b2⟩ := h0
  obtain ⟨hb, ehb⟩ := ff_hb_ok (nI c)
  unfold wpX_nodeWith
  try dsimp only
  have ehb' : ((nI c ^^^ (nI c >>> ((7 : Int32) &&& 31))) ^^^ (nI c >>> ((15 : Int32) &&& 31))) &&& 1023 = nI (ff_hb (nI c)) := ehb
  have eb : (nI (ff_hb (nI c))).toNatClampNeg = ff_hb (nI c) := nI_clamp (by omega)
  unfold wpX_bucketOf
  try dsimp only
  rw [ehb', eb]
  refine ⟨pk_in _ 1024 hb, nm_e ?_⟩
  obtain ⟨p1, p2⟩ := b1 _ hb
  refine ff_nw_loop _ _ p1 (fun n hn e => ?_) (fun hno => ?_)
  · exact H n fn fc a11 a12 a14 lv k (p2 n hn) e h (by omega) (ff_X_r a11 lv)
  · have hno' : ∀ m, lv m → a11 m ≠ nI c := fun m hm z => hno m (by
      have t := b2 m hm
      rw [z] at t
      exact t) z
    obtain ⟨n, g1, g2, g3, g4, g5⟩ := ff_ins h hk hc hno'
    subst g2
    have en : (nI n).toNatClampNeg = n := nI_clamp (by omega)
    rw [en, eb]
    exact ⟨fun _ => ⟨pk_in n 4096 g1, pk_in _ 1024 hb, H n _ _ _ _ _ _ (k - 1) (Or.inr rfl) g4 g5 (by omega) g3⟩, nI_pos' (by omega)⟩
end
section
/-! ===== leaves, nodes, the memo ===== -/
theorem ff_ct_L {a : Nat → Int32} {n l x y : Nat} (h : a n = nI (ff_ct l x y)) (hl : l ≤ 6) (hx : x < 4096) (hy : y < 4096) : ff_L a n = l ∧ ff_lo a n = x ∧ ff_hi a n = y := by
  have := ff_ct_lt hl hx hy
  unfold ff_L ff_lo ff_hi
  try dsimp only
  rw [h, nI_clamp (by omega), ff_ct_l hx hy, ff_ct_w hx hy, ff_ct_g hy]
  exact ⟨rfl, rfl, rfl⟩
theorem ff_leaf {post : Int32 → St1 → Prop} {act opl ohd fn fc kd dp gt st : Int32} {a1 a2 a3 a4 a5 a6 a7 a8 a9 a10 a11 a12 a13 a14 a15 a16 a17 a18 a19 a20 a21 a22 a23 a24 a25 a26 a27 : Nat → Int32} {lv : Nat → Prop} {k V v : Nat} (h : ff_NS a11 a12 a14 fn fc lv k V) (hk : 0 < k) (hv : v < V) (hV : V ≤ 4096)
    (H : ∀ (n : Nat) (fn' fc' : Int32) (a11' a12' a14' : Nat → Int32) (lv' : Nat → Prop) (k' : Nat), ff_D a11' lv' 6 n (fun _ => v) → ff_NS a11' a12' a14' fn' fc' lv' k' V → k ≤ k' + 1 → ff_X a11 lv a11' lv' →
      post (nI n) (act, opl, ohd, fn', fc', kd, dp, gt, st, a1, a2, a3, a4, a5, a6, a7, a8, a9, a10, a11', a12', a13, a14', a15, a16, a17, a18, a19, a20, a21, a22, a23, a24, a25, a26, a27)) : wpX_leaf post (act, opl, ohd, fn, fc, kd, dp, gt, st, a1, a2, a3, a4, a5, a6, a7, a8, a9, a10, a11, a12, a13, a14, a15, a16, a17, a18, a19, a20, a21, a22, a23, a24, a25, a26, a27) (nI v) := by
  unfold wpX_leaf
  try dsimp only
  rw [ff_i_leaf (by omega)]
  refine ff_nodeWith h hk ⟨ff_ct_lt (by omega) (by omega) (by omega), ?_, ?_, ?_⟩ (fun n fn' fc' a11' a12' a14' lv' k' hn hc hN hk' hX => ?_)
  · try dsimp only
    rw [ff_ct_l (by omega) (by omega)]
    exact Nat.le_refl 6
  · intro _
    rw [ff_ct_g (by omega), ff_ct_w (by omega) (by omega)]
    exact ⟨rfl, hv⟩
  · intro z
    rw [ff_ct_l (by omega) (by omega)] at z
    omega
  · obtain ⟨q1, q2, q3⟩ := ff_ct_L hc (by omega) (by omega) (by omega)
    exact H n fn' fc' a11' a12' a14' lv' k' ⟨hn, by omega, fun h _ => by rw [ff_E_leaf q1, q2]⟩ hN hk' hX
theorem ff_node {post : Int32 → St1 → Prop} {act opl ohd fn fc kd dp gt st : Int32} {a1 a2 a3 a4 a5 a6 a7 a8 a9 a10 a11 a12 a13 a14 a15 a16 a17 a18 a19 a20 a21 a22 a23 a24 a25 a26 a27 : Nat → Int32} {lv : Nat → Prop} {k V l x y : Nat} {f g : Nat → Nat} (h : ff_NS a11 a12 a14 fn fc lv k V) (hk : 0 < k) (hl : l < 6) (dx : ff_D a11 lv (l + 1) x f) (dy : ff_D a11 lv (l + 1) y g)
    (H : ∀ (n : Nat) (fn' fc' : Int32) (a11' a12' a14' : Nat → Int32) (lv' : Nat → Prop) (k' : Nat), ff_D a11' lv' l n (fun h => if h.testBit (5 - l) then g h else f h) → ff_NS a11' a12' a14' fn' fc' lv' k' V → k ≤ k' + 1 → ff_X a11 lv a11' lv' →
      post (nI n) (act, opl, ohd, fn', fc', kd, dp, gt, st, a1, a2, a3, a4, a5, a6, a7, a8, a9, a10, a11', a12', a13, a14', a15, a16, a17, a18, a19, a20, a21, a22, a23, a24, a25, a26, a27)) : wpX_node post (act, opl, ohd, fn, fc, kd, dp, gt, st, a1, a2, a3, a4, a5, a6, a7, a8, a9, a10, a11, a12, a13, a14, a15, a16, a17, a18, a19, a20, a21, a22, a23, a24, a25, a26, a27) (nI l) (nI x) (nI y) := by
  have w := h.1
  have hx := (w x dx.1).1
  have hy := (w y dy.1).1
  unfold wpX_node
  try dsimp only
  refine pk_eq x y (fun e => ?_) (fun e => ?_)
  · subst e
    refine H x fn fc a11 a12 a14 lv k ⟨dx.1, by have := dx.2.1; omega, fun h hh => ?_⟩ h (by omega) (ff_X_r a11 lv)
    try dsimp only
    split
    · exact dy.2.2 h hh
    · exact dx.2.2 h hh
  · try dsimp only
    rw [ff_i_ct (by omega) hx hy]
    refine ff_nodeWith h hk ⟨ff_ct_lt (by omega) hx hy, ?_, ?_, ?_⟩ (fun n fn' fc' a11' a12' a14' lv' k' hn hc hN hk' hX => ?_)
    · try dsimp only
      rw [ff_ct_l hx hy]
      omega
    · intro z
      rw [ff_ct_l hx hy] at z
      omega
    · intro _
      rw [ff_ct_l hx hy, ff_ct_w hx hy, ff_ct_g hy]
      exact ⟨dx.1, dy.1, dx.2.1, dy.2.1, e⟩
    · obtain ⟨q1, q2, q3⟩ := ff_ct_L hc (by omega) hx hy
      refine H n fn' fc' a11' a12' a14' lv' k' ⟨hn, by omega, fun h hh => ?_⟩ hN hk' hX
      try dsimp only
      rw [ff_E_in hN.1 hn (by omega) h, q1, q2, q3]
      cases h.testBit (5 - l)
      · exact (ff_E_X w hX dx.1 h).trans (dx.2.2 h hh)
      · exact (ff_E_X w hX dy.1 h).trans (dy.2.2 h hh)
theorem ff_mAt (l x y : Int32) : ∃ m : Nat, m < 256 ∧ ((((x * 31) + (y * 7)) + l) &&& 255) = nI m := pk_andE _ 8 (by decide)
theorem ff_finish {post : St1 → Prop} {act opl ohd fn fc kd gt st : Int32} {a1 a2 a3 a4 a5 a6 a7 a8 a9 a10 a11 a12 a13 a14 a15 a16 a17 a18 a19 a20 a21 a22 a23 a24 a25 a26 a27 : Nat → Int32} {t d : Nat} {r : Int32} (ht : t < 16)
    (H : ∀ m, m < 256 → post (act, opl, ohd, fn, fc, kd, nI d, r, st, a1, a2, a3, a4, a5, a6, a7, a8, a9, a10, a11, a12, a13, a14, a15, a16, a17, a18, a19, a20, a21, a22, upd a23 m st, upd a24 m (a19 t), upd a25 m (a20 t), upd a26 m (a18 t), upd a27 m r)) : wpX_finish post (act, opl, ohd, fn, fc, kd, nI (d + 1), gt, st, a1, a2, a3, a4, a5, a6, a7, a8, a9, a10, a11, a12, a13, a14, a15, a16, a17, a18, a19, a20, a21, a22, a23, a24, a25, a26, a27) (nI t) r := by
  unfold wpX_finish
  try dsimp only
  have et : (nI t).toNatClampNeg = t := nI_clamp (by omega)
  have it : vp_in (nI t) 16 := pk_in t 16 ht
  obtain ⟨m, hm, e⟩ := ff_mAt (a18 t) (a19 t) (a20 t)
  have im : vp_in (nI m) 256 := pk_in m 256 hm
  have em : (nI m).toNatClampNeg = m := nI_clamp (by omega)
  rw [et]
  refine ⟨it, it, it, ?_⟩
  unfold wpX_memoAt
  try dsimp only
  rw [e, em]
  exact ⟨im, nm_e ⟨it, im, nm_e ⟨it, im, nm_e ⟨it, im, nm_e ⟨im, nm_e (nm_r (nI_pred d) (H m hm))⟩⟩⟩⟩⟩
theorem ff_recall {post : Int32 → St1 → Prop} {act opl ohd fn fc kd dp gt st : Int32} {a1 a2 a3 a4 a5 a6 a7 a8 a9 a10 a11 a12 a13 a14 a15 a16 a17 a18 a19 a20 a21 a22 a23 a24 a25 a26 a27 : Nat → Int32} {l x y : Int32} (H0 : post 0 (act, opl, ohd, fn, fc, kd, dp, gt, st, a1, a2, a3, a4, a5, a6, a7, a8, a9, a10, a11, a12, a13, a14, a15, a16, a17, a18, a19, a20, a21, a22, a23, a24, a25, a26, a27))
    (H1 : ∀ m, m < 256 → a23 m = st → a24 m = x → a25 m = y → a26 m = l → post 1 (act, opl, ohd, fn, fc, kd, dp, a27 m, st, a1, a2, a3, a4, a5, a6, a7, a8, a9, a10, a11, a12, a13, a14, a15, a16, a17, a18, a19, a20, a21, a22, a23, a24, a25, a26, a27)) : wpX_recall post (act, opl, ohd, fn, fc, kd, dp, gt, st, a1, a2, a3, a4, a5, a6, a7, a8, a9, a10, a11, a12, a13, a14, a15, a16, a17, a18, a19, a20, a21, a22, a23, a24, a25, a26, a27) l x y := by
  unfold wpX_recall
  try dsimp only
  obtain ⟨m, hm, e⟩ := ff_mAt l x y
  have im : vp_in (nI m) 256 := pk_in m 256 hm
  have em : (nI m).toNatClampNeg = m := nI_clamp (by omega)
  unfold wpX_memoAt
  try dsimp only
  rw [e, em]
  exact ⟨im, br_c (fun c1 => ⟨im, br_c (fun c2 => ⟨im, br_c (fun c3 => ⟨im, br_c (fun c4 => ⟨im, nm_e (H1 m hm c1 c2 c3 c4)⟩) (fun _ => H0)⟩) (fun _ => H0)⟩) (fun _ => H0)⟩) (fun _ => H0)⟩
/-- stamps up to s -/
def ff_Mf (a23 : Nat → Int32) (s : Nat) : Prop := ∀ j, j < 256 → ∃ i, i ≤ s ∧ a23 j = nI i
theorem ff_Mf_u {a23 : Nat → Int32} {s m : Nat} (h : ff_Mf a23 s) : ff_Mf (upd a23 m (nI s)) s := by
  intro j hj
  by_cases e : j = m
  · try dsimp only
    rw [e, pk_us]
    exact ⟨s, Nat.le_refl s, rfl⟩
  · try dsimp only
    rw [pk_un e]
    exact h j hj
theorem ff_Mf_s {a23 : Nat → Int32} {s s' : Nat} (h : ff_Mf a23 s) (e : s ≤ s') : ff_Mf a23 s' := fun j hj => by
  obtain ⟨i, hi, g⟩ := h j hj
  exact ⟨i, by omega, g⟩
theorem ff_Mf_n {a23 : Nat → Int32} {s j : Nat} (h : ff_Mf a23 s) (hs : s + 1 < 2 ^ 31) (hj : j < 256) : a23 j ≠ nI (s + 1) := by
  obtain ⟨i, hi, g⟩ := h j hj
  rw [g]
  intro z
  have := (nI_eq (by omega) (by omega)).mp z
  omega
end
section
/-! ===== choose ===== -/
/-- what choose is to find at a level -/
def ff_cf (a : Nat → Int32) (mm l x y : Nat) : Nat → Nat := fun h => if ff_mb mm h (6 - l) then ff_E a x h else ff_E a y h
/-- every remark of this stamp is right -/
def ff_Mv (a11 : Nat → Int32) (lv : Nat → Prop) (mm s : Nat) (a23 a24 a25 a26 a27 : Nat → Int32) : Prop :=
  ff_Mf a23 s ∧ ∀ j, j < 256 → a23 j = nI s → ∃ l x y r, l < 6 ∧ a24 j = nI x ∧ a25 j = nI y ∧ a26 j = nI l ∧ a27 j = nI r ∧ lv x ∧ lv y ∧ ff_D a11 lv l r (ff_cf a11 mm l x y)
theorem ff_Mv_X {a a' : Nat → Int32} {lv lv' : Nat → Prop} {V mm s : Nat} {a23 a24 a25 a26 a27 : Nat → Int32} (w : ff_Wf a lv V) (X : ff_X a lv a' lv') (h : ff_Mv a lv mm s a23 a24 a25 a26 a27) : ff_Mv a' lv' mm s a23 a24 a25 a26 a27 := by
  refine ⟨h.1, fun j hj e => ?_⟩
  obtain ⟨l, x, y, r, h1, h2, h3, h4, h5, h6, h7, h8⟩ := h.2 j hj e
  refine ⟨l, x, y, r, h1, h2, h3, h4, h5, (X x h6).1, (X y h7).1, ff_D_f (fun h _ => ?_) (ff_D_X w X h8)⟩
  unfold ff_cf
  try dsimp only
  rw [ff_E_X w X h6, ff_E_X w X h7]
theorem ff_Mv_u {a : Nat → Int32} {lv : Nat → Prop} {mm s m l x y r : Nat} {a23 a24 a25 a26 a27 : Nat → Int32} (h : ff_Mv a lv mm s a23 a24 a25 a26 a27) (hl : l < 6) (hx : lv x) (hy : lv y) (hd : ff_D a lv l r (ff_cf a mm l x y)) :
    ff_Mv a lv mm s (upd a23 m (nI s)) (upd a24 m (nI x)) (upd a25 m (nI y)) (upd a26 m (nI l)) (upd a27 m (nI r)) := by
  refine ⟨ff_Mf_u h.1, fun j hj e => ?_⟩
  try dsimp only
  by_cases z : j = m
  · subst z
    exact ⟨l, x, y, r, hl, pk_us, pk_us, pk_us, pk_us, hx, hy, hd⟩
  · try dsimp only
    rw [pk_un z] at e
    rw [pk_un z, pk_un z, pk_un z, pk_un z]
    exact h.2 j hj e
theorem ff_cs_a {post : St1 → Prop} {act opl ohd fn fc kd gt st : Int32} {a1 a2 a3 a4 a5 a6 a7 a8 a9 a10 a11 a12 a13 a14 a15 a16 a17 a18 a19 a20 a21 a22 a23 a24 a25 a26 a27 : Nat → Int32} {i mm x y : Nat} (hi : i < 7) (hm : mm < 4096) (h18 : a18 i = nI i) (h19 : a19 i = nI x) (h20 : a20 i = nI y) (h21 : a21 i = nI 0) (hx : x < 4096) (hy : y < 4096)
    (H1 : (x = y ∨ mm / 64 % 2 ^ (6 - i) = 0) → post (act, opl, ohd, fn, fc, kd, nI i, nI x, st, a1, a2, a3, a4, a5, a6, a7, a8, a9, a10, a11, a12, a13, a14, a15, a16, a17, a18, a19, a20, a21, a22, a23, a24, a25, a26, a27))
    (H2 : x ≠ y → mm / 64 % 2 ^ (6 - i) ≠ 0 → wX_chooseStep_91 post (nI mm) (nI i) (nI i) (nI x) (nI y) (nI 0) (nI (mm / 64)) act opl ohd fn fc kd (nI (i + 1)) gt st a1 a2 a3 a4 a5 a6 a7 a8 a9 a10 a11 a12 a13 a14 a15 a16 a17 a18 a19 a20 a21 a22 a23 a24 a25 a26 a27) : wpX_chooseStep post (act, opl, ohd, fn, fc, kd, nI (i + 1), gt, st, a1, a2, a3, a4, a5, a6, a7, a8, a9, a10, a11, a12, a13, a14, a15, a16, a17, a18, a19, a20, a21, a22, a23, a24, a25, a26, a27) (nI mm) := by
  have ei : (nI i).toNatClampNeg = i := nI_clamp (by omega)
  have ii : vp_in (nI i) 16 := pk_in i 16 (by omega)
  have e6 : nI mm >>> ((6 : Int32) &&& 31) = nI (mm / 64) := pk_shrN (by omega) _ 6 (by decide)
  have er : nI (mm / 64) &&& (((1 : Int32) <<< ((6 - nI i) &&& 31)) - 1) = nI (mm / 64 % 2 ^ (6 - i)) := by
    rw [← e6]
    exact ff_i_rest hm hi
  unfold wpX_chooseStep
  try dsimp only
  refine nm_r (nI_pred i) ⟨ii, nm_r (by rw [ei, h18]) ⟨ii, nm_r (by rw [ei, h19]) ⟨ii, nm_r (by rw [ei, h20]) ⟨ii, nm_r (by rw [ei, h21]) (nm_r e6 (nm_r er ?_))⟩⟩⟩⟩
  have hr : mm / 64 % 2 ^ (6 - i) ≤ mm / 64 := Nat.mod_le _ _
  refine br_t rfl (pk_eq x y (fun e => ?_) (fun e => pk_eq (mm / 64 % 2 ^ (6 - i)) 0 (fun e' => ?_) (fun e' => H2 e e')))
  · exact nm_r (nI_pred i) (H1 (Or.inl e))
  · exact nm_r (nI_pred i) (H1 (Or.inr e'))
theorem ff_cs_b {post : St1 → Prop} {act opl ohd fn fc kd gt st : Int32} {a1 a2 a3 a4 a5 a6 a7 a8 a9 a10 a11 a12 a13 a14 a15 a16 a17 a18 a19 a20 a21 a22 a23 a24 a25 a26 a27 : Nat → Int32} {i mm x y ph : Nat} (hi : i < 7) (hm : mm < 4096) (h18 : a18 i = nI i) (h19 : a19 i = nI x) (h20 : a20 i = nI y) (h21 : a21 i = nI ph) (hp : 0 < ph) (hp2 : ph < 3)
    (H2 : wX_chooseStep_119 post (nI mm) (nI i) (nI i) (nI x) (nI y) (nI ph) (nI (mm / 64)) act opl ohd fn fc kd (nI (i + 1)) gt st a1 a2 a3 a4 a5 a6 a7 a8 a9 a10 a11 a12 a13 a14 a15 a16 a17 a18 a19 a20 a21 a22 a23 a24 a25 a26 a27) : wpX_chooseStep post (act, opl, ohd, fn, fc, kd, nI (i + 1), gt, st, a1, a2, a3, a4, a5, a6, a7, a8, a9, a10, a11, a12, a13, a14, a15, a16, a17, a18, a19, a20, a21, a22, a23, a24, a25, a26, a27) (nI mm) := by
  have ei : (nI i).toNatClampNeg = i := nI_clamp (by omega)
  have ii : vp_in (nI i) 16 := pk_in i 16 (by omega)
  have e6 : nI mm >>> ((6 : Int32) &&& 31) = nI (mm / 64) := pk_shrN (by omega) _ 6 (by decide)
  have er : nI (mm / 64) &&& (((1 : Int32) <<< ((6 - nI i) &&& 31)) - 1) = nI (mm / 64 % 2 ^ (6 - i)) := by
    rw [← e6]
    exact ff_i_rest hm hi
  unfold wpX_chooseStep
  try dsimp only
  refine nm_r (nI_pred i) ⟨ii, nm_r (by rw [ei, h18]) ⟨ii, nm_r (by rw [ei, h19]) ⟨ii, nm_r (by rw [ei, h20]) ⟨ii, nm_r (by rw [ei, h21]) (nm_r e6 (nm_r er ?_))⟩⟩⟩⟩
  have hn : ¬ nI ph = 0 := nI_ne0 hp (by omega)
  refine br_f hn ?_
  unfold wX_chooseStep_91
  try dsimp only
  exact br_f hn H2
theorem ff_cs_91 {post : St1 → Prop} {act opl ohd fn fc kd gt st : Int32} {a1 a2 a3 a4 a5 a6 a7 a8 a9 a10 a11 a12 a13 a14 a15 a16 a17 a18 a19 a20 a21 a22 a23 a24 a25 a26 a27 : Nat → Int32} {i : Nat} {x1 x3 x4 x5 x7 : Int32}
    (H1 : ∀ (m : Nat) (r : Int32), m < 256 → a23 m = st → a24 m = x4 → a25 m = x5 → a26 m = x3 → a27 m = r → post (act, opl, ohd, fn, fc, kd, nI i, r, st, a1, a2, a3, a4, a5, a6, a7, a8, a9, a10, a11, a12, a13, a14, a15, a16, a17, a18, a19, a20, a21, a22, a23, a24, a25, a26, a27))
    (H2 : wX_chooseStep_119 post x1 (nI i) x3 x4 x5 (nI 0) x7 act opl ohd fn fc kd (nI (i + 1)) gt st a1 a2 a3 a4 a5 a6 a7 a8 a9 a10 a11 a12 a13 a14 a15 a16 a17 a18 a19 a20 a21 a22 a23 a24 a25 a26 a27) : wX_chooseStep_91 post x1 (nI i) x3 x4 x5 (nI 0) x7 act opl ohd fn fc kd (nI (i + 1)) gt st a1 a2 a3 a4 a5 a6 a7 a8 a9 a10 a11 a12 a13 a14 a15 a16 a17 a18 a19 a20 a21 a22 a23 a24 a25 a26 a27 := by
  unfold wX_chooseStep_91
  try dsimp only
  refine br_t rfl (ff_recall ?_ (fun m hm c1 c2 c3 c4 => ?_))
  · exact br_t rfl H2
  · exact br_f (by decide) (nm_r (nI_pred i) (H1 m _ hm c1 c2 c3 c4 rfl))
theorem ff_care {mm i : Nat} (hm : mm < 4096) (hi : i < 6) : ((nI (mm / 64) >>> (nI (5 - i) &&& 31)) &&& 1 = 1) ↔ mm.testBit (6 + (5 - i)) = true := by
  rw [ff_bit1 (by omega) (by omega), ff_d64]
theorem ff_bnV {mm i : Nat} (hm : mm < 4096) (hi : i < 6) : (nI mm >>> (nI (5 - i) &&& 31)) &&& 1 = nI (ff_bn (mm.testBit (5 - i))) := ff_bitV (by omega) (by omega)
/-- the first time: down to the half of the bit that must match, or the half of a 0 -/
def ff_fb (mm i : Nat) : Bool := mm.testBit (6 + (5 - i)) && mm.testBit (5 - i)
theorem ff_go {post : St1 → Prop} {act opl ohd fn fc kd gt st : Int32} {a1 a2 a3 a4 a5 a6 a7 a8 a9 a10 a11 a12 a13 a14 a15 a16 a17 a18 a19 a20 a21 a22 a23 a24 a25 a26 a27 : Nat → Int32} {lv : Nat → Prop} {V i mm x y : Nat} (w : ff_Wf a11 lv V) (hx : lv x) (hy : lv y) (hi : i < 6) (hm : mm < 4096) (h21 : a21 i = nI 0)
    (H : post (act, opl, ohd, fn, fc, kd, nI (i + 2), gt, st, a1, a2, a3, a4, a5, a6, a7, a8, a9, a10, a11, a12, a13, a14, a15, a16, a17, upd a18 (i + 1) (nI (i + 1)), upd a19 (i + 1) (nI (ff_hf a11 x i (ff_fb mm i))), upd a20 (i + 1) (nI (ff_hf a11 y i (ff_fb mm i))), upd (upd a21 i (nI 1)) (i + 1) 0, a22, a23, a24, a25, a26, a27)) :
    wX_chooseStep_119 post (nI mm) (nI i) (nI i) (nI x) (nI y) (nI 0) (nI (mm / 64)) act opl ohd fn fc kd (nI (i + 1)) gt st a1 a2 a3 a4 a5 a6 a7 a8 a9 a10 a11 a12 a13 a14 a15 a16 a17 a18 a19 a20 a21 a22 a23 a24 a25 a26 a27 := by
  have ei : (nI i).toNatClampNeg = i := nI_clamp (by omega)
  have ii : vp_in (nI i) 16 := pk_in i 16 (by omega)
  unfold wX_chooseStep_119
  try dsimp only
  refine ⟨ii, ii, nm_r (by rw [ei, h21, nI_1]) (nm_r (show (5 : Int32) - nI i = nI (5 - i) from pk_sub (a := 5) (b := i) (by omega)) ?_)⟩
  unfold ff_fb at H
  by_cases c : mm.testBit (6 + (5 - i)) = true
  · try dsimp only
    rw [c, Bool.true_and] at H
    refine br_t ((ff_care hm hi).mpr c) ?_
    try dsimp only
    rw [ff_bnV hm hi]
    unfold wpX_chooseAlong
    try dsimp only
    refine nm_e (br_t rfl ?_)
    refine ff_half w hx (by omega) _ (ff_half w hy (by omega) _ ?_)
    try dsimp only
    rw [nI_1]
    exact ff_push (by omega) H
  · try dsimp only
    rw [Bool.eq_false_iff.mpr c, Bool.false_and] at H
    refine br_f (fun z => c ((ff_care hm hi).mp z)) ?_
    unfold wpX_chooseBoth
    try dsimp only
    refine nm_e (br_f (by decide) (br_f (by decide) ?_))
    unfold wX_chooseBoth_58
    try dsimp only
    refine ff_half w hx (by omega) false (ff_half w hy (by omega) false ?_)
    try dsimp only
    rw [nI_1]
    exact ff_push (by omega) H
/-- the second time, where the bit may be both: down to the half of a 1 -/
theorem ff_mid {post : St1 → Prop} {act opl ohd fn fc kd gt st : Int32} {a1 a2 a3 a4 a5 a6 a7 a8 a9 a10 a11 a12 a13 a14 a15 a16 a17 a18 a19 a20 a21 a22 a23 a24 a25 a26 a27 : Nat → Int32} {lv : Nat → Prop} {V i mm x y : Nat} (w : ff_Wf a11 lv V) (hx : lv x) (hy : lv y) (hi : i < 6) (hm : mm < 4096) (h21 : a21 i = nI 1) (c : ¬ mm.testBit (6 + (5 - i)) = true)
    (H : post (act, opl, ohd, fn, fc, kd, nI (i + 2), gt, st, a1, a2, a3, a4, a5, a6, a7, a8, a9, a10, a11, a12, a13, a14, a15, a16, a17, upd a18 (i + 1) (nI (i + 1)), upd a19 (i + 1) (nI (ff_hf a11 x i true)), upd a20 (i + 1) (nI (ff_hf a11 y i true)), upd (upd a21 i (nI 2)) (i + 1) 0, upd a22 i gt, a23, a24, a25, a26, a27)) :
    wX_chooseStep_119 post (nI mm) (nI i) (nI i) (nI x) (nI y) (nI 1) (nI (mm / 64)) act opl ohd fn fc kd (nI (i + 1)) gt st a1 a2 a3 a4 a5 a6 a7 a8 a9 a10 a11 a12 a13 a14 a15 a16 a17 a18 a19 a20 a21 a22 a23 a24 a25 a26 a27 := by
  have ei : (nI i).toNatClampNeg = i := nI_clamp (by omega)
  have ii : vp_in (nI i) 16 := pk_in i 16 (by omega)
  unfold wX_chooseStep_119
  try dsimp only
  refine ⟨ii, ii, nm_r (by rw [ei, h21, nI_1]) (nm_r (show (5 : Int32) - nI i = nI (5 - i) from pk_sub (a := 5) (b := i) (by omega)) ?_)⟩
  refine br_f (fun z => c ((ff_care hm hi).mp z)) ?_
  unfold wpX_chooseBoth
  try dsimp only
  refine nm_r (nI_pred i) (br_f (by decide) (br_t rfl ⟨ii, nm_r (by rw [ei]) ?_⟩))
  unfold wX_chooseBoth_58
  try dsimp only
  refine ff_half w hx (by omega) true (ff_half w hy (by omega) true ?_)
  try dsimp only
  rw [nI_1]
  exact ff_push (by omega) H
/-- the last time, where the bit must match -/
theorem ff_fin1 {post : St1 → Prop} {act opl ohd fn fc kd st : Int32} {a1 a2 a3 a4 a5 a6 a7 a8 a9 a10 a11 a12 a13 a14 a15 a16 a17 a18 a19 a20 a21 a22 a23 a24 a25 a26 a27 : Nat → Int32} {lv : Nat → Prop} {k V i mm x y r : Nat} {f : Nat → Nat} (hN : ff_NS a11 a12 a14 fn fc lv k V) (hk : 0 < k) (hy : lv y) (hly : i ≤ ff_L a11 y) (hi : i < 6) (hm : mm < 4096) (h21 : a21 i = nI 1) (c : mm.testBit (6 + (5 - i)) = true)
    (hr : ff_D a11 lv (i + 1) r f)
    (H : ∀ (n m : Nat) (fn' fc' : Int32) (a11' a12' a14' : Nat → Int32) (lv' : Nat → Prop) (k' : Nat), m < 256 → ff_D a11' lv' i n (fun h => if h.testBit (5 - i) = mm.testBit (5 - i) then f h else ff_E a11 y h) → ff_NS a11' a12' a14' fn' fc' lv' k' V → k ≤ k' + 1 → ff_X a11 lv a11' lv' →
      post (act, opl, ohd, fn', fc', kd, nI i, nI n, st, a1, a2, a3, a4, a5, a6, a7, a8, a9, a10, a11', a12', a13, a14', a15, a16, a17, a18, a19, a20, upd a21 i (nI 2), a22, upd a23 m st, upd a24 m (a19 i), upd a25 m (a20 i), upd a26 m (a18 i), upd a27 m (nI n))) :
    wX_chooseStep_119 post (nI mm) (nI i) (nI i) (nI x) (nI y) (nI 1) (nI (mm / 64)) act opl ohd fn fc kd (nI (i + 1)) (nI r) st a1 a2 a3 a4 a5 a6 a7 a8 a9 a10 a11 a12 a13 a14 a15 a16 a17 a18 a19 a20 a21 a22 a23 a24 a25 a26 a27 := by
  have ei : (nI i).toNatClampNeg = i := nI_clamp (by omega)
  have ii : vp_in (nI i) 16 := pk_in i 16 (by omega)
  have w := hN.1
  unfold wX_chooseStep_119
  try dsimp only
  refine ⟨ii, ii, nm_r (by rw [ei, h21, nI_1]) (nm_r (show (5 : Int32) - nI i = nI (5 - i) from pk_sub (a := 5) (b := i) (by omega)) ?_)⟩
  refine br_t ((ff_care hm hi).mpr c) ?_
  try dsimp only
  rw [ff_bnV hm hi]
  unfold wpX_chooseAlong
  try dsimp only
  refine nm_r (nI_pred i) (br_f (by decide) ?_)
  have e1 : (1 : Int32) - nI (ff_bn (mm.testBit (5 - i))) = nI (ff_bn (!mm.testBit (5 - i))) := by cases mm.testBit (5 - i) <;> decide
  rw [e1]
  refine ff_half w hy (by omega) _ ?_
  obtain ⟨s1, s2, s3⟩ := ff_hf_ok w hy hly hi (!mm.testBit (5 - i))
  have hs : ff_D a11 lv (i + 1) (ff_hf a11 y i (!mm.testBit (5 - i))) (fun h => ff_E a11 (ff_hf a11 y i (!mm.testBit (5 - i))) h) := ⟨s1, s2, fun _ _ => rfl⟩
  cases b : mm.testBit (5 - i)
  · try dsimp only
    rw [b] at hs s3 H
    refine br_t rfl (ff_node hN hk hi hr hs (fun n fn' fc' a11' a12' a14' lv' k' hD hN' hk' hX => ?_))
    refine ff_finish (by omega) (fun m hm => H n m fn' fc' a11' a12' a14' lv' k' hm (ff_D_f (fun h hh => ?_) hD) hN' hk' hX)
    try dsimp only
    cases z : h.testBit (5 - i)
    · rw [if_neg (by decide), if_pos rfl]
    · rw [if_pos rfl, if_neg (by decide)]
      exact s3 h z
  · try dsimp only
    rw [b] at hs s3 H
    refine br_f (by decide) (ff_node hN hk hi hs hr (fun n fn' fc' a11' a12' a14' lv' k' hD hN' hk' hX => ?_))
    refine ff_finish (by omega) (fun m hm => H n m fn' fc' a11' a12' a14' lv' k' hm (ff_D_f (fun h hh => ?_) hD) hN' hk' hX)
    try dsimp only
    cases z : h.testBit (5 - i)
    · rw [if_neg (by decide), if_neg (by decide)]
      exact s3 h z
    · rw [if_pos rfl, if_pos rfl]
/-- the last time, where the bit may be both -/
theorem ff_fin2 {post : St1 → Prop} {act opl ohd fn fc kd st : Int32} {a1 a2 a3 a4 a5 a6 a7 a8 a9 a10 a11 a12 a13 a14 a15 a16 a17 a18 a19 a20 a21 a22 a23 a24 a25 a26 a27 : Nat → Int32} {lv : Nat → Prop} {k V i mm x y r q : Nat} {f g : Nat → Nat} (hN : ff_NS a11 a12 a14 fn fc lv k V) (hk : 0 < k) (hi : i < 6) (hm : mm < 4096) (h21 : a21 i = nI 2) (h22 : a22 i = nI q) (c : ¬ mm.testBit (6 + (5 - i)) = true)
    (hq : ff_D a11 lv (i + 1) q g) (hr : ff_D a11 lv (i + 1) r f)
    (H : ∀ (n m : Nat) (fn' fc' : Int32) (a11' a12' a14' : Nat → Int32) (lv' : Nat → Prop) (k' : Nat), m < 256 → ff_D a11' lv' i n (fun h => if h.testBit (5 - i) then f h else g h) → ff_NS a11' a12' a14' fn' fc' lv' k' V → k ≤ k' + 1 → ff_X a11 lv a11' lv' →
      post (act, opl, ohd, fn', fc', kd, nI i, nI n, st, a1, a2, a3, a4, a5, a6, a7, a8, a9, a10, a11', a12', a13, a14', a15, a16, a17, a18, a19, a20, upd a21 i (nI 3), a22, upd a23 m st, upd a24 m (a19 i), upd a25 m (a20 i), upd a26 m (a18 i), upd a27 m (nI n))) :
    wX_chooseStep_119 post (nI mm) (nI i) (nI i) (nI x) (nI y) (nI 2) (nI (mm / 64)) act opl ohd fn fc kd (nI (i + 1)) (nI r) st a1 a2 a3 a4 a5 a6 a7 a8 a9 a10 a11 a12 a13 a14 a15 a16 a17 a18 a19 a20 a21 a22 a23 a24 a25 a26 a27 := by
  have ei : (nI i).toNatClampNeg = i := nI_clamp (by omega)
  have ii : vp_in (nI i) 16 := pk_in i 16 (by omega)
  unfold wX_chooseStep_119
  try dsimp only
  refine ⟨ii, ii, nm_r (by rw [ei, h21, nI_1]) (nm_r (show (5 : Int32) - nI i = nI (5 - i) from pk_sub (a := 5) (b := i) (by omega)) ?_)⟩
  refine br_f (fun z => c ((ff_care hm hi).mp z)) ?_
  unfold wpX_chooseBoth
  try dsimp only
  refine nm_r (nI_pred i) (br_t rfl ⟨ii, ?_⟩)
  try dsimp only
  rw [ei, h22]
  refine ff_node hN hk hi hq hr (fun n fn' fc' a11' a12' a14' lv' k' hD hN' hk' hX => ?_)
  exact ff_finish (by omega) (fun m hm => H n m fn' fc' a11' a12' a14' lv' k' hm hD hN' hk' hX)
end
section
/-! ===== choose as a whole ===== -/
theorem ff_hf_X {a a' : Nat → Int32} {lv lv' : Nat → Prop} {n i : Nat} (X : ff_X a lv a' lv') (hn : lv n) (b : Bool) : ff_hf a' n i b = ff_hf a n i b := by
  unfold ff_hf
  try dsimp only
  rw [ff_X_L X hn, ff_X_lo X hn, ff_X_hi X hn]
theorem ff_cf_X {a a' : Nat → Int32} {lv lv' : Nat → Prop} {V mm l x y : Nat} (w : ff_Wf a lv V) (X : ff_X a lv a' lv') (hx : lv x) (hy : lv y) (h : Nat) : ff_cf a' mm l x y h = ff_cf a mm l x y h := by
  unfold ff_cf
  try dsimp only
  rw [ff_E_X w X hx, ff_E_X w X hy]
theorem ff_mb_6 {mm i h : Nat} (hi : i < 6) : ff_mb mm h (6 - i) = ((!(mm.testBit (6 + (5 - i))) || (h.testBit (5 - i) == mm.testBit (5 - i))) && ff_mb mm h (6 - (i + 1))) := by
  have e : 6 - i = (5 - i) + 1 := by omega
  have e2 : 6 - (i + 1) = 5 - i := by omega
  rw [e, e2]
  rfl
theorem ff_cf_along {a : Nat → Int32} {lv : Nat → Prop} {V mm i x y h : Nat} (w : ff_Wf a lv V) (hx : lv x) (hy : lv y) (lx : i ≤ ff_L a x) (ly : i ≤ ff_L a y) (hi : i < 6) (c : mm.testBit (6 + (5 - i)) = true) :
    (if h.testBit (5 - i) = mm.testBit (5 - i) then ff_cf a mm (i + 1) (ff_hf a x i (mm.testBit (5 - i))) (ff_hf a y i (mm.testBit (5 - i))) h else ff_E a y h) = ff_cf a mm i x y h := by
  unfold ff_cf
  try dsimp only
  rw [ff_mb_6 hi, c]
  by_cases z : h.testBit (5 - i) = mm.testBit (5 - i)
  · try dsimp only
    rw [if_pos z, (ff_hf_ok w hx lx hi _).2.2 h z, (ff_hf_ok w hy ly hi _).2.2 h z, z]
    simp
  · try dsimp only
    rw [if_neg z]
    have e : (h.testBit (5 - i) == mm.testBit (5 - i)) = false := by
      cases h1 : h.testBit (5 - i) <;> cases h2 : mm.testBit (5 - i) <;> simp_all
    rw [e]
    simp
theorem ff_cf_both {a : Nat → Int32} {lv : Nat → Prop} {V mm i x y h : Nat} (w : ff_Wf a lv V) (hx : lv x) (hy : lv y) (lx : i ≤ ff_L a x) (ly : i ≤ ff_L a y) (hi : i < 6) (c : ¬ mm.testBit (6 + (5 - i)) = true) :
    (if h.testBit (5 - i) then ff_cf a mm (i + 1) (ff_hf a x i true) (ff_hf a y i true) h else ff_cf a mm (i + 1) (ff_hf a x i false) (ff_hf a y i false) h) = ff_cf a mm i x y h := by
  unfold ff_cf
  try dsimp only
  rw [ff_mb_6 hi, Bool.eq_false_iff.mpr c]
  cases z : h.testBit (5 - i)
  · try dsimp only
    rw [(ff_hf_ok w hx lx hi _).2.2 h z, (ff_hf_ok w hy ly hi _).2.2 h z]
    simp
  · try dsimp only
    rw [(ff_hf_ok w hx lx hi _).2.2 h z, (ff_hf_ok w hy ly hi _).2.2 h z]
    simp
theorem ff_cit {post : Int32 → St1 → Prop} {act opl ohd fn fc kd gt st : Int32} {a1 a2 a3 a4 a5 a6 a7 a8 a9 a10 a11 a12 a13 a14 a15 a16 a17 a18 a19 a20 a21 a22 a23 a24 a25 a26 a27 : Nat → Int32} {x1 : Int32} {x4 d : Nat} (hx : x4 < 600) (hd : d < 100)
    (H : wpX_chooseStep (fun u => match u with | (actb, oplb, ohdb, fnb, fcb, kdb, dpb, gtb, stb, a1b, a2b, a3b, a4b, a5b, a6b, a7b, a8b, a9b, a10b, a11b, a12b, a13b, a14b, a15b, a16b, a17b, a18b, a19b, a20b, a21b, a22b, a23b, a24b, a25b, a26b, a27b) => wX_choose_25 post x1 (601 - (x4 + 1)) (nI (x4 + 1)) actb oplb ohdb fnb fcb kdb dpb gtb stb a1b a2b a3b a4b a5b a6b a7b a8b a9b a10b a11b a12b a13b a14b a15b a16b a17b a18b a19b a20b a21b a22b a23b a24b a25b a26b a27b) (act, opl, ohd, fn, fc, kd, nI (d + 1), gt, st, a1, a2, a3, a4, a5, a6, a7, a8, a9, a10, a11, a12, a13, a14, a15, a16, a17, a18, a19, a20, a21, a22, a23, a24, a25, a26, a27) x1) : wX_choose_25 post x1 (601 - x4) (nI x4) act opl ohd fn fc kd (nI (d + 1)) gt st a1 a2 a3 a4 a5 a6 a7 a8 a9 a10 a11 a12 a13 a14 a15 a16 a17 a18 a19 a20 a21 a22 a23 a24 a25 a26 a27 := by
  have e : 601 - x4 = (600 - x4) + 1 := by omega
  have e2 : 601 - (x4 + 1) = 600 - x4 := by omega
  rw [e2] at H
  rw [e]
  refine br_f (nI_ge (b := 600) hx (by omega)) (br_f (nI_nle (by omega) (by omega)) ?_)
  refine Eq.mp (congrArg (fun (f : St1 → Prop) => wpX_chooseStep f (act, opl, ohd, fn, fc, kd, nI (d + 1), gt, st, a1, a2, a3, a4, a5, a6, a7, a8, a9, a10, a11, a12, a13, a14, a15, a16, a17, a18, a19, a20, a21, a22, a23, a24, a25, a26, a27) x1) ?_) H
  funext u
  obtain ⟨actb, oplb, ohdb, fnb, fcb, kdb, dpb, gtb, stb, a1b, a2b, a3b, a4b, a5b, a6b, a7b, a8b, a9b, a10b, a11b, a12b, a13b, a14b, a15b, a16b, a17b, a18b, a19b, a20b, a21b, a22b, a23b, a24b, a25b, a26b, a27b⟩ := u
  exact propext ⟨fun h z ez => by rw [ez, nI_1]; exact h, fun h => by
    have h' := h _ rfl
    rw [nI_1] at h'
    exact h'⟩
theorem ff_cbig {post : Int32 → St1 → Prop} {act opl ohd kd : Int32} {a1 a2 a3 a4 a5 a6 a7 a8 a9 a10 a13 a15 a16 a17 : Nat → Int32} {mm V s : Nat} (hm : mm < 4096) :
    ∀ (q x4 i x y k : Nat) (lv : Nat → Prop) (fn fc gt : Int32) (a11 a12 a14 a18 a19 a20 a21 a22 a23 a24 a25 a26 a27 : Nat → Int32), i + q = 6 → ff_NS a11 a12 a14 fn fc lv k V → 2 ^ q ≤ k + 1 → ff_Mv a11 lv mm s a23 a24 a25 a26 a27 →
    a18 i = nI i → a19 i = nI x → a20 i = nI y → a21 i = nI 0 → lv x → lv y → i ≤ ff_L a11 x → i ≤ ff_L a11 y → x4 + 4 * 2 ^ q ≤ 603 →
    (∀ (x4' r k' : Nat) (lv' : Nat → Prop) (fn' fc' : Int32) (a11' a12' a14' a18' a19' a20' a21' a22' a23' a24' a25' a26' a27' : Nat → Int32), x4' + 3 ≤ x4 + 4 * 2 ^ q → ff_NS a11' a12' a14' fn' fc' lv' k' V → k + 1 ≤ k' + 2 ^ q → ff_X a11 lv a11' lv' → ff_Mv a11' lv' mm s a23' a24' a25' a26' a27' →
      (∀ j, j < i → a18' j = a18 j ∧ a19' j = a19 j ∧ a20' j = a20 j ∧ a21' j = a21 j ∧ a22' j = a22 j) → ff_D a11' lv' i r (ff_cf a11 mm i x y) →
      wX_choose_25 post (nI mm) (601 - x4') (nI x4') act opl ohd fn' fc' kd (nI i) (nI r) (nI s) a1 a2 a3 a4 a5 a6 a7 a8 a9 a10 a11' a12' a13 a14' a15 a16 a17 a18' a19' a20' a21' a22' a23' a24' a25' a26' a27') →
    wX_choose_25 post (nI mm) (601 - x4) (nI x4) act opl ohd fn fc kd (nI (i + 1)) gt (nI s) a1 a2 a3 a4 a5 a6 a7 a8 a9 a10 a11 a12 a13 a14 a15 a16 a17 a18 a19 a20 a21 a22 a23 a24 a25 a26 a27 := by
  intro q
  induction q with
  | zero =>
    intro x4 i x y k lv fn fc gt a11 a12 a14 a18 a19 a20 a21 a22 a23 a24 a25 a26 a27 hi hN hk hM h18 h19 h20 h21 hx hy lx ly hx4 K
    have w := hN.1
    have hx' := (w x hx).1
    have hy' := (w y hy).1
    have e : i = 6 := by omega
    subst e
    refine ff_cit (by omega) (by omega) (ff_cs_a (by omega) hm h18 h19 h20 h21 hx' hy' (fun c => ?_) (fun _ c => absurd (Nat.mod_one _) c))
    exact K (x4 + 1) x k lv fn fc a11 a12 a14 a18 a19 a20 a21 a22 a23 a24 a25 a26 a27 (by omega) hN (by omega) (ff_X_r a11 lv) hM (fun j _ => ⟨rfl, rfl, rfl, rfl, rfl⟩) ⟨hx, lx, fun h _ => by
      unfold ff_cf
      rw [show ff_mb mm h (6 - 6) = true from rfl, if_pos rfl]⟩
  | succ q ih =>
    intro x4 i x y k lv fn fc gt a11 a12 a14 a18 a19 a20 a21 a22 a23 a24 a25 a26 a27 hi hN hk hM h18 h19 h20 h21 hx hy lx ly hx4 K
    have w := hN.1
    have hx' := (w x hx).1
    have hy' := (w y hy).1
    have hi6 : i < 6 := by omega
    have hp : 2 ^ (q + 1) = 2 * 2 ^ q := by rw [Nat.pow_succ]; omega
    have hp1 : 1 ≤ 2 ^ q := Nat.one_le_two_pow
    rw [hp] at hk hx4 K
    refine ff_cit (by omega) (by omega) (ff_cs_a (by omega) hm h18 h19 h20 h21 hx' hy' (fun c => ?_) (fun hne hrest => ff_cs_91 (fun m r hm' c1 c2 c3 c4 c5 => ?_) (ff_go w hx hy hi6 hm h21 ?_)))
    · refine K (x4 + 1) x k lv fn fc a11 a12 a14 a18 a19 a20 a21 a22 a23 a24 a25 a26 a27 (by omega) hN (by omega) (ff_X_r a11 lv) hM (fun j _ => ⟨rfl, rfl, rfl, rfl, rfl⟩) ⟨hx, lx, fun h _ => ?_⟩
      unfold ff_cf
      rcases c with c | c
      · try dsimp only
        rw [c]
        split <;> rfl
      · try dsimp only
        rw [ff_rest0 c, if_pos rfl]
    · obtain ⟨l0, x0, y0, r0, g1, g2, g3, g4, g5, g6, g7, g8⟩ := hM.2 m hm' c1
      have := (w x0 g6).1
      have := (w y0 g7).1
      have ex : x0 = x := (nI_eq (by omega) (by omega)).mp (g2.symm.trans c2)
      have ey : y0 = y := (nI_eq (by omega) (by omega)).mp (g3.symm.trans c3)
      have el : l0 = i := (nI_eq (by omega) (by omega)).mp (g4.symm.trans c4)
      subst ex ey el
      have er : r = nI r0 := c5.symm.trans g5
      subst er
      exact K (x4 + 1) r0 k lv fn fc a11 a12 a14 a18 a19 a20 a21 a22 a23 a24 a25 a26 a27 (by omega) hN (by omega) (ff_X_r a11 lv) hM (fun j _ => ⟨rfl, rfl, rfl, rfl, rfl⟩) g8
    · obtain ⟨s1, s2, _⟩ := ff_hf_ok w hx lx hi6 (ff_fb mm i)
      obtain ⟨t1, t2, _⟩ := ff_hf_ok w hy ly hi6 (ff_fb mm i)
      refine ih (x4 + 1) (i + 1) (ff_hf a11 x i (ff_fb mm i)) (ff_hf a11 y i (ff_fb mm i)) k lv fn fc gt a11 a12 a14 _ _ _ _ a22 a23 a24 a25 a26 a27 (by omega) hN (by omega) hM pk_us pk_us pk_us pk_us s1 t1 s2 t2 (by omega) ?_
      intro x5 r1 k1 lv1 fn1 fc1 a111 a121 a141 a181 a191 a201 a211 a221 a231 a241 a251 a261 a271 hx5 hN1 hk1 hX1 hM1 hf1 hD1
      have w1 := hN1.1
      have hx1 := (hX1 x hx).1
      have hy1 := (hX1 y hy).1
      have lx1 : i ≤ ff_L a111 x := by rw [ff_X_L hX1 hx]; exact lx
      have ly1 : i ≤ ff_L a111 y := by rw [ff_X_L hX1 hy]; exact ly
      have hi1 := hf1 i (by omega)
      have z18 : a181 i = nI i := by rw [hi1.1, pk_un (by omega)]; exact h18
      have z19 : a191 i = nI x := by rw [hi1.2.1, pk_un (by omega)]; exact h19
      have z20 : a201 i = nI y := by rw [hi1.2.2.1, pk_un (by omega)]; exact h20
      have z21 : a211 i = nI 1 := by rw [hi1.2.2.2.1, pk_un (by omega), pk_us]
      have fr1 : ∀ j, j < i → a181 j = a18 j ∧ a191 j = a19 j ∧ a201 j = a20 j ∧ a211 j = a21 j ∧ a221 j = a22 j := by
        intro j hj
        have g := hf1 j (by omega)
        rw [pk_un (by omega), pk_un (by omega), pk_un (by omega), pk_un (by omega), pk_un (by omega)] at g
        exact g
      by_cases c : mm.testBit (6 + (5 - i)) = true
      · have hfb : ff_fb mm i = mm.testBit (5 - i) := by unfold ff_fb; rw [c, Bool.true_and]
        rw [hfb] at hD1
        refine ff_cit (by omega) (by omega) (ff_cs_b (by omega) hm z18 z19 z20 z21 (by omega) (by omega) (ff_fin1 hN1 (by omega) hy1 ly1 hi6 hm z21 c hD1 (fun n m fn2 fc2 a112 a122 a142 lv2 k2 hm2 hD2 hN2 hk2 hX2 => ?_)))
        have hX := ff_X_t hX1 hX2
        have hD : ff_D a112 lv2 i n (ff_cf a11 mm i x y) := ff_D_f (fun h _ => by
          rw [ff_E_X w hX1 hy]
          exact ff_cf_along w hx hy lx ly hi6 c) hD2
        refine K (x5 + 1) n k2 lv2 fn2 fc2 a112 a122 a142 a181 a191 a201 (upd a211 i (nI 2)) a221 _ _ _ _ _ (by omega) hN2 (by omega) hX ?_ (fun j hj => ?_) hD
        · try dsimp only
          rw [z18, z19, z20]
          exact ff_Mv_u (ff_Mv_X w1 hX2 hM1) hi6 (hX x hx).1 (hX y hy).1 (ff_D_f (fun h _ => (ff_cf_X w hX hx hy h).symm) hD)
        · try dsimp only
          rw [pk_un (show j ≠ i by omega)]
          exact fr1 j hj
      · have hfb : ff_fb mm i = false := by unfold ff_fb; rw [Bool.eq_false_iff.mpr c, Bool.false_and]
        rw [hfb] at hD1
        refine ff_cit (by omega) (by omega) (ff_cs_b (by omega) hm z18 z19 z20 z21 (by omega) (by omega) (ff_mid w1 hx1 hy1 hi6 hm z21 c ?_))
        obtain ⟨s1', s2', _⟩ := ff_hf_ok w1 hx1 lx1 hi6 true
        obtain ⟨t1', t2', _⟩ := ff_hf_ok w1 hy1 ly1 hi6 true
        refine ih (x5 + 1) (i + 1) (ff_hf a111 x i true) (ff_hf a111 y i true) k1 lv1 fn1 fc1 (nI r1) a111 a121 a141 _ _ _ _ _ a231 a241 a251 a261 a271 (by omega) hN1 (by omega) hM1 pk_us pk_us pk_us pk_us s1' t1' s2' t2' (by omega) ?_
        intro x6 r2 k2 lv2 fn2 fc2 a112 a122 a142 a182 a192 a202 a212 a222 a232 a242 a252 a262 a272 hx6 hN2 hk2 hX2 hM2 hf2 hD2
        have w2 := hN2.1
        have hX12 := ff_X_t hX1 hX2
        have hi2 := hf2 i (by omega)
        have y18 : a182 i = nI i := by rw [hi2.1, pk_un (by omega)]; exact z18
        have y19 : a192 i = nI x := by rw [hi2.2.1, pk_un (by omega)]; exact z19
        have y20 : a202 i = nI y := by rw [hi2.2.2.1, pk_un (by omega)]; exact z20
        have y21 : a212 i = nI 2 := by rw [hi2.2.2.2.1, pk_un (by omega), pk_us]
        have y22 : a222 i = nI r1 := by rw [hi2.2.2.2.2, pk_us]
        refine ff_cit (by omega) (by omega) (ff_cs_b (by omega) hm y18 y19 y20 y21 (by omega) (by omega) (ff_fin2 hN2 (by omega) hi6 hm y21 y22 c (ff_D_X w1 hX2 hD1) hD2 (fun n m fn3 fc3 a113 a123 a143 lv3 k3 hm3 hD3 hN3 hk3 hX3 => ?_)))
        have hX := ff_X_t hX12 hX3
        have hD : ff_D a113 lv3 i n (ff_cf a11 mm i x y) := ff_D_f (fun h _ => by
          rw [ff_hf_X hX1 hx, ff_hf_X hX1 hy, ff_cf_X w hX1 (ff_hf_ok w hx lx hi6 true).1 (ff_hf_ok w hy ly hi6 true).1]
          exact ff_cf_both w hx hy lx ly hi6 c) hD3
        refine K (x6 + 1) n k3 lv3 fn3 fc3 a113 a123 a143 a182 a192 a202 (upd a212 i (nI 3)) a222 _ _ _ _ _ (by omega) hN3 (by omega) hX ?_ (fun j hj => ?_) hD
        · try dsimp only
          rw [y18, y19, y20]
          exact ff_Mv_u (ff_Mv_X w2 hX3 hM2) hi6 (hX x hx).1 (hX y hy).1 (ff_D_f (fun h _ => (ff_cf_X w hX hx hy h).symm) hD)
        · have g := hf2 j (by omega)
          rw [pk_un (show j ≠ i + 1 by omega), pk_un (show j ≠ i + 1 by omega), pk_un (show j ≠ i + 1 by omega), pk_un (show j ≠ i + 1 by omega), pk_un (show j ≠ i by omega), pk_un (show j ≠ i by omega)] at g
          rw [pk_un (show j ≠ i by omega), g.1, g.2.1, g.2.2.1, g.2.2.2.1, g.2.2.2.2]
          exact fr1 j hj
theorem ff_choose {post : Int32 → St1 → Prop} {act opl ohd fn fc kd dp gt : Int32} {a1 a2 a3 a4 a5 a6 a7 a8 a9 a10 a11 a12 a13 a14 a15 a16 a17 a18 a19 a20 a21 a22 a23 a24 a25 a26 a27 : Nat → Int32} {lv : Nat → Prop} {k V s mm x y : Nat} {f g : Nat → Nat} (hm : mm < 4096) (hs : s + 1 < 2 ^ 31) (hN : ff_NS a11 a12 a14 fn fc lv k V) (hk : 63 ≤ k) (hM : ff_Mf a23 s)
    (hx : ff_D a11 lv 0 x f) (hy : ff_D a11 lv 0 y g)
    (H : ∀ (r k' : Nat) (lv' : Nat → Prop) (fn' fc' dp' : Int32) (a11' a12' a14' a18' a19' a20' a21' a22' a23' a24' a25' a26' a27' : Nat → Int32), ff_NS a11' a12' a14' fn' fc' lv' k' V → k ≤ k' + 63 → ff_X a11 lv a11' lv' → ff_Mf a23' (s + 1) → ff_D a11' lv' 0 r (fun h => if ff_mb mm h 6 then f h else g h) →
      post (nI r) (act, opl, ohd, fn', fc', kd, dp', nI r, nI (s + 1), a1, a2, a3, a4, a5, a6, a7, a8, a9, a10, a11', a12', a13, a14', a15, a16, a17, a18', a19', a20', a21', a22', a23', a24', a25', a26', a27')) : wpX_choose post (act, opl, ohd, fn, fc, kd, dp, gt, nI s, a1, a2, a3, a4, a5, a6, a7, a8, a9, a10, a11, a12, a13, a14, a15, a16, a17, a18, a19, a20, a21, a22, a23, a24, a25, a26, a27) (nI mm) (nI x) (nI y) := by
  unfold wpX_choose
  try dsimp only
  refine nm_r (nI_1 s) (ff_push (d := 0) (by omega) ?_)
  try dsimp only
  refine ⟨601, ff_cbig (s := s + 1) hm 6 0 0 x y k lv fn fc gt a11 a12 a14 _ _ _ _ a22 a23 a24 a25 a26 a27 (by omega) hN (by omega) ⟨ff_Mf_s hM (by omega), fun j hj e => absurd e (ff_Mf_n hM hs hj)⟩ pk_us pk_us pk_us pk_us hx.1 hy.1 (by omega) (by omega) (by omega) ?_⟩
  intro x4 r k' lv' fn' fc' a11' a12' a14' a18' a19' a20' a21' a22' a23' a24' a25' a26' a27' hx4 hN' hk' hX hM' _ hD
  have e : 601 - x4 = (600 - x4) + 1 := by omega
  rw [e]
  refine br_f (nI_ge (b := 600) (by omega) (by omega)) (br_t (by decide) ?_)
  refine H r k' lv' fn' fc' _ a11' a12' a14' a18' a19' a20' a21' a22' a23' a24' a25' a26' a27' hN' (by omega) hX hM'.1 (ff_D_f (fun h hh => ?_) hD)
  unfold ff_cf
  try dsimp only
  rw [hx.2.2 h hh, hy.2.2 h hh]
end
section
/-! ===== afterChange ===== -/
def ff_af (a : Nat → Int32) (c n : Nat) : Nat → Nat := fun h => ff_E a n (ff_chg c h)
def ff_Mc (a11 : Nat → Int32) (lv : Nat → Prop) (c s : Nat) (a23 a24 a27 : Nat → Int32) : Prop :=
  ff_Mf a23 s ∧ ∀ j, j < 256 → a23 j = nI s → ∃ n r, a24 j = nI n ∧ a27 j = nI r ∧ lv n ∧ ff_D a11 lv (ff_L a11 n) r (ff_af a11 c n)
theorem ff_Mc_X {a a' : Nat → Int32} {lv lv' : Nat → Prop} {V c s : Nat} {a23 a24 a27 : Nat → Int32} (w : ff_Wf a lv V) (X : ff_X a lv a' lv') (h : ff_Mc a lv c s a23 a24 a27) : ff_Mc a' lv' c s a23 a24 a27 := by
  refine ⟨h.1, fun j hj e => ?_⟩
  obtain ⟨n, r, h1, h2, h3, h4⟩ := h.2 j hj e
  refine ⟨n, r, h1, h2, (X n h3).1, ?_⟩
  try dsimp only
  rw [ff_X_L X h3]
  exact ff_D_f (fun h _ => (ff_E_X w X h3 _).symm) (ff_D_X w X h4)
theorem ff_Mc_u {a : Nat → Int32} {lv : Nat → Prop} {c s m n r : Nat} {a23 a24 a27 : Nat → Int32} (h : ff_Mc a lv c s a23 a24 a27) (hn : lv n) (hd : ff_D a lv (ff_L a n) r (ff_af a c n)) :
    ff_Mc a lv c s (upd a23 m (nI s)) (upd a24 m (nI n)) (upd a27 m (nI r)) := by
  refine ⟨ff_Mf_u h.1, fun j hj e => ?_⟩
  try dsimp only
  by_cases z : j = m
  · subst z
    exact ⟨n, r, pk_us, pk_us, hn, hd⟩
  · try dsimp only
    rw [pk_un z] at e
    rw [pk_un z, pk_un z]
    exact h.2 j hj e
theorem ff_hs_a {post : St1 → Prop} {act opl ohd fn fc kd gt st : Int32} {a1 a2 a3 a4 a5 a6 a7 a8 a9 a10 a11 a12 a13 a14 a15 a16 a17 a18 a19 a20 a21 a22 a23 a24 a25 a26 a27 : Nat → Int32} {lv : Nat → Prop} {V i c n : Nat} (w : ff_Wf a11 lv V) (hn : lv n) (hi : i < 7) (h19 : a19 i = nI n) (h21 : a21 i = nI 0)
    (H1 : ff_L a11 n = 6 → post (act, opl, ohd, fn, fc, kd, nI i, nI n, st, a1, a2, a3, a4, a5, a6, a7, a8, a9, a10, a11, a12, a13, a14, a15, a16, a17, a18, a19, a20, a21, a22, a23, a24, a25, a26, a27))
    (H2 : ff_L a11 n < 6 → wX_changeStep_57 post (nI c) (nI i) (nI n) (nI (ff_L a11 n)) (nI 0) act opl ohd fn fc kd (nI (i + 1)) gt st a1 a2 a3 a4 a5 a6 a7 a8 a9 a10 a11 a12 a13 a14 a15 a16 a17 a18 a19 a20 a21 a22 a23 a24 a25 a26 a27) : wpX_changeStep post (act, opl, ohd, fn, fc, kd, nI (i + 1), gt, st, a1, a2, a3, a4, a5, a6, a7, a8, a9, a10, a11, a12, a13, a14, a15, a16, a17, a18, a19, a20, a21, a22, a23, a24, a25, a26, a27) (nI c) := by
  have ei : (nI i).toNatClampNeg = i := nI_clamp (by omega)
  have ii : vp_in (nI i) 16 := pk_in i 16 (by omega)
  have hL := (w n hn).2.2.1
  unfold wpX_changeStep
  try dsimp only
  refine nm_r (nI_pred i) ⟨ii, nm_r (by rw [ei, h19]) (ff_levelOf w hn ⟨ii, nm_r (show a21 (nI i).toNatClampNeg = nI 0 by rw [ei, h21]) (br_t rfl (pk_eq (ff_L a11 n) 6 (fun e => ?_) (fun e => H2 (by omega))))⟩)⟩
  exact nm_r (nI_pred i) (H1 e)
theorem ff_hs_b {post : St1 → Prop} {act opl ohd fn fc kd gt st : Int32} {a1 a2 a3 a4 a5 a6 a7 a8 a9 a10 a11 a12 a13 a14 a15 a16 a17 a18 a19 a20 a21 a22 a23 a24 a25 a26 a27 : Nat → Int32} {lv : Nat → Prop} {V i c n ph : Nat} (w : ff_Wf a11 lv V) (hn : lv n) (hi : i < 7) (h19 : a19 i = nI n) (h21 : a21 i = nI ph) (hp : 0 < ph) (hp2 : ph < 3)
    (H2 : wX_changeStep_84 post (nI c) (nI i) (nI n) (nI (ff_L a11 n)) (nI ph) act opl ohd fn fc kd (nI (i + 1)) gt st a1 a2 a3 a4 a5 a6 a7 a8 a9 a10 a11 a12 a13 a14 a15 a16 a17 a18 a19 a20 a21 a22 a23 a24 a25 a26 a27) : wpX_changeStep post (act, opl, ohd, fn, fc, kd, nI (i + 1), gt, st, a1, a2, a3, a4, a5, a6, a7, a8, a9, a10, a11, a12, a13, a14, a15, a16, a17, a18, a19, a20, a21, a22, a23, a24, a25, a26, a27) (nI c) := by
  have ei : (nI i).toNatClampNeg = i := nI_clamp (by omega)
  have ii : vp_in (nI i) 16 := pk_in i 16 (by omega)
  have hz : ¬ nI ph = 0 := nI_ne0 hp (by omega)
  unfold wpX_changeStep
  try dsimp only
  refine nm_r (nI_pred i) ⟨ii, nm_r (by rw [ei, h19]) (ff_levelOf w hn ⟨ii, nm_r (by rw [ei, h21]) (br_f hz ?_)⟩)⟩
  unfold wX_changeStep_57
  try dsimp only
  exact br_f hz H2
theorem ff_hs_57 {post : St1 → Prop} {act opl ohd fn fc kd gt st : Int32} {a1 a2 a3 a4 a5 a6 a7 a8 a9 a10 a11 a12 a13 a14 a15 a16 a17 a18 a19 a20 a21 a22 a23 a24 a25 a26 a27 : Nat → Int32} {i : Nat} {x1 x3 x4 : Int32}
    (H1 : ∀ (m : Nat) (r : Int32), m < 256 → a23 m = st → a24 m = x3 → a27 m = r → post (act, opl, ohd, fn, fc, kd, nI i, r, st, a1, a2, a3, a4, a5, a6, a7, a8, a9, a10, a11, a12, a13, a14, a15, a16, a17, a18, a19, a20, a21, a22, a23, a24, a25, a26, a27))
    (H2 : wX_changeStep_84 post x1 (nI i) x3 x4 (nI 0) act opl ohd fn fc kd (nI (i + 1)) gt st a1 a2 a3 a4 a5 a6 a7 a8 a9 a10 a11 a12 a13 a14 a15 a16 a17 a18 a19 a20 a21 a22 a23 a24 a25 a26 a27) : wX_changeStep_57 post x1 (nI i) x3 x4 (nI 0) act opl ohd fn fc kd (nI (i + 1)) gt st a1 a2 a3 a4 a5 a6 a7 a8 a9 a10 a11 a12 a13 a14 a15 a16 a17 a18 a19 a20 a21 a22 a23 a24 a25 a26 a27 := by
  unfold wX_changeStep_57
  try dsimp only
  refine br_t rfl (ff_recall ?_ (fun m hm c1 c2 c3 c4 => ?_))
  · exact br_t rfl H2
  · exact br_f (by decide) (nm_r (nI_pred i) (H1 m _ hm c1 c2 rfl))
theorem ff_fixd {c l : Nat} (hc : c < 4096) (hl : l < 6) : ((nI c >>> ((6 + nI (5 - l)) &&& 31)) &&& 1 = 1) ↔ c.testBit (6 + (5 - l)) = true := by
  have e : (6 : Int32) + nI (5 - l) = nI (6 + (5 - l)) := nI_add 6 (5 - l)
  rw [e]
  exact ff_bit1 (by omega) (by omega)
theorem ff_hgo {post : St1 → Prop} {act opl ohd fn fc kd gt st : Int32} {a1 a2 a3 a4 a5 a6 a7 a8 a9 a10 a11 a12 a13 a14 a15 a16 a17 a18 a19 a20 a21 a22 a23 a24 a25 a26 a27 : Nat → Int32} {lv : Nat → Prop} {V i c n ph : Nat} {b : Bool} (w : ff_Wf a11 lv V) (hn : lv n) (hl : ff_L a11 n < 6) (hi : i < 6) (hc : c < 4096) (h21 : a21 i = nI ph)
    (hb : (ph = 0 ∧ b = (c.testBit (6 + (5 - ff_L a11 n)) && c.testBit (5 - ff_L a11 n))) ∨ (ph = 1 ∧ ¬ c.testBit (6 + (5 - ff_L a11 n)) = true ∧ b = true))
    (H : post (act, opl, ohd, fn, fc, kd, nI (i + 2), gt, st, a1, a2, a3, a4, a5, a6, a7, a8, a9, a10, a11, a12, a13, a14, a15, a16, a17, upd a18 (i + 1) (nI 7), upd a19 (i + 1) (nI (ff_hf a11 n (ff_L a11 n) b)), upd a20 (i + 1) (nI 0), upd (upd a21 i (nI (ph + 1))) (i + 1) (nI 0), upd a22 i gt, a23, a24, a25, a26, a27)) :
    wX_changeStep_84 post (nI c) (nI i) (nI n) (nI (ff_L a11 n)) (nI ph) act opl ohd fn fc kd (nI (i + 1)) gt st a1 a2 a3 a4 a5 a6 a7 a8 a9 a10 a11 a12 a13 a14 a15 a16 a17 a18 a19 a20 a21 a22 a23 a24 a25 a26 a27 := by
  have ei : (nI i).toNatClampNeg = i := nI_clamp (by omega)
  have ii : vp_in (nI i) 16 := pk_in i 16 (by omega)
  unfold wX_changeStep_84
  try dsimp only
  refine ⟨ii, ii, nm_r (by rw [ei, h21, nI_1]) (nm_r (show (5 : Int32) - nI (ff_L a11 n) = nI (5 - ff_L a11 n) from pk_sub (a := 5) (b := (ff_L a11 n)) (by omega)) ?_)⟩
  have last : ∀ x8, x8 = nI (ff_bn b) → ph < 2 → wX_changeStep_161 post (nI i) (nI n) (nI (ff_L a11 n)) (nI ph) x8 act opl ohd fn fc kd (nI (i + 1)) gt st a1 a2 a3 a4 a5 a6 a7 a8 a9 a10 a11 a12 a13 a14 a15 a16 a17 a18 a19 a20 (upd a21 i (nI (ph + 1))) a22 a23 a24 a25 a26 a27 := by
    intro x8 e8 hp
    subst e8
    unfold wX_changeStep_161
    try dsimp only
    refine br_f (fun z => absurd ((nI_eq (by omega) (by omega)).mp (show nI ph = nI 2 from z)) (by omega)) ⟨ii, nm_r (by rw [ei]) ?_⟩
    exact ff_half w hn (by omega) b (ff_push (by omega) H)
  by_cases cb : c.testBit (6 + (5 - ff_L a11 n)) = true
  · refine br_t ((ff_fixd hc hl).mpr cb) ?_
    rcases hb with ⟨e1, e2⟩ | ⟨_, e2, _⟩
    · subst e1
      unfold wX_changeStep_118
      try dsimp only
      refine br_f (by decide) ?_
      unfold wX_changeStep_136
      try dsimp only
      refine br_f (by decide) (br_f (by decide) (last _ ?_ (by omega)))
      try dsimp only
      rw [e2, cb, Bool.true_and]
      exact ff_bitV (by omega) (by omega)
    · exact absurd cb e2
  · refine br_f (fun z => cb ((ff_fixd hc hl).mp z)) ?_
    unfold wX_changeStep_118
    try dsimp only
    refine br_t rfl ?_
    unfold wX_changeStep_136
    try dsimp only
    refine br_t rfl ?_
    rcases hb with ⟨e1, e2⟩ | ⟨e1, _, e2⟩
    · subst e1
      rw [Bool.eq_false_iff.mpr cb, Bool.false_and] at e2
      subst e2
      exact last _ rfl (by omega)
    · subst e1 e2
      exact last _ rfl (by omega)
theorem ff_hfin1 {post : St1 → Prop} {act opl ohd fn fc kd gt st : Int32} {a1 a2 a3 a4 a5 a6 a7 a8 a9 a10 a11 a12 a13 a14 a15 a16 a17 a18 a19 a20 a21 a22 a23 a24 a25 a26 a27 : Nat → Int32} {i c l : Nat} {x3 : Int32} (hl : l < 6) (hi : i < 6) (hc : c < 4096) (h21 : a21 i = nI 1) (cb : c.testBit (6 + (5 - l)) = true)
    (H : ∀ m, m < 256 → post (act, opl, ohd, fn, fc, kd, nI i, gt, st, a1, a2, a3, a4, a5, a6, a7, a8, a9, a10, a11, a12, a13, a14, a15, a16, a17, a18, a19, a20, upd a21 i (nI 2), a22, upd a23 m st, upd a24 m (a19 i), upd a25 m (a20 i), upd a26 m (a18 i), upd a27 m gt)) :
    wX_changeStep_84 post (nI c) (nI i) x3 (nI l) (nI 1) act opl ohd fn fc kd (nI (i + 1)) gt st a1 a2 a3 a4 a5 a6 a7 a8 a9 a10 a11 a12 a13 a14 a15 a16 a17 a18 a19 a20 a21 a22 a23 a24 a25 a26 a27 := by
  have ei : (nI i).toNatClampNeg = i := nI_clamp (by omega)
  have ii : vp_in (nI i) 16 := pk_in i 16 (by omega)
  unfold wX_changeStep_84
  try dsimp only
  refine ⟨ii, ii, nm_r (by rw [ei, h21, nI_1]) (nm_r (show (5 : Int32) - nI l = nI (5 - l) from pk_sub (a := 5) (b := l) (by omega)) ?_)⟩
  refine br_t ((ff_fixd hc hl).mpr cb) ?_
  unfold wX_changeStep_118
  try dsimp only
  refine br_f (by decide) ?_
  unfold wX_changeStep_136
  try dsimp only
  exact br_f (by decide) (br_t rfl (ff_finish (by omega) (fun m hm => H m hm)))
theorem ff_hfin2 {post : St1 → Prop} {act opl ohd fn fc kd st : Int32} {a1 a2 a3 a4 a5 a6 a7 a8 a9 a10 a11 a12 a13 a14 a15 a16 a17 a18 a19 a20 a21 a22 a23 a24 a25 a26 a27 : Nat → Int32} {lv : Nat → Prop} {k V i c l r q : Nat} {x3 : Int32} {f g : Nat → Nat} (hN : ff_NS a11 a12 a14 fn fc lv k V) (hk : 0 < k) (hl : l < 6) (hi : i < 6) (hc : c < 4096) (h21 : a21 i = nI 2) (h22 : a22 i = nI q) (cb : ¬ c.testBit (6 + (5 - l)) = true)
    (hq : ff_D a11 lv (l + 1) q g) (hr : ff_D a11 lv (l + 1) r f)
    (H : ∀ (n m : Nat) (fn' fc' : Int32) (a11' a12' a14' : Nat → Int32) (lv' : Nat → Prop) (k' : Nat), m < 256 → ff_D a11' lv' l n (fun h => if h.testBit (5 - l) then f h else g h) → ff_NS a11' a12' a14' fn' fc' lv' k' V → k ≤ k' + 1 → ff_X a11 lv a11' lv' →
      post (act, opl, ohd, fn', fc', kd, nI i, nI n, st, a1, a2, a3, a4, a5, a6, a7, a8, a9, a10, a11', a12', a13, a14', a15, a16, a17, a18, a19, a20, upd a21 i (nI 3), a22, upd a23 m st, upd a24 m (a19 i), upd a25 m (a20 i), upd a26 m (a18 i), upd a27 m (nI n))) :
    wX_changeStep_84 post (nI c) (nI i) x3 (nI l) (nI 2) act opl ohd fn fc kd (nI (i + 1)) (nI r) st a1 a2 a3 a4 a5 a6 a7 a8 a9 a10 a11 a12 a13 a14 a15 a16 a17 a18 a19 a20 a21 a22 a23 a24 a25 a26 a27 := by
  have ei : (nI i).toNatClampNeg = i := nI_clamp (by omega)
  have ii : vp_in (nI i) 16 := pk_in i 16 (by omega)
  unfold wX_changeStep_84
  try dsimp only
  refine ⟨ii, ii, nm_r (by rw [ei, h21, nI_1]) (nm_r (show (5 : Int32) - nI l = nI (5 - l) from pk_sub (a := 5) (b := l) (by omega)) ?_)⟩
  refine br_f (fun z => cb ((ff_fixd hc hl).mp z)) ?_
  unfold wX_changeStep_118
  try dsimp only
  refine br_t rfl ?_
  unfold wX_changeStep_136
  try dsimp only
  refine br_t rfl ?_
  unfold wX_changeStep_161
  try dsimp only
  refine br_t rfl ⟨ii, ?_⟩
  try dsimp only
  rw [ei, h22]
  refine ff_node hN hk hl hq hr (fun n fn' fc' a11' a12' a14' lv' k' hD hN' hk' hX => ?_)
  exact ff_finish (by omega) (fun m hm => H n m fn' fc' a11' a12' a14' lv' k' hm hD hN' hk' hX)
theorem ff_af_fix {a : Nat → Int32} {lv : Nat → Prop} {V c n h : Nat} (w : ff_Wf a lv V) (hn : lv n) (hl : ff_L a n < 6) (cb : c.testBit (6 + (5 - ff_L a n)) = true) : ff_af a c (ff_hf a n (ff_L a n) (c.testBit (5 - ff_L a n))) h = ff_af a c n h := by
  unfold ff_af
  refine (ff_hf_ok w hn (Nat.le_refl _) hl _).2.2 _ ?_
  try dsimp only
  rw [ff_chg_b _ _ (by omega), if_pos cb]
theorem ff_af_both {a : Nat → Int32} {lv : Nat → Prop} {V c n h : Nat} (w : ff_Wf a lv V) (hn : lv n) (hl : ff_L a n < 6) (cb : ¬ c.testBit (6 + (5 - ff_L a n)) = true) :
    (if h.testBit (5 - ff_L a n) then ff_af a c (ff_hf a n (ff_L a n) true) h else ff_af a c (ff_hf a n (ff_L a n) false) h) = ff_af a c n h := by
  unfold ff_af
  have e := ff_chg_b c h (show 5 - ff_L a n < 6 by omega)
  rw [if_neg cb] at e
  cases z : h.testBit (5 - ff_L a n)
  · rw [z] at e
    rw [if_neg (by decide)]
    exact (ff_hf_ok w hn (Nat.le_refl _) hl false).2.2 _ e
  · rw [z] at e
    rw [if_pos rfl]
    exact (ff_hf_ok w hn (Nat.le_refl _) hl true).2.2 _ e
theorem ff_hit {post : Int32 → St1 → Prop} {act opl ohd fn fc kd gt st : Int32} {a1 a2 a3 a4 a5 a6 a7 a8 a9 a10 a11 a12 a13 a14 a15 a16 a17 a18 a19 a20 a21 a22 a23 a24 a25 a26 a27 : Nat → Int32} {x1 : Int32} {x4 d : Nat} (hx : x4 < 600) (hd : d < 100)
    (H : wpX_changeStep (fun u => match u with | (actb, oplb, ohdb, fnb, fcb, kdb, dpb, gtb, stb, a1b, a2b, a3b, a4b, a5b, a6b, a7b, a8b, a9b, a10b, a11b, a12b, a13b, a14b, a15b, a16b, a17b, a18b, a19b, a20b, a21b, a22b, a23b, a24b, a25b, a26b, a27b) => wX_afterChange_25 post x1 (601 - (x4 + 1)) (nI (x4 + 1)) actb oplb ohdb fnb fcb kdb dpb gtb stb a1b a2b a3b a4b a5b a6b a7b a8b a9b a10b a11b a12b a13b a14b a15b a16b a17b a18b a19b a20b a21b a22b a23b a24b a25b a26b a27b) (act, opl, ohd, fn, fc, kd, nI (d + 1), gt, st, a1, a2, a3, a4, a5, a6, a7, a8, a9, a10, a11, a12, a13, a14, a15, a16, a17, a18, a19, a20, a21, a22, a23, a24, a25, a26, a27) x1) : wX_afterChange_25 post x1 (601 - x4) (nI x4) act opl ohd fn fc kd (nI (d + 1)) gt st a1 a2 a3 a4 a5 a6 a7 a8 a9 a10 a11 a12 a13 a14 a15 a16 a17 a18 a19 a20 a21 a22 a23 a24 a25 a26 a27 := by
  have e : 601 - x4 = (600 - x4) + 1 := by omega
  have e2 : 601 - (x4 + 1) = 600 - x4 := by omega
  rw [e2] at H
  rw [e]
  refine br_f (nI_ge (b := 600) hx (by omega)) (br_f (nI_nle (by omega) (by omega)) ?_)
  refine Eq.mp (congrArg (fun (f : St1 → Prop) => wpX_changeStep f (act, opl, ohd, fn, fc, kd, nI (d + 1), gt, st, a1, a2, a3, a4, a5, a6, a7, a8, a9, a10, a11, a12, a13, a14, a15, a16, a17, a18, a19, a20, a21, a22, a23, a24, a25, a26, a27) x1) ?_) H
  funext u
  obtain ⟨actb, oplb, ohdb, fnb, fcb, kdb, dpb, gtb, stb, a1b, a2b, a3b, a4b, a5b, a6b, a7b, a8b, a9b, a10b, a11b, a12b, a13b, a14b, a15b, a16b, a17b, a18b, a19b, a20b, a21b, a22b, a23b, a24b, a25b, a26b, a27b⟩ := u
  exact propext ⟨fun h z ez => by rw [ez, nI_1]; exact h, fun h => by
    have h' := h _ rfl
    rw [nI_1] at h'
    exact h'⟩
theorem ff_hbig {post : Int32 → St1 → Prop} {act opl ohd kd : Int32} {a1 a2 a3 a4 a5 a6 a7 a8 a9 a10 a13 a15 a16 a17 : Nat → Int32} {c V s : Nat} (hc : c < 4096) :
    ∀ (q x4 i n k : Nat) (lv : Nat → Prop) (fn fc gt : Int32) (a11 a12 a14 a18 a19 a20 a21 a22 a23 a24 a25 a26 a27 : Nat → Int32), i + q ≤ 6 → ff_NS a11 a12 a14 fn fc lv k V → 2 ^ q ≤ k + 1 → ff_Mc a11 lv c s a23 a24 a27 →
    a19 i = nI n → a21 i = nI 0 → lv n → 6 ≤ ff_L a11 n + q → x4 + 4 * 2 ^ q ≤ 603 →
    (∀ (x4' r k' : Nat) (lv' : Nat → Prop) (fn' fc' : Int32) (a11' a12' a14' a18' a19' a20' a21' a22' a23' a24' a25' a26' a27' : Nat → Int32), x4' + 3 ≤ x4 + 4 * 2 ^ q → ff_NS a11' a12' a14' fn' fc' lv' k' V → k + 1 ≤ k' + 2 ^ q → ff_X a11 lv a11' lv' → ff_Mc a11' lv' c s a23' a24' a27' →
      (∀ j, j < i → a19' j = a19 j ∧ a21' j = a21 j ∧ a22' j = a22 j) → ff_D a11' lv' (ff_L a11 n) r (ff_af a11 c n) →
      wX_afterChange_25 post (nI c) (601 - x4') (nI x4') act opl ohd fn' fc' kd (nI i) (nI r) (nI s) a1 a2 a3 a4 a5 a6 a7 a8 a9 a10 a11' a12' a13 a14' a15 a16 a17 a18' a19' a20' a21' a22' a23' a24' a25' a26' a27') →
    wX_afterChange_25 post (nI c) (601 - x4) (nI x4) act opl ohd fn fc kd (nI (i + 1)) gt (nI s) a1 a2 a3 a4 a5 a6 a7 a8 a9 a10 a11 a12 a13 a14 a15 a16 a17 a18 a19 a20 a21 a22 a23 a24 a25 a26 a27 := by
  intro q
  induction q with
  | zero =>
    intro x4 i n k lv fn fc gt a11 a12 a14 a18 a19 a20 a21 a22 a23 a24 a25 a26 a27 hi hN hk hM h19 h21 hn ln hx4 K
    have w := hN.1
    have e := (w n hn).2.2.1
    refine ff_hit (by omega) (by omega) (ff_hs_a w hn (by omega) h19 h21 (fun z => ?_) (fun z => absurd z (by omega)))
    exact K (x4 + 1) n k lv fn fc a11 a12 a14 a18 a19 a20 a21 a22 a23 a24 a25 a26 a27 (by omega) hN (by omega) (ff_X_r a11 lv) hM (fun j _ => ⟨rfl, rfl, rfl⟩) ⟨hn, Nat.le_refl _, fun h _ => by
      unfold ff_af
      try dsimp only
      rw [ff_E_leaf z, ff_E_leaf z]⟩
  | succ q ih =>
    intro x4 i n k lv fn fc gt a11 a12 a14 a18 a19 a20 a21 a22 a23 a24 a25 a26 a27 hi hN hk hM h19 h21 hn ln hx4 K
    have w := hN.1
    have hn' := (w n hn).1
    have hi6 : i < 6 := by omega
    have hp : 2 ^ (q + 1) = 2 * 2 ^ q := by rw [Nat.pow_succ]; omega
    have hp1 : 1 ≤ 2 ^ q := Nat.one_le_two_pow
    rw [hp] at hk hx4 K
    refine ff_hit (by omega) (by omega) (ff_hs_a w hn (by omega) h19 h21 (fun z => ?_) (fun hl => ff_hs_57 (fun m r hm' c1 c2 c5 => ?_) (ff_hgo w hn hl hi6 hc h21 (Or.inl ⟨rfl, rfl⟩) ?_)))
    · exact K (x4 + 1) n k lv fn fc a11 a12 a14 a18 a19 a20 a21 a22 a23 a24 a25 a26 a27 (by omega) hN (by omega) (ff_X_r a11 lv) hM (fun j _ => ⟨rfl, rfl, rfl⟩) ⟨hn, Nat.le_refl _, fun h _ => by
        unfold ff_af
        try dsimp only
        rw [ff_E_leaf z, ff_E_leaf z]⟩
    · obtain ⟨n0, r0, g1, g2, g3, g4⟩ := hM.2 m hm' c1
      have := (w n0 g3).1
      have en : n0 = n := (nI_eq (by omega) (by omega)).mp (g1.symm.trans c2)
      subst en
      have er : r = nI r0 := c5.symm.trans g2
      subst er
      exact K (x4 + 1) r0 k lv fn fc a11 a12 a14 a18 a19 a20 a21 a22 a23 a24 a25 a26 a27 (by omega) hN (by omega) (ff_X_r a11 lv) hM (fun j _ => ⟨rfl, rfl, rfl⟩) g4
    · obtain ⟨s1, s2, _⟩ := ff_hf_ok w hn (Nat.le_refl _) hl (c.testBit (6 + (5 - ff_L a11 n)) && c.testBit (5 - ff_L a11 n))
      refine ih (x4 + 1) (i + 1) _ k lv fn fc gt a11 a12 a14 _ _ _ _ _ a23 a24 a25 a26 a27 (by omega) hN (by omega) hM pk_us pk_us s1 (by omega) (by omega) ?_
      intro x5 r1 k1 lv1 fn1 fc1 a111 a121 a141 a181 a191 a201 a211 a221 a231 a241 a251 a261 a271 hx5 hN1 hk1 hX1 hM1 hf1 hD1
      have w1 := hN1.1
      have hn1 := (hX1 n hn).1
      have eL := ff_X_L hX1 hn
      have hi1 := hf1 i (by omega)
      have z19 : a191 i = nI n := by rw [hi1.1, pk_un (by omega)]; exact h19
      have z21 : a211 i = nI 1 := by rw [hi1.2.1, pk_un (by omega), pk_us]
      have fr1 : ∀ j, j < i → a191 j = a19 j ∧ a211 j = a21 j ∧ a221 j = a22 j := by
        intro j hj
        have g := hf1 j (by omega)
        rw [pk_un (show j ≠ i + 1 by omega), pk_un (show j ≠ i + 1 by omega), pk_un (show j ≠ i by omega), pk_un (show j ≠ i by omega)] at g
        exact g
      by_cases cb : c.testBit (6 + (5 - ff_L a11 n)) = true
      · try dsimp only
        rw [cb, Bool.true_and] at hD1 s2
        refine ff_hit (by omega) (by omega) (ff_hs_b w1 hn1 (by omega) z19 z21 (by omega) (by omega) (ff_hfin1 (by rw [eL]; exact hl) hi6 hc z21 (by rw [eL]; exact cb) (fun m hm2 => ?_)))
        have hD : ff_D a111 lv1 (ff_L a11 n) r1 (ff_af a11 c n) := ff_D_f (fun h _ => ff_af_fix w hn hl cb) (ff_D_l (by omega) hD1)
        refine K (x5 + 1) r1 k1 lv1 fn1 fc1 a111 a121 a141 a181 a191 a201 (upd a211 i (nI 2)) a221 _ _ _ _ _ (by omega) hN1 (by omega) hX1 ?_ (fun j hj => ?_) hD
        · try dsimp only
          rw [z19]
          refine ff_Mc_u hM1 hn1 ?_
          try dsimp only
          rw [eL]
          exact ff_D_f (fun h _ => (ff_E_X w hX1 hn _).symm) hD
        · try dsimp only
          rw [pk_un (show j ≠ i by omega)]
          exact fr1 j hj
      · try dsimp only
        rw [Bool.eq_false_iff.mpr cb, Bool.false_and] at hD1 s2
        obtain ⟨t1, t2, _⟩ := ff_hf_ok w1 hn1 (Nat.le_refl _) (by rw [eL]; exact hl) true
        refine ff_hit (by omega) (by omega) (ff_hs_b w1 hn1 (by omega) z19 z21 (by omega) (by omega) (ff_hgo w1 hn1 (by rw [eL]; exact hl) hi6 hc z21 (Or.inr ⟨rfl, by rw [eL]; exact cb, rfl⟩) ?_))
        refine ih (x5 + 1) (i + 1) _ k1 lv1 fn1 fc1 (nI r1) a111 a121 a141 _ _ _ _ _ a231 a241 a251 a261 a271 (by omega) hN1 (by omega) hM1 pk_us pk_us t1 (by omega) (by omega) ?_
        intro x6 r2 k2 lv2 fn2 fc2 a112 a122 a142 a182 a192 a202 a212 a222 a232 a242 a252 a262 a272 hx6 hN2 hk2 hX2 hM2 hf2 hD2
        have w2 := hN2.1
        have hX12 := ff_X_t hX1 hX2
        have hn2 := (hX12 n hn).1
        have eL2 := ff_X_L hX12 hn
        have hi2 := hf2 i (by omega)
        have y19 : a192 i = nI n := by rw [hi2.1, pk_un (by omega)]; exact z19
        have y21 : a212 i = nI 2 := by rw [hi2.2.1, pk_un (by omega), pk_us]
        have y22 : a222 i = nI r1 := by rw [hi2.2.2, pk_us]
        rw [eL] at hD2 t2
        refine ff_hit (by omega) (by omega) (ff_hs_b w2 hn2 (by omega) y19 y21 (by omega) (by omega) (ff_hfin2 hN2 (by omega) (by rw [eL2]; exact hl) hi6 hc y21 y22 (by rw [eL2]; exact cb) (ff_D_l (by rw [eL2]; omega) (ff_D_X w1 hX2 hD1)) (ff_D_l (by rw [eL2]; omega) hD2) (fun nn m fn3 fc3 a113 a123 a143 lv3 k3 hm3 hD3 hN3 hk3 hX3 => ?_)))
        try dsimp only
        rw [eL2] at hD3
        have hX := ff_X_t hX12 hX3
        have hD : ff_D a113 lv3 (ff_L a11 n) nn (ff_af a11 c n) := ff_D_f (fun h _ => by
          rw [ff_hf_X hX1 hn, show ff_af a111 c (ff_hf a11 n (ff_L a11 n) true) h = ff_af a11 c (ff_hf a11 n (ff_L a11 n) true) h from ff_E_X w hX1 (ff_hf_ok w hn (Nat.le_refl _) hl true).1 _]
          exact ff_af_both w hn hl cb) hD3
        refine K (x6 + 1) nn k3 lv3 fn3 fc3 a113 a123 a143 a182 a192 a202 (upd a212 i (nI 3)) a222 _ _ _ _ _ (by omega) hN3 (by omega) hX ?_ (fun j hj => ?_) hD
        · try dsimp only
          rw [y19]
          refine ff_Mc_u (ff_Mc_X w2 hX3 hM2) (hX n hn).1 ?_
          try dsimp only
          rw [ff_X_L hX hn]
          exact ff_D_f (fun h _ => (ff_E_X w hX hn _).symm) hD
        · have g := hf2 j (by omega)
          rw [pk_un (show j ≠ i + 1 by omega), pk_un (show j ≠ i + 1 by omega), pk_un (show j ≠ i by omega), pk_un (show j ≠ i by omega)] at g
          rw [pk_un (show j ≠ i by omega), g.1, g.2.1, g.2.2]
          exact fr1 j hj
theorem ff_afterChange {post : Int32 → St1 → Prop} {act opl ohd fn fc kd dp gt : Int32} {a1 a2 a3 a4 a5 a6 a7 a8 a9 a10 a11 a12 a13 a14 a15 a16 a17 a18 a19 a20 a21 a22 a23 a24 a25 a26 a27 : Nat → Int32} {lv : Nat → Prop} {k V s c n : Nat} {f : Nat → Nat} (hc : c < 4096) (hs : s + 1 < 2 ^ 31) (hN : ff_NS a11 a12 a14 fn fc lv k V) (hk : 63 ≤ k) (hM : ff_Mf a23 s)
    (hn : ff_D a11 lv 0 n f)
    (H : ∀ (r k' : Nat) (lv' : Nat → Prop) (fn' fc' dp' : Int32) (a11' a12' a14' a18' a19' a20' a21' a22' a23' a24' a25' a26' a27' : Nat → Int32), ff_NS a11' a12' a14' fn' fc' lv' k' V → k ≤ k' + 63 → ff_X a11 lv a11' lv' → ff_Mf a23' (s + 1) → ff_D a11' lv' 0 r (fun h => f (ff_chg c h)) →
      post (nI r) (act, opl, ohd, fn', fc', kd, dp', nI r, nI (s + 1), a1, a2, a3, a4, a5, a6, a7, a8, a9, a10, a11', a12', a13, a14', a15, a16, a17, a18', a19', a20', a21', a22', a23', a24', a25', a26', a27')) : wpX_afterChange post (act, opl, ohd, fn, fc, kd, dp, gt, nI s, a1, a2, a3, a4, a5, a6, a7, a8, a9, a10, a11, a12, a13, a14, a15, a16, a17, a18, a19, a20, a21, a22, a23, a24, a25, a26, a27) (nI c) (nI n) := by
  unfold wpX_afterChange
  try dsimp only
  refine nm_r (nI_1 s) (ff_push (d := 0) (by omega) ?_)
  try dsimp only
  refine ⟨601, ff_hbig (s := s + 1) hc 6 0 0 n k lv fn fc gt a11 a12 a14 _ _ _ _ a22 a23 a24 a25 a26 a27 (by omega) hN (by omega) ⟨ff_Mf_s hM (by omega), fun j hj e => absurd e (ff_Mf_n hM hs hj)⟩ pk_us pk_us hn.1 (by omega) (by omega) ?_⟩
  intro x4 r k' lv' fn' fc' a11' a12' a14' a18' a19' a20' a21' a22' a23' a24' a25' a26' a27' hx4 hN' hk' hX hM' _ hD
  have e : 601 - x4 = (600 - x4) + 1 := by omega
  rw [e]
  refine br_f (nI_ge (b := 600) (by omega) (by omega)) (br_t (by decide) ?_)
  exact H r k' lv' fn' fc' _ a11' a12' a14' a18' a19' a20' a21' a22' a23' a24' a25' a26' a27' hN' (by omega) hX hM'.1 (ff_D_f (fun h hh => hn.2.2 _ (ff_chg_lt c hh)) (ff_D_l (by omega) hD))
end
section
/-! ===== reset, sweep ===== -/
theorem ff_Ch_rng {f : Nat → Int32} (h : ∀ n, n < 4096 → f n = if n + 1 < 4096 then nI (n + 1) else -1) : ∀ k m, m + k = 4096 → ff_Ch f (if m < 4096 then nI m else -1) (List.range' m k)
  | 0, m, e => by
    rw [if_neg (by omega)]
    show (-1 : Int32) < 0
    decide
  | k + 1, m, e => by
    rw [if_pos (by omega), List.range'_succ]
    refine ⟨rfl, by omega, ?_⟩
    try dsimp only
    rw [h m (by omega)]
    exact ff_Ch_rng h k (m + 1) (by omega)
theorem ff_NS_0 {a f bk : Nat → Int32} {V : Nat} (hf : ∀ n, n < 4096 → f n = if n + 1 < 4096 then nI (n + 1) else -1) (hb : ∀ b, b < 1024 → bk b = -1) : ff_NS a f bk 0 4096 (fun _ => False) 4096 V := by
  refine ⟨fun _ h => h.elim, fun _ _ h => h.elim, rfl, by omega, List.range' 0 4096, fun _ => [], ff_Ch_rng hf 4096 0 (by omega), List.length_range', List.nodup_range', fun _ _ z => z, fun b hb' => ⟨?_, fun n hn => absurd hn (by simp)⟩, fun _ h => h.elim⟩
  try dsimp only
  rw [hb b hb']
  show (-1 : Int32) < 0
  decide
theorem ff_reset_24 {post : St1 → Prop} {act opl ohd fn fc kd dp gt st : Int32} {a1 a2 a3 a4 a5 a6 a7 a8 a9 a10 a11 a12 a13 a14 a15 a16 a17 a18 a19 a20 a21 a22 a23 a24 a25 a26 a27 : Nat → Int32} (H : ∀ a12' : Nat → Int32, (∀ n, n < 4096 → a12' n = if n + 1 < 4096 then nI (n + 1) else -1) → post (act, opl, ohd, 0, 4096, -1, dp, gt, st, a1, a2, a3, a4, a5, a6, a7, a8, a9, a10, a11, a12', a13, a14, a15, a16, a17, a18, a19, a20, a21, a22, a23, a24, a25, a26, a27)) : ∃ n, wX_reset_24 post act opl ohd fn fc kd dp gt st n 0 a1 a2 a3 a4 a5 a6 a7 a8 a9 a10 a11 a12 a13 a14 a15 a16 a17 a18 a19 a20 a21 a22 a23 a24 a25 a26 a27 :=
  pk_loop (fun n i s => wX_reset_24 post act opl ohd fn fc kd dp gt st n (nI i) a1 a2 a3 a4 a5 a6 a7 a8 a9 a10 a11 s a13 a14 a15 a16 a17 a18 a19 a20 a21 a22 a23 a24 a25 a26 a27) (fun i s => ∀ n, n < i → s n = if n + 1 < 4096 then nI (n + 1) else -1) 4096 0 a12 (by omega) (fun j hj => absurd hj (by omega))
    (fun n s h => pk_le 4096 4096 (fun _ => H s h) (fun z => absurd z (by omega)))
    (fun n i s hi h hw => pk_le 4096 i (fun z => absurd z (by omega)) (fun _ => pk_le 4096 (i + 1)
      (fun z => ⟨pk_in i 4096 hi, nm_e (nm_r (nI_1 i) (hw _ (fun m hm => by
        rw [nI_clamp (by omega)]
        by_cases e : m = i
        · try dsimp only
          rw [e, pk_us, if_neg (by omega)]
        · try dsimp only
          rw [pk_un e]
          exact h m (by omega))))⟩)
      (fun z => ⟨pk_in i 4096 hi, nm_e (nm_r (nI_1 i) (hw _ (fun m hm => by
        rw [nI_clamp (by omega), nI_1]
        by_cases e : m = i
        · try dsimp only
          rw [e, pk_us, if_pos (by omega)]
        · try dsimp only
          rw [pk_un e]
          exact h m (by omega))))⟩) (hy := nI_1 i)))
theorem ff_reset {post : St1 → Prop} {act opl ohd fn fc kd dp gt st : Int32} {a1 a2 a3 a4 a5 a6 a7 a8 a9 a10 a11 a12 a13 a14 a15 a16 a17 a18 a19 a20 a21 a22 a23 a24 a25 a26 a27 : Nat → Int32} {V : Nat} (H : ∀ a12' a14' : Nat → Int32, ff_NS a11 a12' a14' 0 4096 (fun _ => False) 4096 V → post (act, opl, ohd, 0, 4096, -1, dp, gt, st, a1, a2, a3, a4, a5, a6, a7, a8, a9, a10, a11, a12', a13, a14', a15, a16, a17, a18, a19, a20, a21, a22, a23, a24, a25, a26, a27)) : wpX_reset post (act, opl, ohd, fn, fc, kd, dp, gt, st, a1, a2, a3, a4, a5, a6, a7, a8, a9, a10, a11, a12, a13, a14, a15, a16, a17, a18, a19, a20, a21, a22, a23, a24, a25, a26, a27) := by
  unfold wpX_reset
  try dsimp only
  exact pk_loop (fun n i s => wX_reset_2 post act opl ohd fn fc kd dp gt st n (nI i) a1 a2 a3 a4 a5 a6 a7 a8 a9 a10 a11 a12 a13 s a15 a16 a17 a18 a19 a20 a21 a22 a23 a24 a25 a26 a27) (fun i s => ∀ b, b < i → s b = -1) 1024 0 a14 (by omega) (fun j hj => absurd hj (by omega))
    (fun n s h => pk_le 1024 1024 (fun _ => ff_reset_24 (fun a12' h12 => H a12' s (ff_NS_0 h12 h))) (fun z => absurd z (by omega)))
    (fun n i s hi h hw => pk_le 1024 i (fun z => absurd z (by omega)) (fun _ => ⟨pk_in i 1024 hi, nm_e (nm_r (nI_1 i) (hw _ (fun m hm => by
      rw [nI_clamp (by omega)]
      by_cases e : m = i
      · try dsimp only
        rw [e, pk_us]
      · try dsimp only
        rw [pk_un e]
        exact h m (by omega))))⟩))
/-- how many of the first N -/
def ff_nm (q : Nat → Bool) (N : Nat) : Nat := (List.range N).countP q
theorem ff_nm_s (q : Nat → Bool) (N : Nat) : ff_nm q (N + 1) = ff_nm q N + (if q N then 1 else 0) := by
  unfold ff_nm
  try dsimp only
  rw [List.range_succ, List.countP_append, List.countP_singleton]
theorem ff_nm_le (q : Nat → Bool) : ∀ N, ff_nm q N ≤ N
  | 0 => Nat.le_refl 0
  | N + 1 => by
    rw [ff_nm_s]
    have := ff_nm_le q N
    split <;> omega
theorem ff_nm_add (q : Nat → Bool) : ∀ N, ff_nm q N + ff_nm (fun n => !q n) N = N
  | 0 => rfl
  | N + 1 => by
    have := ff_nm_add q N
    rw [ff_nm_s, ff_nm_s]
    cases e : q N <;> simp <;> omega
theorem ff_nm_0 {q : Nat → Bool} : ∀ {N}, (∀ n, n < N → q n = false) → ff_nm q N = 0
  | 0, _ => rfl
  | N + 1, h => by
    rw [ff_nm_s, h N (by omega), ff_nm_0 (fun n hn => h n (by omega))]
    rfl
theorem ff_nm_1 (q : Nat → Bool) (x : Nat) : ∀ N, ff_nm q N ≤ ff_nm (fun n => q n && decide (n ≠ x)) N + (if x < N then 1 else 0)
  | 0 => Nat.zero_le _
  | N + 1 => by
    have i := ff_nm_1 q x N
    rw [ff_nm_s, ff_nm_s]
    by_cases e : N = x
    · subst e
      rw [if_neg (by omega)] at i
      rw [if_pos (show N < N + 1 by omega)]
      split <;> split <;> omega
    · have e2 : (q N && decide (N ≠ x)) = q N := by rw [decide_eq_true e, Bool.and_true]
      rw [e2]
      split at i <;> split <;> split <;> omega
/-- what is in the picture of M places is at most M -/
theorem ff_img (g : Nat → Nat) : ∀ (M N : Nat) (q : Nat → Bool), (∀ n, n < N → q n = true → ∃ i, i < M ∧ g i = n) → ff_nm q N ≤ M
  | 0, N, q, h => by
    rw [ff_nm_0 (fun n hn => by
      cases e : q n
      · rfl
      · obtain ⟨i, hi, _⟩ := h n hn e
        omega)]
    exact Nat.le_refl 0
  | M + 1, N, q, h => by
    have a := ff_nm_1 q (g M) N
    have b := ff_img g M N (fun n => q n && decide (n ≠ g M)) (fun n hn hq => by
      rw [Bool.and_eq_true, decide_eq_true_eq] at hq
      obtain ⟨i, hi, e⟩ := h n hn hq.1
      refine ⟨i, ?_, e⟩
      have : i ≠ M := fun z => hq.2 (by rw [← e, z])
      omega)
    split at a <;> omega
theorem ff_sweep_34 {post : St1 → Prop} {act opl ohd kd dp gt st : Int32} {a1 a2 a3 a4 a5 a6 a7 a8 a9 a10 a11 a12 a13 a14 a15 a16 a17 a18 a19 a20 a21 a22 a23 a24 a25 a26 a27 : Nat → Int32} {lv : Nat → Prop} {V : Nat} (w : ff_Wf a11 lv V) (u : ff_Un a11 lv) (hm : ∀ n, n < 4096 → a13 n ≠ 0 → lv n) (hcl : ∀ n, n < 4096 → a13 n ≠ 0 → ff_L a11 n < 6 → a13 (ff_lo a11 n) ≠ 0 ∧ a13 (ff_hi a11 n) ≠ 0) (hbk : ∀ b, b < 1024 → a14 b = -1)
    (H : ∀ (fn' fc' : Int32) (a12' a14' : Nat → Int32), ff_NS a11 a12' a14' fn' fc' (fun n => n < 4096 ∧ a13 n ≠ 0) (ff_nm (fun n => decide (a13 n = 0)) 4096) V → post (act, opl, ohd, fn', fc', kd, dp, gt, st, a1, a2, a3, a4, a5, a6, a7, a8, a9, a10, a11, a12', a13, a14', a15, a16, a17, a18, a19, a20, a21, a22, a23, a24, a25, a26, a27)) :
    ∃ n, wX_sweep_34 post act opl ohd kd dp gt st n 0 (-1) 0 a1 a2 a3 a4 a5 a6 a7 a8 a9 a10 a11 a12 a13 a14 a15 a16 a17 a18 a19 a20 a21 a22 a23 a24 a25 a26 a27 := by
  refine pk_loop (fun n i (s : Int32 × Int32 × (Nat → Int32) × (Nat → Int32)) => wX_sweep_34 post act opl ohd kd dp gt st n (nI i) s.1 s.2.1 a1 a2 a3 a4 a5 a6 a7 a8 a9 a10 a11 (s.2.2.1) a13 (s.2.2.2) a15 a16 a17 a18 a19 a20 a21 a22 a23 a24 a25 a26 a27)
    (fun i s => s.2.1 = nI (ff_nm (fun n => decide (a13 n = 0)) i) ∧ ∃ (F : List Nat) (B : Nat → List Nat), ff_Ch s.2.2.1 s.1 F ∧ F.length = ff_nm (fun n => decide (a13 n = 0)) i ∧ F.Nodup ∧ (∀ n, n ∈ F → n < i ∧ a13 n = 0) ∧
      (∀ b, b < 1024 → ff_Ch s.2.2.1 (s.2.2.2 b) (B b) ∧ ∀ n, n ∈ B b → n < i ∧ a13 n ≠ 0) ∧ (∀ n, n < i → a13 n ≠ 0 → n ∈ B (ff_hb (a11 n)))) 4096 0 (-1, 0, a12, a14) (by omega) ?_ ?_ ?_
  · refine ⟨rfl, [], fun _ => [], ?_, rfl, List.nodup_nil, fun n hn => absurd hn (by simp), fun b hb => ⟨?_, fun n hn => absurd hn (by simp)⟩, fun n hn => absurd hn (by omega)⟩
    · show (-1 : Int32) < 0
      decide
    · show a14 b < 0
      rw [hbk b hb]
      decide
  · rintro n ⟨f1, f2, s12, s14⟩ ⟨h1, F, B, g1, g2, g3, g4, g5, g6⟩
    refine pk_le 4096 4096 (fun _ => H f1 f2 s12 s14 ?_) (fun z => absurd z (by omega))
    refine ⟨?_, fun n m hn hm' => u n m (hm n hn.1 hn.2) (hm m hm'.1 hm'.2), h1, ff_nm_le _ _, F, B, g1, g2, g3, fun n hn z => z.2 (g4 n hn).2, fun b hb => ⟨(g5 b hb).1, (g5 b hb).2⟩, fun n hn => g6 n hn.1 hn.2⟩
    intro n hn
    obtain ⟨o1, o2, o3, o4, o5⟩ := w n (hm n hn.1 hn.2)
    refine ⟨o1, o2, o3, o4, fun z => ?_⟩
    obtain ⟨q1, q2, q3, q4, q5⟩ := o5 z
    obtain ⟨c1, c2⟩ := hcl n hn.1 hn.2 z
    exact ⟨⟨(w _ q1).1, c1⟩, ⟨(w _ q2).1, c2⟩, q3, q4, q5⟩
  · rintro n i ⟨f1, f2, s12, s14⟩ hi ⟨h1, F, B, g1, g2, g3, g4, g5, g6⟩ hw
    dsimp only at h1 g1 g5
    have ei : (nI i).toNatClampNeg = i := nI_clamp (by omega)
    have ii : vp_in (nI i) 4096 := pk_in i 4096 hi
    have iF : i ∉ F := fun z => absurd (g4 i z).1 (by omega)
    refine pk_le 4096 i (fun z => absurd z (by omega)) (fun _ => ⟨ii, ?_⟩)
    try dsimp only
    rw [ei]
    by_cases c : a13 i = 0
    · refine br_t c ⟨ii, nm_e (nm_r (show f2 + 1 = nI (ff_nm (fun n => decide (a13 n = 0)) (i + 1)) by rw [h1, nI_1, ff_nm_s, if_pos (decide_eq_true c)]) (nm_r (nI_1 i) (hw (nI i, _, upd s12 i f1, s14) ⟨rfl, i :: F, B, ?_, ?_, ?_, ?_, ?_, ?_⟩)))⟩
      · refine ⟨rfl, hi, ?_⟩
        show ff_Ch (upd s12 i f1) (upd s12 i f1 i) F
        rw [pk_us]
        exact ff_Ch_u g1 iF
      · try dsimp only
        rw [List.length_cons, g2, ff_nm_s, if_pos (decide_eq_true c)]
      · exact List.nodup_cons.mpr ⟨iF, g3⟩
      · intro m hm'
        rcases List.mem_cons.mp hm' with z | z
        · try dsimp only
          rw [z]
          exact ⟨by omega, c⟩
        · exact ⟨by have := (g4 m z).1; omega, (g4 m z).2⟩
      · intro b hb
        refine ⟨ff_Ch_u (g5 b hb).1 (fun z => absurd ((g5 b hb).2 i z).1 (by omega)), fun m hm' => ⟨by have := ((g5 b hb).2 m hm').1; omega, ((g5 b hb).2 m hm').2⟩⟩
      · intro m hm' hc
        by_cases e : m = i
        · exact absurd (by rw [e]; exact c) hc
        · exact g6 m (by omega) hc
    · obtain ⟨hb, ehb⟩ := ff_hb_ok (a11 i)
      have eb : (nI (ff_hb (a11 i))).toNatClampNeg = ff_hb (a11 i) := nI_clamp (by omega)
      have ib : vp_in (nI (ff_hb (a11 i))) 1024 := pk_in _ 1024 hb
      refine br_f c ⟨ii, ?_⟩
      have ehb' : ((a11 i ^^^ (a11 i >>> ((7 : Int32) &&& 31))) ^^^ (a11 i >>> ((15 : Int32) &&& 31))) &&& 1023 = nI (ff_hb (a11 i)) := ehb
      unfold wpX_bucketOf
      try dsimp only
      rw [ehb', eb]
      refine ⟨ib, ii, nm_e ⟨ib, nm_e (nm_r (nI_1 i) (hw (f1, f2, upd s12 i (s14 (ff_hb (a11 i))), upd s14 (ff_hb (a11 i)) (nI i)) ⟨?_, F, fun b => if b = ff_hb (a11 i) then i :: B b else B b, ?_, ?_, g3, ?_, ?_, ?_⟩))⟩⟩
      · try dsimp only
        rw [ff_nm_s, if_neg (by rw [decide_eq_true_eq]; exact c)]
        exact h1
      · exact ff_Ch_u g1 iF
      · try dsimp only
        rw [ff_nm_s, if_neg (by rw [decide_eq_true_eq]; exact c)]
        exact g2
      · intro m hm'
        exact ⟨by have := (g4 m hm').1; omega, (g4 m hm').2⟩
      · intro b hb'
        obtain ⟨p1, p2⟩ := g5 b hb'
        have iB : i ∉ B b := fun z => absurd (p2 i z).1 (by omega)
        try dsimp only
        by_cases e : b = ff_hb (a11 i)
        · try dsimp only
          rw [if_pos e, e, pk_us]
          rw [e] at p1 p2 iB
          refine ⟨⟨rfl, hi, ?_⟩, ?_⟩
          · try dsimp only
            rw [pk_us]
            exact ff_Ch_u p1 iB
          · intro m hm'
            rcases List.mem_cons.mp hm' with z | z
            · try dsimp only
              rw [z]
              exact ⟨by omega, c⟩
            · exact ⟨by have := (p2 m z).1; omega, (p2 m z).2⟩
        · try dsimp only
          rw [if_neg e, pk_un e]
          exact ⟨ff_Ch_u p1 iB, fun m hm' => ⟨by have := (p2 m hm').1; omega, (p2 m hm').2⟩⟩
      · intro m hm' hc
        try dsimp only
        by_cases e : m = i
        · subst e
          rw [if_pos rfl]
          exact List.mem_cons_self
        · have t := g6 m (by omega) hc
          split
          · exact List.mem_cons_of_mem i t
          · exact t
theorem ff_sweep {post : St1 → Prop} {act opl ohd fn fc kd dp gt st : Int32} {a1 a2 a3 a4 a5 a6 a7 a8 a9 a10 a11 a12 a13 a14 a15 a16 a17 a18 a19 a20 a21 a22 a23 a24 a25 a26 a27 : Nat → Int32} {lv : Nat → Prop} {V : Nat} (w : ff_Wf a11 lv V) (u : ff_Un a11 lv) (hm : ∀ n, n < 4096 → a13 n ≠ 0 → lv n) (hcl : ∀ n, n < 4096 → a13 n ≠ 0 → ff_L a11 n < 6 → a13 (ff_lo a11 n) ≠ 0 ∧ a13 (ff_hi a11 n) ≠ 0)
    (H : ∀ (fn' fc' : Int32) (a12' a14' : Nat → Int32), ff_NS a11 a12' a14' fn' fc' (fun n => n < 4096 ∧ a13 n ≠ 0) (ff_nm (fun n => decide (a13 n = 0)) 4096) V → post (act, opl, ohd, fn', fc', kd, dp, gt, st, a1, a2, a3, a4, a5, a6, a7, a8, a9, a10, a11, a12', a13, a14', a15, a16, a17, a18, a19, a20, a21, a22, a23, a24, a25, a26, a27)) :
    wpX_sweep post (act, opl, ohd, fn, fc, kd, dp, gt, st, a1, a2, a3, a4, a5, a6, a7, a8, a9, a10, a11, a12, a13, a14, a15, a16, a17, a18, a19, a20, a21, a22, a23, a24, a25, a26, a27) := by
  unfold wpX_sweep
  try dsimp only
  exact pk_loop (fun n i s => wX_sweep_2 post act opl ohd fn fc kd dp gt st n (nI i) a1 a2 a3 a4 a5 a6 a7 a8 a9 a10 a11 a12 a13 s a15 a16 a17 a18 a19 a20 a21 a22 a23 a24 a25 a26 a27) (fun i s => ∀ b, b < i → s b = -1) 1024 0 a14 (by omega) (fun j hj => absurd hj (by omega))
    (fun n s h => pk_le 1024 1024 (fun _ => ff_sweep_34 w u hm hcl h H) (fun z => absurd z (by omega)))
    (fun n i s hi h hw => pk_le 1024 i (fun z => absurd z (by omega)) (fun _ => ⟨pk_in i 1024 hi, nm_e (nm_r (nI_1 i) (hw _ (fun m hm => by
      rw [nI_clamp (by omega)]
      by_cases e : m = i
      · try dsimp only
        rw [e, pk_us]
      · try dsimp only
        rw [pk_un e]
        exact h m (by omega))))⟩))
end
section
/-! ===== spread, collect ===== -/
/-- the node of a diagram that is reached by the bits of i -/
def ff_hp (a : Nat → Int32) (r : Nat) : Nat → Nat → Nat
  | 0 => fun _ => r
  | d + 1 => fun i => if i % 2 = 1 then ff_hi a (ff_hp a r d (i / 2)) else ff_lo a (ff_hp a r d (i / 2))
def ff_Rs (a : Nat → Int32) (R : Nat → Nat) (n : Nat) : Prop := ∃ j, j < 41 ∧ ∃ d i, 2 ^ d ≤ i ∧ i < 2 ^ (d + 1) ∧ d ≤ ff_L a n ∧ ff_hp a (R j) d i = n
theorem ff_Rs_0 {a : Nat → Int32} {R : Nat → Nat} {j : Nat} (hj : j < 41) : ff_Rs a R (R j) := ⟨j, hj, 0, 1, by decide, by decide, Nat.zero_le _, rfl⟩
theorem ff_Rs_ch {a : Nat → Int32} {lv : Nat → Prop} {V n : Nat} {R : Nat → Nat} (w : ff_Wf a lv V) (hn : lv n) (hl : ff_L a n < 6) (h : ff_Rs a R n) : ff_Rs a R (ff_lo a n) ∧ ff_Rs a R (ff_hi a n) := by
  obtain ⟨j, hj, d, i, h1, h2, h3, h4⟩ := h
  obtain ⟨_, c1⟩ := ff_Wf_ch w hn hl false
  obtain ⟨_, c2⟩ := ff_Wf_ch w hn hl true
  have c1' : ff_L a n < ff_L a (ff_lo a n) := c1
  have c2' : ff_L a n < ff_L a (ff_hi a n) := c2
  have e1 : 2 ^ (d + 1) = 2 * 2 ^ d := by rw [Nat.pow_succ]; omega
  have e2 : 2 ^ (d + 1 + 1) = 2 * 2 ^ (d + 1) := by rw [Nat.pow_succ]; omega
  refine ⟨⟨j, hj, d + 1, 2 * i, by omega, by omega, by omega, ?_⟩, ⟨j, hj, d + 1, 2 * i + 1, by omega, by omega, by omega, ?_⟩⟩
  · try dsimp only
    rw [ff_hp]
    try dsimp only
    rw [if_neg (by omega), show 2 * i / 2 = i by omega, h4]
  · try dsimp only
    rw [ff_hp]
    try dsimp only
    rw [if_pos (by omega), show (2 * i + 1) / 2 = i by omega, h4]
/-- what is marked is live and reached -/
def ff_Mk (a : Nat → Int32) (lv : Nat → Prop) (R : Nat → Nat) (s : Nat → Int32) : Prop := ∀ n, n < 4096 → s n ≠ 0 → lv n ∧ ff_Rs a R n
def ff_Cl (a : Nat → Int32) (l : Nat) (s : Nat → Int32) : Prop := ∀ n, n < 4096 → s n ≠ 0 → ff_L a n < l → s (ff_lo a n) ≠ 0 ∧ s (ff_hi a n) ≠ 0
theorem ff_u1 {s : Nat → Int32} {k m : Nat} (h : s m ≠ 0) : upd s k 1 m ≠ 0 := by
  by_cases e : m = k
  · try dsimp only
    rw [e, pk_us]
    decide
  · try dsimp only
    rw [pk_un e]
    exact h
theorem ff_u1s {s : Nat → Int32} {k : Nat} : upd s k 1 k ≠ 0 := by
  rw [pk_us]
  decide
theorem ff_u1e {s : Nat → Int32} {k m : Nat} (h : upd s k 1 m ≠ 0) : m = k ∨ s m ≠ 0 := by
  by_cases e : m = k
  · exact Or.inl e
  · try dsimp only
    rw [pk_un e] at h
    exact Or.inr h
theorem ff_Mk_u {a : Nat → Int32} {lv : Nat → Prop} {R : Nat → Nat} {s : Nat → Int32} {k : Nat} (h : ff_Mk a lv R s) (hk : lv k) (hr : ff_Rs a R k) : ff_Mk a lv R (upd s k 1) := fun n hn4 hn => by
  rcases ff_u1e hn with e | e
  · try dsimp only
    rw [e]
    exact ⟨hk, hr⟩
  · exact h n hn4 e
theorem ff_spread {post : St1 → Prop} {act opl ohd fn fc kd dp gt st : Int32} {a1 a2 a3 a4 a5 a6 a7 a8 a9 a10 a11 a12 a13 a14 a15 a16 a17 a18 a19 a20 a21 a22 a23 a24 a25 a26 a27 : Nat → Int32} {lv : Nat → Prop} {V l : Nat} {R : Nat → Nat} (w : ff_Wf a11 lv V) (hl : l < 6) (M : ff_Mk a11 lv R a13) (C : ff_Cl a11 l a13)
    (H : ∀ a13' : Nat → Int32, ff_Mk a11 lv R a13' → (∀ n, a13 n ≠ 0 → a13' n ≠ 0) → ff_Cl a11 (l + 1) a13' → post (act, opl, ohd, fn, fc, kd, dp, gt, st, a1, a2, a3, a4, a5, a6, a7, a8, a9, a10, a11, a12, a13', a14, a15, a16, a17, a18, a19, a20, a21, a22, a23, a24, a25, a26, a27)) : wpX_spread post (act, opl, ohd, fn, fc, kd, dp, gt, st, a1, a2, a3, a4, a5, a6, a7, a8, a9, a10, a11, a12, a13, a14, a15, a16, a17, a18, a19, a20, a21, a22, a23, a24, a25, a26, a27) (nI l) := by
  unfold wpX_spread
  try dsimp only
  refine pk_loop (fun n i s => wX_spread_2 post (nI l) act opl ohd fn fc kd dp gt st n (nI i) a1 a2 a3 a4 a5 a6 a7 a8 a9 a10 a11 a12 s a14 a15 a16 a17 a18 a19 a20 a21 a22 a23 a24 a25 a26 a27) (fun i s => ff_Mk a11 lv R s ∧ (∀ n, a13 n ≠ 0 → s n ≠ 0) ∧ ff_Cl a11 l s ∧ (∀ n, n < i → s n ≠ 0 → ff_L a11 n = l → s (ff_lo a11 n) ≠ 0 ∧ s (ff_hi a11 n) ≠ 0)) 4096 0 a13 (by omega) ⟨M, fun _ h => h, C, fun n hn => absurd hn (by omega)⟩ ?_ ?_
  · intro n s ⟨h1, h2, h3, h4⟩
    refine pk_le 4096 4096 (fun _ => H s h1 h2 (fun m hm4 hm hL => ?_)) (fun z => absurd z (by omega))
    rcases Nat.lt_or_ge (ff_L a11 m) l with z | z
    · exact h3 m hm4 hm z
    · exact h4 m hm4 hm (by omega)
  · intro n i s hi ⟨h1, h2, h3, h4⟩ hw
    have ei : (nI i).toNatClampNeg = i := nI_clamp (by omega)
    refine pk_le 4096 i (fun z => absurd z (by omega)) (fun _ => ⟨pk_in i 4096 hi, ?_⟩)
    try dsimp only
    rw [ei]
    refine br_c (fun c => nm_r (nI_1 i) (hw s ⟨h1, h2, h3, fun m hm hs hL => ?_⟩)) (fun c => ?_)
    · by_cases e : m = i
      · exact absurd (by rw [e]; exact c) hs
      · exact h4 m (by omega) hs hL
    · obtain ⟨li, ri⟩ := h1 i hi c
      have hL6 := (w i li).2.2.1
      refine ff_levelOf w li (pk_eq (ff_L a11 i) l (fun e => ?_) (fun e => nm_r (nI_1 i) (hw s ⟨h1, h2, h3, fun m hm hs hL => ?_⟩)))
      · obtain ⟨c1, c1'⟩ := ff_Wf_ch w li (by omega) false
        obtain ⟨c2, c2'⟩ := ff_Wf_ch w li (by omega) true
        have d1 : lv (ff_lo a11 i) := c1
        have d1' : ff_L a11 i < ff_L a11 (ff_lo a11 i) := c1'
        have d2 : lv (ff_hi a11 i) := c2
        have d2' : ff_L a11 i < ff_L a11 (ff_hi a11 i) := c2'
        obtain ⟨r1, r2⟩ := ff_Rs_ch w li (by omega) ri
        have b1 := (w _ d1).1
        have b2 := (w _ d2).1
        refine ff_lowOf w li (ff_highOf w li ⟨pk_in _ 4096 b1, nm_e ⟨pk_in _ 4096 b2, nm_e (nm_r (nI_1 i) ?_)⟩⟩)
        try dsimp only
        rw [nI_clamp (show ff_lo a11 i < 2 ^ 31 by omega), nI_clamp (show ff_hi a11 i < 2 ^ 31 by omega)]
        refine hw _ ⟨ff_Mk_u (ff_Mk_u h1 d1 r1) d2 r2, fun m hm => ff_u1 (ff_u1 (h2 m hm)), fun m hm4 hm hL => ?_, fun m hm hs hL => ?_⟩
        · rcases ff_u1e hm with z | z
          · try dsimp only
            rw [z] at hL
            omega
          · rcases ff_u1e z with z | z
            · try dsimp only
              rw [z] at hL
              omega
            · exact ⟨ff_u1 (ff_u1 (h3 m hm4 z hL).1), ff_u1 (ff_u1 (h3 m hm4 z hL).2)⟩
        · by_cases em : m = i
          · try dsimp only
            rw [em]
            exact ⟨ff_u1 ff_u1s, ff_u1s⟩
          · rcases ff_u1e hs with z | z
            · try dsimp only
              rw [z] at hL
              omega
            · rcases ff_u1e z with z | z
              · try dsimp only
                rw [z] at hL
                omega
              · exact ⟨ff_u1 (ff_u1 (h4 m (by omega) z hL).1), ff_u1 (ff_u1 (h4 m (by omega) z hL).2)⟩
      · by_cases em : m = i
        · try dsimp only
          rw [em] at hL
          exact absurd hL e
        · exact h4 m (by omega) hs hL
def ff_lg (i : Nat) : Nat := if i < 2 then 0 else if i < 4 then 1 else if i < 8 then 2 else if i < 16 then 3 else if i < 32 then 4 else 5
theorem ff_lg_ok {d i : Nat} (hd : d < 6) (h1 : 2 ^ d ≤ i) (h2 : i < 2 ^ (d + 1)) : ff_lg i = d ∧ i < 64 := by
  unfold ff_lg
  match d, hd, h1, h2 with
  | 0, _, h1, h2 => exact ⟨by rw [if_pos (by omega)], by omega⟩
  | 1, _, h1, h2 => exact ⟨by rw [if_neg (by omega), if_pos (by omega)], by omega⟩
  | 2, _, h1, h2 => exact ⟨by rw [if_neg (by omega), if_neg (by omega), if_pos (by omega)], by omega⟩
  | 3, _, h1, h2 => exact ⟨by rw [if_neg (by omega), if_neg (by omega), if_neg (by omega), if_pos (by omega)], by omega⟩
  | 4, _, h1, h2 => exact ⟨by rw [if_neg (by omega), if_neg (by omega), if_neg (by omega), if_neg (by omega), if_pos (by omega)], by omega⟩
  | 5, _, h1, h2 => exact ⟨by rw [if_neg (by omega), if_neg (by omega), if_neg (by omega), if_neg (by omega), if_neg (by omega)], by omega⟩
  | d + 6, h, _, _ => omega
/-- few are marked -/
theorem ff_few {a : Nat → Int32} {lv : Nat → Prop} {R : Nat → Nat} {s : Nat → Int32} (w : ff_Wf a lv 120) (u : ff_Un a lv) (M : ff_Mk a lv R s) : 1000 ≤ ff_nm (fun n => decide (s n = 0)) 4096 := by
  have add := ff_nm_add (fun n => decide (s n = 0)) 4096
  have img := ff_img (fun x => if x < 120 then Classical.epsilon (fun n => lv n ∧ a n = nI (ff_ct 6 x 0)) else ff_hp a (R ((x - 120) / 64)) (ff_lg ((x - 120) % 64)) ((x - 120) % 64)) 2744 4096 (fun n => !decide (s n = 0)) (fun n hn hs => ?_)
  · omega
  · have hs' : s n ≠ 0 := by
      intro z
      rw [z] at hs
      exact absurd hs (by decide)
    obtain ⟨ln, j, hj, d, i, h1, h2, h3, h4⟩ := M n hn hs'
    obtain ⟨_, _, o3, o4, _⟩ := w n ln
    by_cases h6 : ff_L a n = 6
    · obtain ⟨v1, v2⟩ := o4 h6
      obtain ⟨c, hc, c0, c1, c2, c3⟩ := ff_Wf_c w ln
      refine ⟨ff_lo a n, by omega, ?_⟩
      try dsimp only
      rw [if_pos v2]
      have en : a n = nI (ff_ct 6 (ff_lo a n) 0) := by rw [c0, ← v1, ← h6, c1, c2, c3, ff_ct_eq]
      have sp := Classical.epsilon_spec (p := fun m => lv m ∧ a m = nI (ff_ct 6 (ff_lo a n) 0)) ⟨n, ln, en⟩
      exact u _ _ sp.1 ln (sp.2.trans en.symm)
    · obtain ⟨l1, l2⟩ := ff_lg_ok (show d < 6 by omega) h1 h2
      refine ⟨120 + (64 * j + i), by omega, ?_⟩
      try dsimp only
      rw [if_neg (by omega), show (120 + (64 * j + i) - 120) / 64 = j by omega, show (120 + (64 * j + i) - 120) % 64 = i by omega, l1, h4]
theorem ff_collect_95 {post : St1 → Prop} {act opl ohd fn fc kd dp gt st : Int32} {a1 a2 a3 a4 a5 a6 a7 a8 a9 a10 a11 a12 a13 a14 a15 a16 a17 a18 a19 a20 a21 a22 a23 a24 a25 a26 a27 : Nat → Int32} {lv : Nat → Prop} {R : Nat → Nat} (w : ff_Wf a11 lv 120) (u : ff_Un a11 lv) (M : ff_Mk a11 lv R a13)
    (H : ∀ (fn' fc' : Int32) (a12' a13' a14' : Nat → Int32) (k' : Nat), 1000 ≤ k' → (∀ n, a13 n ≠ 0 → a13' n ≠ 0) → ff_NS a11 a12' a14' fn' fc' (fun n => n < 4096 ∧ a13' n ≠ 0) k' 120 → post (act, opl, ohd, fn', fc', kd, dp, gt, st, a1, a2, a3, a4, a5, a6, a7, a8, a9, a10, a11, a12', a13', a14', a15, a16, a17, a18, a19, a20, a21, a22, a23, a24, a25, a26, a27)) :
    ∃ n, wX_collect_95 post n 0 act opl ohd fn fc kd dp gt st a1 a2 a3 a4 a5 a6 a7 a8 a9 a10 a11 a12 a13 a14 a15 a16 a17 a18 a19 a20 a21 a22 a23 a24 a25 a26 a27 := by
  refine pk_loop (fun n i s => wX_collect_95 post n (nI i) act opl ohd fn fc kd dp gt st a1 a2 a3 a4 a5 a6 a7 a8 a9 a10 a11 a12 s a14 a15 a16 a17 a18 a19 a20 a21 a22 a23 a24 a25 a26 a27) (fun i s => ff_Mk a11 lv R s ∧ (∀ n, a13 n ≠ 0 → s n ≠ 0) ∧ ff_Cl a11 i s) 6 0 a13 (by omega) ⟨M, fun _ h => h, fun n _ _ hn => absurd hn (by omega)⟩ ?_ ?_
  · intro n s ⟨h1, h2, h3⟩
    exact pk_le 6 6 (fun _ => ff_sweep w u (fun n hn4 hn => (h1 n hn4 hn).1) h3 (fun fn' fc' a12' a14' hN => H fn' fc' a12' s a14' _ (ff_few w u h1) h2 hN)) (fun z => absurd z (by omega))
  · intro n i s hi ⟨h1, h2, h3⟩ hw
    exact pk_le 6 i (fun z => absurd z (by omega)) (fun _ => ff_spread w hi h1 h3 (fun s' g1 g2 g3 => nm_r (nI_1 i) (hw s' ⟨g1, fun m hm => g2 m (h2 m hm), g3⟩)))
theorem ff_collect_35 {post : St1 → Prop} {act opl ohd fn fc kd dp gt st : Int32} {a1 a2 a3 a4 a5 a6 a7 a8 a9 a10 a11 a12 a13 a14 a15 a16 a17 a18 a19 a20 a21 a22 a23 a24 a25 a26 a27 : Nat → Int32} {lv : Nat → Prop} {pl kn : Nat} {nw nx : Nat → Nat} (w : ff_Wf a11 lv 120) (u : ff_Un a11 lv) (h13 : ∀ n, n < 4096 → a13 n = 0) (hpl : pl ≤ 20)
    (h15 : ∀ p, p < 20 → a15 p = nI (nw p) ∧ lv (nw p)) (h16 : ∀ p, p < pl → a16 p = nI (nx p) ∧ lv (nx p)) (hkd : kd < 0 ∨ (kd = nI kn ∧ lv kn))
    (H : ∀ (fn' fc' : Int32) (a12' a13' a14' : Nat → Int32) (lv' : Nat → Prop) (k' : Nat), ff_NS a11 a12' a14' fn' fc' lv' k' 120 → 1000 ≤ k' → (∀ p, p < 20 → lv' (nw p)) → (∀ p, p < pl → lv' (nx p)) → (¬ kd < 0 → lv' kn) → post (act, opl, ohd, fn', fc', kd, dp, gt, st, a1, a2, a3, a4, a5, a6, a7, a8, a9, a10, a11, a12', a13', a14', a15, a16, a17, a18, a19, a20, a21, a22, a23, a24, a25, a26, a27)) :
    ∃ n, wX_collect_35 post (nI pl) act opl ohd fn fc kd dp gt st n 0 a1 a2 a3 a4 a5 a6 a7 a8 a9 a10 a11 a12 a13 a14 a15 a16 a17 a18 a19 a20 a21 a22 a23 a24 a25 a26 a27 := by
  have hR0 : ∀ p, p < 20 → ff_Rs a11 (fun j => if j < 20 then nw j else if j < 40 then nx (j - 20) else kn) (nw p) := fun p hp => by
    have t := ff_Rs_0 (a := a11) (R := fun j => if j < 20 then nw j else if j < 40 then nx (j - 20) else kn) (show p < 41 by omega)
    try dsimp only at t
    rw [if_pos hp] at t
    exact t
  have hR1 : ∀ p, p < 20 → ff_Rs a11 (fun j => if j < 20 then nw j else if j < 40 then nx (j - 20) else kn) (nx p) := fun p hp => by
    have t := ff_Rs_0 (a := a11) (R := fun j => if j < 20 then nw j else if j < 40 then nx (j - 20) else kn) (show p + 20 < 41 by omega)
    try dsimp only at t
    rw [if_neg (by omega), if_pos (by omega), show p + 20 - 20 = p by omega] at t
    exact t
  have hR2 : ff_Rs a11 (fun j => if j < 20 then nw j else if j < 40 then nx (j - 20) else kn) kn := ff_Rs_0 (a := a11) (R := fun j => if j < 20 then nw j else if j < 40 then nx (j - 20) else kn) (show 40 < 41 by omega)
  refine pk_loop (fun n i s => wX_collect_35 post (nI pl) act opl ohd fn fc kd dp gt st n (nI i) a1 a2 a3 a4 a5 a6 a7 a8 a9 a10 a11 a12 s a14 a15 a16 a17 a18 a19 a20 a21 a22 a23 a24 a25 a26 a27)
    (fun i s => ff_Mk a11 lv (fun j => if j < 20 then nw j else if j < 40 then nx (j - 20) else kn) s ∧ (∀ p, p < i → s (nw p) ≠ 0) ∧ (∀ p, p < i → p < pl → s (nx p) ≠ 0)) 20 0 a13 (by omega) ⟨fun n hn hs => absurd (h13 n hn) hs, fun p hp => absurd hp (by omega), fun p hp => absurd hp (by omega)⟩ ?_ ?_
  · intro n s ⟨h1, h2, h3⟩
    refine pk_le 20 20 (fun _ => ?_) (fun z => absurd z (by omega))
    refine br_c (fun c => ?_) (fun c => ?_)
    · refine ff_collect_95 w u h1 (fun fn' fc' a12' a13' a14' k' hk' hg hN => H fn' fc' a12' a13' a14' _ k' hN hk' (fun p hp => ⟨(w _ (h15 p hp).2).1, hg _ (h2 p hp)⟩) (fun p hp => ⟨(w _ (h16 p hp).2).1, hg _ (h3 p (by omega) hp)⟩) (fun z => absurd c z))
    · rcases hkd with z | ⟨ek, lk⟩
      · exact absurd z c
      · have hk4 := (w kn lk).1
        subst ek
        refine ⟨pk_in kn 4096 hk4, nm_r (by rw [nI_clamp (by omega)]) ?_⟩
        refine ff_collect_95 w u (ff_Mk_u h1 lk hR2) (fun fn' fc' a12' a13' a14' k' hk' hg hN => H fn' fc' a12' a13' a14' _ k' hN hk' (fun p hp => ⟨(w _ (h15 p hp).2).1, hg _ (ff_u1 (h2 p hp))⟩) (fun p hp => ⟨(w _ (h16 p hp).2).1, hg _ (ff_u1 (h3 p (by omega) hp))⟩) (fun _ => ⟨hk4, hg _ ff_u1s⟩))
  · intro n i s hi ⟨h1, h2, h3⟩ hw
    have ei : (nI i).toNatClampNeg = i := nI_clamp (by omega)
    have ii : vp_in (nI i) 20 := pk_in i 20 hi
    obtain ⟨e15, l15⟩ := h15 i hi
    have b15 := (w _ l15).1
    refine pk_le 20 i (fun z => absurd z (by omega)) (fun _ => ⟨ii, ?_⟩)
    try dsimp only
    rw [ei, e15, nI_clamp (show nw i < 2 ^ 31 by omega)]
    have m1 := ff_Mk_u h1 l15 (hR0 i hi)
    refine ⟨pk_in _ 4096 b15, nm_e (pk_le pl i (fun c => nm_r (nI_1 i) (hw _ ⟨m1, fun p hp => ?_, fun p hp hp2 => ff_u1 (h3 p (by omega) hp2)⟩)) (fun c => ⟨ii, ?_⟩))⟩
    · by_cases e : p = i
      · try dsimp only
        rw [e]
        exact ff_u1s
      · exact ff_u1 (h2 p (by omega))
    · obtain ⟨e16, l16⟩ := h16 i c
      have b16 := (w _ l16).1
      rw [e16, nI_clamp (show nx i < 2 ^ 31 by omega)]
      refine ⟨pk_in _ 4096 b16, nm_e (nm_r (nI_1 i) (hw _ ⟨ff_Mk_u m1 l16 (hR1 i hi), fun p hp => ?_, fun p hp hp2 => ?_⟩))⟩
      · by_cases e : p = i
        · try dsimp only
          rw [e]
          exact ff_u1 ff_u1s
        · exact ff_u1 (ff_u1 (h2 p (by omega)))
      · by_cases e : p = i
        · try dsimp only
          rw [e]
          exact ff_u1s
        · exact ff_u1 (ff_u1 (h3 p (by omega) hp2))
theorem ff_collect {post : St1 → Prop} {act opl ohd fn fc kd dp gt st : Int32} {a1 a2 a3 a4 a5 a6 a7 a8 a9 a10 a11 a12 a13 a14 a15 a16 a17 a18 a19 a20 a21 a22 a23 a24 a25 a26 a27 : Nat → Int32} {lv : Nat → Prop} {pl kn k : Nat} {nw nx : Nat → Nat} (hN : ff_NS a11 a12 a14 fn fc lv k 120) (hpl : pl ≤ 20)
    (h15 : ∀ p, p < 20 → a15 p = nI (nw p) ∧ lv (nw p)) (h16 : ∀ p, p < pl → a16 p = nI (nx p) ∧ lv (nx p)) (hkd : kd < 0 ∨ (kd = nI kn ∧ lv kn))
    (H : ∀ (fn' fc' : Int32) (a12' a13' a14' : Nat → Int32) (lv' : Nat → Prop) (k' : Nat), ff_NS a11 a12' a14' fn' fc' lv' k' 120 → 1000 ≤ k' → (∀ p, p < 20 → lv' (nw p)) → (∀ p, p < pl → lv' (nx p)) → (¬ kd < 0 → lv' kn) → post (act, opl, ohd, fn', fc', kd, dp, gt, st, a1, a2, a3, a4, a5, a6, a7, a8, a9, a10, a11, a12', a13', a14', a15, a16, a17, a18, a19, a20, a21, a22, a23, a24, a25, a26, a27)) :
    wpX_collect post (act, opl, ohd, fn, fc, kd, dp, gt, st, a1, a2, a3, a4, a5, a6, a7, a8, a9, a10, a11, a12, a13, a14, a15, a16, a17, a18, a19, a20, a21, a22, a23, a24, a25, a26, a27) (nI pl) := by
  have hN' := hN
  obtain ⟨w, u, e1, e2, _⟩ := hN'
  unfold wpX_collect
  try dsimp only
  refine pk_lt k 1000 (fun c => ?_) (fun c => ?_) e1
  · refine pk_loop (fun n i s => wX_collect_13 post (nI pl) act opl ohd fn fc kd dp gt st n (nI i) a1 a2 a3 a4 a5 a6 a7 a8 a9 a10 a11 a12 s a14 a15 a16 a17 a18 a19 a20 a21 a22 a23 a24 a25 a26 a27) (fun i s => ∀ n, n < i → s n = 0) 4096 0 a13 (by omega) (fun n hn => absurd hn (by omega)) ?_ ?_
    · intro n s h
      exact pk_le 4096 4096 (fun _ => ff_collect_35 w u h hpl h15 h16 hkd H) (fun z => absurd z (by omega))
    · intro n i s hi h hw
      refine pk_le 4096 i (fun z => absurd z (by omega)) (fun _ => ⟨pk_in i 4096 hi, nm_e (nm_r (nI_1 i) (hw _ (fun m hm => ?_)))⟩)
      try dsimp only
      rw [nI_clamp (by omega)]
      by_cases e : m = i
      · try dsimp only
        rw [e, pk_us]
      · try dsimp only
        rw [pk_un e]
        exact h m (by omega)
  · refine H fn fc a12 a13 a14 lv k hN c (fun p hp => (h15 p hp).2) (fun p hp => (h16 p hp).2) (fun z => ?_)
    rcases hkd with g | g
    · exact absurd g z
    · exact g.2
end
section
/-! ===== the copies of a method are one ===== -/
theorem ff_q_push2 : @wpX_push_2 = @wpX_push := rfl
theorem ff_q_finish2 : @wpX_finish_2 = @wpX_finish := rfl
theorem ff_q_recall2 : @wpX_recall_2 = @wpX_recall := rfl
theorem ff_q_nw2_12 : @wX_nodeWith_2_12 = @wX_nodeWith_12 := by
  funext post x1 x2 act opl ohd fn fc kd dp gt st a1 a2 a3 a4 a5 a6 a7 a8 a9 a10 a11 a12 a13 a14 a15 a16 a17 a18 a19 a20 a21 a22 a23 a24 a25 a26 a27 n
  induction n with
  | zero => rfl
  | succ n ih =>
    funext x
    simp only [wX_nodeWith_2_12, wX_nodeWith_12, ih]
theorem ff_q_nw3_12 : @wX_nodeWith_3_12 = @wX_nodeWith_12 := by
  funext post x1 x2 act opl ohd fn fc kd dp gt st a1 a2 a3 a4 a5 a6 a7 a8 a9 a10 a11 a12 a13 a14 a15 a16 a17 a18 a19 a20 a21 a22 a23 a24 a25 a26 a27 n
  induction n with
  | zero => rfl
  | succ n ih =>
    funext x
    simp only [wX_nodeWith_3_12, wX_nodeWith_12, ih]
theorem ff_q_nw4_12 : @wX_nodeWith_4_12 = @wX_nodeWith_12 := by
  funext post x1 x2 act opl ohd fn fc kd dp gt st a1 a2 a3 a4 a5 a6 a7 a8 a9 a10 a11 a12 a13 a14 a15 a16 a17 a18 a19 a20 a21 a22 a23 a24 a25 a26 a27 n
  induction n with
  | zero => rfl
  | succ n ih =>
    funext x
    simp only [wX_nodeWith_4_12, wX_nodeWith_12, ih]
theorem ff_q_nw2 : @wpX_nodeWith_2 = @wpX_nodeWith := by
  funext post u p0
  unfold wpX_nodeWith_2 wpX_nodeWith
  rw [ff_q_nw2_12]
theorem ff_q_nw3 : @wpX_nodeWith_3 = @wpX_nodeWith := by
  funext post u p0
  unfold wpX_nodeWith_3 wpX_nodeWith
  rw [ff_q_nw3_12]
theorem ff_q_nw4 : @wpX_nodeWith_4 = @wpX_nodeWith := by
  funext post u p0
  unfold wpX_nodeWith_4 wpX_nodeWith
  rw [ff_q_nw4_12]
theorem ff_q_leaf2 : @wpX_leaf_2 = @wpX_leaf := by
  funext post u p0
  unfold wpX_leaf_2 wpX_leaf
  rw [ff_q_nw2]
theorem ff_q_leaf3 : @wpX_leaf_3 = @wpX_leaf := by
  funext post u p0
  unfold wpX_leaf_3 wpX_leaf
  rw [ff_q_nw3]
theorem ff_q_leaf4 : @wpX_leaf_4 = @wpX_leaf := by
  funext post u p0
  unfold wpX_leaf_4 wpX_leaf
  rw [ff_q_nw4]
theorem ff_q_node2 : @wpX_node_2 = @wpX_node := by
  funext post u p0 p1 p2
  unfold wpX_node_2 wpX_node
  rw [ff_q_nw3]
theorem ff_q_node3 : @wpX_node_3 = @wpX_node := by
  funext post u p0 p1 p2
  unfold wpX_node_3 wpX_node
  rw [ff_q_nw4]
theorem ff_q_b58 : @wX_chooseBoth_2_58 = @wX_chooseBoth_58 := by
  funext post x1 x2 x3 x4 act opl ohd fn fc kd dp gt st a1 a2 a3 a4 a5 a6 a7 a8 a9 a10 a11 a12 a13 a14 a15 a16 a17 a18 a19 a20 a21 a22 a23 a24 a25 a26 a27
  unfold wX_chooseBoth_2_58 wX_chooseBoth_58
  rw [ff_q_push2]
theorem ff_q_both2 : @wpX_chooseBoth_2 = @wpX_chooseBoth := by
  funext post u p0 p1 p2 p3
  unfold wpX_chooseBoth_2 wpX_chooseBoth
  rw [ff_q_node2, ff_q_finish2, ff_q_b58]
theorem ff_q_a87 : @wX_chooseAlong_2_87 = @wX_chooseAlong_87 := by
  funext post x6 z0 act opl ohd fn fc kd dp gt st a1 a2 a3 a4 a5 a6 a7 a8 a9 a10 a11 a12 a13 a14 a15 a16 a17 a18 a19 a20 a21 a22 a23 a24 a25 a26 a27
  unfold wX_chooseAlong_2_87 wX_chooseAlong_87
  rw [ff_q_finish2]
theorem ff_q_along2 : @wpX_chooseAlong_2 = @wpX_chooseAlong := by
  funext post u p0 p1 p2 p3 p4
  unfold wpX_chooseAlong_2 wpX_chooseAlong
  rw [ff_q_push2, ff_q_node2, ff_q_a87]
theorem ff_q_s119 : @wX_chooseStep_2_119 = @wX_chooseStep_119 := by
  funext post x1 x2 x3 x4 x5 x6 x7 act opl ohd fn fc kd dp gt st a1 a2 a3 a4 a5 a6 a7 a8 a9 a10 a11 a12 a13 a14 a15 a16 a17 a18 a19 a20 a21 a22 a23 a24 a25 a26 a27
  unfold wX_chooseStep_2_119 wX_chooseStep_119
  rw [ff_q_along2, ff_q_both2]
theorem ff_q_s91 : @wX_chooseStep_2_91 = @wX_chooseStep_91 := by
  funext post x1 x2 x3 x4 x5 x6 x7 act opl ohd fn fc kd dp gt st a1 a2 a3 a4 a5 a6 a7 a8 a9 a10 a11 a12 a13 a14 a15 a16 a17 a18 a19 a20 a21 a22 a23 a24 a25 a26 a27
  unfold wX_chooseStep_2_91 wX_chooseStep_91
  rw [ff_q_recall2, ff_q_s119]
theorem ff_q_s74 : @wX_chooseStep_2_74 = @wX_chooseStep_74 := rfl
theorem ff_q_step2 : @wpX_chooseStep_2 = @wpX_chooseStep := by
  funext post u p0
  unfold wpX_chooseStep_2 wpX_chooseStep
  rw [ff_q_s91, ff_q_s74]
theorem ff_q_c25 : @wX_choose_2_25 = @wX_choose_25 := by
  funext post x1 n
  induction n with
  | zero => rfl
  | succ n ih =>
    funext x4 act opl ohd fn fc kd dp gt st a1 a2 a3 a4 a5 a6 a7 a8 a9 a10 a11 a12 a13 a14 a15 a16 a17 a18 a19 a20 a21 a22 a23 a24 a25 a26 a27
    simp only [wX_choose_2_25, wX_choose_25, ih, ff_q_step2]
theorem ff_q_choose2 : @wpX_choose_2 = @wpX_choose := by
  funext post u p0 p1 p2
  unfold wpX_choose_2 wpX_choose
  rw [ff_q_push2, ff_q_c25]
end
section
/-! ===== behind, byRules ===== -/
/-- the arrays hold the picture -/
def ff_CA (a1 a2 a3 a4 a5 : Nat → Int32) (lk rc mt ac ch : Nat → Nat) : Prop :=
  (∀ p, p < 20 → (lk p < 20 ∧ a1 p = nI (lk p)) ∨ (20 ≤ lk p ∧ a1 p = -1)) ∧ (∀ l, l < 20 → a2 l = nI (rc l)) ∧ (∀ j, j < 120 → a3 j = nI (mt j) ∧ a4 j = nI (ac j) ∧ a5 j = nI (ch j)) ∧ ff_Cf rc mt ac ch
def ff_sI (si : Int32) (s : Nat) : Prop := (s < 5 ∧ si = nI s) ∨ (s = 5 ∧ si = -1)
theorem ff_sI_0 {si : Int32} {s : Nat} (h : ff_sI si s) : 0 ≤ si ↔ s < 5 := by
  rcases h with ⟨h1, h2⟩ | ⟨h1, h2⟩
  · try dsimp only
    rw [h2]
    exact ⟨fun _ => h1, fun _ => nI_pos' (by omega)⟩
  · try dsimp only
    rw [h2, h1]
    exact ⟨fun z => absurd z (by decide), fun z => absurd z (by omega)⟩
theorem ff_m4 : ∀ p, p < 20 → nI p &&& (-4) = nI (p / 4 * 4) := by decide +kernel
theorem ff_i_out {p a : Nat} (hp : p < 20) : (nI p &&& (-4)) + nI a = nI (p / 4 * 4 + a) := by rw [ff_m4 p hp, nI_add]
theorem ff_behind {post : Int32 → St1 → Prop} {act opl ohd fn fc kd dp gt : Int32} {a1 a2 a3 a4 a5 a6 a7 a8 a9 a10 a11 a12 a13 a14 a15 a16 a17 a18 a19 a20 a21 a22 a23 a24 a25 a26 a27 : Nat → Int32} {lv : Nat → Prop} {k sw s p j : Nat} {si : Int32} {lk rc mt ac ch nw : Nat → Nat} {nf : Nat → Nat → Nat} (hA : ff_CA a1 a2 a3 a4 a5 lk rc mt ac ch) (hp : p < 20) (hj : j < 120) (h4 : ac j ≠ 4) (hsi : ff_sI si sw)
    (hs : s + 1 < 2 ^ 31) (hN : ff_NS a11 a12 a14 fn fc lv k 120) (hk : 63 ≤ k) (hM : ff_Mf a23 s) (h15 : ∀ p, p < 20 → a15 p = nI (nw p) ∧ ff_D a11 lv 0 (nw p) (nf p))
    (H : ∀ (r k' s' : Nat) (lv' : Nat → Prop) (fn' fc' dp' gt' : Int32) (a11' a12' a14' a18' a19' a20' a21' a22' a23' a24' a25' a26' a27' : Nat → Int32), ff_NS a11' a12' a14' fn' fc' lv' k' 120 → k ≤ k' + 63 → ff_X a11 lv a11' lv' → s' ≤ s + 1 → ff_Mf a23' s' → ff_D a11' lv' 0 r (ff_beh lk ac ch sw p nf j) →
      post (nI r) (act, opl, ohd, fn', fc', kd, dp', gt', nI s', a1, a2, a3, a4, a5, a6, a7, a8, a9, a10, a11', a12', a13, a14', a15, a16, a17, a18', a19', a20', a21', a22', a23', a24', a25', a26', a27')) : wpX_behind post (act, opl, ohd, fn, fc, kd, dp, gt, nI s, a1, a2, a3, a4, a5, a6, a7, a8, a9, a10, a11, a12, a13, a14, a15, a16, a17, a18, a19, a20, a21, a22, a23, a24, a25, a26, a27) (nI p) (nI j) si := by
  obtain ⟨A1, A2, A3, A4⟩ := hA
  obtain ⟨e3, e4, e5⟩ := A3 j hj
  obtain ⟨b3, b4, b5⟩ := A4.2 j hj
  have ej : (nI j).toNatClampNeg = j := nI_clamp (by omega)
  have ij : vp_in (nI j) 120 := pk_in j 120 hj
  have ho := ff_out_lt hp b4 h4
  have main : ∀ z0, z0 = nI (ff_out ac p j) → wX_behind_25 post (nI j) si z0 act opl ohd fn fc kd dp gt (nI s) a1 a2 a3 a4 a5 a6 a7 a8 a9 a10 a11 a12 a13 a14 a15 a16 a17 a18 a19 a20 a21 a22 a23 a24 a25 a26 a27 := by
    intro z0 e0
    subst e0
    have eo : (nI (ff_out ac p j)).toNatClampNeg = ff_out ac p j := nI_clamp (by omega)
    have io : vp_in (nI (ff_out ac p j)) 20 := pk_in _ 20 ho
    unfold wX_behind_25
    try dsimp only
    refine ⟨io, ?_⟩
    try dsimp only
    rw [eo]
    rcases A1 _ ho with ⟨g1, g2⟩ | ⟨g1, g2⟩
    · try dsimp only
      rw [g2, nI_clamp (show lk (ff_out ac p j) < 2 ^ 31 by omega), ej, e5, (h15 _ g1).1]
      refine br_t (nI_pos' (by omega)) ⟨ij, io, pk_in _ 20 g1, ?_⟩
      try dsimp only
      refine ff_afterChange b5 hs hN hk hM (h15 _ g1).2 (fun r k' lv' fn' fc' dp' a11' a12' a14' a18' a19' a20' a21' a22' a23' a24' a25' a26' a27' hN' hk' hX hM' hD => ?_)
      refine H r k' (s + 1) lv' fn' fc' dp' _ a11' a12' a14' a18' a19' a20' a21' a22' a23' a24' a25' a26' a27' hN' hk' hX (Nat.le_refl _) hM' (ff_D_f (fun h _ => ?_) hD)
      unfold ff_beh
      try dsimp only
      rw [if_pos g1]
    · try dsimp only
      rw [g2]
      refine br_f (by decide) ?_
      have leaf : ∀ (z : Int32) (v : Nat), z = nI v → v < 120 → v = ff_at sw (ff_out ac p j) → wX_behind_51 post z act opl ohd fn fc kd dp gt (nI s) a1 a2 a3 a4 a5 a6 a7 a8 a9 a10 a11 a12 a13 a14 a15 a16 a17 a18 a19 a20 a21 a22 a23 a24 a25 a26 a27 := by
        intro z v ez hv ev
        subst ez
        unfold wX_behind_51
        try dsimp only
        refine ff_leaf hN (by omega) hv (by omega) (fun n fn' fc' a11' a12' a14' lv' k' hD hN' hk' hX => ?_)
        refine H n k' s lv' fn' fc' _ _ a11' a12' a14' a18 a19 a20 a21 a22 a23 a24 a25 a26 a27 hN' (by omega) hX (by omega) hM (ff_D_l (by omega) (ff_D_f (fun h _ => ?_) hD))
        unfold ff_beh
        try dsimp only
        rw [if_neg (by omega)]
        exact ev
      refine ek_if (ff_sI_0 hsi) (fun c => leaf 0 0 rfl (by omega) ?_) (fun c => leaf _ (100 + ff_out ac p j) (nI_add 100 _) (by omega) ?_)
      · unfold ff_at
        try dsimp only
        rw [if_pos c]
      · unfold ff_at
        try dsimp only
        rw [if_neg c]
  unfold wpX_behind
  try dsimp only
  refine ⟨ij, ?_⟩
  try dsimp only
  rw [ej, e4]
  refine pk_eq (ac j) 5 (fun e => main _ ?_) (fun e => ⟨ij, main _ ?_⟩)
  · unfold ff_out
    try dsimp only
    rw [if_pos e]
  · unfold ff_out
    try dsimp only
    rw [if_neg e]
    exact ff_i_out hp
theorem ff_dn (n : Nat) : nI n + (-1) = nI n - 1 := (Int32.sub_eq_add_neg _ _).symm
theorem ff_by_39 {post : Int32 → St1 → Prop} {act opl ohd kd : Int32} {a1 a2 a3 a4 a5 a6 a7 a8 a9 a10 a13 a15 a16 a17 : Nat → Int32} {sw s0 p l cnt miss : Nat} {si : Int32} {lk rc mt ac ch nw : Nat → Nat} {nf : Nat → Nat → Nat} (hA : ff_CA a1 a2 a3 a4 a5 lk rc mt ac ch) (hp : p < 20) (hl : l < 20) (hcnt : cnt ≤ 6) (hsi : ff_sI si sw) (hs0 : s0 + 12 < 2 ^ 31) :
    ∀ (n r s k : Nat) (lv : Nat → Prop) (fn fc dp gt : Int32) (a11 a12 a14 a18 a19 a20 a21 a22 a23 a24 a25 a26 a27 : Nat → Int32), n ≤ cnt → ff_NS a11 a12 a14 fn fc lv k 120 → 126 * n ≤ k → ff_Mf a23 s → s + 2 * n ≤ s0 + 12 → (∀ p, p < 20 → a15 p = nI (nw p) ∧ ff_D a11 lv 0 (nw p) (nf p)) →
    ff_D a11 lv 0 miss (fun _ => ff_ms sw) → ff_D a11 lv 0 r (fun h => ff_sel (ff_ms sw) (fun j => ff_bod lk ac ch sw p nf j h) (ff_pick (fun j => ff_mb (mt j) h 6) (6 * l) cnt (cnt - n))) →
    (∀ (r k' s' : Nat) (lv' : Nat → Prop) (fn' fc' dp' gt' : Int32) (a11' a12' a14' a18' a19' a20' a21' a22' a23' a24' a25' a26' a27' : Nat → Int32), ff_NS a11' a12' a14' fn' fc' lv' k' 120 → k ≤ k' + 126 * n → ff_X a11 lv a11' lv' → s' ≤ s0 + 12 → ff_Mf a23' s' →
      ff_D a11' lv' 0 r (fun h => ff_sel (ff_ms sw) (fun j => ff_bod lk ac ch sw p nf j h) (ff_pick (fun j => ff_mb (mt j) h 6) (6 * l) cnt cnt)) → post (nI r) (act, opl, ohd, fn', fc', kd, dp', gt', nI s', a1, a2, a3, a4, a5, a6, a7, a8, a9, a10, a11', a12', a13, a14', a15, a16, a17, a18', a19', a20', a21', a22', a23', a24', a25', a26', a27')) →
    wX_byRules_39 post (nI p) si (nI l) (nI miss) (n + 1) (nI r) (nI n - 1) act opl ohd fn fc kd dp gt (nI s) a1 a2 a3 a4 a5 a6 a7 a8 a9 a10 a11 a12 a13 a14 a15 a16 a17 a18 a19 a20 a21 a22 a23 a24 a25 a26 a27 := by
  intro n
  induction n with
  | zero =>
    intro r s k lv fn fc dp gt a11 a12 a14 a18 a19 a20 a21 a22 a23 a24 a25 a26 a27 hn hN hk hM hs h15 hms hr H
    refine br_t (by decide) ?_
    exact H r k s lv fn fc dp gt a11 a12 a14 a18 a19 a20 a21 a22 a23 a24 a25 a26 a27 hN (by omega) (ff_X_r a11 lv) (by omega) hM hr
  | succ n ih =>
    intro r s k lv fn fc dp gt a11 a12 a14 a18 a19 a20 a21 a22 a23 a24 a25 a26 a27 hn hN hk hM hs h15 hms hr H
    rw [nI_pred]
    have hj : 6 * l + n < 120 := by omega
    obtain ⟨e3, e4, e5⟩ := hA.2.2.1 _ hj
    obtain ⟨b3, b4, b5⟩ := hA.2.2.2.2 _ hj
    have ej : (nI (6 * l + n)).toNatClampNeg = 6 * l + n := nI_clamp (by omega)
    have ij : vp_in (nI (6 * l + n)) 120 := pk_in _ 120 hj
    refine br_f (nI_pos (by omega)) (nm_r (show (6 : Int32) * nI l + nI n = nI (6 * l + n) by rw [show (6 : Int32) = nI 6 from rfl, pk_mul, nI_add]) ⟨ij, ?_⟩)
    try dsimp only
    rw [ej, e4]
    have ch1 : ∀ (b s1 k1 : Nat) (lv1 : Nat → Prop) (fn1 fc1 dp1 gt1 : Int32) (a111 a121 a141 a181 a191 a201 a211 a221 a231 a241 a251 a261 a271 : Nat → Int32), ff_NS a111 a121 a141 fn1 fc1 lv1 k1 120 → k ≤ k1 + 63 → ff_X a11 lv a111 lv1 → s1 ≤ s + 1 → ff_Mf a231 s1 → ff_D a111 lv1 0 b (fun h => ff_bod lk ac ch sw p nf (6 * l + n) h) →
        wX_byRules_79 post (wX_byRules_39 post (nI p) si (nI l) (nI miss) (n + 1)) (nI p) si (nI l) (nI miss) (nI r) (nI n) (nI (6 * l + n)) (nI b) act opl ohd fn1 fc1 kd dp1 gt1 (nI s1) a1 a2 a3 a4 a5 a6 a7 a8 a9 a10 a111 a121 a13 a141 a15 a16 a17 a181 a191 a201 a211 a221 a231 a241 a251 a261 a271 := by
      intro b s1 k1 lv1 fn1 fc1 dp1 gt1 a111 a121 a141 a181 a191 a201 a211 a221 a231 a241 a251 a261 a271 hN1 hk1 hX1 hs1 hM1 hb
      unfold wX_byRules_79
      try dsimp only
      refine ⟨ij, ?_⟩
      try dsimp only
      rw [ej, e3]
      refine ff_choose b3 (by omega) hN1 (by omega) hM1 hb (ff_D_X hN.1 hX1 hr) (fun r2 k2 lv2 fn2 fc2 dp2 a112 a122 a142 a182 a192 a202 a212 a222 a232 a242 a252 a262 a272 hN2 hk2 hX2 hM2 hD2 => ?_)
      have hX12 := ff_X_t hX1 hX2
      refine nm_r (ff_dn n) ?_
      refine ih r2 (s1 + 1) k2 lv2 fn2 fc2 dp2 _ a112 a122 a142 a182 a192 a202 a212 a222 a232 a242 a252 a262 a272 (by omega) hN2 (by omega) hM2 (by omega) (fun p hp => ⟨(h15 p hp).1, ff_D_X hN.1 hX12 (h15 p hp).2⟩) (ff_D_X hN.1 hX12 hms) (ff_D_f (fun h _ => ?_) hD2)
        (fun r3 k3 s3 lv3 fn3 fc3 dp3 gt3 a113 a123 a143 a183 a193 a203 a213 a223 a233 a243 a253 a263 a273 hN3 hk3 hX3 hs3 hM3 hD3 => H r3 k3 s3 lv3 fn3 fc3 dp3 gt3 a113 a123 a143 a183 a193 a203 a213 a223 a233 a243 a253 a263 a273 hN3 (by omega) (ff_X_t hX12 hX3) hs3 hM3 hD3)
      have e : cnt - n = (cnt - (n + 1)) + 1 := by omega
      rw [e, ff_pick, show cnt - (cnt - (n + 1) + 1) = n by omega]
      unfold ff_sel
      by_cases c : ff_mb (mt (6 * l + n)) h 6 = true
      · try dsimp only
        rw [if_pos c, if_pos c, if_neg (by omega)]
      · try dsimp only
        rw [if_neg c, if_neg c]
    refine pk_eq (ac (6 * l + n)) 4 (fun e => ?_) (fun e => ?_)
    · refine ch1 miss s k lv fn fc dp gt a11 a12 a14 a18 a19 a20 a21 a22 a23 a24 a25 a26 a27 hN (by omega) (ff_X_r a11 lv) (by omega) hM (ff_D_f (fun h _ => ?_) hms)
      unfold ff_bod
      try dsimp only
      rw [if_pos e]
    · refine ff_behind hA hp hj e hsi (by omega) hN (by omega) hM h15 (fun b k1 s1 lv1 fn1 fc1 dp1 gt1 a111 a121 a141 a181 a191 a201 a211 a221 a231 a241 a251 a261 a271 hN1 hk1 hX1 hs1 hM1 hD1 => ?_)
      refine ch1 b s1 k1 lv1 fn1 fc1 dp1 gt1 a111 a121 a141 a181 a191 a201 a211 a221 a231 a241 a251 a261 a271 hN1 hk1 hX1 hs1 hM1 (ff_D_f (fun h _ => ?_) hD1)
      unfold ff_bod
      try dsimp only
      rw [if_neg e]
theorem ff_byRules {post : Int32 → St1 → Prop} {act opl ohd fn fc kd dp gt : Int32} {a1 a2 a3 a4 a5 a6 a7 a8 a9 a10 a11 a12 a13 a14 a15 a16 a17 a18 a19 a20 a21 a22 a23 a24 a25 a26 a27 : Nat → Int32} {lv : Nat → Prop} {k sw s tb p : Nat} {si : Int32} {lk rc mt ac ch nw : Nat → Nat} {nf : Nat → Nat → Nat} (hA : ff_CA a1 a2 a3 a4 a5 lk rc mt ac ch) (hp : p < 20) (htb : tb < 4) (hsi : ff_sI si sw)
    (hs : s + 12 < 2 ^ 31) (hN : ff_NS a11 a12 a14 fn fc lv k 120) (hk : 757 ≤ k) (hM : ff_Mf a23 s) (h15 : ∀ p, p < 20 → a15 p = nI (nw p) ∧ ff_D a11 lv 0 (nw p) (nf p))
    (H : ∀ (r k' s' : Nat) (lv' : Nat → Prop) (fn' fc' dp' gt' : Int32) (a11' a12' a14' a18' a19' a20' a21' a22' a23' a24' a25' a26' a27' : Nat → Int32), ff_NS a11' a12' a14' fn' fc' lv' k' 120 → k ≤ k' + 757 → ff_X a11 lv a11' lv' → s' ≤ s + 12 → ff_Mf a23' s' → ff_D a11' lv' 0 r (ff_by lk rc mt ac ch tb sw p nf) →
      post (nI r) (act, opl, ohd, fn', fc', kd, dp', gt', nI s', a1, a2, a3, a4, a5, a6, a7, a8, a9, a10, a11', a12', a13, a14', a15, a16, a17, a18', a19', a20', a21', a22', a23', a24', a25', a26', a27')) : wpX_byRules post (act, opl, ohd, fn, fc, kd, dp, gt, nI s, a1, a2, a3, a4, a5, a6, a7, a8, a9, a10, a11, a12, a13, a14, a15, a16, a17, a18, a19, a20, a21, a22, a23, a24, a25, a26, a27) (nI tb) (nI p) si := by
  have hl : 5 * tb + p / 4 < 20 := by omega
  have el : (5 : Int32) * nI tb + (nI p >>> ((2 : Int32) &&& 31)) = nI (5 * tb + p / 4) := by rw [show (5 : Int32) = nI 5 from rfl, pk_mul, pk_shrN (by omega) _ 2 (by decide), nI_add]
  have hcnt := hA.2.2.2.1 _ hl
  have main : ∀ (z : Int32), z = nI (ff_ms sw) → wX_byRules_19 post (nI p) si (nI (5 * tb + p / 4)) z act opl ohd fn fc kd dp gt (nI s) a1 a2 a3 a4 a5 a6 a7 a8 a9 a10 a11 a12 a13 a14 a15 a16 a17 a18 a19 a20 a21 a22 a23 a24 a25 a26 a27 := by
    intro z ez
    subst ez
    have hms : ff_ms sw < 2 := by unfold ff_ms; split <;> omega
    unfold wX_byRules_19
    try dsimp only
    refine ff_leaf hN (by omega) (by omega) (by omega) (fun n fn' fc' a11' a12' a14' lv' k' hD hN' hk' hX => ?_)
    try dsimp only
    refine ⟨pk_in _ 20 hl, nm_r (by rw [nI_clamp (by omega), hA.2.1 _ hl]) ⟨rc (5 * tb + p / 4) + 1, ?_⟩⟩
    try dsimp only
    refine ff_by_39 (s0 := s) hA hp hl hcnt hsi hs (rc (5 * tb + p / 4)) n s k' lv' fn' fc' dp gt a11' a12' a14' a18 a19 a20 a21 a22 a23 a24 a25 a26 a27 (Nat.le_refl _) hN' (by omega) hM (by omega) (fun p hp => ⟨(h15 p hp).1, ff_D_X hN.1 hX (h15 p hp).2⟩) (ff_D_l (by omega) hD) (ff_D_l (by omega) (ff_D_f (fun h _ => ?_) hD))
      (fun r3 k3 s3 lv3 fn3 fc3 dp3 gt3 a113 a123 a143 a183 a193 a203 a213 a223 a233 a243 a253 a263 a273 hN3 hk3 hX3 hs3 hM3 hD3 => H r3 k3 s3 lv3 fn3 fc3 dp3 gt3 a113 a123 a143 a183 a193 a203 a213 a223 a233 a243 a253 a263 a273 hN3 (by omega) (ff_X_t hX hX3) hs3 hM3 hD3)
    rw [Nat.sub_self]
    rfl
  unfold wpX_byRules
  try dsimp only
  unfold wpX_listOf
  try dsimp only
  rw [el]
  refine ek_if (ff_sI_0 hsi) (fun c => main 0 ?_) (fun c => main 1 ?_)
  · unfold ff_ms
    try dsimp only
    rw [if_pos c]
    rfl
  · unfold ff_ms
    try dsimp only
    rw [if_neg c]
    rfl
end
section
/-! ===== solve ===== -/
theorem ff_by_c {lk rc mt ac ch : Nat → Nat} {tb s p h : Nat} {nx nx' : Nat → Nat → Nat} (e : ∀ q h, q < 20 → h < 64 → nx q h = nx' q h) (hh : h < 64) : ff_by lk rc mt ac ch tb s p nx h = ff_by lk rc mt ac ch tb s p nx' h := by
  unfold ff_by ff_sel ff_bod ff_beh
  split
  · rfl
  · try dsimp only
    split
    · rfl
    · split
      · exact e _ _ (by assumption) (ff_chg_lt _ hh)
      · rfl
theorem ff_res_fix {lk rc mt ac ch : Nat → Nat} {tb s r : Nat} (e : ∀ p h, p < 20 → h < 64 → ff_res lk rc mt ac ch tb s (r + 1) p h = ff_res lk rc mt ac ch tb s r p h) :
    ∀ m p h, p < 20 → h < 64 → ff_res lk rc mt ac ch tb s (r + m) p h = ff_res lk rc mt ac ch tb s r p h
  | 0, p, h, _, _ => rfl
  | m + 1, p, h, hp, hh => by
    rw [← e p h hp hh]
    show ff_res lk rc mt ac ch tb s ((r + m) + 1) p h = _
    rw [ff_res, ff_res]
    try dsimp only
    split
    · rfl
    · exact ff_by_c (fun q h' hq hh' => ff_res_fix e m q h' hq hh') hh
/-- the diagrams of a round -/
def ff_Nw (a11 : Nat → Int32) (lv : Nat → Prop) (a15 : Nat → Int32) (nw : Nat → Nat) (f : Nat → Nat → Nat) (n : Nat) : Prop := ∀ p, p < n → a15 p = nI (nw p) ∧ ff_D a11 lv 0 (nw p) (f p)
def ff_Kp (a11 : Nat → Int32) (lv : Nat → Prop) (kd : Int32) (kn : Nat) (kf : Nat → Nat) : Prop := kd < 0 ∨ (kd = nI kn ∧ ff_D a11 lv 0 kn kf)
theorem ff_Nw_X {a a' : Nat → Int32} {lv lv' : Nat → Prop} {V n : Nat} {b : Nat → Int32} {nw : Nat → Nat} {f : Nat → Nat → Nat} (w : ff_Wf a lv V) (X : ff_X a lv a' lv') (h : ff_Nw a lv b nw f n) : ff_Nw a' lv' b nw f n := fun p hp => ⟨(h p hp).1, ff_D_X w X (h p hp).2⟩
theorem ff_Kp_X {a a' : Nat → Int32} {lv lv' : Nat → Prop} {V kn : Nat} {kd : Int32} {kf : Nat → Nat} (w : ff_Wf a lv V) (X : ff_X a lv a' lv') (h : ff_Kp a lv kd kn kf) : ff_Kp a' lv' kd kn kf := by
  rcases h with h | ⟨h1, h2⟩
  · exact Or.inl h
  · exact Or.inr ⟨h1, ff_D_X w X h2⟩
theorem ff_Nw_u {a : Nat → Int32} {lv : Nat → Prop} {n r : Nat} {b : Nat → Int32} {nw : Nat → Nat} {f : Nat → Nat → Nat} (h : ff_Nw a lv b nw f n) (hr : ff_D a lv 0 r (f n)) : ff_Nw a lv (upd b n (nI r)) (fun p => if p = n then r else nw p) f (n + 1) := by
  intro p hp
  try dsimp only
  by_cases e : p = n
  · try dsimp only
    rw [if_pos e, e, pk_us]
    exact ⟨rfl, hr⟩
  · try dsimp only
    rw [if_neg e, pk_un e]
    exact h p (by omega)
theorem ff_solve_107 {post : St1 → Prop} {J : Int32 → Int32 → Int32 → Int32 → Int32 → Int32 → Int32 → Int32 → Int32 → Int32 → Int32 → (Nat → Int32) → (Nat → Int32) → (Nat → Int32) → (Nat → Int32) → (Nat → Int32) → (Nat → Int32) → (Nat → Int32) → (Nat → Int32) → (Nat → Int32) → (Nat → Int32) → (Nat → Int32) → (Nat → Int32) → (Nat → Int32) → (Nat → Int32) → (Nat → Int32) → (Nat → Int32) → (Nat → Int32) → (Nat → Int32) → (Nat → Int32) → (Nat → Int32) → (Nat → Int32) → (Nat → Int32) → (Nat → Int32) → (Nat → Int32) → (Nat → Int32) → (Nat → Int32) → (Nat → Int32) → Prop}
    {x1 x2 : Int32} {r : Nat} {act opl ohd fn fc kd dp gt st : Int32} {a1 a2 a3 a4 a5 a6 a7 a8 a9 a10 a11 a12 a13 a14 a15 a16 a17 a18 a19 a20 a21 a22 a23 a24 a25 a26 a27 : Nat → Int32} {nw nx : Nat → Nat} (b15 : ∀ p, p < 20 → a15 p = nI (nw p) ∧ nw p < 4096) (b16 : ∀ p, p < 20 → a16 p = nI (nx p) ∧ nx p < 4096)
    (H : ∀ (mo : Nat) (a15' : Nat → Int32), (∀ p, p < 20 → a15' p = nI (nx p)) → mo ≤ 1 → (mo = 0 → ∀ p, p < 20 → nw p = nx p) → J (nI mo) (nI (r + 1)) act opl ohd fn fc kd dp gt st a1 a2 a3 a4 a5 a6 a7 a8 a9 a10 a11 a12 a13 a14 a15' a16 a17 a18 a19 a20 a21 a22 a23 a24 a25 a26 a27) :
    ∃ n, wX_solve_107 post J x1 x2 (nI r) act opl ohd fn fc kd dp gt st n 0 0 a1 a2 a3 a4 a5 a6 a7 a8 a9 a10 a11 a12 a13 a14 a15 a16 a17 a18 a19 a20 a21 a22 a23 a24 a25 a26 a27 := by
  refine pk_loop (fun n i (s : Nat × (Nat → Int32)) => wX_solve_107 post J x1 x2 (nI r) act opl ohd fn fc kd dp gt st n (nI s.1) (nI i) a1 a2 a3 a4 a5 a6 a7 a8 a9 a10 a11 a12 a13 a14 (s.2) a16 a17 a18 a19 a20 a21 a22 a23 a24 a25 a26 a27)
    (fun i s => (∀ p, p < i → s.2 p = nI (nx p)) ∧ (∀ p, i ≤ p → p < 20 → s.2 p = nI (nw p)) ∧ s.1 ≤ 1 ∧ (s.1 = 0 → ∀ p, p < i → nw p = nx p)) 20 0 (0, a15) (by omega) ⟨fun p hp => absurd hp (by omega), fun p _ hp => (b15 p hp).1, by omega, fun _ p hp => absurd hp (by omega)⟩ ?_ ?_
  · rintro n ⟨mo, s⟩ ⟨h1, h2, h3, h4⟩
    exact pk_le 20 20 (fun _ => nm_r (nI_1 r) (H mo s h1 h3 h4)) (fun z => absurd z (by omega))
  · rintro n i ⟨mo, s⟩ hi ⟨h1, h2, h3, h4⟩ hw
    dsimp only at h1 h2 h3 h4
    have ei : (nI i).toNatClampNeg = i := nI_clamp (by omega)
    have ii : vp_in (nI i) 20 := pk_in i 20 hi
    have c140 : ∀ mo', mo' ≤ 1 → (mo' = 0 → ∀ p, p < i + 1 → nw p = nx p) → wX_solve_140 post J (wX_solve_107 post J x1 x2 (nI r) act opl ohd fn fc kd dp gt st n) x1 x2 (nI r) (nI i) (nI mo') act opl ohd fn fc kd dp gt st a1 a2 a3 a4 a5 a6 a7 a8 a9 a10 a11 a12 a13 a14 s a16 a17 a18 a19 a20 a21 a22 a23 a24 a25 a26 a27 := by
      intro mo' g1 g2
      unfold wX_solve_140
      try dsimp only
      refine ⟨ii, ii, nm_r (by rw [ei, (b16 i hi).1]) (nm_r (nI_1 i) (hw (mo', _) ⟨fun p hp => ?_, fun p hp hp2 => ?_, g1, g2⟩))⟩
      · try dsimp only
        by_cases e : p = i
        · try dsimp only
          rw [e, pk_us]
        · try dsimp only
          rw [pk_un e]
          exact h1 p (by omega)
      · try dsimp only
        rw [pk_un (by omega)]
        exact h2 p (by omega) hp2
    refine pk_le 20 i (fun z => absurd z (by omega)) (fun _ => pk_eq mo 0 (fun e => ⟨ii, ii, ?_⟩) (fun e => c140 1 (by omega) (fun z => absurd z (by omega))))
    try dsimp only
    rw [ei, (b16 i hi).1, h2 i (by omega) hi]
    have := (b15 i hi).2
    have := (b16 i hi).2
    refine pk_eq (nx i) (nw i) (fun g => c140 0 (by omega) (fun _ p hp => ?_)) (fun g => c140 1 (by omega) (fun z => absurd z (by omega)))
    try dsimp only
    by_cases ep : p = i
    · try dsimp only
      rw [ep, g]
    · exact h4 e p (by omega)
theorem ff_solve_52 {post : St1 → Prop} {J : Int32 → Int32 → Int32 → Int32 → Int32 → Int32 → Int32 → Int32 → Int32 → Int32 → Int32 → (Nat → Int32) → (Nat → Int32) → (Nat → Int32) → (Nat → Int32) → (Nat → Int32) → (Nat → Int32) → (Nat → Int32) → (Nat → Int32) → (Nat → Int32) → (Nat → Int32) → (Nat → Int32) → (Nat → Int32) → (Nat → Int32) → (Nat → Int32) → (Nat → Int32) → (Nat → Int32) → (Nat → Int32) → (Nat → Int32) → (Nat → Int32) → (Nat → Int32) → (Nat → Int32) → (Nat → Int32) → (Nat → Int32) → (Nat → Int32) → (Nat → Int32) → (Nat → Int32) → (Nat → Int32) → Prop}
    {act opl ohd kd : Int32} {a1 a2 a3 a4 a5 a6 a7 a8 a9 a10 a15 a17 : Nat → Int32} {sw tb s0 r kn : Nat} {si : Int32} {lk rc mt ac ch nw : Nat → Nat} {kf : Nat → Nat} {x4 : Int32}
    (hA : ff_CA a1 a2 a3 a4 a5 lk rc mt ac ch) (htb : tb < 4) (hsi : ff_sI si sw) (hs0 : s0 + 240 < 2 ^ 31)
    (K : ∀ (k s : Nat) (nx : Nat → Nat) (lv : Nat → Prop) (fn fc dp gt : Int32) (a11 a12 a13 a14 a16 a18 a19 a20 a21 a22 a23 a24 a25 a26 a27 : Nat → Int32), ff_NS a11 a12 a14 fn fc lv k 120 → 240 ≤ k → ff_Mf a23 s → s ≤ s0 + 240 → ff_Nw a11 lv a15 nw (ff_res lk rc mt ac ch tb sw r) 20 → ff_Nw a11 lv a16 nx (ff_res lk rc mt ac ch tb sw (r + 1)) 20 → ff_Kp a11 lv kd kn kf →
      ∃ n, wX_solve_107 post J (nI tb) si x4 act opl ohd fn fc kd dp gt (nI s) n 0 0 a1 a2 a3 a4 a5 a6 a7 a8 a9 a10 a11 a12 a13 a14 a15 a16 a17 a18 a19 a20 a21 a22 a23 a24 a25 a26 a27) :
    ∀ (m i s k : Nat) (nx : Nat → Nat) (lv : Nat → Prop) (fn fc dp gt : Int32) (a11 a12 a13 a14 a16 a18 a19 a20 a21 a22 a23 a24 a25 a26 a27 : Nat → Int32), i + m = 20 → ff_NS a11 a12 a14 fn fc lv k 120 → (i = 0 ∨ 240 ≤ k) → ff_Mf a23 s → s ≤ s0 + 12 * i → ff_Nw a11 lv a15 nw (ff_res lk rc mt ac ch tb sw r) 20 → ff_Nw a11 lv a16 nx (ff_res lk rc mt ac ch tb sw (r + 1)) i → ff_Kp a11 lv kd kn kf →
    wX_solve_52 post J (nI tb) si x4 (m + 1) (nI i) act opl ohd fn fc kd dp gt (nI s) a1 a2 a3 a4 a5 a6 a7 a8 a9 a10 a11 a12 a13 a14 a15 a16 a17 a18 a19 a20 a21 a22 a23 a24 a25 a26 a27 := by
  intro m
  induction m with
  | zero =>
    intro i s k nx lv fn fc dp gt a11 a12 a13 a14 a16 a18 a19 a20 a21 a22 a23 a24 a25 a26 a27 hi hN hk hM hs hNw hNx hKp
    have e : i = 20 := by omega
    subst e
    exact pk_le 20 20 (fun _ => K k s nx lv fn fc dp gt a11 a12 a13 a14 a16 a18 a19 a20 a21 a22 a23 a24 a25 a26 a27 hN (by omega) hM (by omega) hNw hNx hKp) (fun z => absurd z (by omega))
  | succ m ih =>
    intro i s k nx lv fn fc dp gt a11 a12 a13 a14 a16 a18 a19 a20 a21 a22 a23 a24 a25 a26 a27 hi hN hk hM hs hNw hNx hKp
    have hi20 : i < 20 := by omega
    refine pk_le 20 i (fun z => absurd z (by omega)) (fun _ => ?_)
    try dsimp only
    refine ff_collect (kn := kn) hN (by omega) (fun p hp => ⟨(hNw p hp).1, (hNw p hp).2.1⟩) (fun p hp => ⟨(hNx p hp).1, (hNx p hp).2.1⟩) (hKp.elim Or.inl (fun z => Or.inr ⟨z.1, z.2.1⟩)) (fun fn1 fc1 a121 a131 a141 lv1 k1 hN1 hk1 r1 r2 r3 => ?_)
    have hNw1 : ff_Nw a11 lv1 a15 nw (ff_res lk rc mt ac ch tb sw r) 20 := fun p hp => ⟨(hNw p hp).1, r1 p hp, (hNw p hp).2.2⟩
    have hNx1 : ff_Nw a11 lv1 a16 nx (ff_res lk rc mt ac ch tb sw (r + 1)) i := fun p hp => ⟨(hNx p hp).1, r2 p hp, (hNx p hp).2.2⟩
    have hKp1 : ff_Kp a11 lv1 kd kn kf := by
      by_cases c : kd < 0
      · exact Or.inl c
      · rcases hKp with z | z
        · exact Or.inl z
        · exact Or.inr ⟨z.1, r3 c, z.2.2⟩
    have fin : ∀ (rr k2 s2 : Nat) (lv2 : Nat → Prop) (fn2 fc2 dp2 gt2 : Int32) (a112 a122 a142 a182 a192 a202 a212 a222 a232 a242 a252 a262 a272 : Nat → Int32), ff_NS a112 a122 a142 fn2 fc2 lv2 k2 120 → k1 ≤ k2 + 757 → ff_X a11 lv1 a112 lv2 → s2 ≤ s + 12 → ff_Mf a232 s2 → ff_D a112 lv2 0 rr (ff_res lk rc mt ac ch tb sw (r + 1) i) →
        wX_solve_52 post J (nI tb) si x4 (m + 1) (nI (i + 1)) act opl ohd fn2 fc2 kd dp2 gt2 (nI s2) a1 a2 a3 a4 a5 a6 a7 a8 a9 a10 a112 a122 a131 a142 a15 (upd a16 i (nI rr)) a17 a182 a192 a202 a212 a222 a232 a242 a252 a262 a272 := by
      intro rr k2 s2 lv2 fn2 fc2 dp2 gt2 a112 a122 a142 a182 a192 a202 a212 a222 a232 a242 a252 a262 a272 hN2 hk2 hX2 hs2 hM2 hD2
      exact ih (i + 1) s2 k2 _ lv2 fn2 fc2 dp2 gt2 a112 a122 a131 a142 _ a182 a192 a202 a212 a222 a232 a242 a252 a262 a272 (by omega) hN2 (Or.inr (by omega)) hM2 (by omega) (ff_Nw_X hN1.1 hX2 hNw1) (ff_Nw_u (ff_Nw_X hN1.1 hX2 hNx1) hD2) (ff_Kp_X hN1.1 hX2 hKp1)
    have ei : (nI i).toNatClampNeg = i := nI_clamp (by omega)
    have ii : vp_in (nI i) 20 := pk_in i 20 hi20
    have e2 : nI i >>> ((2 : Int32) &&& 31) = nI (i / 4) := pk_shrN (by omega) _ 2 (by decide)
    have eq : nI i >>> ((2 : Int32) &&& 31) = si ↔ i / 4 = sw := by
      rw [e2]
      rcases hsi with ⟨g1, g2⟩ | ⟨g1, g2⟩
      · try dsimp only
        rw [g2]
        exact nI_eq (by omega) (by omega)
      · try dsimp only
        rw [g2, g1]
        exact ⟨fun z => absurd (by rw [← z]; exact nI_pos' (by omega) : (0 : Int32) ≤ -1) (by decide), fun z => absurd z (by omega)⟩
    refine ek_if eq (fun c => ?_) (fun c => ?_)
    · refine ff_leaf (v := 1) hN1 (by omega) (by omega) (by omega) (fun n fn2 fc2 a112 a122 a142 lv2 k2 hD hN2 hk2 hX2 => ?_)
      try dsimp only
      refine ⟨ii, nm_r (by rw [ei]) (nm_r (nI_1 i) (fin n k2 s lv2 fn2 fc2 dp gt a112 a122 a142 a18 a19 a20 a21 a22 a23 a24 a25 a26 a27 hN2 (by omega) hX2 (by omega) hM (ff_D_l (by omega) (ff_D_f (fun h _ => ?_) hD))))⟩
      try dsimp only
      rw [ff_res]
      try dsimp only
      rw [if_pos c]
    · refine ff_byRules hA hi20 htb hsi (by omega) hN1 (by omega) hM hNw1 (fun rr k2 s2 lv2 fn2 fc2 dp2 gt2 a112 a122 a142 a182 a192 a202 a212 a222 a232 a242 a252 a262 a272 hN2 hk2 hX2 hs2 hM2 hD2 => ?_)
      try dsimp only
      refine ⟨ii, nm_r (by rw [ei]) (nm_r (nI_1 i) (fin rr k2 s2 lv2 fn2 fc2 dp2 gt2 a112 a122 a142 a182 a192 a202 a212 a222 a232 a242 a252 a262 a272 hN2 hk2 hX2 hs2 hM2 (ff_D_f (fun h _ => ?_) hD2)))⟩
      try dsimp only
      rw [ff_res]
      try dsimp only
      rw [if_neg c]
theorem ff_solve_38 {post : St1 → Prop} {act opl ohd kd : Int32} {a1 a2 a3 a4 a5 a6 a7 a8 a9 a10 a17 : Nat → Int32} {sw tb s0 kn : Nat} {si : Int32} {lk rc mt ac ch : Nat → Nat} {kf : Nat → Nat}
    (hA : ff_CA a1 a2 a3 a4 a5 lk rc mt ac ch) (htb : tb < 4) (hsi : ff_sI si sw) (hs0 : s0 + 3840 < 2 ^ 31)
    (H : ∀ (k s : Nat) (nw : Nat → Nat) (lv : Nat → Prop) (fn fc dp gt : Int32) (a11 a12 a13 a14 a15 a16 a18 a19 a20 a21 a22 a23 a24 a25 a26 a27 : Nat → Int32), ff_NS a11 a12 a14 fn fc lv k 120 → 240 ≤ k → ff_Mf a23 s → s ≤ s0 + 3840 → ff_Nw a11 lv a15 nw (ff_res lk rc mt ac ch tb sw 16) 20 → ff_Kp a11 lv kd kn kf → post (act, opl, ohd, fn, fc, kd, dp, gt, nI s, a1, a2, a3, a4, a5, a6, a7, a8, a9, a10, a11, a12, a13, a14, a15, a16, a17, a18, a19, a20, a21, a22, a23, a24, a25, a26, a27)) :
    ∀ (m r mo s k : Nat) (nw : Nat → Nat) (lv : Nat → Prop) (fn fc dp gt : Int32) (a11 a12 a13 a14 a15 a16 a18 a19 a20 a21 a22 a23 a24 a25 a26 a27 : Nat → Int32), r + m = 16 → mo ≤ 1 → (mo = 0 → ∀ p h, p < 20 → h < 64 → ff_res lk rc mt ac ch tb sw 16 p h = ff_res lk rc mt ac ch tb sw r p h) →
    ff_NS a11 a12 a14 fn fc lv k 120 → (240 ≤ k ∨ (r = 0 ∧ mo = 1)) → ff_Mf a23 s → s ≤ s0 + 240 * r → ff_Nw a11 lv a15 nw (ff_res lk rc mt ac ch tb sw r) 20 → ff_Kp a11 lv kd kn kf →
    wX_solve_38 post (nI tb) si (m + 1) (nI mo) (nI r) act opl ohd fn fc kd dp gt (nI s) a1 a2 a3 a4 a5 a6 a7 a8 a9 a10 a11 a12 a13 a14 a15 a16 a17 a18 a19 a20 a21 a22 a23 a24 a25 a26 a27 := by
  intro m
  induction m with
  | zero =>
    intro r mo s k nw lv fn fc dp gt a11 a12 a13 a14 a15 a16 a18 a19 a20 a21 a22 a23 a24 a25 a26 a27 hr hmo hfix hN hk hM hs hNw hKp
    have e : r = 16 := by omega
    subst e
    exact pk_le 16 16 (fun _ => H k s nw lv fn fc dp gt a11 a12 a13 a14 a15 a16 a18 a19 a20 a21 a22 a23 a24 a25 a26 a27 hN (by omega) hM (by omega) hNw hKp) (fun z => absurd z (by omega))
  | succ m ih =>
    intro r mo s k nw lv fn fc dp gt a11 a12 a13 a14 a15 a16 a18 a19 a20 a21 a22 a23 a24 a25 a26 a27 hr hmo hfix hN hk hM hs hNw hKp
    refine pk_le 16 r (fun z => absurd z (by omega)) (fun _ => pk_eq mo 0 (fun e => ?_) (fun e => ?_))
    · exact H k s nw lv fn fc dp gt a11 a12 a13 a14 a15 a16 a18 a19 a20 a21 a22 a23 a24 a25 a26 a27 hN (by omega) hM (by omega) (fun p hp => ⟨(hNw p hp).1, ff_D_f (fun h hh => (hfix e p h hp hh).symm) (hNw p hp).2⟩) hKp
    · refine ⟨21, ff_solve_52 (s0 := s) (r := r) (kn := kn) (kf := kf) hA htb hsi (by omega) (fun k1 s1 nx lv1 fn1 fc1 dp1 gt1 a111 a121 a131 a141 a161 a181 a191 a201 a211 a221 a231 a241 a251 a261 a271 hN1 hk1 hM1 hs1 hNw1 hNx1 hKp1 => ?_) 20 0 s k (fun _ => 0) lv fn fc dp gt a11 a12 a13 a14 a16 a18 a19 a20 a21 a22 a23 a24 a25 a26 a27 (by omega) hN (Or.inl rfl) hM (by omega) hNw (fun p hp => absurd hp (by omega)) hKp⟩
      try dsimp only
      refine ff_solve_107 (nw := nw) (nx := nx) (fun p hp => ⟨(hNw1 p hp).1, (hN1.1 _ (hNw1 p hp).2.1).1⟩) (fun p hp => ⟨(hNx1 p hp).1, (hN1.1 _ (hNx1 p hp).2.1).1⟩) (fun mo' a15' h15 hmo' hz => ?_)
      refine ih (r + 1) mo' s1 k1 nx lv1 fn1 fc1 dp1 gt1 a111 a121 a131 a141 a15' a161 a181 a191 a201 a211 a221 a231 a241 a251 a261 a271 (by omega) hmo' (fun z p h hp hh => ?_) hN1 (Or.inl hk1) hM1 (by omega) (fun p hp => ⟨h15 p hp, (hNx1 p hp).2⟩) hKp1
      have fx := ff_res_fix (lk := lk) (rc := rc) (mt := mt) (ac := ac) (ch := ch) (tb := tb) (s := sw) (r := r) (fun p h hp hh => by
        rw [← (hNx1 p hp).2.2.2 h hh, ← (hNw1 p hp).2.2.2 h hh, hz z p hp])
      have f1 := fx (16 - r) p h hp hh
      have f2 := fx 1 p h hp hh
      rw [show r + (16 - r) = 16 by omega] at f1
      rw [f1, f2]
theorem ff_solve_2 {post : St1 → Prop} {act opl ohd kd : Int32} {a1 a2 a3 a4 a5 a6 a7 a8 a9 a10 a13 a16 a17 a18 a19 a20 a21 a22 a23 a24 a25 a26 a27 : Nat → Int32} {dp gt : Int32} {sw tb s kn : Nat} {si : Int32} {kf : Nat → Nat} (hsi : ff_sI si sw)
    (K : ∀ (k : Nat) (nw : Nat → Nat) (lv : Nat → Prop) (fn fc : Int32) (a11 a12 a14 a15 : Nat → Int32), ff_NS a11 a12 a14 fn fc lv k 120 → ff_Nw a11 lv a15 nw (fun _ _ => if sw < 5 then 0 else 2) 20 → ff_Kp a11 lv kd kn kf → ∃ n, wX_solve_38 post (nI tb) si n 1 0 act opl ohd fn fc kd dp gt (nI s) a1 a2 a3 a4 a5 a6 a7 a8 a9 a10 a11 a12 a13 a14 a15 a16 a17 a18 a19 a20 a21 a22 a23 a24 a25 a26 a27) :
    ∀ (m i k : Nat) (nw : Nat → Nat) (lv : Nat → Prop) (fn fc : Int32) (a11 a12 a14 a15 : Nat → Int32), i + m = 20 → ff_NS a11 a12 a14 fn fc lv k 120 → m ≤ k → ff_Nw a11 lv a15 nw (fun _ _ => if sw < 5 then 0 else 2) i → ff_Kp a11 lv kd kn kf →
    wX_solve_2 post (nI tb) si (m + 1) (nI i) act opl ohd fn fc kd dp gt (nI s) a1 a2 a3 a4 a5 a6 a7 a8 a9 a10 a11 a12 a13 a14 a15 a16 a17 a18 a19 a20 a21 a22 a23 a24 a25 a26 a27 := by
  intro m
  induction m with
  | zero =>
    intro i k nw lv fn fc a11 a12 a14 a15 hi hN hk hNw hKp
    have e : i = 20 := by omega
    subst e
    exact pk_le 20 20 (fun _ => K k nw lv fn fc a11 a12 a14 a15 hN hNw hKp) (fun z => absurd z (by omega))
  | succ m ih =>
    intro i k nw lv fn fc a11 a12 a14 a15 hi hN hk hNw hKp
    have ii : vp_in (nI i) 20 := pk_in i 20 (by omega)
    have ei : (nI i).toNatClampNeg = i := nI_clamp (by omega)
    have main : ∀ (z : Int32) (v : Nat), z = nI v → v < 120 → v = (if sw < 5 then 0 else 2) → wX_solve_23 post (wX_solve_2 post (nI tb) si (m + 1)) (nI tb) si (nI i) z (nI i) act opl ohd fn fc kd dp gt (nI s) a1 a2 a3 a4 a5 a6 a7 a8 a9 a10 a11 a12 a13 a14 a15 a16 a17 a18 a19 a20 a21 a22 a23 a24 a25 a26 a27 := by
      intro z v ez hv ev
      subst ez
      unfold wX_solve_23
      try dsimp only
      rw [ff_q_leaf2]
      refine ff_leaf hN (by omega) hv (by omega) (fun n fn' fc' a11' a12' a14' lv' k' hD hN' hk' hX => ?_)
      try dsimp only
      refine ⟨ii, nm_r (by rw [ei]) (nm_r (nI_1 i) ?_)⟩
      refine ih (i + 1) k' _ lv' fn' fc' a11' a12' a14' _ (by omega) hN' (by omega) (ff_Nw_u (ff_Nw_X hN.1 hX hNw) (ff_D_l (by omega) (ff_D_f (fun h _ => ?_) hD))) (ff_Kp_X hN.1 hX hKp)
      exact ev
    refine pk_le 20 i (fun z => absurd z (by omega)) (fun _ => ek_if (ff_sI_0 hsi) (fun c => main 0 0 rfl (by omega) ?_) (fun c => main 2 2 rfl (by omega) ?_))
    · try dsimp only
      rw [if_pos c]
    · try dsimp only
      rw [if_neg c]
theorem ff_solve {post : St1 → Prop} {act opl ohd fn fc kd dp gt : Int32} {a1 a2 a3 a4 a5 a6 a7 a8 a9 a10 a11 a12 a13 a14 a15 a16 a17 a18 a19 a20 a21 a22 a23 a24 a25 a26 a27 : Nat → Int32} {lv : Nat → Prop} {sw tb s k kn : Nat} {si : Int32} {lk rc mt ac ch : Nat → Nat} {kf : Nat → Nat}
    (hA : ff_CA a1 a2 a3 a4 a5 lk rc mt ac ch) (htb : tb < 4) (hsi : ff_sI si sw) (hs : s + 3840 < 2 ^ 31) (hN : ff_NS a11 a12 a14 fn fc lv k 120) (hk : 20 ≤ k) (hM : ff_Mf a23 s) (hKp : ff_Kp a11 lv kd kn kf)
    (H : ∀ (k' s' : Nat) (nw : Nat → Nat) (lv' : Nat → Prop) (fn' fc' dp' gt' : Int32) (a11' a12' a13' a14' a15' a16' a18' a19' a20' a21' a22' a23' a24' a25' a26' a27' : Nat → Int32), ff_NS a11' a12' a14' fn' fc' lv' k' 120 → 240 ≤ k' → ff_Mf a23' s' → s' ≤ s + 3840 → ff_Nw a11' lv' a15' nw (ff_res lk rc mt ac ch tb sw 16) 20 → ff_Kp a11' lv' kd kn kf → post (act, opl, ohd, fn', fc', kd, dp', gt', nI s', a1, a2, a3, a4, a5, a6, a7, a8, a9, a10, a11', a12', a13', a14', a15', a16', a17, a18', a19', a20', a21', a22', a23', a24', a25', a26', a27')) :
    wpX_solve post (act, opl, ohd, fn, fc, kd, dp, gt, nI s, a1, a2, a3, a4, a5, a6, a7, a8, a9, a10, a11, a12, a13, a14, a15, a16, a17, a18, a19, a20, a21, a22, a23, a24, a25, a26, a27) (nI tb) si := by
  unfold wpX_solve
  try dsimp only
  refine ⟨21, ff_solve_2 (kn := kn) (kf := kf) hsi (fun k1 nw lv1 fn1 fc1 a111 a121 a141 a151 hN1 hNw1 hKp1 => ?_) 20 0 k (fun _ => 0) lv fn fc a11 a12 a14 a15 (by omega) hN hk (fun p hp => absurd hp (by omega)) hKp⟩
  try dsimp only
  refine ⟨17, ff_solve_38 (s0 := s) (kn := kn) (kf := kf) hA htb hsi hs H 16 0 1 s k1 nw lv1 fn1 fc1 dp gt a111 a121 a13 a141 a151 a16 a18 a19 a20 a21 a22 a23 a24 a25 a26 a27 (by omega) (by omega) (fun z => absurd z (by omega)) hN1 (Or.inr ⟨rfl, rfl⟩) hM (by omega) hNw1 hKp1⟩
end
section
/-! ===== countOf, differences ===== -/
def ff_cE (a : Nat → Int32) (v n : Nat) : Nat := ff_cn (fun h => ff_E a n h == v)
theorem ff_E_fl {a : Nat → Int32} {lv : Nat → Prop} {V n l : Nat} (w : ff_Wf a lv V) (hn : lv n) (hl : l + 1 ≤ ff_L a n) (h : Nat) : ff_E a n (h ^^^ 2 ^ (5 - l)) = ff_E a n h :=
  ff_E_ind w hn hl (fun b hb => by rw [ff_fl_b, decide_eq_false (by omega)]; simp)
theorem ff_cE_in {a : Nat → Int32} {lv : Nat → Prop} {V v n : Nat} (w : ff_Wf a lv V) (hn : lv n) (hl : ff_L a n < 6) : 2 * ff_cE a v n = ff_cE a v (ff_lo a n) + ff_cE a v (ff_hi a n) := by
  obtain ⟨c1, c1'⟩ := ff_Wf_ch w hn hl false
  obtain ⟨c2, c2'⟩ := ff_Wf_ch w hn hl true
  have d1 : lv (ff_lo a n) := c1
  have d1' : ff_L a n + 1 ≤ ff_L a (ff_lo a n) := c1'
  have d2 : lv (ff_hi a n) := c2
  have d2' : ff_L a n + 1 ≤ ff_L a (ff_hi a n) := c2'
  refine ff_cn_half (b := 5 - ff_L a n) (by omega) (fun h _ => ?_) (fun h _ => ?_) (fun h _ => ?_)
  · try dsimp only
    rw [ff_E_in w hn hl h]
    cases h.testBit (5 - ff_L a n) <;> rfl
  · try dsimp only
    rw [ff_E_fl w d1 d1']
  · try dsimp only
    rw [ff_E_fl w d2 d2']
theorem ff_cE_leaf {a : Nat → Int32} {v n : Nat} (hl : ff_L a n = 6) : ff_cE a v n = if ff_lo a n = v then 64 else 0 := by
  unfold ff_cE
  by_cases e : ff_lo a n = v
  · try dsimp only
    rw [if_pos e]
    refine ff_cn_64 (fun h _ => ?_)
    try dsimp only
    rw [ff_E_leaf hl, e]
    exact beq_self_eq_true v
  · try dsimp only
    rw [if_neg e]
    refine ff_cn_0 (fun h _ => ?_)
    try dsimp only
    rw [ff_E_leaf hl]
    exact beq_eq_false_iff_ne.mpr e
theorem ff_wt {w j : Nat} (hj : j < 6) (h : w * 2 ^ j = 64) : w = 2 * (w / 2) ∧ w / 2 * 2 ^ (j + 1) = 64 ∧ w ≤ 64 := by
  match j, hj, h with
  | 0, _, h => omega
  | 1, _, h => omega
  | 2, _, h => omega
  | 3, _, h => omega
  | 4, _, h => omega
  | 5, _, h => omega
  | j + 6, hj, _ => omega
theorem ff_shr1 {w : Nat} (h : w < 2 ^ 31) : nI w >>> ((1 : Int32) &&& 31) = nI (w / 2) := pk_shrN h _ 1 (by decide)
theorem ff_cntBig {post : Int32 → St1 → Prop} {act opl ohd fn fc kd gt st : Int32} {a1 a2 a3 a4 a5 a6 a7 a8 a9 a10 a11 a12 a13 a14 a15 a16 a17 a22 a23 a24 a25 a26 a27 : Nat → Int32} {lv : Nat → Prop} {V v : Nat} (w : ff_Wf a11 lv V) (hv : v < 4096) :
    ∀ (q x T d n wt : Nat) (a18 a19 a20 a21 : Nat → Int32), d + q ≤ 7 → lv n → 6 ≤ ff_L a11 n + q → (∃ j, j ≤ ff_L a11 n ∧ wt * 2 ^ j = 64) → a18 d = nI wt → a19 d = nI n → x + 2 ^ (q + 1) ≤ 200 →
    (∀ (x' T' : Nat) (a18' a19' a20' a21' : Nat → Int32), x' + 1 ≤ x + 2 ^ (q + 1) → 64 * T' = 64 * T + wt * ff_cE a11 v n → (∀ i, i < d → a18' i = a18 i ∧ a19' i = a19 i) →
      wX_countOf_18 post (nI v) (201 - x') (nI T') (nI x') act opl ohd fn fc kd (nI d) gt st a1 a2 a3 a4 a5 a6 a7 a8 a9 a10 a11 a12 a13 a14 a15 a16 a17 a18' a19' a20' a21' a22 a23 a24 a25 a26 a27) →
    wX_countOf_18 post (nI v) (201 - x) (nI T) (nI x) act opl ohd fn fc kd (nI (d + 1)) gt st a1 a2 a3 a4 a5 a6 a7 a8 a9 a10 a11 a12 a13 a14 a15 a16 a17 a18 a19 a20 a21 a22 a23 a24 a25 a26 a27 := by
  intro q
  induction q with
  | zero =>
    intro x T d n wt a18 a19 a20 a21 hd hn hL hw h18 h19 hx K
    have hL6 := (w n hn).2.2.1
    have ed : (nI d).toNatClampNeg = d := nI_clamp (by omega)
    have id : vp_in (nI d) 16 := pk_in d 16 (by omega)
    have lo4 : ff_lo a11 n < 4096 := ff_w_lt _
    rw [show 201 - x = (200 - x) + 1 by omega]
    refine br_f (nI_ge (b := 200) (by omega) (by omega)) (br_f (nI_nle (by omega) (by omega)) (nm_r (nI_pred d) ⟨id, nm_r (by rw [ed, h18]) ⟨id, nm_r (by rw [ed, h19]) (ff_levelOf w hn (pk_eq (ff_L a11 n) 6 (fun e => ff_lowOf w hn ?_) (fun e => absurd e (by omega))))⟩⟩))
    have hc := ff_cE_leaf (v := v) (a := a11) (n := n) (by omega)
    refine pk_eq (ff_lo a11 n) v (fun e => nm_r (nI_add T wt) (nm_r (nI_1 x) ?_)) (fun e => nm_r (show nI T + 0 = nI T from nI_add T 0) (nm_r (nI_1 x) ?_))
    · try dsimp only
      rw [if_pos e] at hc
      have k := K (x + 1) (T + wt) a18 a19 a20 a21 (by omega) (by rw [hc]; omega) (fun i _ => ⟨rfl, rfl⟩)
      rw [show 201 - (x + 1) = 200 - x by omega] at k
      exact k
    · try dsimp only
      rw [if_neg e] at hc
      have k := K (x + 1) T a18 a19 a20 a21 (by omega) (by rw [hc]; omega) (fun i _ => ⟨rfl, rfl⟩)
      rw [show 201 - (x + 1) = 200 - x by omega] at k
      exact k
  | succ q ih =>
    intro x T d n wt a18 a19 a20 a21 hd hn hL hw h18 h19 hx K
    have hL6 := (w n hn).2.2.1
    have ed : (nI d).toNatClampNeg = d := nI_clamp (by omega)
    have id : vp_in (nI d) 16 := pk_in d 16 (by omega)
    have lo4 : ff_lo a11 n < 4096 := ff_w_lt _
    have hp : 2 ^ (q + 1 + 1) = 2 * 2 ^ (q + 1) := by rw [Nat.pow_succ]; omega
    have hp1 : 1 ≤ 2 ^ (q + 1) := Nat.one_le_two_pow
    rw [hp] at hx K
    rw [show 201 - x = (200 - x) + 1 by omega]
    refine br_f (nI_ge (b := 200) (by omega) (by omega)) (br_f (nI_nle (by omega) (by omega)) (nm_r (nI_pred d) ⟨id, nm_r (by rw [ed, h18]) ⟨id, nm_r (by rw [ed, h19]) (ff_levelOf w hn (pk_eq (ff_L a11 n) 6 (fun e => ff_lowOf w hn ?_) (fun e => ff_lowOf w hn (ff_highOf w hn ?_))))⟩⟩))
    · have hc := ff_cE_leaf (v := v) (a := a11) (n := n) (by omega)
      refine pk_eq (ff_lo a11 n) v (fun e => nm_r (nI_add T wt) (nm_r (nI_1 x) ?_)) (fun e => nm_r (show nI T + 0 = nI T from nI_add T 0) (nm_r (nI_1 x) ?_))
      · try dsimp only
        rw [if_pos e] at hc
        have k := K (x + 1) (T + wt) a18 a19 a20 a21 (by omega) (by rw [hc]; omega) (fun i _ => ⟨rfl, rfl⟩)
        rw [show 201 - (x + 1) = 200 - x by omega] at k
        exact k
      · try dsimp only
        rw [if_neg e] at hc
        have k := K (x + 1) T a18 a19 a20 a21 (by omega) (by rw [hc]; omega) (fun i _ => ⟨rfl, rfl⟩)
        rw [show 201 - (x + 1) = 200 - x by omega] at k
        exact k
    · have hl : ff_L a11 n < 6 := by omega
      obtain ⟨j, hj, ew⟩ := hw
      obtain ⟨w1, w2, w3⟩ := ff_wt (by omega) ew
      obtain ⟨c1, c1'⟩ := ff_Wf_ch w hn hl false
      obtain ⟨c2, c2'⟩ := ff_Wf_ch w hn hl true
      have d1 : lv (ff_lo a11 n) := c1
      have d1' : ff_L a11 n < ff_L a11 (ff_lo a11 n) := c1'
      have d2 : lv (ff_hi a11 n) := c2
      have d2' : ff_L a11 n < ff_L a11 (ff_hi a11 n) := c2'
      have hc := ff_cE_in (v := v) w hn hl
      rw [ff_q_push2, ff_shr1 (by omega)]
      refine ff_push (by omega) (ff_push (by omega) (nm_r (nI_1 x) ?_))
      try dsimp only
      rw [show 200 - x = 201 - (x + 1) by omega]
      refine ih (x + 1) T (d + 1) (ff_lo a11 n) (wt / 2) _ _ _ _ (by omega) d1 (by omega) ⟨j + 1, by omega, w2⟩ pk_us pk_us (by omega) (fun x1 T1 b18 b19 b20 b21 hx1 hT1 hf1 => ?_)
      have g := hf1 d (by omega)
      refine ih x1 T1 d (ff_hi a11 n) (wt / 2) b18 b19 b20 b21 (by omega) d2 (by omega) ⟨j + 1, by omega, w2⟩ (by rw [g.1, pk_un (by omega), pk_us]) (by rw [g.2, pk_un (by omega), pk_us]) (by omega) (fun x2 T2 e18 e19 e20 e21 hx2 hT2 hf2 => ?_)
      refine K x2 T2 e18 e19 e20 e21 (by omega) ?_ (fun i hi => ?_)
      · try dsimp only
        rw [hT2, hT1]
        have m : wt * ff_cE a11 v n = wt / 2 * (2 * ff_cE a11 v n) := by
          rw [← Nat.mul_assoc, Nat.mul_comm (wt / 2) 2, ← w1]
        rw [m, hc, Nat.mul_add, Nat.add_assoc]
      · have g1 := hf1 i (by omega)
        have g2 := hf2 i hi
        rw [g2.1, g2.2, g1.1, g1.2, pk_un (by omega), pk_un (by omega), pk_un (by omega), pk_un (by omega)]
        exact ⟨rfl, rfl⟩
theorem ff_countOf {post : Int32 → St1 → Prop} {act opl ohd fn fc kd dp gt st : Int32} {a1 a2 a3 a4 a5 a6 a7 a8 a9 a10 a11 a12 a13 a14 a15 a16 a17 a18 a19 a20 a21 a22 a23 a24 a25 a26 a27 : Nat → Int32} {lv : Nat → Prop} {V v n : Nat} {f : Nat → Nat} (w : ff_Wf a11 lv V) (hv : v < 4096) (hn : ff_D a11 lv 0 n f)
    (H : ∀ (dp' : Int32) (a18' a19' a20' a21' : Nat → Int32), post (nI (ff_cn (fun h => f h == v))) (act, opl, ohd, fn, fc, kd, dp', gt, st, a1, a2, a3, a4, a5, a6, a7, a8, a9, a10, a11, a12, a13, a14, a15, a16, a17, a18', a19', a20', a21', a22, a23, a24, a25, a26, a27)) : wpX_countOf post (act, opl, ohd, fn, fc, kd, dp, gt, st, a1, a2, a3, a4, a5, a6, a7, a8, a9, a10, a11, a12, a13, a14, a15, a16, a17, a18, a19, a20, a21, a22, a23, a24, a25, a26, a27) (nI n) (nI v) := by
  have e : ff_cE a11 v n = ff_cn (fun h => f h == v) := ff_cn_c (fun h hh => by rw [hn.2.2 h hh])
  unfold wpX_countOf
  try dsimp only
  rw [ff_q_push2]
  refine ff_push (d := 0) (by omega) ?_
  dsimp only
  refine ⟨201, ff_cntBig (q := 6) (x := 0) (T := 0) (d := 0) (n := n) (wt := 64) w hv _ _ _ _ (by omega) hn.1 (by omega) ⟨0, by omega, by omega⟩ pk_us pk_us (by omega) (fun x T b18 b19 b20 b21 hx hT _ => ?_)⟩
  have eT : T = ff_cn (fun h => f h == v) := by omega
  rw [show 201 - x = (200 - x) + 1 by omega, eT]
  exact br_f (nI_ge (b := 200) (by omega) (by omega)) (br_t (by decide) (H _ b18 b19 b20 b21))
/-! differences -/
def ff_dE (a : Nat → Int32) (x y : Nat) : Nat := ff_cn (fun h => ff_E a x h != ff_E a y h)
theorem ff_dE_in {a : Nat → Int32} {lv : Nat → Prop} {V x y l : Nat} (w : ff_Wf a lv V) (hx : lv x) (hy : lv y) (lx : l ≤ ff_L a x) (ly : l ≤ ff_L a y) (hl : l < 6) : 2 * ff_dE a x y = ff_dE a (ff_hf a x l false) (ff_hf a y l false) + ff_dE a (ff_hf a x l true) (ff_hf a y l true) := by
  obtain ⟨p1, p2, p3⟩ := ff_hf_ok w hx lx hl false
  obtain ⟨q1, q2, q3⟩ := ff_hf_ok w hx lx hl true
  obtain ⟨r1, r2, r3⟩ := ff_hf_ok w hy ly hl false
  obtain ⟨s1, s2, s3⟩ := ff_hf_ok w hy ly hl true
  refine ff_cn_half (b := 5 - l) (by omega) (fun h _ => ?_) (fun h _ => ?_) (fun h _ => ?_)
  · cases z : h.testBit (5 - l)
    · try dsimp only
      rw [p3 h z, r3 h z]
      rfl
    · try dsimp only
      rw [q3 h z, s3 h z]
      rfl
  · try dsimp only
    rw [ff_E_fl w p1 p2, ff_E_fl w r1 r2]
  · try dsimp only
    rw [ff_E_fl w q1 q2, ff_E_fl w s1 s2]
theorem ff_dE_same {a : Nat → Int32} (x : Nat) : ff_dE a x x = 0 := ff_cn_0 (fun h _ => by simp)
theorem ff_dE_leaf {a : Nat → Int32} {lv : Nat → Prop} {V x y : Nat} (w : ff_Wf a lv V) (u : ff_Un a lv) (hx : lv x) (hy : lv y) (lx : ff_L a x = 6) (ly : ff_L a y = 6) (hne : x ≠ y) : ff_dE a x y = 64 := by
  refine ff_cn_64 (fun h _ => ?_)
  try dsimp only
  rw [bne_iff_ne]
  intro e
  refine hne (ff_can w u 0 (by omega) x y hx hy (by omega) (by omega) (fun h' _ => ?_))
  try dsimp only
  rw [ff_E_leaf lx, ff_E_leaf ly] at e
  rw [ff_E_leaf lx, ff_E_leaf ly, e]
theorem ff_split {post : St1 → Prop} {act opl ohd fn fc kd gt st : Int32} {a1 a2 a3 a4 a5 a6 a7 a8 a9 a10 a11 a12 a13 a14 a15 a16 a17 a18 a19 a20 a21 a22 a23 a24 a25 a26 a27 : Nat → Int32} {lv : Nat → Prop} {V x y l d : Nat} {wt : Int32} (w : ff_Wf a11 lv V) (hx : lv x) (hy : lv y) (hl : l ≤ 6) (hd : d < 15)
    (H : post (act, opl, ohd, fn, fc, kd, nI (d + 2), gt, st, a1, a2, a3, a4, a5, a6, a7, a8, a9, a10, a11, a12, a13, a14, a15, a16, a17, upd (upd a18 d wt) (d + 1) wt, upd (upd a19 d (nI (ff_hf a11 x l false))) (d + 1) (nI (ff_hf a11 x l true)), upd (upd a20 d (nI (ff_hf a11 y l false))) (d + 1) (nI (ff_hf a11 y l true)), upd (upd a21 d 0) (d + 1) 0, a22, a23, a24, a25, a26, a27)) : wpX_split post (act, opl, ohd, fn, fc, kd, nI d, gt, st, a1, a2, a3, a4, a5, a6, a7, a8, a9, a10, a11, a12, a13, a14, a15, a16, a17, a18, a19, a20, a21, a22, a23, a24, a25, a26, a27) wt (nI l) (nI x) (nI y) := by
  unfold wpX_split
  try dsimp only
  refine ⟨3, br_f (by decide) ?_⟩
  try dsimp only
  rw [ff_q_push2]
  refine ff_half w hx hl false (ff_half w hy hl false (ff_push (by omega) (nm_r (nI_1 0) (br_f (by decide) ?_))))
  try dsimp only
  rw [ff_q_push2]
  exact ff_half w hx hl true (ff_half w hy hl true (ff_push (by omega) (nm_r (nI_1 1) (br_t (by decide) H))))
theorem ff_difBig {post : Int32 → St1 → Prop} {act opl ohd fn fc kd gt st : Int32} {a1 a2 a3 a4 a5 a6 a7 a8 a9 a10 a11 a12 a13 a14 a15 a16 a17 a22 a23 a24 a25 a26 a27 : Nat → Int32} {lv : Nat → Prop} {V : Nat} (w : ff_Wf a11 lv V) (u : ff_Un a11 lv) :
    ∀ (q x T d l m n wt : Nat) (a18 a19 a20 a21 : Nat → Int32), d + q ≤ 7 → lv m → lv n → l ≤ ff_L a11 m → l ≤ ff_L a11 n → 6 ≤ l + q → (∃ j, j ≤ l ∧ wt * 2 ^ j = 64) → a18 d = nI wt → a19 d = nI m → a20 d = nI n → x + 2 ^ (q + 1) ≤ 200 →
    (∀ (x' T' : Nat) (a18' a19' a20' a21' : Nat → Int32), x' + 1 ≤ x + 2 ^ (q + 1) → 64 * T' = 64 * T + wt * ff_dE a11 m n → (∀ i, i < d → a18' i = a18 i ∧ a19' i = a19 i ∧ a20' i = a20 i) →
      wX_differences_18 post (201 - x') (nI T') (nI x') act opl ohd fn fc kd (nI d) gt st a1 a2 a3 a4 a5 a6 a7 a8 a9 a10 a11 a12 a13 a14 a15 a16 a17 a18' a19' a20' a21' a22 a23 a24 a25 a26 a27) →
    wX_differences_18 post (201 - x) (nI T) (nI x) act opl ohd fn fc kd (nI (d + 1)) gt st a1 a2 a3 a4 a5 a6 a7 a8 a9 a10 a11 a12 a13 a14 a15 a16 a17 a18 a19 a20 a21 a22 a23 a24 a25 a26 a27 := by
  intro q
  induction q with
  | zero =>
    intro x T d l m n wt a18 a19 a20 a21 hd hm hn lm ln hL hw h18 h19 h20 hx K
    have Lm := (w m hm).2.2.1
    have Ln := (w n hn).2.2.1
    have bm := (w m hm).1
    have bn := (w n hn).1
    have ed : (nI d).toNatClampNeg = d := nI_clamp (by omega)
    have id : vp_in (nI d) 16 := pk_in d 16 (by omega)
    have fin : wX_differences_106 post (wX_differences_18 post (200 - x)) (nI T) (nI x) (nI wt) (nI m) (nI n) (nI 6) act opl ohd fn fc kd (nI d) gt st a1 a2 a3 a4 a5 a6 a7 a8 a9 a10 a11 a12 a13 a14 a15 a16 a17 a18 a19 a20 a21 a22 a23 a24 a25 a26 a27 := by
      unfold wX_differences_106
      try dsimp only
      refine pk_eq m n (fun e => ?_) (fun e => br_t rfl (nm_r (nI_add T wt) (nm_r (nI_1 x) ?_)))
      · unfold wX_differences_130
        try dsimp only
        refine pk_eq m n (fun e => nm_r (nI_1 x) ?_) (fun e' => absurd e e')
        subst e
        have k := K (x + 1) T a18 a19 a20 a21 (by omega) (by rw [ff_dE_same]; omega) (fun i _ => ⟨rfl, rfl, rfl⟩)
        rw [show 201 - (x + 1) = 200 - x by omega] at k
        exact k
      · have k := K (x + 1) (T + wt) a18 a19 a20 a21 (by omega) (by rw [ff_dE_leaf w u hm hn (by omega) (by omega) e]; omega) (fun i _ => ⟨rfl, rfl, rfl⟩)
        rw [show 201 - (x + 1) = 200 - x by omega] at k
        exact k
    try dsimp only
    rw [show 201 - x = (200 - x) + 1 by omega]
    refine br_f (nI_ge (b := 200) (by omega) (by omega)) (br_f (nI_nle (by omega) (by omega)) (nm_r (nI_pred d) ⟨id, nm_r (by rw [ed, h18]) ⟨id, nm_r (by rw [ed, h19]) ⟨id, nm_r (by rw [ed, h20]) (ff_levelOf w hm (ff_levelOf w hn (pk_le (ff_L a11 n) (ff_L a11 m) (fun c => ff_levelOf w hn ?_) (fun c => absurd c (by omega)))))⟩⟩⟩))
    try dsimp only
    rw [show ff_L a11 n = 6 by omega]
    exact fin
  | succ q ih =>
    intro x T d l m n wt a18 a19 a20 a21 hd hm hn lm ln hL hw h18 h19 h20 hx K
    have Lm := (w m hm).2.2.1
    have Ln := (w n hn).2.2.1
    have bm := (w m hm).1
    have bn := (w n hn).1
    have ed : (nI d).toNatClampNeg = d := nI_clamp (by omega)
    have id : vp_in (nI d) 16 := pk_in d 16 (by omega)
    have hp : 2 ^ (q + 1 + 1) = 2 * 2 ^ (q + 1) := by rw [Nat.pow_succ]; omega
    have hp1 : 1 ≤ 2 ^ (q + 1) := Nat.one_le_two_pow
    rw [hp] at hx K
    have fin : ∀ z, l ≤ z → z ≤ ff_L a11 m → z ≤ ff_L a11 n → (z = ff_L a11 m ∨ z = ff_L a11 n) → wX_differences_106 post (wX_differences_18 post (200 - x)) (nI T) (nI x) (nI wt) (nI m) (nI n) (nI z) act opl ohd fn fc kd (nI d) gt st a1 a2 a3 a4 a5 a6 a7 a8 a9 a10 a11 a12 a13 a14 a15 a16 a17 a18 a19 a20 a21 a22 a23 a24 a25 a26 a27 := by
      intro z hlz zm zn zo
      have same : m = n → wX_differences_130 post (wX_differences_18 post (200 - x)) (nI T) (nI x) (nI wt) (nI m) (nI n) (nI z) act opl ohd fn fc kd (nI d) gt st a1 a2 a3 a4 a5 a6 a7 a8 a9 a10 a11 a12 a13 a14 a15 a16 a17 a18 a19 a20 a21 a22 a23 a24 a25 a26 a27 := by
        intro e
        unfold wX_differences_130
        try dsimp only
        refine pk_eq m n (fun e => nm_r (nI_1 x) ?_) (fun e' => absurd e e')
        subst e
        have k := K (x + 1) T a18 a19 a20 a21 (by omega) (by rw [ff_dE_same]; omega) (fun i _ => ⟨rfl, rfl, rfl⟩)
        rw [show 201 - (x + 1) = 200 - x by omega] at k
        exact k
      unfold wX_differences_106
      try dsimp only
      refine pk_eq m n same (fun e => pk_eq z 6 (fun z6 => nm_r (nI_add T wt) (nm_r (nI_1 x) ?_)) (fun z6 => ?_))
      · have k := K (x + 1) (T + wt) a18 a19 a20 a21 (by omega) (by rw [ff_dE_leaf w u hm hn (by omega) (by omega) e]; omega) (fun i _ => ⟨rfl, rfl, rfl⟩)
        rw [show 201 - (x + 1) = 200 - x by omega] at k
        exact k
      · have hz : z < 6 := by omega
        obtain ⟨j, hj, ew⟩ := hw
        obtain ⟨w1, w2, w3⟩ := ff_wt (show j < 6 by omega) ew
        obtain ⟨p1, p2, _⟩ := ff_hf_ok w hm zm hz false
        obtain ⟨q1, q2, _⟩ := ff_hf_ok w hm zm hz true
        obtain ⟨r1, r2, _⟩ := ff_hf_ok w hn zn hz false
        obtain ⟨s1, s2, _⟩ := ff_hf_ok w hn zn hz true
        have hc := ff_dE_in w hm hn zm zn hz
        unfold wX_differences_130
        try dsimp only
        refine pk_eq m n (fun e' => absurd e' e) (fun _ => ?_)
        try dsimp only
        rw [ff_shr1 (by omega)]
        refine ff_split w hm hn (by omega) (by omega) (nm_r (nI_1 x) ?_)
        try dsimp only
        rw [show 200 - x = 201 - (x + 1) by omega]
        refine ih (x + 1) T (d + 1) (z + 1) (ff_hf a11 m z true) (ff_hf a11 n z true) (wt / 2) _ _ _ _ (by omega) q1 s1 q2 s2 (by omega) ⟨j + 1, by omega, w2⟩ pk_us pk_us pk_us (by omega) (fun x1 T1 b18 b19 b20 b21 hx1 hT1 hf1 => ?_)
        have g := hf1 d (by omega)
        refine ih x1 T1 d (z + 1) (ff_hf a11 m z false) (ff_hf a11 n z false) (wt / 2) b18 b19 b20 b21 (by omega) p1 r1 p2 r2 (by omega) ⟨j + 1, by omega, w2⟩ (by rw [g.1, pk_un (by omega), pk_us]) (by rw [g.2.1, pk_un (by omega), pk_us]) (by rw [g.2.2, pk_un (by omega), pk_us]) (by omega) (fun x2 T2 e18 e19 e20 e21 hx2 hT2 hf2 => ?_)
        refine K x2 T2 e18 e19 e20 e21 (by omega) ?_ (fun i hi => ?_)
        · try dsimp only
          rw [hT2, hT1]
          have mm : wt * ff_dE a11 m n = wt / 2 * (2 * ff_dE a11 m n) := by
            rw [← Nat.mul_assoc, Nat.mul_comm (wt / 2) 2, ← w1]
          rw [mm, hc, Nat.mul_add]
          omega
        · have g1 := hf1 i (by omega)
          have g2 := hf2 i hi
          rw [g2.1, g2.2.1, g2.2.2, g1.1, g1.2.1, g1.2.2, pk_un (by omega), pk_un (by omega), pk_un (by omega), pk_un (by omega), pk_un (by omega), pk_un (by omega)]
          exact ⟨rfl, rfl, rfl⟩
    try dsimp only
    rw [show 201 - x = (200 - x) + 1 by omega]
    exact br_f (nI_ge (b := 200) (by omega) (by omega)) (br_f (nI_nle (by omega) (by omega)) (nm_r (nI_pred d) ⟨id, nm_r (by rw [ed, h18]) ⟨id, nm_r (by rw [ed, h19]) ⟨id, nm_r (by rw [ed, h20]) (ff_levelOf w hm (ff_levelOf w hn (pk_le (ff_L a11 n) (ff_L a11 m) (fun c => ff_levelOf w hn (fin _ ln c (Nat.le_refl _) (Or.inr rfl))) (fun c => ff_levelOf w hm (fin _ lm (Nat.le_refl _) (by omega) (Or.inl rfl))))))⟩⟩⟩))
theorem ff_differences {post : Int32 → St1 → Prop} {act opl ohd fn fc kd dp gt st : Int32} {a1 a2 a3 a4 a5 a6 a7 a8 a9 a10 a11 a12 a13 a14 a15 a16 a17 a18 a19 a20 a21 a22 a23 a24 a25 a26 a27 : Nat → Int32} {lv : Nat → Prop} {V m n : Nat} {f g : Nat → Nat} (w : ff_Wf a11 lv V) (u : ff_Un a11 lv) (hm : ff_D a11 lv 0 m f) (hn : ff_D a11 lv 0 n g)
    (H : ∀ (dp' : Int32) (a18' a19' a20' a21' : Nat → Int32), post (nI (ff_cn (fun h => f h != g h))) (act, opl, ohd, fn, fc, kd, dp', gt, st, a1, a2, a3, a4, a5, a6, a7, a8, a9, a10, a11, a12, a13, a14, a15, a16, a17, a18', a19', a20', a21', a22, a23, a24, a25, a26, a27)) : wpX_differences post (act, opl, ohd, fn, fc, kd, dp, gt, st, a1, a2, a3, a4, a5, a6, a7, a8, a9, a10, a11, a12, a13, a14, a15, a16, a17, a18, a19, a20, a21, a22, a23, a24, a25, a26, a27) (nI m) (nI n) := by
  have e : ff_dE a11 m n = ff_cn (fun h => f h != g h) := ff_cn_c (fun h hh => by rw [hm.2.2 h hh, hn.2.2 h hh])
  unfold wpX_differences
  try dsimp only
  rw [ff_q_push2]
  refine ff_push (d := 0) (by omega) ?_
  dsimp only
  refine ⟨201, ff_difBig (q := 6) (x := 0) (T := 0) (d := 0) (l := 0) (m := m) (n := n) (wt := 64) w u _ _ _ _ (by omega) hm.1 hn.1 (by omega) (by omega) (by omega) ⟨0, by omega, by omega⟩ pk_us pk_us pk_us (by omega) (fun x T b18 b19 b20 b21 hx hT _ => ?_)⟩
  have eT : T = ff_cn (fun h => f h != g h) := by omega
  rw [show 201 - x = (200 - x) + 1 by omega, eT]
  exact br_f (nI_ge (b := 200) (by omega) (by omega)) (br_t (by decide) (H _ b18 b19 b20 b21))
end
section
/-! ===== the rule that decides, end ===== -/
def ff_pI (j : Nat) : Int32 := if 120 ≤ j then -1 else nI j
theorem ff_ruleFor {post : Int32 → Prop} {act opl ohd fn fc kd dp gt st : Int32} {a1 a2 a3 a4 a5 a6 a7 a8 a9 a10 a11 a12 a13 a14 a15 a16 a17 a18 a19 a20 a21 a22 a23 a24 a25 a26 a27 : Nat → Int32} {lk rc mt ac ch : Nat → Nat} {tb sw h : Nat} (hA : ff_CA a1 a2 a3 a4 a5 lk rc mt ac ch) (htb : tb < 4) (hsw : sw < 5) (hh : h < 64)
    (H : post (ff_pI (ff_pick (fun j => ff_mb (mt j) h 6) (6 * (5 * tb + sw)) (rc (5 * tb + sw)) (rc (5 * tb + sw))))) : wpX_ruleFor post (act, opl, ohd, fn, fc, kd, dp, gt, st, a1, a2, a3, a4, a5, a6, a7, a8, a9, a10, a11, a12, a13, a14, a15, a16, a17, a18, a19, a20, a21, a22, a23, a24, a25, a26, a27) (nI tb) (nI sw) (nI h) := by
  have hl : 5 * tb + sw < 20 := by omega
  have hcnt := hA.2.2.2.1 _ hl
  have el : (5 : Int32) * nI tb + nI sw = nI (5 * tb + sw) := by rw [show (5 : Int32) = nI 5 from rfl, pk_mul, nI_add]
  unfold wpX_ruleFor wpX_listOf
  try dsimp only
  rw [el]
  generalize hL : 5 * tb + sw = l at *
  have main : ∀ m i, i + m = rc l → ff_pick (fun j => ff_mb (mt j) h 6) (6 * l) (rc l) (rc l) = ff_pick (fun j => ff_mb (mt j) h 6) (6 * l) (rc l) m → wX_ruleFor_10 post (nI h) (nI l) act opl ohd fn fc kd dp gt st a1 a2 a3 a4 a5 a6 a7 a8 a9 a10 a11 a12 a13 a14 a15 a16 a17 a18 a19 a20 a21 a22 a23 a24 a25 a26 a27 (m + 1) (nI i) := by
    intro m
    induction m with
    | zero =>
      intro i hi e
      refine ⟨pk_in l 20 hl, ?_⟩
      try dsimp only
      rw [nI_clamp (show l < 2 ^ 31 by omega), hA.2.1 l hl]
      refine pk_le (rc l) i (fun _ => ?_) (fun z => absurd z (by omega))
      try dsimp only
      rw [e] at H
      exact H
    | succ m ih =>
      intro i hi e
      have hj : 6 * l + i < 120 := by omega
      obtain ⟨e3, _, _⟩ := hA.2.2.1 _ hj
      obtain ⟨b3, _, _⟩ := hA.2.2.2.2 _ hj
      have ej : (6 : Int32) * nI l + nI i = nI (6 * l + i) := by rw [show (6 : Int32) = nI 6 from rfl, pk_mul, nI_add]
      refine ⟨pk_in l 20 hl, ?_⟩
      try dsimp only
      rw [nI_clamp (show l < 2 ^ 31 by omega), hA.2.1 l hl]
      refine pk_le (rc l) i (fun z => absurd z (by omega)) (fun _ => ?_)
      try dsimp only
      rw [ej, nI_clamp (show 6 * l + i < 2 ^ 31 by omega), e3]
      refine ⟨pk_in _ 120 hj, ?_⟩
      try dsimp only
      rw [ff_pick, show rc l - (m + 1) = i by omega] at e
      unfold wpX_isMatch
      try dsimp only
      refine ek_if (ff_i_mat b3 hh) (fun c => br_f (by decide) ?_) (fun c => br_t rfl (nm_r (nI_1 i) (ih (i + 1) (by omega) ?_)))
      · try dsimp only
        rw [if_pos c] at e
        rw [e] at H
        unfold ff_pI at H
        try dsimp only
        rw [if_neg (by omega)] at H
        exact H
      · try dsimp only
        rw [if_neg c] at e
        exact e
  exact ⟨rc l + 1, main (rc l) 0 (by omega) rfl⟩
theorem ff_treat {post : Int32 → St1 → Prop} {act opl ohd fn fc kd dp gt st : Int32} {a1 a2 a3 a4 a5 a6 a7 a8 a9 a10 a11 a12 a13 a14 a15 a16 a17 a18 a19 a20 a21 a22 a23 a24 a25 a26 a27 : Nat → Int32} {lk rc mt ac ch : Nat → Nat} {tb p h : Nat} (hA : ff_CA a1 a2 a3 a4 a5 lk rc mt ac ch) (htb : tb < 4) (hp : p < 20) (hh : h < 64)
    (H0 : (∀ (ms : Nat) (body : Nat → Nat), (∀ j, ac j = 4 → body j = ms) → ff_sel ms body (ff_pick (fun j => ff_mb (mt j) h 6) (6 * (5 * tb + p / 4)) (rc (5 * tb + p / 4)) (rc (5 * tb + p / 4))) = ms) → post 0 (act, opl, ohd, fn, fc, kd, dp, gt, st, a1, a2, a3, a4, a5, a6, a7, a8, a9, a10, a11, a12, a13, a14, a15, a16, a17, a18, a19, a20, a21, a22, a23, a24, a25, a26, a27))
    (H1 : ∀ j, j < 120 → ac j ≠ 4 → ff_pick (fun j => ff_mb (mt j) h 6) (6 * (5 * tb + p / 4)) (rc (5 * tb + p / 4)) (rc (5 * tb + p / 4)) = j → post 1 (act, nI (ff_out ac p j), nI (ff_chg (ch j) h), fn, fc, kd, dp, gt, st, a1, a2, a3, a4, a5, a6, a7, a8, a9, a10, a11, a12, a13, a14, a15, a16, a17, a18, a19, a20, a21, a22, a23, a24, a25, a26, a27)) :
    wpX_treat post (act, opl, ohd, fn, fc, kd, dp, gt, st, a1, a2, a3, a4, a5, a6, a7, a8, a9, a10, a11, a12, a13, a14, a15, a16, a17, a18, a19, a20, a21, a22, a23, a24, a25, a26, a27) (nI tb) (nI p) (nI h) := by
  have hl : 5 * tb + p / 4 < 20 := by omega
  have hcnt := hA.2.2.2.1 _ hl
  unfold wpX_treat
  try dsimp only
  rw [pk_shrN (show p < 2 ^ 31 by omega) _ 2 (by decide), show p / 2 ^ 2 = p / 4 from rfl]
  refine ff_ruleFor hA htb (by omega) hh ?_
  unfold ff_pI
  rcases ff_pick_in (fun j => ff_mb (mt j) h 6) (6 * (5 * tb + p / 4)) (rc (5 * tb + p / 4)) _ (Nat.le_refl _) with e | ⟨i, hi, e, _⟩
  · try dsimp only
    rw [e]
    refine br_t (by decide) (H0 (fun ms body _ => ?_))
    try dsimp only
    rw [e]
    rfl
  · try dsimp only
    rw [e] at H0 H1 ⊢
    have hj : 6 * (5 * tb + p / 4) + i < 120 := by omega
    generalize 6 * (5 * tb + p / 4) + i = j at *
    rw [if_neg (by omega)]
    obtain ⟨_, e4, e5⟩ := hA.2.2.1 _ hj
    obtain ⟨_, b4, b5⟩ := hA.2.2.2.2 _ hj
    have ij : vp_in (nI j) 120 := pk_in j 120 hj
    have ej : (nI j).toNatClampNeg = j := nI_clamp (by omega)
    refine br_f (nI_pos (by omega)) ⟨ij, ?_⟩
    try dsimp only
    rw [ej, e4]
    refine pk_eq (ac j) 4 (fun c => H0 (fun ms body hb => ?_)) (fun c => ⟨ij, ?_⟩)
    · unfold ff_sel
      try dsimp only
      rw [if_neg (by omega)]
      exact hb j c
    · have t57 : ∀ z, z = nI (ff_out ac p j) → wX_treat_57 post (nI h) (nI j) z act opl ohd fn fc kd dp gt st a1 a2 a3 a4 a5 a6 a7 a8 a9 a10 a11 a12 a13 a14 a15 a16 a17 a18 a19 a20 a21 a22 a23 a24 a25 a26 a27 := by
        intro z ez
        subst ez
        unfold wX_treat_57 wpX_changed
        try dsimp only
        rw [ej, e5]
        refine ⟨ij, nm_e ?_⟩
        try dsimp only
        rw [ff_i_chg b5 hh]
        exact H1 j hj c rfl
      refine pk_eq (ac j) 5 (fun g => t57 _ ?_) (fun g => ⟨ij, t57 _ ?_⟩)
      · unfold ff_out
        try dsimp only
        rw [if_pos g]
      · unfold ff_out
        try dsimp only
        rw [if_neg g]
        exact ff_i_out hp
theorem ff_end34 {post : Int32 → St1 → Prop} {act fn fc kd dp gt st : Int32} {a1 a2 a3 a4 a5 a6 a7 a8 a9 a10 a11 a12 a13 a14 a15 a16 a17 a18 a19 a20 a21 a22 a23 a24 a25 a26 a27 : Nat → Int32} {lk rc mt ac ch : Nat → Nat} {tb : Nat} (hA : ff_CA a1 a2 a3 a4 a5 lk rc mt ac ch) (htb : tb < 4) :
    ∀ (m i p h : Nat) (opl ohd : Int32), i + m = 16 → p < 20 → h < 64 → (∀ opl' ohd' : Int32, post (nI (ff_res lk rc mt ac ch tb 5 m p h)) (act, opl', ohd', fn, fc, kd, dp, gt, st, a1, a2, a3, a4, a5, a6, a7, a8, a9, a10, a11, a12, a13, a14, a15, a16, a17, a18, a19, a20, a21, a22, a23, a24, a25, a26, a27)) → wX_end_34 post (nI tb) (m + 1) (nI p) (nI h) (nI i) act opl ohd fn fc kd dp gt st a1 a2 a3 a4 a5 a6 a7 a8 a9 a10 a11 a12 a13 a14 a15 a16 a17 a18 a19 a20 a21 a22 a23 a24 a25 a26 a27 := by
  intro m
  induction m with
  | zero =>
    intro i p h opl ohd hi hp hh H
    exact pk_le 16 i (fun _ => H opl ohd) (fun z => absurd z (by omega))
  | succ m ih =>
    intro i p h opl ohd hi hp hh H
    have hr : ff_res lk rc mt ac ch tb 5 (m + 1) p h = ff_by lk rc mt ac ch tb 5 p (ff_res lk rc mt ac ch tb 5 m) h := by
      rw [ff_res]
      try dsimp only
      rw [if_neg (by omega)]
    rw [hr] at H
    refine pk_le 16 i (fun z => absurd z (by omega)) (fun _ => ff_treat hA htb hp hh (fun g => ?_) (fun j hj h4 e => ?_))
    · refine br_t rfl ?_
      have t : ff_by lk rc mt ac ch tb 5 p (ff_res lk rc mt ac ch tb 5 m) h = 1 := g 1 _ (fun j hj => by
        unfold ff_bod
        try dsimp only
        rw [if_pos hj]
        rfl)
      rw [t] at H
      exact H opl ohd
    · have t : ff_by lk rc mt ac ch tb 5 p (ff_res lk rc mt ac ch tb 5 m) h = ff_beh lk ac ch 5 p (ff_res lk rc mt ac ch tb 5 m) j h := by
        unfold ff_by
        try dsimp only
        rw [e]
        unfold ff_sel ff_bod
        try dsimp only
        rw [if_neg (by omega), if_neg h4]
      rw [t] at H
      have ho := ff_out_lt hp (hA.2.2.2.2 _ hj).2.1 h4
      have eo : (nI (ff_out ac p j)).toNatClampNeg = ff_out ac p j := nI_clamp (by omega)
      have io : vp_in (nI (ff_out ac p j)) 20 := pk_in _ 20 ho
      refine br_f (by decide) ⟨io, ?_⟩
      try dsimp only
      rw [eo]
      unfold ff_beh at H
      rcases hA.1 _ ho with ⟨g1, g2⟩ | ⟨g1, g2⟩
      · try dsimp only
        rw [if_pos g1] at H
        rw [g2]
        exact br_t (nI_pos' (by omega)) ⟨io, nm_e (nm_r (nI_1 i) (ih (i + 1) _ _ _ _ (by omega) g1 (ff_chg_lt _ hh) H))⟩
      · try dsimp only
        rw [if_neg (by omega)] at H
        rw [g2]
        refine br_f (by decide) ?_
        try dsimp only
        rw [show (100 : Int32) + nI (ff_out ac p j) = nI (100 + ff_out ac p j) from nI_add 100 _]
        exact H _ _
theorem ff_isFrom {post : Int32 → Prop} {x : Nat} (hx : x < 40) (H : post 1) : wpX_isFrom post () (nI x) := by
  unfold wpX_isFrom
  try dsimp only
  exact br_f (nI_pos (by omega)) (br_f (nI_ge (b := 40) hx (by omega)) H)
theorem ff_isPlace {post : Int32 → Prop} {x : Nat} (hx : x < 20) (H : post 1) : wpX_isPlace post () (nI x) := by
  unfold wpX_isPlace
  try dsimp only
  exact br_f (nI_pos (by omega)) (br_f (nI_ge (b := 20) hx (by omega)) H)
theorem ff_isHeader {post : Int32 → Prop} {x : Nat} (hx : x < 64) (H : post 1) : wpX_isHeader post () (nI x) := by
  unfold wpX_isHeader
  try dsimp only
  exact br_f (nI_pos (by omega)) (br_f (nI_ge (b := 64) hx (by omega)) H)
theorem ff_isSwitch {post : Int32 → Prop} {x : Nat} (hx : x < 5) (H : post 1) : wpX_isSwitch post () (nI x) := by
  unfold wpX_isSwitch
  try dsimp only
  exact br_f (nI_pos (by omega)) (br_f (nI_ge (b := 5) hx (by omega)) H)
/-- the table of a question -/
def ff_tf (f t : Nat) : Nat := if f = 0 then t else 0
theorem ff_tableFor {post : Int32 → Prop} {opl ohd fn fc kd dp gt st : Int32} {a1 a2 a3 a4 a5 a6 a7 a8 a9 a10 a11 a12 a13 a14 a15 a16 a17 a18 a19 a20 a21 a22 a23 a24 a25 a26 a27 : Nat → Int32} {f p t : Nat} (hp : p < 20) (hf : f < 2) (H : post (nI (ff_tf f t))) : wpX_tableFor post (nI t, opl, ohd, fn, fc, kd, dp, gt, st, a1, a2, a3, a4, a5, a6, a7, a8, a9, a10, a11, a12, a13, a14, a15, a16, a17, a18, a19, a20, a21, a22, a23, a24, a25, a26, a27) (nI (20 * f + p)) := by
  unfold wpX_tableFor
  try dsimp only
  unfold ff_tf at H
  refine pk_le 20 (20 * f + p) (fun c => ?_) (fun c => ?_)
  · try dsimp only
    rw [if_neg (by omega)] at H
    exact H
  · try dsimp only
    rw [if_pos (by omega)] at H
    exact H
theorem ff_tf_lt {f t : Nat} (ht : t < 4) : ff_tf f t < 4 := by
  unfold ff_tf
  split <;> omega
theorem ff_m20 {f p : Nat} (hp : p < 20) (hf : f < 2) : nI (20 * f + p) - nI (20 * f + p) / 20 * 20 = nI p := by
  rw [show (20 : Int32) = nI 20 from rfl, pk_rem (by omega) (by omega) (by omega), show (20 * f + p) % 20 = p by omega]
theorem ff_end {post : Int32 → St1 → Prop} {opl ohd fn fc kd dp gt st : Int32} {a1 a2 a3 a4 a5 a6 a7 a8 a9 a10 a11 a12 a13 a14 a15 a16 a17 a18 a19 a20 a21 a22 a23 a24 a25 a26 a27 : Nat → Int32} {lk rc mt ac ch : Nat → Nat} {t f p h : Nat} (hA : ff_CA a1 a2 a3 a4 a5 lk rc mt ac ch) (ht : t < 4) (hf : f < 2) (hp : p < 20) (hh : h < 64)
    (H : ∀ opl' ohd' : Int32, post (nI (ff_res lk rc mt ac ch (ff_tf f t) 5 16 p h)) (nI t, opl', ohd', fn, fc, kd, dp, gt, st, a1, a2, a3, a4, a5, a6, a7, a8, a9, a10, a11, a12, a13, a14, a15, a16, a17, a18, a19, a20, a21, a22, a23, a24, a25, a26, a27)) : wpX_end post (nI t, opl, ohd, fn, fc, kd, dp, gt, st, a1, a2, a3, a4, a5, a6, a7, a8, a9, a10, a11, a12, a13, a14, a15, a16, a17, a18, a19, a20, a21, a22, a23, a24, a25, a26, a27) (nI (20 * f + p)) (nI h) := by
  unfold wpX_end
  try dsimp only
  refine ff_isFrom (by omega) (br_f (by decide) (ff_isHeader hh (br_f (by decide) (ff_tableFor hp hf ⟨by decide, nm_r (ff_m20 hp hf) ⟨17, ff_end34 hA (ff_tf_lt ht) 16 0 p h opl ohd (by omega) hp hh H⟩⟩))))
/-! ===== questions over diagrams ===== -/
theorem ff_endsFrom {post : Int32 → St1 → Prop} {opl ohd fn fc kd dp gt : Int32} {a1 a2 a3 a4 a5 a6 a7 a8 a9 a10 a11 a12 a13 a14 a15 a16 a17 a18 a19 a20 a21 a22 a23 a24 a25 a26 a27 : Nat → Int32} {lk rc mt ac ch : Nat → Nat} {t f p s x : Nat} (hx : x = 20 * f + p) (hA : ff_CA a1 a2 a3 a4 a5 lk rc mt ac ch) (ht : t < 4) (hf : f < 2) (hp : p < 20) (hs : s + 3840 < 2 ^ 31) (hM : ff_Mf a23 s)
    (H : ∀ (n k' s' : Nat) (lv' : Nat → Prop) (fn' fc' dp' gt' : Int32) (a11' a12' a13' a14' a15' a16' a18' a19' a20' a21' a22' a23' a24' a25' a26' a27' : Nat → Int32), ff_NS a11' a12' a14' fn' fc' lv' k' 120 → 240 ≤ k' → ff_Mf a23' s' → s' ≤ s + 3840 → ff_D a11' lv' 0 n (ff_res lk rc mt ac ch (ff_tf f t) 5 16 p) → post (nI n) (nI t, opl, ohd, fn', fc', -1, dp', gt', nI s', a1, a2, a3, a4, a5, a6, a7, a8, a9, a10, a11', a12', a13', a14', a15', a16', a17, a18', a19', a20', a21', a22', a23', a24', a25', a26', a27')) :
    wpX_endsFrom post (nI t, opl, ohd, fn, fc, kd, dp, gt, nI s, a1, a2, a3, a4, a5, a6, a7, a8, a9, a10, a11, a12, a13, a14, a15, a16, a17, a18, a19, a20, a21, a22, a23, a24, a25, a26, a27) (nI x) := by
  subst hx
  unfold wpX_endsFrom
  try dsimp only
  refine ff_reset (V := 120) (fun a120 a140 hN0 => ff_tableFor hp hf (ff_solve (kn := 0) (kf := fun _ => 0) hA (ff_tf_lt ht) (Or.inr ⟨rfl, rfl⟩) hs hN0 (by omega) hM (Or.inl (show (-1 : Int32) < 0 by decide)) (fun k' s' nw lv' fn' fc' dp' gt' a11' a12' a13' a14' a15' a16' a18' a19' a20' a21' a22' a23' a24' a25' a26' a27' hN hk hM' hs' hNw _ => ?_)))
  try dsimp only
  rw [ff_m20 hp hf, nI_clamp (show p < 2 ^ 31 by omega), (hNw p hp).1]
  exact ⟨by decide, pk_in p 20 hp, H (nw p) k' s' lv' fn' fc' dp' gt' a11' a12' a13' a14' a15' a16' a18' a19' a20' a21' a22' a23' a24' a25' a26' a27' hN hk hM' hs' (hNw p hp).2⟩
theorem ff_arriving {post : Int32 → St1 → Prop} {opl ohd fn fc kd dp gt : Int32} {a1 a2 a3 a4 a5 a6 a7 a8 a9 a10 a11 a12 a13 a14 a15 a16 a17 a18 a19 a20 a21 a22 a23 a24 a25 a26 a27 : Nat → Int32} {lk rc mt ac ch : Nat → Nat} {t f p s to : Nat} (hA : ff_CA a1 a2 a3 a4 a5 lk rc mt ac ch) (ht : t < 4) (hf : f < 2) (hp : p < 20) (hto : to < 20) (hs : s + 3840 < 2 ^ 31) (hM : ff_Mf a23 s)
    (H : ∀ (s' : Nat) (fn' fc' kd' dp' gt' : Int32) (a11' a12' a13' a14' a15' a16' a17' a18' a19' a20' a21' a22' a23' a24' a25' a26' a27' : Nat → Int32), ff_Mf a23' s' → s' ≤ s + 3840 → post (nI (ff_cn (fun h => ff_res lk rc mt ac ch (ff_tf f t) 5 16 p h == 100 + to))) (nI t, opl, ohd, fn', fc', kd', dp', gt', nI s', a1, a2, a3, a4, a5, a6, a7, a8, a9, a10, a11', a12', a13', a14', a15', a16', a17', a18', a19', a20', a21', a22', a23', a24', a25', a26', a27')) :
    wpX_arriving post (nI t, opl, ohd, fn, fc, kd, dp, gt, nI s, a1, a2, a3, a4, a5, a6, a7, a8, a9, a10, a11, a12, a13, a14, a15, a16, a17, a18, a19, a20, a21, a22, a23, a24, a25, a26, a27) (nI (20 * f + p)) (nI to) := by
  unfold wpX_arriving
  try dsimp only
  refine ff_isFrom (by omega) (br_f (by decide) (ff_isPlace hto (br_f (by decide) (ff_endsFrom rfl hA ht hf hp hs hM (fun n k' s' lv' fn' fc' dp' gt' a11' a12' a13' a14' a15' a16' a18' a19' a20' a21' a22' a23' a24' a25' a26' a27' hN hk hM' hs' hD => ?_)))))
  try dsimp only
  rw [show (100 : Int32) + nI to = nI (100 + to) from nI_add 100 _]
  exact ff_countOf hN.1 (by omega) hD (fun dp2 a182 a192 a202 a212 => H s' _ _ _ _ _ _ _ _ _ _ _ _ _ _ _ _ _ _ _ _ _ _ hM' hs')
theorem ff_ending {post : Int32 → St1 → Prop} {opl ohd fn fc kd dp gt : Int32} {a1 a2 a3 a4 a5 a6 a7 a8 a9 a10 a11 a12 a13 a14 a15 a16 a17 a18 a19 a20 a21 a22 a23 a24 a25 a26 a27 : Nat → Int32} {lk rc mt ac ch : Nat → Nat} {t f p s kk : Nat} (hA : ff_CA a1 a2 a3 a4 a5 lk rc mt ac ch) (ht : t < 4) (hf : f < 2) (hp : p < 20) (hkk : kk < 2) (hs : s + 3840 < 2 ^ 31) (hM : ff_Mf a23 s)
    (H : ∀ (s' : Nat) (fn' fc' kd' dp' gt' : Int32) (a11' a12' a13' a14' a15' a16' a17' a18' a19' a20' a21' a22' a23' a24' a25' a26' a27' : Nat → Int32), ff_Mf a23' s' → s' ≤ s + 3840 → post (nI (ff_cn (fun h => ff_res lk rc mt ac ch (ff_tf f t) 5 16 p h == 1 + kk))) (nI t, opl, ohd, fn', fc', kd', dp', gt', nI s', a1, a2, a3, a4, a5, a6, a7, a8, a9, a10, a11', a12', a13', a14', a15', a16', a17', a18', a19', a20', a21', a22', a23', a24', a25', a26', a27')) :
    wpX_ending post (nI t, opl, ohd, fn, fc, kd, dp, gt, nI s, a1, a2, a3, a4, a5, a6, a7, a8, a9, a10, a11, a12, a13, a14, a15, a16, a17, a18, a19, a20, a21, a22, a23, a24, a25, a26, a27) (nI (20 * f + p)) (nI kk) := by
  unfold wpX_ending
  try dsimp only
  refine ff_isFrom (by omega) (br_f (by decide) (br_f (nI_pos (by omega)) (br_t (nI_le (b := 1) (by omega) (by omega)) (ff_endsFrom rfl hA ht hf hp hs hM (fun n k' s' lv' fn' fc' dp' gt' a11' a12' a13' a14' a15' a16' a18' a19' a20' a21' a22' a23' a24' a25' a26' a27' hN hk hM' hs' hD => ?_)))))
  try dsimp only
  refine pk_eq kk 0 (fun e => ?_) (fun e => ?_)
  · subst e
    unfold wX_ending_35
    try dsimp only
    exact ff_countOf (v := 1) hN.1 (by omega) hD (fun dp2 a182 a192 a202 a212 => H s' _ _ _ _ _ _ _ _ _ _ _ _ _ _ _ _ _ _ _ _ _ _ hM' hs')
  · have e1 : kk = 1 := by omega
    subst e1
    unfold wX_ending_35
    try dsimp only
    exact ff_countOf (v := 2) hN.1 (by omega) hD (fun dp2 a182 a192 a202 a212 => H s' _ _ _ _ _ _ _ _ _ _ _ _ _ _ _ _ _ _ _ _ _ _ hM' hs')
theorem ff_visiting {post : Int32 → St1 → Prop} {opl ohd fn fc kd dp gt : Int32} {a1 a2 a3 a4 a5 a6 a7 a8 a9 a10 a11 a12 a13 a14 a15 a16 a17 a18 a19 a20 a21 a22 a23 a24 a25 a26 a27 : Nat → Int32} {lk rc mt ac ch : Nat → Nat} {t f p s sw : Nat} (hA : ff_CA a1 a2 a3 a4 a5 lk rc mt ac ch) (ht : t < 4) (hf : f < 2) (hp : p < 20) (hsw : sw < 5) (hs : s + 3840 < 2 ^ 31) (hM : ff_Mf a23 s)
    (H : ∀ (s' : Nat) (fn' fc' kd' dp' gt' : Int32) (a11' a12' a13' a14' a15' a16' a17' a18' a19' a20' a21' a22' a23' a24' a25' a26' a27' : Nat → Int32), ff_Mf a23' s' → s' ≤ s + 3840 → post (nI (ff_cn (fun h => ff_res lk rc mt ac ch (ff_tf f t) sw 16 p h == 1))) (nI t, opl, ohd, fn', fc', kd', dp', gt', nI s', a1, a2, a3, a4, a5, a6, a7, a8, a9, a10, a11', a12', a13', a14', a15', a16', a17', a18', a19', a20', a21', a22', a23', a24', a25', a26', a27')) :
    wpX_visiting post (nI t, opl, ohd, fn, fc, kd, dp, gt, nI s, a1, a2, a3, a4, a5, a6, a7, a8, a9, a10, a11, a12, a13, a14, a15, a16, a17, a18, a19, a20, a21, a22, a23, a24, a25, a26, a27) (nI (20 * f + p)) (nI sw) := by
  unfold wpX_visiting
  try dsimp only
  refine ff_isFrom (by omega) (br_f (by decide) (ff_isSwitch hsw (br_f (by decide) (ff_reset (V := 120) (fun a120 a140 hN0 => ff_tableFor hp hf (ff_solve (kn := 0) (kf := fun _ => 0) hA (ff_tf_lt ht) (Or.inl ⟨hsw, rfl⟩) hs hN0 (by omega) hM (Or.inl (show (-1 : Int32) < 0 by decide)) (fun k' s' nw lv' fn' fc' dp' gt' a11' a12' a13' a14' a15' a16' a18' a19' a20' a21' a22' a23' a24' a25' a26' a27' hN hk hM' hs' hNw _ => ?_)))))))
  try dsimp only
  rw [ff_m20 hp hf, nI_clamp (show p < 2 ^ 31 by omega), (hNw p hp).1]
  exact ⟨by decide, pk_in p 20 hp, ff_countOf (v := 1) hN.1 (by omega) (hNw p hp).2 (fun dp2 a182 a192 a202 a212 => H s' _ _ _ _ _ _ _ _ _ _ _ _ _ _ _ _ _ _ _ _ _ _ hM' hs')⟩
theorem ff_differing {post : Int32 → St1 → Prop} {opl ohd fn fc kd dp gt : Int32} {a1 a2 a3 a4 a5 a6 a7 a8 a9 a10 a11 a12 a13 a14 a15 a16 a17 a18 a19 a20 a21 a22 a23 a24 a25 a26 a27 : Nat → Int32} {lk rc mt ac ch : Nat → Nat} {t p s : Nat} (hA : ff_CA a1 a2 a3 a4 a5 lk rc mt ac ch) (ht : t < 4) (hp : p < 20) (hs : s + 7680 < 2 ^ 31) (hM : ff_Mf a23 s)
    (H : ∀ (s' : Nat) (fn' fc' kd' dp' gt' : Int32) (a11' a12' a13' a14' a15' a16' a17' a18' a19' a20' a21' a22' a23' a24' a25' a26' a27' : Nat → Int32), ff_Mf a23' s' → s' ≤ s + 7680 → post (nI (ff_cn (fun h => ff_res lk rc mt ac ch t 5 16 p h != ff_res lk rc mt ac ch 0 5 16 p h))) (nI t, opl, ohd, fn', fc', kd', dp', gt', nI s', a1, a2, a3, a4, a5, a6, a7, a8, a9, a10, a11', a12', a13', a14', a15', a16', a17', a18', a19', a20', a21', a22', a23', a24', a25', a26', a27')) :
    wpX_differing post (nI t, opl, ohd, fn, fc, kd, dp, gt, nI s, a1, a2, a3, a4, a5, a6, a7, a8, a9, a10, a11, a12, a13, a14, a15, a16, a17, a18, a19, a20, a21, a22, a23, a24, a25, a26, a27) (nI p) := by
  unfold wpX_differing
  try dsimp only
  refine ff_isPlace hp (br_f (by decide) ?_)
  try dsimp only
  refine ff_endsFrom (f := 0) (p := p) (by omega) hA ht (by omega) hp (by omega) hM (fun n k' s' lv' fn' fc' dp' gt' a11' a12' a13' a14' a15' a16' a18' a19' a20' a21' a22' a23' a24' a25' a26' a27' hN hk hM' hs' hD => ?_)
  try dsimp only
  refine ff_solve (tb := 0) (kn := n) (kf := ff_res lk rc mt ac ch (ff_tf 0 t) 5 16 p) hA (by omega) (Or.inr ⟨rfl, rfl⟩) (by omega) hN (by omega) hM' (Or.inr ⟨rfl, hD⟩) (fun k2 s2 nw lv2 fn2 fc2 dp2 gt2 a112 a122 a132 a142 a152 a162 a182 a192 a202 a212 a222 a232 a242 a252 a262 a272 hN2 hk2 hM2 hs2 hNw hKp => ?_)
  try dsimp only
  rw [nI_clamp (show p < 2 ^ 31 by omega), (hNw p hp).1]
  have hn := (hN.1 n hD.1).1
  rcases hKp with z | ⟨_, hD2⟩
  · exact absurd z (nI_pos (by omega))
  · exact ⟨pk_in p 20 hp, ff_differences hN2.1 hN2.2.1 hD2 (hNw p hp).2 (fun dp3 a183 a193 a203 a213 => H s2 _ _ _ _ _ _ _ _ _ _ _ _ _ _ _ _ _ _ _ _ _ _ hM2 (by omega))⟩
end
section
/-! ===== deciding ===== -/
theorem ff_isRule {post : Int32 → Prop} {act opl ohd fn fc kd dp gt st : Int32} {a1 a2 a3 a4 a5 a6 a7 a8 a9 a10 a11 a12 a13 a14 a15 a16 a17 a18 a19 a20 a21 a22 a23 a24 a25 a26 a27 : Nat → Int32} {sw i r : Nat} (hsw : sw < 5) (hi : i < 100) (h2 : a2 sw = nI r) (hr : r ≤ 6) (H0 : r ≤ i → post 0) (H1 : i < r → post 1) : wpX_isRule post (act, opl, ohd, fn, fc, kd, dp, gt, st, a1, a2, a3, a4, a5, a6, a7, a8, a9, a10, a11, a12, a13, a14, a15, a16, a17, a18, a19, a20, a21, a22, a23, a24, a25, a26, a27) (nI sw) (nI i) := by
  unfold wpX_isRule
  try dsimp only
  refine ff_isSwitch hsw (br_f (by decide) (br_f (nI_pos (by omega)) ⟨pk_in sw 20 (by omega), ?_⟩))
  try dsimp only
  rw [nI_clamp (show sw < 2 ^ 31 by omega), h2]
  exact pk_le r i H0 H1
def ff_dc (rc mt : Nat → Nat) (sw h : Nat) : Nat := ff_sel 6 (fun j => j - 6 * sw) (ff_pick (fun j => ff_mb (mt j) h 6) (6 * sw) (rc sw) (rc sw))
theorem ff_dec_32 {post : Int32 → St1 → Prop} {act opl ohd kd : Int32} {a1 a2 a3 a4 a5 a6 a7 a8 a9 a10 a13 a15 a16 a17 : Nat → Int32} {sw s0 cnt i : Nat} {lk rc mt ac ch : Nat → Nat} (hA : ff_CA a1 a2 a3 a4 a5 lk rc mt ac ch) (hsw : sw < 5) (hcnt : cnt ≤ 6) (hi : i < 100) (hs0 : s0 + 6 < 2 ^ 31) :
    ∀ (n r s k : Nat) (lv : Nat → Prop) (fn fc dp gt : Int32) (a11 a12 a14 a18 a19 a20 a21 a22 a23 a24 a25 a26 a27 : Nat → Int32), n ≤ cnt → ff_NS a11 a12 a14 fn fc lv k 4096 → 64 * n ≤ k → ff_Mf a23 s → s + n ≤ s0 + 6 →
    ff_D a11 lv 0 r (fun h => ff_sel 6 (fun j => j - 6 * sw) (ff_pick (fun j => ff_mb (mt j) h 6) (6 * sw) cnt (cnt - n))) →
    (∀ (s' : Nat) (fn' fc' kd' dp' gt' : Int32) (a11' a12' a13' a14' a15' a16' a17' a18' a19' a20' a21' a22' a23' a24' a25' a26' a27' : Nat → Int32), ff_Mf a23' s' → s' ≤ s0 + 6 → post (nI (ff_cn (fun h => ff_sel 6 (fun j => j - 6 * sw) (ff_pick (fun j => ff_mb (mt j) h 6) (6 * sw) cnt cnt) == i))) (act, opl, ohd, fn', fc', kd', dp', gt', nI s', a1, a2, a3, a4, a5, a6, a7, a8, a9, a10, a11', a12', a13', a14', a15', a16', a17', a18', a19', a20', a21', a22', a23', a24', a25', a26', a27')) →
    wX_deciding_32 post (nI sw) (nI i) (n + 1) (nI r) (nI n - 1) act opl ohd fn fc kd dp gt (nI s) a1 a2 a3 a4 a5 a6 a7 a8 a9 a10 a11 a12 a13 a14 a15 a16 a17 a18 a19 a20 a21 a22 a23 a24 a25 a26 a27 := by
  intro n
  induction n with
  | zero =>
    intro r s k lv fn fc dp gt a11 a12 a14 a18 a19 a20 a21 a22 a23 a24 a25 a26 a27 hn hN hk hM hs hr H
    refine br_t (by decide) ?_
    try dsimp only
    exact ff_countOf hN.1 (by omega) hr (fun dp' a18' a19' a20' a21' => H s _ _ _ _ _ _ _ _ _ _ _ _ _ _ _ _ _ _ _ _ _ _ hM (by omega))
  | succ n ih =>
    intro r s k lv fn fc dp gt a11 a12 a14 a18 a19 a20 a21 a22 a23 a24 a25 a26 a27 hn hN hk hM hs hr H
    rw [nI_pred]
    have hj : 6 * sw + n < 120 := by omega
    obtain ⟨e3, _, _⟩ := hA.2.2.1 _ hj
    obtain ⟨b3, _, _⟩ := hA.2.2.2.2 _ hj
    refine br_f (nI_pos (by omega)) ?_
    try dsimp only
    rw [ff_q_leaf3, ff_q_choose2]
    refine ff_leaf hN (by omega) (by omega) (by omega) (fun b fn1 fc1 a111 a121 a141 lv1 k1 hD1 hN1 hk1 hX1 => ?_)
    have ej : (6 : Int32) * nI sw + nI n = nI (6 * sw + n) := by rw [show (6 : Int32) = nI 6 from rfl, pk_mul, nI_add]
    try dsimp only
    rw [ej, nI_clamp (show 6 * sw + n < 2 ^ 31 by omega), e3]
    refine ⟨pk_in (6 * sw + n) 120 hj, ?_⟩
    try dsimp only
    refine ff_choose b3 (by omega) hN1 (by omega) hM (ff_D_l (by omega) hD1) (ff_D_X hN.1 hX1 hr) (fun r2 k2 lv2 fn2 fc2 dp2 a112 a122 a142 a182 a192 a202 a212 a222 a232 a242 a252 a262 a272 hN2 hk2 hX2 hM2 hD2 => nm_r (ff_dn n) ?_)
    refine ih r2 (s + 1) k2 lv2 fn2 fc2 dp2 _ a112 a122 a142 a182 a192 a202 a212 a222 a232 a242 a252 a262 a272 (by omega) hN2 (by omega) hM2 (by omega) (ff_D_f (fun h _ => ?_) hD2) H
    have e : cnt - n = (cnt - (n + 1)) + 1 := by omega
    rw [e, ff_pick, show cnt - (cnt - (n + 1) + 1) = n by omega]
    unfold ff_sel
    by_cases c : ff_mb (mt (6 * sw + n)) h 6 = true
    · try dsimp only
      rw [if_pos c, if_pos c, if_neg (by omega)]
      omega
    · try dsimp only
      rw [if_neg c, if_neg c]
theorem ff_deciding {post : Int32 → St1 → Prop} {act opl ohd fn fc kd dp gt : Int32} {a1 a2 a3 a4 a5 a6 a7 a8 a9 a10 a11 a12 a13 a14 a15 a16 a17 a18 a19 a20 a21 a22 a23 a24 a25 a26 a27 : Nat → Int32} {lk rc mt ac ch : Nat → Nat} {sw i s : Nat} (hA : ff_CA a1 a2 a3 a4 a5 lk rc mt ac ch) (hsw : sw < 5) (hi : i < 6) (hs : s + 6 < 2 ^ 31) (hM : ff_Mf a23 s)
    (H0 : rc sw ≤ i → post (-1) (act, opl, ohd, fn, fc, kd, dp, gt, nI s, a1, a2, a3, a4, a5, a6, a7, a8, a9, a10, a11, a12, a13, a14, a15, a16, a17, a18, a19, a20, a21, a22, a23, a24, a25, a26, a27))
    (H : i < rc sw → ∀ (s' : Nat) (fn' fc' kd' dp' gt' : Int32) (a11' a12' a13' a14' a15' a16' a17' a18' a19' a20' a21' a22' a23' a24' a25' a26' a27' : Nat → Int32), ff_Mf a23' s' → s' ≤ s + 6 → post (nI (ff_cn (fun h => ff_dc rc mt sw h == i))) (act, opl, ohd, fn', fc', kd', dp', gt', nI s', a1, a2, a3, a4, a5, a6, a7, a8, a9, a10, a11', a12', a13', a14', a15', a16', a17', a18', a19', a20', a21', a22', a23', a24', a25', a26', a27')) :
    wpX_deciding post (act, opl, ohd, fn, fc, kd, dp, gt, nI s, a1, a2, a3, a4, a5, a6, a7, a8, a9, a10, a11, a12, a13, a14, a15, a16, a17, a18, a19, a20, a21, a22, a23, a24, a25, a26, a27) (nI sw) (nI i) := by
  have hr := hA.2.2.2.1 sw (by omega)
  unfold wpX_deciding
  try dsimp only
  refine ff_isRule hsw (by omega) (hA.2.1 sw (by omega)) hr (fun z => br_t rfl (H0 z)) (fun z => br_f (by decide) (ff_reset (V := 4096) (fun a120 a140 hN0 => ?_)))
  try dsimp only
  rw [ff_q_leaf3]
  refine ff_leaf (v := 6) hN0 (by omega) (by omega) (by omega) (fun b fn1 fc1 a111 a121 a141 lv1 k1 hD1 hN1 hk1 hX1 => ?_)
  try dsimp only
  refine ⟨pk_in sw 20 (by omega), nm_r (by rw [nI_clamp (by omega), hA.2.1 sw (by omega)]) ⟨rc sw + 1, ?_⟩⟩
  try dsimp only
  refine ff_dec_32 (s0 := s) hA hsw hr (by omega) hs (rc sw) b s k1 lv1 fn1 fc1 dp gt a111 a121 a141 a18 a19 a20 a21 a22 a23 a24 a25 a26 a27 (Nat.le_refl _) hN1 (by omega) hM (by omega) (ff_D_l (by omega) (ff_D_f (fun h _ => ?_) hD1)) (H z)
  try dsimp only
  rw [Nat.sub_self]
  rfl
/-! ===== needless ===== -/
def ff_tv (ac ch : Nat → Nat) (j h : Nat) : Nat := if ac j = 4 then 256 else 64 * ac j + ff_chg (ch j) h
def ff_T (rc mt ac ch : Nat → Nat) (sw wo h : Nat) : Nat := ff_sel 256 (fun j => ff_tv ac ch j h) (ff_pick (fun j => decide (j ≠ wo) && ff_mb (mt j) h 6) (6 * sw) (rc sw) (rc sw))
def ff_Ly (a11 : Nat → Int32) (lv : Nat → Prop) (a17 : Nat → Int32) (l lo hi : Nat) (val : Nat → Nat) : Prop := ∀ k, lo ≤ k → k < hi → ∃ y, a17 k = nI y ∧ ff_D a11 lv l y (fun h => val (k * 2 ^ (6 - l) + h % 2 ^ (6 - l)))
theorem ff_Ly_X {a a' : Nat → Int32} {lv lv' : Nat → Prop} {V l lo hi : Nat} {b : Nat → Int32} {val : Nat → Nat} (w : ff_Wf a lv V) (X : ff_X a lv a' lv') (h : ff_Ly a lv b l lo hi val) : ff_Ly a' lv' b l lo hi val := fun k h1 h2 => by
  obtain ⟨y, e, d⟩ := h k h1 h2
  exact ⟨y, e, ff_D_X w X d⟩
theorem ff_bitmod (h m : Nat) : h % 2 ^ (m + 1) = (if h.testBit m then 2 ^ m else 0) + h % 2 ^ m := by
  rw [Nat.mod_pow_succ, ff_tb]
  cases h.testBit m
  · simp
  · simp [Nat.add_comm]
theorem ff_join (val : Nat → Nat) (k h m : Nat) : (if h.testBit m then val ((2 * k + 1) * 2 ^ m + h % 2 ^ m) else val (2 * k * 2 ^ m + h % 2 ^ m)) = val (k * 2 ^ (m + 1) + h % 2 ^ (m + 1)) := by
  rw [ff_bitmod, Nat.pow_succ]
  have e1 : (2 * k + 1) * 2 ^ m = k * (2 ^ m * 2) + 2 ^ m := by rw [Nat.add_mul, Nat.one_mul, Nat.mul_comm 2 k, Nat.mul_assoc, Nat.mul_comm 2 (2 ^ m)]
  have e2 : 2 * k * 2 ^ m = k * (2 ^ m * 2) := by rw [Nat.mul_comm 2 k, Nat.mul_assoc, Nat.mul_comm 2 (2 ^ m)]
  cases h.testBit m
  · try dsimp only
    rw [e2]
    simp
  · try dsimp only
    rw [e1]
    simp [Nat.add_assoc]
theorem ff_tr_72 {post : Int32 → St1 → Prop} {act opl ohd kd dp gt st : Int32} {a1 a2 a3 a4 a5 a6 a7 a8 a9 a10 a13 a15 a16 a18 a19 a20 a21 a22 a23 a24 a25 a26 a27 : Nat → Int32} {J : Int32 → Int32 → Int32 → Int32 → Int32 → Int32 → Int32 → Int32 → Int32 → Int32 → (Nat → Int32) → (Nat → Int32) → (Nat → Int32) → (Nat → Int32) → (Nat → Int32) → (Nat → Int32) → (Nat → Int32) → (Nat → Int32) → (Nat → Int32) → (Nat → Int32) → (Nat → Int32) → (Nat → Int32) → (Nat → Int32) → (Nat → Int32) → (Nat → Int32) → (Nat → Int32) → (Nat → Int32) → (Nat → Int32) → (Nat → Int32) → (Nat → Int32) → (Nat → Int32) → (Nat → Int32) → (Nat → Int32) → (Nat → Int32) → (Nat → Int32) → (Nat → Int32) → (Nat → Int32) → Prop}
    {l k0 : Nat} {val : Nat → Nat} {a0 : Nat → Int32} {lv0 : Nat → Prop} (hl : l < 6)
    (H : ∀ (k' : Nat) (lv' : Nat → Prop) (fn' fc' : Int32) (a11' a12' a14' a17' : Nat → Int32), ff_NS a11' a12' a14' fn' fc' lv' k' 4096 → k0 ≤ k' → ff_X a0 lv0 a11' lv' → ff_Ly a11' lv' a17' l 0 (2 ^ l) val → J (nI l - 1) act opl ohd fn' fc' kd dp gt st a1 a2 a3 a4 a5 a6 a7 a8 a9 a10 a11' a12' a13 a14' a15 a16 a17' a18 a19 a20 a21 a22 a23 a24 a25 a26 a27) :
    ∀ (m i k : Nat) (lv : Nat → Prop) (fn fc : Int32) (a11 a12 a14 a17 : Nat → Int32), i + m = 2 ^ l → ff_NS a11 a12 a14 fn fc lv k 4096 → k0 + m ≤ k → ff_X a0 lv0 a11 lv → ff_Ly a11 lv a17 l 0 i val → ff_Ly a11 lv a17 (l + 1) (2 * i) (2 ^ (l + 1)) val →
    wX_treatment_72 post J (nI l) (m + 1) (nI i) act opl ohd fn fc kd dp gt st a1 a2 a3 a4 a5 a6 a7 a8 a9 a10 a11 a12 a13 a14 a15 a16 a17 a18 a19 a20 a21 a22 a23 a24 a25 a26 a27 := by
  have hp : 2 ^ (l + 1) = 2 * 2 ^ l := by rw [Nat.pow_succ]; omega
  have h32 : 2 ^ l ≤ 32 := Nat.pow_le_pow_right (n := 2) (by omega) (show l ≤ 5 by omega)
  have e1 : (1 : Int32) <<< (nI l &&& 31) = nI (2 ^ l) := by
    rw [show (1 : Int32) = nI 1 from rfl, pk_shlN _ l (ff_sl l (by omega)) (by omega), Nat.one_mul]
  intro m
  induction m with
  | zero =>
    intro i k lv fn fc a11 a12 a14 a17 hi hN hk hX0 h1 h2
    refine pk_le (2 ^ l) i (fun _ => nm_r (ff_dn l) (H k lv fn fc a11 a12 a14 a17 hN (by omega) hX0 ?_)) (fun z => absurd z (by omega)) e1
    try dsimp only
    rw [← hi]
    exact h1
  | succ m ih =>
    intro i k lv fn fc a11 a12 a14 a17 hi hN hk hX0 h1 h2
    refine pk_le (2 ^ l) i (fun z => absurd z (by omega)) (fun _ => ?_) e1
    obtain ⟨y0, g0, d0⟩ := h2 (2 * i) (by omega) (by omega)
    obtain ⟨y1, g1, d1⟩ := h2 (2 * i + 1) (by omega) (by omega)
    have f0 : (2 : Int32) * nI i = nI (2 * i) := pk_mul 2 i
    rw [f0, nI_1, nI_clamp (show 2 * i < 2 ^ 31 by omega), nI_clamp (show 2 * i + 1 < 2 ^ 31 by omega), g0, g1, ff_q_node3]
    refine ⟨pk_in (2 * i) 64 (by omega), pk_in (2 * i + 1) 64 (by omega), ff_node hN (by omega) hl d0 d1 (fun n fn' fc' a11' a12' a14' lv' k' hD hN' hk' hX => ?_)⟩
    try dsimp only
    refine ⟨pk_in i 64 (by omega), nm_r (by rw [nI_clamp (by omega)]) (nm_r (nI_1 i) (ih (i + 1) k' lv' fn' fc' a11' a12' a14' _ (by omega) hN' (by omega) (ff_X_t hX0 hX) (fun j hj1 hj2 => ?_) (fun j hj1 hj2 => ?_)))⟩
    · by_cases e : j = i
      · try dsimp only
        rw [e, pk_us]
        refine ⟨n, rfl, ff_D_f (fun h _ => ?_) hD⟩
        have e6 : 6 - l = (5 - l) + 1 := by omega
        have e5 : 6 - (l + 1) = 5 - l := by omega
        rw [e5, e6]
        exact ff_join val i h (5 - l)
      · try dsimp only
        rw [pk_un e]
        exact ff_Ly_X hN.1 hX h1 j hj1 (by omega)
    · try dsimp only
      rw [pk_un (by omega)]
      exact ff_Ly_X hN.1 hX h2 j (by omega) hj2
theorem ff_tr_66 {post : Int32 → St1 → Prop} {act opl ohd kd dp gt st : Int32} {a1 a2 a3 a4 a5 a6 a7 a8 a9 a10 a13 a15 a16 a18 a19 a20 a21 a22 a23 a24 a25 a26 a27 : Nat → Int32} {k0 : Nat} {val : Nat → Nat} {a0 : Nat → Int32} {lv0 : Nat → Prop}
    (H : ∀ (n k' : Nat) (lv' : Nat → Prop) (fn' fc' : Int32) (a11' a12' a14' a17' : Nat → Int32), ff_NS a11' a12' a14' fn' fc' lv' k' 4096 → k0 ≤ k' → ff_X a0 lv0 a11' lv' → ff_D a11' lv' 0 n val → post (nI n) (act, opl, ohd, fn', fc', kd, dp, gt, st, a1, a2, a3, a4, a5, a6, a7, a8, a9, a10, a11', a12', a13, a14', a15, a16, a17', a18, a19, a20, a21, a22, a23, a24, a25, a26, a27)) :
    ∀ (l k : Nat) (lv : Nat → Prop) (fn fc : Int32) (a11 a12 a14 a17 : Nat → Int32), l ≤ 6 → ff_NS a11 a12 a14 fn fc lv k 4096 → k0 + 2 ^ l ≤ k + 1 → ff_X a0 lv0 a11 lv → ff_Ly a11 lv a17 l 0 (2 ^ l) val →
    wX_treatment_66 post (l + 1) (nI l - 1) act opl ohd fn fc kd dp gt st a1 a2 a3 a4 a5 a6 a7 a8 a9 a10 a11 a12 a13 a14 a15 a16 a17 a18 a19 a20 a21 a22 a23 a24 a25 a26 a27 := by
  intro l
  induction l with
  | zero =>
    intro k lv fn fc a11 a12 a14 a17 hl hN hk hX0 hL
    obtain ⟨y, g, d⟩ := hL 0 (by omega) (by decide)
    refine br_t (by decide) ?_
    try dsimp only
    rw [g]
    refine H y k lv fn fc a11 a12 a14 a17 hN (by omega) hX0 (ff_D_f (fun h hh => ?_) d)
    show val (0 * 2 ^ 6 + h % 2 ^ 6) = val h
    rw [Nat.zero_mul, Nat.zero_add, Nat.mod_eq_of_lt (show h < 2 ^ 6 from hh)]
  | succ l ih =>
    intro k lv fn fc a11 a12 a14 a17 hl hN hk hX0 hL
    have hp : 2 ^ (l + 1) = 2 * 2 ^ l := by rw [Nat.pow_succ]; omega
    rw [nI_pred]
    refine br_f (nI_pos (by omega)) ⟨2 ^ l + 1, ff_tr_72 (k0 := k0 + 2 ^ l - 1) (val := val) (by omega) (fun k' lv' fn' fc' a11' a12' a14' a17' hN' hk' hX' hL' => ?_) (2 ^ l) 0 k lv fn fc a11 a12 a14 a17 (by omega) hN (by omega) hX0 (fun j h1 h2 => absurd h2 (by omega)) hL⟩
    exact ih k' lv' fn' fc' a11' a12' a14' a17' (by omega) hN' (by omega) hX' hL'
theorem ff_tr_20 {post : Int32 → St1 → Prop} {act opl ohd kd dp gt st : Int32} {a1 a2 a3 a4 a5 a6 a7 a8 a9 a10 a13 a15 a16 a18 a19 a20 a21 a22 a23 a24 a25 a26 a27 : Nat → Int32} {lk rc mt ac ch : Nat → Nat} {j k0 : Nat} {a0 : Nat → Int32} {lv0 : Nat → Prop} (hA : ff_CA a1 a2 a3 a4 a5 lk rc mt ac ch) (hj : j < 120)
    (H : ∀ (n k' : Nat) (lv' : Nat → Prop) (fn' fc' : Int32) (a11' a12' a14' a17' : Nat → Int32), ff_NS a11' a12' a14' fn' fc' lv' k' 4096 → k0 ≤ k' → ff_X a0 lv0 a11' lv' → ff_D a11' lv' 0 n (fun h => 64 * ac j + ff_chg (ch j) h) → post (nI n) (act, opl, ohd, fn', fc', kd, dp, gt, st, a1, a2, a3, a4, a5, a6, a7, a8, a9, a10, a11', a12', a13, a14', a15, a16, a17', a18, a19, a20, a21, a22, a23, a24, a25, a26, a27)) :
    ∀ (m i k : Nat) (lv : Nat → Prop) (fn fc : Int32) (a11 a12 a14 a17 : Nat → Int32), i + m = 64 → ff_NS a11 a12 a14 fn fc lv k 4096 → k0 + 63 + m ≤ k → ff_X a0 lv0 a11 lv → ff_Ly a11 lv a17 6 0 i (fun h => 64 * ac j + ff_chg (ch j) h) →
    wX_treatment_20 post (nI j) (m + 1) (nI i) act opl ohd fn fc kd dp gt st a1 a2 a3 a4 a5 a6 a7 a8 a9 a10 a11 a12 a13 a14 a15 a16 a17 a18 a19 a20 a21 a22 a23 a24 a25 a26 a27 := by
  obtain ⟨_, e4, e5⟩ := hA.2.2.1 _ hj
  obtain ⟨_, b4, b5⟩ := hA.2.2.2.2 _ hj
  have ij : vp_in (nI j) 120 := pk_in j 120 hj
  have ej : (nI j).toNatClampNeg = j := nI_clamp (by omega)
  intro m
  induction m with
  | zero =>
    intro i k lv fn fc a11 a12 a14 a17 hi hN hk hX0 hL
    refine pk_le 64 i (fun _ => ⟨7, ff_tr_66 (k0 := k0) H 6 k lv fn fc a11 a12 a14 a17 (by omega) hN (by omega) hX0 ?_⟩) (fun z => absurd z (by omega))
    have e : i = 64 := by omega
    rw [e] at hL
    exact hL
  | succ m ih =>
    intro i k lv fn fc a11 a12 a14 a17 hi hN hk hX0 hL
    have hi64 : i < 64 := by omega
    have hc := ff_chg_lt (ch j) hi64
    refine pk_le 64 i (fun z => absurd z (by omega)) (fun _ => ⟨ij, ?_⟩)
    try dsimp only
    rw [ej, e5]
    unfold wpX_changed
    try dsimp only
    refine nm_e ⟨ij, ?_⟩
    try dsimp only
    rw [ff_i_chg b5 hi64, e4, ff_q_leaf4, show (64 : Int32) * nI (ac j) + nI (ff_chg (ch j) i) = nI (64 * ac j + ff_chg (ch j) i) by rw [show (64 : Int32) = nI 64 from rfl, pk_mul, nI_add]]
    refine ff_leaf hN (by omega) (by omega) (by omega) (fun n fn' fc' a11' a12' a14' lv' k' hD hN' hk' hX => ?_)
    try dsimp only
    refine ⟨pk_in i 64 hi64, nm_r (by rw [nI_clamp (by omega)]) (nm_r (nI_1 i) (ih (i + 1) k' lv' fn' fc' a11' a12' a14' _ (by omega) hN' (by omega) (ff_X_t hX0 hX) (fun q hq1 hq2 => ?_)))⟩
    try dsimp only
    by_cases e : q = i
    · try dsimp only
      rw [e, pk_us]
      refine ⟨n, rfl, ff_D_f (fun h _ => ?_) hD⟩
      try dsimp only
      rw [show 6 - 6 = 0 from rfl, Nat.pow_zero, Nat.mul_one, Nat.mod_one, Nat.add_zero]
    · try dsimp only
      rw [pk_un e]
      exact ff_Ly_X hN.1 hX hL q hq1 (by omega)
theorem ff_treatment {post : Int32 → St1 → Prop} {act opl ohd fn fc kd dp gt st : Int32} {a1 a2 a3 a4 a5 a6 a7 a8 a9 a10 a11 a12 a13 a14 a15 a16 a17 a18 a19 a20 a21 a22 a23 a24 a25 a26 a27 : Nat → Int32} {lv : Nat → Prop} {lk rc mt ac ch : Nat → Nat} {j k : Nat} (hA : ff_CA a1 a2 a3 a4 a5 lk rc mt ac ch) (hj : j < 120) (hN : ff_NS a11 a12 a14 fn fc lv k 4096) (hk : 127 ≤ k)
    (H : ∀ (n k' : Nat) (lv' : Nat → Prop) (fn' fc' : Int32) (a11' a12' a14' a17' : Nat → Int32), ff_NS a11' a12' a14' fn' fc' lv' k' 4096 → k ≤ k' + 127 → ff_X a11 lv a11' lv' → ff_D a11' lv' 0 n (ff_tv ac ch j) → post (nI n) (act, opl, ohd, fn', fc', kd, dp, gt, st, a1, a2, a3, a4, a5, a6, a7, a8, a9, a10, a11', a12', a13, a14', a15, a16, a17', a18, a19, a20, a21, a22, a23, a24, a25, a26, a27)) :
    wpX_treatment post (act, opl, ohd, fn, fc, kd, dp, gt, st, a1, a2, a3, a4, a5, a6, a7, a8, a9, a10, a11, a12, a13, a14, a15, a16, a17, a18, a19, a20, a21, a22, a23, a24, a25, a26, a27) (nI j) := by
  obtain ⟨_, e4, e5⟩ := hA.2.2.1 _ hj
  obtain ⟨_, b4, b5⟩ := hA.2.2.2.2 _ hj
  unfold wpX_treatment
  try dsimp only
  refine ⟨pk_in j 120 hj, ?_⟩
  try dsimp only
  rw [nI_clamp (show j < 2 ^ 31 by omega), e4]
  refine pk_eq (ac j) 4 (fun e => ?_) (fun e => ?_)
  · try dsimp only
    rw [ff_q_leaf3]
    refine ff_leaf (v := 256) hN (by omega) (by omega) (by omega) (fun n fn' fc' a11' a12' a14' lv' k' hD hN' hk' hX => ?_)
    refine H n k' lv' fn' fc' a11' a12' a14' a17 hN' (by omega) hX (ff_D_l (by omega) (ff_D_f (fun h _ => ?_) hD))
    unfold ff_tv
    try dsimp only
    rw [if_pos e]
  · refine ⟨65, ff_tr_20 (k0 := k - 127) (a0 := a11) (lv0 := lv) hA hj (fun n k' lv' fn' fc' a11' a12' a14' a17' hN' hk' hX hD => H n k' lv' fn' fc' a11' a12' a14' a17' hN' (by omega) hX (ff_D_f (fun h _ => ?_) hD)) 64 0 k lv fn fc a11 a12 a14 a17 (by omega) hN (by omega) (ff_X_r a11 lv) (fun q h1 h2 => absurd h2 (by omega))⟩
    unfold ff_tv
    try dsimp only
    rw [if_neg e]
theorem ff_tm_18 {post : Int32 → St1 → Prop} {act opl ohd kd : Int32} {a1 a2 a3 a4 a5 a6 a7 a8 a9 a10 a13 a15 a16 : Nat → Int32} {sw s0 cnt wo : Nat} {woi : Int32} {lk rc mt ac ch : Nat → Nat} {a0 : Nat → Int32} {lv0 : Nat → Prop} (hA : ff_CA a1 a2 a3 a4 a5 lk rc mt ac ch) (hsw : sw < 5) (hcnt : cnt ≤ 6) (hwo : (wo = 120 ∧ woi = -1) ∨ ∃ i, i < 6 ∧ wo = 6 * sw + i ∧ woi = nI i) (hs0 : s0 + 6 < 2 ^ 31) :
    ∀ (n r s k : Nat) (lv : Nat → Prop) (fn fc dp gt : Int32) (a17 a11 a12 a14 a18 a19 a20 a21 a22 a23 a24 a25 a26 a27 : Nat → Int32), n ≤ cnt → ff_NS a11 a12 a14 fn fc lv k 4096 → 190 * n ≤ k → ff_X a0 lv0 a11 lv → ff_Mf a23 s → s + n ≤ s0 + 6 →
    ff_D a11 lv 0 r (fun h => ff_sel 256 (fun j => ff_tv ac ch j h) (ff_pick (fun j => decide (j ≠ wo) && ff_mb (mt j) h 6) (6 * sw) cnt (cnt - n))) →
    (∀ (r k' s' : Nat) (lv' : Nat → Prop) (fn' fc' dp' gt' : Int32) (a17' a11' a12' a14' a18' a19' a20' a21' a22' a23' a24' a25' a26' a27' : Nat → Int32), ff_NS a11' a12' a14' fn' fc' lv' k' 4096 → k ≤ k' + 190 * n → ff_X a0 lv0 a11' lv' → ff_Mf a23' s' → s' ≤ s0 + 6 →
      ff_D a11' lv' 0 r (fun h => ff_sel 256 (fun j => ff_tv ac ch j h) (ff_pick (fun j => decide (j ≠ wo) && ff_mb (mt j) h 6) (6 * sw) cnt cnt)) → post (nI r) (act, opl, ohd, fn', fc', kd, dp', gt', nI s', a1, a2, a3, a4, a5, a6, a7, a8, a9, a10, a11', a12', a13, a14', a15, a16, a17', a18', a19', a20', a21', a22', a23', a24', a25', a26', a27')) →
    wX_treatments_18 post (nI sw) woi (n + 1) (nI r) (nI n - 1) act opl ohd fn fc kd dp gt (nI s) a1 a2 a3 a4 a5 a6 a7 a8 a9 a10 a11 a12 a13 a14 a15 a16 a17 a18 a19 a20 a21 a22 a23 a24 a25 a26 a27 := by
  intro n
  induction n with
  | zero =>
    intro r s k lv fn fc dp gt a17 a11 a12 a14 a18 a19 a20 a21 a22 a23 a24 a25 a26 a27 hn hN hk hX0 hM hs hr H
    refine br_t (by decide) ?_
    exact H r k s lv fn fc dp gt a17 a11 a12 a14 a18 a19 a20 a21 a22 a23 a24 a25 a26 a27 hN (by omega) hX0 hM (by omega) hr
  | succ n ih =>
    intro r s k lv fn fc dp gt a17 a11 a12 a14 a18 a19 a20 a21 a22 a23 a24 a25 a26 a27 hn hN hk hX0 hM hs hr H
    rw [nI_pred]
    have hj : 6 * sw + n < 120 := by omega
    obtain ⟨e3, _, _⟩ := hA.2.2.1 _ hj
    obtain ⟨b3, _, _⟩ := hA.2.2.2.2 _ hj
    have e : cnt - n = (cnt - (n + 1)) + 1 := by omega
    have eqw : nI n = woi ↔ 6 * sw + n = wo := by
      rcases hwo with ⟨g1, g2⟩ | ⟨i, g0, g1, g2⟩
      · try dsimp only
        rw [g1, g2]
        exact ⟨fun z => absurd (by rw [← z]; exact nI_pos' (by omega) : (0 : Int32) ≤ -1) (by decide), fun z => absurd z (by omega)⟩
      · try dsimp only
        rw [g1, g2, nI_eq (by omega) (by omega)]
        omega
    refine br_f (nI_pos (by omega)) (ek_if eqw (fun c => nm_r (ff_dn n) ?_) (fun c => ?_))
    · refine ih r s k lv fn fc dp gt a17 a11 a12 a14 a18 a19 a20 a21 a22 a23 a24 a25 a26 a27 (by omega) hN (by omega) hX0 hM (by omega) (ff_D_f (fun h _ => ?_) hr)
        (fun r3 k3 s3 lv3 fn3 fc3 dp3 gt3 a173 a113 a123 a143 a183 a193 a203 a213 a223 a233 a243 a253 a263 a273 hN3 hk3 hX3 hM3 hs3 hD3 => H r3 k3 s3 lv3 fn3 fc3 dp3 gt3 a173 a113 a123 a143 a183 a193 a203 a213 a223 a233 a243 a253 a263 a273 hN3 (by omega) hX3 hM3 hs3 hD3)
      rw [e, ff_pick, show cnt - (cnt - (n + 1) + 1) = n by omega, decide_eq_false (fun z => z c), Bool.false_and, if_neg (by decide)]
    · have ej : (6 : Int32) * nI sw + nI n = nI (6 * sw + n) := by rw [show (6 : Int32) = nI 6 from rfl, pk_mul, nI_add]
      rw [ej, ff_q_choose2]
      refine ff_treatment hA hj hN (by omega) (fun b k1 lv1 fn1 fc1 a111 a121 a141 a171 hN1 hk1 hX1 hD1 => ?_)
      try dsimp only
      rw [nI_clamp (show 6 * sw + n < 2 ^ 31 by omega), e3]
      refine ⟨pk_in (6 * sw + n) 120 hj, ?_⟩
      try dsimp only
      refine ff_choose b3 (by omega) hN1 (by omega) hM hD1 (ff_D_X hN.1 hX1 hr) (fun r2 k2 lv2 fn2 fc2 dp2 a112 a122 a142 a182 a192 a202 a212 a222 a232 a242 a252 a262 a272 hN2 hk2 hX2 hM2 hD2 => nm_r (ff_dn n) ?_)
      refine ih r2 (s + 1) k2 lv2 fn2 fc2 dp2 _ a171 a112 a122 a142 a182 a192 a202 a212 a222 a232 a242 a252 a262 a272 (by omega) hN2 (by omega) (ff_X_t hX0 (ff_X_t hX1 hX2)) hM2 (by omega) (ff_D_f (fun h _ => ?_) hD2)
        (fun r3 k3 s3 lv3 fn3 fc3 dp3 gt3 a173 a113 a123 a143 a183 a193 a203 a213 a223 a233 a243 a253 a263 a273 hN3 hk3 hX3 hM3 hs3 hD3 => H r3 k3 s3 lv3 fn3 fc3 dp3 gt3 a173 a113 a123 a143 a183 a193 a203 a213 a223 a233 a243 a253 a263 a273 hN3 (by omega) hX3 hM3 hs3 hD3)
      rw [e, ff_pick, show cnt - (cnt - (n + 1) + 1) = n by omega, decide_eq_true c, Bool.true_and]
      unfold ff_sel
      by_cases cm : ff_mb (mt (6 * sw + n)) h 6 = true
      · try dsimp only
        rw [if_pos cm, if_pos cm, if_neg (by omega)]
      · try dsimp only
        rw [if_neg cm, if_neg cm]
theorem ff_treatments {post : Int32 → St1 → Prop} {act opl ohd fn fc kd dp gt : Int32} {a1 a2 a3 a4 a5 a6 a7 a8 a9 a10 a11 a12 a13 a14 a15 a16 a17 a18 a19 a20 a21 a22 a23 a24 a25 a26 a27 : Nat → Int32} {lv : Nat → Prop} {lk rc mt ac ch : Nat → Nat} {sw k s wo : Nat} {woi : Int32} (hA : ff_CA a1 a2 a3 a4 a5 lk rc mt ac ch) (hsw : sw < 5) (hwo : (wo = 120 ∧ woi = -1) ∨ ∃ i, i < 6 ∧ wo = 6 * sw + i ∧ woi = nI i) (hs : s + 6 < 2 ^ 31) (hM : ff_Mf a23 s) (hN : ff_NS a11 a12 a14 fn fc lv k 4096) (hk : 1141 ≤ k)
    (H : ∀ (r k' s' : Nat) (lv' : Nat → Prop) (fn' fc' dp' gt' : Int32) (a17' a11' a12' a14' a18' a19' a20' a21' a22' a23' a24' a25' a26' a27' : Nat → Int32), ff_NS a11' a12' a14' fn' fc' lv' k' 4096 → k ≤ k' + 1141 → ff_X a11 lv a11' lv' → ff_Mf a23' s' → s' ≤ s + 6 → ff_D a11' lv' 0 r (ff_T rc mt ac ch sw wo) → post (nI r) (act, opl, ohd, fn', fc', kd, dp', gt', nI s', a1, a2, a3, a4, a5, a6, a7, a8, a9, a10, a11', a12', a13, a14', a15, a16, a17', a18', a19', a20', a21', a22', a23', a24', a25', a26', a27')) :
    wpX_treatments post (act, opl, ohd, fn, fc, kd, dp, gt, nI s, a1, a2, a3, a4, a5, a6, a7, a8, a9, a10, a11, a12, a13, a14, a15, a16, a17, a18, a19, a20, a21, a22, a23, a24, a25, a26, a27) (nI sw) woi := by
  have hr := hA.2.2.2.1 sw (by omega)
  unfold wpX_treatments
  try dsimp only
  rw [ff_q_leaf3]
  refine ff_leaf (v := 256) hN (by omega) (by omega) (by omega) (fun b fn1 fc1 a111 a121 a141 lv1 k1 hD1 hN1 hk1 hX1 => ?_)
  try dsimp only
  refine ⟨pk_in sw 20 (by omega), nm_r (by rw [nI_clamp (by omega), hA.2.1 sw (by omega)]) ⟨rc sw + 1, ?_⟩⟩
  try dsimp only
  refine ff_tm_18 (s0 := s) (a0 := a11) (lv0 := lv) hA hsw hr hwo hs (rc sw) b s k1 lv1 fn1 fc1 dp gt a17 a111 a121 a141 a18 a19 a20 a21 a22 a23 a24 a25 a26 a27 (Nat.le_refl _) hN1 (by omega) hX1 hM (by omega) (ff_D_l (by omega) (ff_D_f (fun h _ => ?_) hD1))
    (fun r3 k3 s3 lv3 fn3 fc3 dp3 gt3 a173 a113 a123 a143 a183 a193 a203 a213 a223 a233 a243 a253 a263 a273 hN3 hk3 hX3 hM3 hs3 hD3 => H r3 k3 s3 lv3 fn3 fc3 dp3 gt3 a173 a113 a123 a143 a183 a193 a203 a213 a223 a233 a243 a253 a263 a273 hN3 (by omega) hX3 hM3 hs3 hD3)
  rw [Nat.sub_self]
  rfl
theorem ff_needless {post : Int32 → St1 → Prop} {act opl ohd fn fc kd dp gt : Int32} {a1 a2 a3 a4 a5 a6 a7 a8 a9 a10 a11 a12 a13 a14 a15 a16 a17 a18 a19 a20 a21 a22 a23 a24 a25 a26 a27 : Nat → Int32} {lk rc mt ac ch : Nat → Nat} {sw i s : Nat} (hA : ff_CA a1 a2 a3 a4 a5 lk rc mt ac ch) (hsw : sw < 5) (hi : i < 6) (hs : s + 12 < 2 ^ 31) (hM : ff_Mf a23 s)
    (H0 : rc sw ≤ i → post (-1) (act, opl, ohd, fn, fc, kd, dp, gt, nI s, a1, a2, a3, a4, a5, a6, a7, a8, a9, a10, a11, a12, a13, a14, a15, a16, a17, a18, a19, a20, a21, a22, a23, a24, a25, a26, a27))
    (H : i < rc sw → ∀ (s' : Nat) (rr : Nat) (fn' fc' kd' dp' gt' : Int32) (a11' a12' a13' a14' a15' a16' a17' a18' a19' a20' a21' a22' a23' a24' a25' a26' a27' : Nat → Int32), ff_Mf a23' s' → s' ≤ s + 12 → rr ≤ 1 → (rr = 1 ↔ ∀ h, h < 64 → ff_T rc mt ac ch sw 120 h = ff_T rc mt ac ch sw (6 * sw + i) h) → post (nI rr) (act, opl, ohd, fn', fc', kd', dp', gt', nI s', a1, a2, a3, a4, a5, a6, a7, a8, a9, a10, a11', a12', a13', a14', a15', a16', a17', a18', a19', a20', a21', a22', a23', a24', a25', a26', a27')) :
    wpX_needless post (act, opl, ohd, fn, fc, kd, dp, gt, nI s, a1, a2, a3, a4, a5, a6, a7, a8, a9, a10, a11, a12, a13, a14, a15, a16, a17, a18, a19, a20, a21, a22, a23, a24, a25, a26, a27) (nI sw) (nI i) := by
  have hr := hA.2.2.2.1 sw (by omega)
  unfold wpX_needless
  try dsimp only
  refine ff_isRule hsw (by omega) (hA.2.1 sw (by omega)) hr (fun z => br_t rfl (H0 z)) (fun z => br_f (by decide) (ff_reset (V := 4096) (fun a120 a140 hN0 => ?_)))
  try dsimp only
  refine ff_treatments (wo := 120) hA hsw (Or.inl ⟨rfl, rfl⟩) (by omega) hM hN0 (by omega) (fun r1 k1 s1 lv1 fn1 fc1 dp1 gt1 a171 a111 a121 a141 a181 a191 a201 a211 a221 a231 a241 a251 a261 a271 hN1 hk1 hX1 hM1 hs1 hD1 => ?_)
  try dsimp only
  refine ff_treatments (wo := 6 * sw + i) hA hsw (Or.inr ⟨i, hi, rfl, rfl⟩) (by omega) hM1 hN1 (by omega) (fun r2 k2 s2 lv2 fn2 fc2 dp2 gt2 a172 a112 a122 a142 a182 a192 a202 a212 a222 a232 a242 a252 a262 a272 hN2 hk2 hX2 hM2 hs2 hD2 => ?_)
  have hD1' := ff_D_X hN1.1 hX2 hD1
  have b1 := (hN2.1 r1 hD1'.1).1
  have b2 := (hN2.1 r2 hD2.1).1
  refine pk_eq r1 r2 (fun e => ?_) (fun e => ?_)
  · refine H z s2 1 _ _ _ _ _ _ _ _ _ _ _ _ _ _ _ _ _ _ _ _ _ _ hM2 (by omega) (by omega) ⟨fun _ h hh => ?_, fun _ => rfl⟩
    try dsimp only
    rw [← hD1'.2.2 h hh, ← hD2.2.2 h hh, e]
  · refine H z s2 0 _ _ _ _ _ _ _ _ _ _ _ _ _ _ _ _ _ _ _ _ _ _ hM2 (by omega) (by omega) ⟨fun z => absurd z (by omega), fun g => absurd (ff_can0 hN2.1 hN2.2.1 hD1'.1 hD2.1 (fun h hh => ?_)) e⟩
    try dsimp only
    rw [hD1'.2.2 h hh, hD2.2.2 h hh, g h hh]
end
section
/-! ===== what changes the fabric ===== -/
def ff_R3 (a3 a4 a5 : Nat → Int32) (M A C : Nat → Nat) : Prop := ∀ j, j < 120 → a3 j = nI (M j) ∧ a4 j = nI (A j) ∧ a5 j = nI (C j)
theorem ff_R3_c {a3 a4 a5 : Nat → Int32} {M A C M' A' C' : Nat → Nat} (h : ff_R3 a3 a4 a5 M A C) (e : ∀ j, j < 120 → M j = M' j ∧ A j = A' j ∧ C j = C' j) : ff_R3 a3 a4 a5 M' A' C' := fun j hj => by
  obtain ⟨e1, e2, e3⟩ := e j hj
  rw [← e1, ← e2, ← e3]
  exact h j hj
def ff_cp (M : Nat → Nat) (f t : Nat) : Nat → Nat := fun j => if j = t then M f else M j
theorem ff_copyRule {post : St1 → Prop} {act opl ohd fn fc kd dp gt st : Int32} {a1 a2 a3 a4 a5 a6 a7 a8 a9 a10 a11 a12 a13 a14 a15 a16 a17 a18 a19 a20 a21 a22 a23 a24 a25 a26 a27 : Nat → Int32} {M A C : Nat → Nat} {f t : Nat} (h : ff_R3 a3 a4 a5 M A C) (hf : f < 120) (ht : t < 120)
    (H : ∀ a3' a4' a5' : Nat → Int32, ff_R3 a3' a4' a5' (ff_cp M f t) (ff_cp A f t) (ff_cp C f t) → post (act, opl, ohd, fn, fc, kd, dp, gt, st, a1, a2, a3', a4', a5', a6, a7, a8, a9, a10, a11, a12, a13, a14, a15, a16, a17, a18, a19, a20, a21, a22, a23, a24, a25, a26, a27)) : wpX_copyRule post (act, opl, ohd, fn, fc, kd, dp, gt, st, a1, a2, a3, a4, a5, a6, a7, a8, a9, a10, a11, a12, a13, a14, a15, a16, a17, a18, a19, a20, a21, a22, a23, a24, a25, a26, a27) (nI f) (nI t) := by
  have ef : (nI f).toNatClampNeg = f := nI_clamp (by omega)
  have et : (nI t).toNatClampNeg = t := nI_clamp (by omega)
  have jf : vp_in (nI f) 120 := pk_in f 120 hf
  have jt : vp_in (nI t) 120 := pk_in t 120 ht
  unfold wpX_copyRule
  try dsimp only
  rw [ef, et]
  refine ⟨jf, jt, nm_e ⟨jf, jt, nm_e ⟨jf, jt, nm_e (H _ _ _ (fun j hj => ?_))⟩⟩⟩
  unfold ff_cp
  obtain ⟨e1, e2, e3⟩ := h f hf
  by_cases e : j = t
  · try dsimp only
    rw [e, pk_us, pk_us, pk_us, if_pos rfl, if_pos rfl, if_pos rfl]
    exact ⟨e1, e2, e3⟩
  · try dsimp only
    rw [pk_un e, pk_un e, pk_un e, if_neg e, if_neg e, if_neg e]
    exact h j hj
theorem ff_6 (l i : Nat) : (6 : Int32) * nI l + nI i = nI (6 * l + i) := by rw [show (6 : Int32) = nI 6 from rfl, pk_mul, nI_add]
theorem ff_5 (l i : Nat) : (5 : Int32) * nI l + nI i = nI (5 * l + i) := by rw [show (5 : Int32) = nI 5 from rfl, pk_mul, nI_add]
/-! links -/
def ff_lk2 (lk : Nat → Nat) (a x b y : Nat) : Nat → Nat := fun p => if p = b then y else if p = a then x else lk p
theorem ff_CA_lk {a1 a2 a3 a4 a5 : Nat → Int32} {lk rc mt ac ch : Nat → Nat} {a x b y : Nat} {v w : Int32} (h : ff_CA a1 a2 a3 a4 a5 lk rc mt ac ch) (hx : (x < 20 ∧ v = nI x) ∨ (20 ≤ x ∧ v = -1)) (hy : (y < 20 ∧ w = nI y) ∨ (20 ≤ y ∧ w = -1)) : ff_CA (upd (upd a1 a v) b w) a2 a3 a4 a5 (ff_lk2 lk a x b y) rc mt ac ch := by
  refine ⟨fun p hp => ?_, h.2⟩
  unfold ff_lk2
  by_cases e : p = b
  · try dsimp only
    rw [if_pos e, e, pk_us]
    exact hy
  · try dsimp only
    rw [if_neg e, pk_un e]
    by_cases e' : p = a
    · try dsimp only
      rw [if_pos e', e', pk_us]
      exact hx
    · try dsimp only
      rw [if_neg e', pk_un e']
      exact h.1 p hp
theorem ff_link {post : Int32 → St1 → Prop} {act opl ohd fn fc kd dp gt st : Int32} {a1 a2 a3 a4 a5 a6 a7 a8 a9 a10 a11 a12 a13 a14 a15 a16 a17 a18 a19 a20 a21 a22 a23 a24 a25 a26 a27 : Nat → Int32} {lk rc mt ac ch : Nat → Nat} {a b : Nat} (hA : ff_CA a1 a2 a3 a4 a5 lk rc mt ac ch) (ha : a < 20) (hb : b < 20)
    (H1 : a = b → post (-1) (act, opl, ohd, fn, fc, kd, dp, gt, st, a1, a2, a3, a4, a5, a6, a7, a8, a9, a10, a11, a12, a13, a14, a15, a16, a17, a18, a19, a20, a21, a22, a23, a24, a25, a26, a27)) (H2 : a ≠ b → (lk a < 20 ∨ lk b < 20) → post (-4) (act, opl, ohd, fn, fc, kd, dp, gt, st, a1, a2, a3, a4, a5, a6, a7, a8, a9, a10, a11, a12, a13, a14, a15, a16, a17, a18, a19, a20, a21, a22, a23, a24, a25, a26, a27))
    (H3 : a ≠ b → 20 ≤ lk a → 20 ≤ lk b → ∀ a1' : Nat → Int32, ff_CA a1' a2 a3 a4 a5 (ff_lk2 lk a b b a) rc mt ac ch → post 0 (act, opl, ohd, fn, fc, kd, dp, gt, st, a1', a2, a3, a4, a5, a6, a7, a8, a9, a10, a11, a12, a13, a14, a15, a16, a17, a18, a19, a20, a21, a22, a23, a24, a25, a26, a27)) : wpX_link post (act, opl, ohd, fn, fc, kd, dp, gt, st, a1, a2, a3, a4, a5, a6, a7, a8, a9, a10, a11, a12, a13, a14, a15, a16, a17, a18, a19, a20, a21, a22, a23, a24, a25, a26, a27) (nI a) (nI b) := by
  have ea : (nI a).toNatClampNeg = a := nI_clamp (by omega)
  have eb : (nI b).toNatClampNeg = b := nI_clamp (by omega)
  have ja : vp_in (nI a) 20 := pk_in a 20 ha
  have jb : vp_in (nI b) 20 := pk_in b 20 hb
  unfold wpX_link
  try dsimp only
  rw [ea, eb]
  refine ff_isPlace ha (br_f (by decide) (ff_isPlace hb (br_f (by decide) (pk_eq a b H1 (fun e => ⟨ja, ?_⟩)))))
  rcases hA.1 a ha with ⟨g1, g2⟩ | ⟨g1, g2⟩
  · try dsimp only
    rw [g2]
    exact br_t (nI_pos' (by omega)) (H2 e (Or.inl g1))
  · try dsimp only
    rw [g2]
    refine br_f (by decide) ⟨jb, ?_⟩
    rcases hA.1 b hb with ⟨k1, k2⟩ | ⟨k1, k2⟩
    · try dsimp only
      rw [k2]
      exact br_f (nI_pos (by omega)) (H2 e (Or.inr k1))
    · try dsimp only
      rw [k2]
      exact br_t (by decide) ⟨ja, nm_e ⟨jb, nm_e (H3 e g1 k1 _ (ff_CA_lk hA (Or.inl ⟨hb, rfl⟩) (Or.inl ⟨ha, rfl⟩)))⟩⟩
theorem ff_unlink {post : Int32 → St1 → Prop} {act opl ohd fn fc kd dp gt st : Int32} {a1 a2 a3 a4 a5 a6 a7 a8 a9 a10 a11 a12 a13 a14 a15 a16 a17 a18 a19 a20 a21 a22 a23 a24 a25 a26 a27 : Nat → Int32} {lk rc mt ac ch : Nat → Nat} {a : Nat} (hA : ff_CA a1 a2 a3 a4 a5 lk rc mt ac ch) (ha : a < 20)
    (H1 : 20 ≤ lk a → post (-2) (act, opl, ohd, fn, fc, kd, dp, gt, st, a1, a2, a3, a4, a5, a6, a7, a8, a9, a10, a11, a12, a13, a14, a15, a16, a17, a18, a19, a20, a21, a22, a23, a24, a25, a26, a27))
    (H3 : lk a < 20 → ∀ a1' : Nat → Int32, ff_CA a1' a2 a3 a4 a5 (ff_lk2 lk a 20 (lk a) 20) rc mt ac ch → post (nI (lk a)) (act, opl, ohd, fn, fc, kd, dp, gt, st, a1', a2, a3, a4, a5, a6, a7, a8, a9, a10, a11, a12, a13, a14, a15, a16, a17, a18, a19, a20, a21, a22, a23, a24, a25, a26, a27)) : wpX_unlink post (act, opl, ohd, fn, fc, kd, dp, gt, st, a1, a2, a3, a4, a5, a6, a7, a8, a9, a10, a11, a12, a13, a14, a15, a16, a17, a18, a19, a20, a21, a22, a23, a24, a25, a26, a27) (nI a) := by
  have ea : (nI a).toNatClampNeg = a := nI_clamp (by omega)
  have ja : vp_in (nI a) 20 := pk_in a 20 ha
  unfold wpX_unlink
  try dsimp only
  rw [ea]
  refine ff_isPlace ha (br_f (by decide) ⟨ja, ?_⟩)
  rcases hA.1 a ha with ⟨g1, g2⟩ | ⟨g1, g2⟩
  · refine nm_r g2 (br_t (nI_pos' (by omega)) ⟨ja, nm_e ⟨pk_in _ 20 g1, nm_r (by rw [nI_clamp (show lk a < 2 ^ 31 by omega)]) (H3 g1 _ (ff_CA_lk hA (Or.inr ⟨by omega, rfl⟩) (Or.inr ⟨by omega, rfl⟩)))⟩⟩)
  · exact nm_r g2 (br_f (by decide) (H1 g1))
/-! rules -/
def ff_up (f : Nat → Nat) (k x : Nat) : Nat → Nat := fun j => if j = k then x else f j
theorem ff_up_u {a : Nat → Int32} {f : Nat → Nat} {k x N : Nat} (h : ∀ j, j < N → a j = nI (f j)) : ∀ j, j < N → upd a k (nI x) j = nI (ff_up f k x j) := fun j hj => by
  unfold ff_up
  by_cases e : j = k
  · try dsimp only
    rw [if_pos e, e, pk_us]
  · try dsimp only
    rw [if_neg e, pk_un e]
    exact h j hj
theorem ff_add {post : Int32 → St1 → Prop} {act opl ohd fn fc kd dp gt st : Int32} {a1 a2 a3 a4 a5 a6 a7 a8 a9 a10 a11 a12 a13 a14 a15 a16 a17 a18 a19 a20 a21 a22 a23 a24 a25 a26 a27 : Nat → Int32} {lk rc mt ac ch : Nat → Nat} {sw m a c : Nat} (hA : ff_CA a1 a2 a3 a4 a5 lk rc mt ac ch) (hsw : sw < 5) (hm : m < 4096) (ha : a ≤ 5) (hc : c < 4096)
    (H1 : 6 ≤ rc sw → post (-3) (act, opl, ohd, fn, fc, kd, dp, gt, st, a1, a2, a3, a4, a5, a6, a7, a8, a9, a10, a11, a12, a13, a14, a15, a16, a17, a18, a19, a20, a21, a22, a23, a24, a25, a26, a27))
    (H3 : rc sw < 6 → ∀ a2' a3' a4' a5' : Nat → Int32, ff_CA a1 a2' a3' a4' a5' lk (ff_up rc sw (rc sw + 1)) (ff_up mt (6 * sw + rc sw) m) (ff_up ac (6 * sw + rc sw) a) (ff_up ch (6 * sw + rc sw) c) → post (nI (rc sw)) (act, opl, ohd, fn, fc, kd, dp, gt, st, a1, a2', a3', a4', a5', a6, a7, a8, a9, a10, a11, a12, a13, a14, a15, a16, a17, a18, a19, a20, a21, a22, a23, a24, a25, a26, a27)) : wpX_add post (act, opl, ohd, fn, fc, kd, dp, gt, st, a1, a2, a3, a4, a5, a6, a7, a8, a9, a10, a11, a12, a13, a14, a15, a16, a17, a18, a19, a20, a21, a22, a23, a24, a25, a26, a27) (nI sw) (nI m) (nI a) (nI c) := by
  obtain ⟨A1, A2, A3, A4, A5⟩ := hA
  have es : (nI sw).toNatClampNeg = sw := nI_clamp (by omega)
  have js : vp_in (nI sw) 20 := pk_in sw 20 (by omega)
  have hr := A4 sw (by omega)
  unfold wpX_add
  try dsimp only
  rw [es, A2 sw (by omega), ff_6]
  refine ff_isSwitch hsw (br_f (by decide) (br_f (nI_pos (by omega)) (br_f (nI_ge (b := 4096) hm (by omega)) (br_f (nI_pos (by omega)) (br_f (nI_nlt (a := 5) (b := a) ha (by omega)) (br_f (nI_pos (by omega)) (br_t (nI_lt (b := 4096) hc (by omega)) ⟨js, ?_⟩)))))))
  try dsimp only
  refine pk_lt (rc sw) 6 (fun z => ?_) H1
  have hj : 6 * sw + rc sw < 120 := by omega
  have jj : vp_in (nI (6 * sw + rc sw)) 120 := pk_in _ 120 hj
  have ej : (nI (6 * sw + rc sw)).toNatClampNeg = 6 * sw + rc sw := nI_clamp (by omega)
  refine ⟨js, nm_e ⟨jj, nm_r (by rw [ej]) ⟨jj, nm_r (by rw [ej]) ⟨jj, nm_r (by rw [ej]) ⟨js, js, nm_r (by rw [nI_1]) ⟨js, ?_⟩⟩⟩⟩⟩⟩
  try dsimp only
  rw [pk_us, nI_pred]
  refine H3 z _ _ _ _ ⟨A1, ff_up_u A2, fun j hj => ⟨ff_up_u (fun j hj => (A3 j hj).1) j hj, ff_up_u (fun j hj => (A3 j hj).2.1) j hj, ff_up_u (fun j hj => (A3 j hj).2.2) j hj⟩, fun l hl => ?_, fun j hj => ?_⟩
  · unfold ff_up
    split
    · omega
    · exact A4 l hl
  · obtain ⟨g1, g2, g3⟩ := A5 j hj
    unfold ff_up
    split
    · exact ⟨hm, ha, hc⟩
    · exact ⟨g1, g2, g3⟩
/-- the rules behind the i-th move up -/
def ff_sh (s i k : Nat) (M : Nat → Nat) : Nat → Nat := fun j => if 6 * s + i ≤ j ∧ j < 6 * s + k then M (j + 1) else M j
theorem ff_sh_s {s i k : Nat} (M : Nat → Nat) (hk : i ≤ k) (j : Nat) : ff_cp (ff_sh s i k M) (6 * s + k + 1) (6 * s + k) j = ff_sh s i (k + 1) M j := by
  unfold ff_cp ff_sh
  by_cases e : j = 6 * s + k
  · try dsimp only
    rw [if_pos e, if_neg (by omega), if_pos (by omega), e]
  · try dsimp only
    rw [if_neg e]
    by_cases c : 6 * s + i ≤ j ∧ j < 6 * s + k
    · try dsimp only
      rw [if_pos c, if_pos (by omega)]
    · try dsimp only
      rw [if_neg c, if_neg (by omega)]
theorem ff_sh_0 {s i : Nat} (M : Nat → Nat) (j : Nat) : ff_sh s i i M j = M j := by
  unfold ff_sh
  try dsimp only
  rw [if_neg (by omega)]
theorem ff_drop_23 {post : Int32 → St1 → Prop} {mt ac ch : Nat → Nat} {sw i r : Nat} {act opl ohd fn fc kd dp gt st : Int32} {a1 a2 a6 a7 a8 a9 a10 a11 a12 a13 a14 a15 a16 a17 a18 a19 a20 a21 a22 a23 a24 a25 a26 a27 : Nat → Int32} (hsw : sw < 5) (hr : r ≤ 5) (h2 : a2 sw = nI r)
    (H : ∀ a3' a4' a5' : Nat → Int32, ff_R3 a3' a4' a5' (ff_sh sw i r mt) (ff_sh sw i r ac) (ff_sh sw i r ch) → post (nI r) (act, opl, ohd, fn, fc, kd, dp, gt, st, a1, a2, a3', a4', a5', a6, a7, a8, a9, a10, a11, a12, a13, a14, a15, a16, a17, a18, a19, a20, a21, a22, a23, a24, a25, a26, a27)) :
    ∀ (m k : Nat) (a3 a4 a5 : Nat → Int32), k + m = r → i ≤ k → ff_R3 a3 a4 a5 (ff_sh sw i k mt) (ff_sh sw i k ac) (ff_sh sw i k ch) → wX_drop_23 post (nI sw) (m + 1) (nI k) act opl ohd fn fc kd dp gt st a1 a2 a3 a4 a5 a6 a7 a8 a9 a10 a11 a12 a13 a14 a15 a16 a17 a18 a19 a20 a21 a22 a23 a24 a25 a26 a27 := by
  have es : (nI sw).toNatClampNeg = sw := nI_clamp (by omega)
  have js : vp_in (nI sw) 20 := pk_in sw 20 (by omega)
  intro m
  induction m with
  | zero =>
    intro k a3 a4 a5 hk hi h
    have e : k = r := by omega
    subst e
    refine ⟨js, ?_⟩
    try dsimp only
    rw [es, h2]
    exact pk_le k k (fun _ => ⟨js, H a3 a4 a5 h⟩) (fun z => absurd z (by omega))
  | succ m ih =>
    intro k a3 a4 a5 hk hi h
    refine ⟨js, ?_⟩
    try dsimp only
    rw [es, h2]
    refine pk_le r k (fun z => absurd z (by omega)) (fun _ => ?_)
    try dsimp only
    rw [ff_6, nI_1 (6 * sw + k)]
    refine ff_copyRule h (by omega) (by omega) (fun a3' a4' a5' h' => nm_r (nI_1 k) (ih (k + 1) a3' a4' a5' (by omega) (by omega) (ff_R3_c h' (fun j _ => ⟨ff_sh_s _ hi j, ff_sh_s _ hi j, ff_sh_s _ hi j⟩))))
theorem ff_drop {post : Int32 → St1 → Prop} {act opl ohd fn fc kd dp gt st : Int32} {a1 a2 a3 a4 a5 a6 a7 a8 a9 a10 a11 a12 a13 a14 a15 a16 a17 a18 a19 a20 a21 a22 a23 a24 a25 a26 a27 : Nat → Int32} {lk rc mt ac ch : Nat → Nat} {sw i : Nat} (hA : ff_CA a1 a2 a3 a4 a5 lk rc mt ac ch) (hsw : sw < 5) (hi : i < 4)
    (H1 : rc sw ≤ i → post (-1) (act, opl, ohd, fn, fc, kd, dp, gt, st, a1, a2, a3, a4, a5, a6, a7, a8, a9, a10, a11, a12, a13, a14, a15, a16, a17, a18, a19, a20, a21, a22, a23, a24, a25, a26, a27))
    (H3 : i < rc sw → ∀ a2' a3' a4' a5' : Nat → Int32, ff_CA a1 a2' a3' a4' a5' lk (ff_up rc sw (rc sw - 1)) (ff_sh sw i (rc sw - 1) mt) (ff_sh sw i (rc sw - 1) ac) (ff_sh sw i (rc sw - 1) ch) → post (nI (rc sw - 1)) (act, opl, ohd, fn, fc, kd, dp, gt, st, a1, a2', a3', a4', a5', a6, a7, a8, a9, a10, a11, a12, a13, a14, a15, a16, a17, a18, a19, a20, a21, a22, a23, a24, a25, a26, a27)) : wpX_drop post (act, opl, ohd, fn, fc, kd, dp, gt, st, a1, a2, a3, a4, a5, a6, a7, a8, a9, a10, a11, a12, a13, a14, a15, a16, a17, a18, a19, a20, a21, a22, a23, a24, a25, a26, a27) (nI sw) (nI i) := by
  obtain ⟨A1, A2, A3, A4, A5⟩ := hA
  have es : (nI sw).toNatClampNeg = sw := nI_clamp (by omega)
  have js : vp_in (nI sw) 20 := pk_in sw 20 (by omega)
  have hr := A4 sw (by omega)
  unfold wpX_drop
  try dsimp only
  refine ff_isRule hsw (by omega) (A2 sw (by omega)) hr (fun z => br_t rfl (H1 z)) (fun z => br_f (by decide) ⟨js, js, ?_⟩)
  try dsimp only
  rw [es, A2 sw (by omega)]
  have e1 : nI (rc sw) - 1 = nI (rc sw - 1) := pk_sub (show 1 ≤ rc sw by omega)
  rw [e1]
  refine nm_e ⟨rc sw - 1 - i + 1, ff_drop_23 (mt := mt) (ac := ac) (ch := ch) (i := i) (r := rc sw - 1) hsw (by omega) pk_us (fun a3' a4' a5' h' => H3 z _ a3' a4' a5' ⟨A1, ff_up_u A2, h', fun l hl => ?_, fun j hj => ?_⟩) (rc sw - 1 - i) i a3 a4 a5 (by omega) (Nat.le_refl _) (ff_R3_c A3 (fun j _ => ⟨(ff_sh_0 _ j).symm, (ff_sh_0 _ j).symm, (ff_sh_0 _ j).symm⟩))⟩
  · unfold ff_up
    split
    · omega
    · exact A4 l hl
  · unfold ff_sh
    split
    · exact A5 _ (by omega)
    · exact A5 j hj
/-- a rule moves from i to j -/
def ff_dn2 (s k i : Nat) (M : Nat → Nat) : Nat → Nat := fun j => if 6 * s + k < j ∧ j ≤ 6 * s + i then M (j - 1) else M j
theorem ff_dn2_s {s k i : Nat} (M : Nat → Nat) (hk : k < i) (j : Nat) : ff_cp (ff_dn2 s (k + 1) i M) (6 * s + k) (6 * s + (k + 1)) j = ff_dn2 s k i M j := by
  unfold ff_cp ff_dn2
  by_cases e : j = 6 * s + (k + 1)
  · try dsimp only
    rw [if_pos e, if_neg (by omega), if_pos (by omega), e]
    rfl
  · try dsimp only
    rw [if_neg e]
    by_cases c : 6 * s + (k + 1) < j ∧ j ≤ 6 * s + i
    · try dsimp only
      rw [if_pos c, if_pos (by omega)]
    · try dsimp only
      rw [if_neg c, if_neg (by omega)]
theorem ff_dn2_0 {s i : Nat} (M : Nat → Nat) (j : Nat) : ff_dn2 s i i M j = M j := by
  unfold ff_dn2
  try dsimp only
  rw [if_neg (by omega)]
def ff_mv (s i j : Nat) (M : Nat → Nat) : Nat → Nat := fun x => if x = 6 * s + j then M (6 * s + i) else if 6 * s + i ≤ x ∧ x < 6 * s + j then M (x + 1) else if 6 * s + j < x ∧ x ≤ 6 * s + i then M (x - 1) else M x
theorem ff_move_97 {post : Int32 → St1 → Prop} {M A C : Nat → Nat} {sw i t x y z : Nat} {act opl ohd fn fc kd dp gt st : Int32} {a1 a2 a6 a7 a8 a9 a10 a11 a12 a13 a14 a15 a16 a17 a18 a19 a20 a21 a22 a23 a24 a25 a26 a27 : Nat → Int32} (hsw : sw < 5) (hi : i < 6) (ht : t < 6)
    (H : ∀ a3' a4' a5' : Nat → Int32, ff_R3 a3' a4' a5' (ff_up (ff_dn2 sw (min i t) i M) (6 * sw + t) x) (ff_up (ff_dn2 sw (min i t) i A) (6 * sw + t) y) (ff_up (ff_dn2 sw (min i t) i C) (6 * sw + t) z) → post 0 (act, opl, ohd, fn, fc, kd, dp, gt, st, a1, a2, a3', a4', a5', a6, a7, a8, a9, a10, a11, a12, a13, a14, a15, a16, a17, a18, a19, a20, a21, a22, a23, a24, a25, a26, a27)) :
    ∀ (m k : Nat) (a3 a4 a5 : Nat → Int32), k = min i t + m → k ≤ i → ff_R3 a3 a4 a5 (ff_dn2 sw k i M) (ff_dn2 sw k i A) (ff_dn2 sw k i C) → wX_move_97 post (nI sw) (nI t) (nI x) (nI y) (nI z) (m + 1) (nI k) act opl ohd fn fc kd dp gt st a1 a2 a3 a4 a5 a6 a7 a8 a9 a10 a11 a12 a13 a14 a15 a16 a17 a18 a19 a20 a21 a22 a23 a24 a25 a26 a27 := by
  intro m
  induction m with
  | zero =>
    intro k a3 a4 a5 hk hki h
    have jt : vp_in (nI (6 * sw + t)) 120 := pk_in (6 * sw + t) 120 (by omega)
    have et : (nI (6 * sw + t)).toNatClampNeg = 6 * sw + t := nI_clamp (by omega)
    have hk0 : k = min i t := hk
    refine pk_le k t (fun _ => ?_) (fun z => absurd z (by omega))
    try dsimp only
    rw [ff_6, et]
    rw [hk0] at h
    exact ⟨jt, nm_e ⟨jt, nm_e ⟨jt, nm_e (H _ _ _ (fun j hj => ⟨ff_up_u (fun j hj => (h j hj).1) j hj, ff_up_u (fun j hj => (h j hj).2.1) j hj, ff_up_u (fun j hj => (h j hj).2.2) j hj⟩))⟩⟩⟩
  | succ m ih =>
    intro k a3 a4 a5 hk hki h
    have e : k = (min i t + m) + 1 := by omega
    generalize hg : min i t + m = k' at *
    subst e
    rcases Nat.lt_or_ge t (k' + 1) with c | c
    · refine pk_le (k' + 1) t (fun z => absurd z (by omega)) (fun _ => ?_)
      try dsimp only
      rw [ff_6, show (6 * sw + (k' + 1)) = (6 * sw + k') + 1 by omega, nI_pred]
      refine ff_copyRule h (by omega) (by omega) (fun a3' a4' a5' h' => nm_r (pk_m1 k') (ih k' a3' a4' a5' rfl (by omega) (ff_R3_c h' (fun j _ => ⟨ff_dn2_s _ (by omega) j, ff_dn2_s _ (by omega) j, ff_dn2_s _ (by omega) j⟩))))
    · exact absurd hg (by omega)
theorem ff_move_62 {post : Int32 → St1 → Prop} {mt ac ch : Nat → Nat} {sw i t x y z : Nat} {act opl ohd fn fc kd dp gt st : Int32} {a1 a2 a6 a7 a8 a9 a10 a11 a12 a13 a14 a15 a16 a17 a18 a19 a20 a21 a22 a23 a24 a25 a26 a27 : Nat → Int32} (hsw : sw < 5) (hi : i < 6) (ht : t < 6)
    (H : ∀ a3' a4' a5' : Nat → Int32, ff_R3 a3' a4' a5' (ff_up (ff_dn2 sw (min i t) i (ff_sh sw i t mt)) (6 * sw + t) x) (ff_up (ff_dn2 sw (min i t) i (ff_sh sw i t ac)) (6 * sw + t) y) (ff_up (ff_dn2 sw (min i t) i (ff_sh sw i t ch)) (6 * sw + t) z) → post 0 (act, opl, ohd, fn, fc, kd, dp, gt, st, a1, a2, a3', a4', a5', a6, a7, a8, a9, a10, a11, a12, a13, a14, a15, a16, a17, a18, a19, a20, a21, a22, a23, a24, a25, a26, a27)) :
    ∀ (m k : Nat) (a3 a4 a5 : Nat → Int32), k + m = max i t → i ≤ k → ff_R3 a3 a4 a5 (ff_sh sw i k mt) (ff_sh sw i k ac) (ff_sh sw i k ch) → wX_move_62 post (nI sw) (nI i) (nI t) (nI x) (nI y) (nI z) (m + 1) (nI k) act opl ohd fn fc kd dp gt st a1 a2 a3 a4 a5 a6 a7 a8 a9 a10 a11 a12 a13 a14 a15 a16 a17 a18 a19 a20 a21 a22 a23 a24 a25 a26 a27 := by
  intro m
  induction m with
  | zero =>
    intro k a3 a4 a5 hk hi' h
    have e : ∀ (M : Nat → Nat) (j : Nat), ff_sh sw i k M j = ff_dn2 sw i i (ff_sh sw i t M) j := by
      intro M j
      rw [ff_dn2_0]
      unfold ff_sh
      by_cases c : 6 * sw + i ≤ j ∧ j < 6 * sw + k
      · try dsimp only
        rw [if_pos c, if_pos (by omega)]
      · try dsimp only
        rw [if_neg c, if_neg (by omega)]
    refine pk_le t k (fun _ => ⟨i - min i t + 1, ff_move_97 hsw hi ht H (i - min i t) i a3 a4 a5 (by omega) (Nat.le_refl _) (ff_R3_c h (fun j _ => ⟨e mt j, e ac j, e ch j⟩))⟩) (fun z => absurd z (by omega))
  | succ m ih =>
    intro k a3 a4 a5 hk hi' h
    refine pk_le t k (fun z => absurd z (by omega)) (fun _ => ?_)
    try dsimp only
    rw [ff_6, nI_1 (6 * sw + k)]
    exact ff_copyRule h (by omega) (by omega) (fun a3' a4' a5' h' => nm_r (nI_1 k) (ih (k + 1) a3' a4' a5' (by omega) (by omega) (ff_R3_c h' (fun j _ => ⟨ff_sh_s _ hi' j, ff_sh_s _ hi' j, ff_sh_s _ hi' j⟩))))
theorem ff_mv_e {s i t : Nat} (M : Nat → Nat) (x : Nat) : ff_up (ff_dn2 s (min i t) i (ff_sh s i t M)) (6 * s + t) (M (6 * s + i)) x = ff_mv s i t M x := by
  unfold ff_up ff_dn2 ff_sh ff_mv
  by_cases e : x = 6 * s + t
  · rw [if_pos e, if_pos e]
  · rw [if_neg e, if_neg e]
    by_cases c : 6 * s + i ≤ x ∧ x < 6 * s + t
    · rw [if_neg (show ¬ (6 * s + min i t < x ∧ x ≤ 6 * s + i) by omega), if_pos c, if_pos c]
    · by_cases d : 6 * s + t < x ∧ x ≤ 6 * s + i
      · rw [if_pos (show 6 * s + min i t < x ∧ x ≤ 6 * s + i by omega), if_neg (show ¬ (6 * s + i ≤ x - 1 ∧ x - 1 < 6 * s + t) by omega), if_neg c, if_pos d]
      · rw [if_neg (show ¬ (6 * s + min i t < x ∧ x ≤ 6 * s + i) by omega), if_neg c, if_neg c, if_neg d]
theorem ff_move {post : Int32 → St1 → Prop} {act opl ohd fn fc kd dp gt st : Int32} {a1 a2 a3 a4 a5 a6 a7 a8 a9 a10 a11 a12 a13 a14 a15 a16 a17 a18 a19 a20 a21 a22 a23 a24 a25 a26 a27 : Nat → Int32} {lk rc mt ac ch : Nat → Nat} {sw i t : Nat} (hA : ff_CA a1 a2 a3 a4 a5 lk rc mt ac ch) (hsw : sw < 5) (hi : i < 4) (ht : t < 4)
    (H1 : (rc sw ≤ i ∨ rc sw ≤ t) → post (-1) (act, opl, ohd, fn, fc, kd, dp, gt, st, a1, a2, a3, a4, a5, a6, a7, a8, a9, a10, a11, a12, a13, a14, a15, a16, a17, a18, a19, a20, a21, a22, a23, a24, a25, a26, a27))
    (H3 : i < rc sw → t < rc sw → ∀ a3' a4' a5' : Nat → Int32, ff_CA a1 a2 a3' a4' a5' lk rc (ff_mv sw i t mt) (ff_mv sw i t ac) (ff_mv sw i t ch) → post 0 (act, opl, ohd, fn, fc, kd, dp, gt, st, a1, a2, a3', a4', a5', a6, a7, a8, a9, a10, a11, a12, a13, a14, a15, a16, a17, a18, a19, a20, a21, a22, a23, a24, a25, a26, a27)) : wpX_move post (act, opl, ohd, fn, fc, kd, dp, gt, st, a1, a2, a3, a4, a5, a6, a7, a8, a9, a10, a11, a12, a13, a14, a15, a16, a17, a18, a19, a20, a21, a22, a23, a24, a25, a26, a27) (nI sw) (nI i) (nI t) := by
  obtain ⟨A1, A2, A3, A4, A5⟩ := hA
  have hr := A4 sw (by omega)
  have ji : vp_in (nI (6 * sw + i)) 120 := pk_in (6 * sw + i) 120 (by omega)
  have ei : (nI (6 * sw + i)).toNatClampNeg = 6 * sw + i := nI_clamp (by omega)
  obtain ⟨g3, g4, g5⟩ := A3 (6 * sw + i) (by omega)
  unfold wpX_move
  try dsimp only
  rw [ff_6, ei, g3, g4, g5]
  refine ff_isRule hsw (by omega) (A2 sw (by omega)) hr (fun z => br_t rfl (H1 (Or.inl z))) (fun z => br_f (by decide) (ff_isRule hsw (by omega) (A2 sw (by omega)) hr (fun z' => br_t rfl (H1 (Or.inr z'))) (fun z' => br_f (by decide) ⟨ji, nm_e ⟨ji, nm_e ⟨ji, nm_e ⟨max i t - i + 1, ?_⟩⟩⟩⟩)))
  try dsimp only
  refine ff_move_62 (mt := mt) (ac := ac) (ch := ch) hsw (by omega) (by omega) (fun a3' a4' a5' h' => H3 z z' a3' a4' a5' ⟨A1, A2, ff_R3_c h' (fun j _ => ⟨ff_mv_e _ j, ff_mv_e _ j, ff_mv_e _ j⟩), A4, fun j hj => ?_⟩) (max i t - i) i a3 a4 a5 (by omega) (Nat.le_refl _) (ff_R3_c A3 (fun j _ => ⟨(ff_sh_0 _ j).symm, (ff_sh_0 _ j).symm, (ff_sh_0 _ j).symm⟩))
  unfold ff_mv
  split
  · exact A5 _ (by omega)
  · split
    · exact A5 _ (by omega)
    · split
      · exact A5 _ (by omega)
      · exact A5 j hj
/-! tables -/
def ff_tc (w f t k : Nat) (M : Nat → Nat) : Nat → Nat := fun j => if w * t ≤ j ∧ j < w * t + k then M (j - w * t + w * f) else M j
theorem ff_tc_0 {w f t : Nat} (M : Nat → Nat) (j : Nat) : ff_tc w f t 0 M j = M j := by
  unfold ff_tc
  try dsimp only
  rw [if_neg (by omega)]
theorem ff_tc_s {f t k : Nat} (M : Nat → Nat) (hft : f ≠ t) (hk : k < 30) (j : Nat) : ff_cp (ff_tc 30 f t k M) (30 * f + k) (30 * t + k) j = ff_tc 30 f t (k + 1) M j := by
  unfold ff_cp ff_tc
  by_cases e : j = 30 * t + k
  · try dsimp only
    rw [if_pos e, if_neg (by omega), if_pos (by omega), e]
    congr 1
    omega
  · try dsimp only
    rw [if_neg e]
    by_cases c : 30 * t ≤ j ∧ j < 30 * t + k
    · try dsimp only
      rw [if_pos c, if_pos (by omega)]
    · try dsimp only
      rw [if_neg c, if_neg (by omega)]
theorem ff_tc_5 {a : Nat → Int32} {f t k : Nat} {M : Nat → Nat} (hft : f ≠ t) (hk : k < 5) (hf : f < 4) (h : ∀ l, l < 20 → a l = nI (ff_tc 5 f t k M l)) : ∀ l, l < 20 → upd a (5 * t + k) (a (5 * f + k)) l = nI (ff_tc 5 f t (k + 1) M l) := by
  intro l hl
  by_cases e : l = 5 * t + k
  · try dsimp only
    rw [e, pk_us, h _ (by omega)]
    congr 1
    unfold ff_tc
    try dsimp only
    rw [if_neg (by omega), if_pos (by omega)]
    congr 1
    omega
  · try dsimp only
    rw [pk_un e, h l hl]
    congr 1
    unfold ff_tc
    by_cases c : 5 * t ≤ l ∧ l < 5 * t + k
    · try dsimp only
      rw [if_pos c, if_pos (by omega)]
    · try dsimp only
      rw [if_neg c, if_neg (by omega)]
theorem ff_ct_38 {post : St1 → Prop} {J : Int32 → Int32 → Int32 → Int32 → Int32 → Int32 → Int32 → Int32 → Int32 → Int32 → (Nat → Int32) → (Nat → Int32) → (Nat → Int32) → (Nat → Int32) → (Nat → Int32) → (Nat → Int32) → (Nat → Int32) → (Nat → Int32) → (Nat → Int32) → (Nat → Int32) → (Nat → Int32) → (Nat → Int32) → (Nat → Int32) → (Nat → Int32) → (Nat → Int32) → (Nat → Int32) → (Nat → Int32) → (Nat → Int32) → (Nat → Int32) → (Nat → Int32) → (Nat → Int32) → (Nat → Int32) → (Nat → Int32) → (Nat → Int32) → (Nat → Int32) → (Nat → Int32) → (Nat → Int32) → Prop}
    {mt ac ch : Nat → Nat} {f t s : Nat} {x1 x2 : Int32} {act opl ohd fn fc kd dp gt st : Int32} {a1 a2 a6 a7 a8 a9 a10 a11 a12 a13 a14 a15 a16 a17 a18 a19 a20 a21 a22 a23 a24 a25 a26 a27 : Nat → Int32} (hf : f < 4) (ht : t < 4) (hft : f ≠ t) (hs : s < 5)
    (H : ∀ a3' a4' a5' : Nat → Int32, ff_R3 a3' a4' a5' (ff_tc 30 f t (6 * (s + 1)) mt) (ff_tc 30 f t (6 * (s + 1)) ac) (ff_tc 30 f t (6 * (s + 1)) ch) → J (nI (s + 1)) act opl ohd fn fc kd dp gt st a1 a2 a3' a4' a5' a6 a7 a8 a9 a10 a11 a12 a13 a14 a15 a16 a17 a18 a19 a20 a21 a22 a23 a24 a25 a26 a27) :
    ∀ (m i : Nat) (a3 a4 a5 : Nat → Int32), i + m = 6 → ff_R3 a3 a4 a5 (ff_tc 30 f t (6 * s + i) mt) (ff_tc 30 f t (6 * s + i) ac) (ff_tc 30 f t (6 * s + i) ch) → wX_copyTable_38 post J x1 x2 (nI s) (nI (5 * f + s)) (nI (5 * t + s)) (m + 1) (nI i) act opl ohd fn fc kd dp gt st a1 a2 a3 a4 a5 a6 a7 a8 a9 a10 a11 a12 a13 a14 a15 a16 a17 a18 a19 a20 a21 a22 a23 a24 a25 a26 a27 := by
  intro m
  induction m with
  | zero =>
    intro i a3 a4 a5 hi h
    have e : i = 6 := by omega
    subst e
    exact pk_le 6 6 (fun _ => nm_r (nI_1 s) (H a3 a4 a5 h)) (fun z => absurd z (by omega))
  | succ m ih =>
    intro i a3 a4 a5 hi h
    refine pk_le 6 i (fun z => absurd z (by omega)) (fun _ => ?_)
    try dsimp only
    rw [ff_6, ff_6]
    have e1 : 6 * (5 * f + s) + i = 30 * f + (6 * s + i) := by omega
    have e2 : 6 * (5 * t + s) + i = 30 * t + (6 * s + i) := by omega
    rw [e1, e2]
    exact ff_copyRule h (by omega) (by omega) (fun a3' a4' a5' h' => nm_r (nI_1 i) (ih (i + 1) a3' a4' a5' (by omega) (ff_R3_c h' (fun j _ => ⟨ff_tc_s _ hft (by omega) j, ff_tc_s _ hft (by omega) j, ff_tc_s _ hft (by omega) j⟩))))
theorem ff_ct_2 {post : St1 → Prop} {rc mt ac ch : Nat → Nat} {f t : Nat} {act opl ohd fn fc kd dp gt st : Int32} {a1 a6 a7 a8 a9 a10 a11 a12 a13 a14 a15 a16 a17 a18 a19 a20 a21 a22 a23 a24 a25 a26 a27 : Nat → Int32} (hf : f < 4) (ht : t < 4) (hft : f ≠ t)
    (H : ∀ a2' a3' a4' a5' : Nat → Int32, (∀ l, l < 20 → a2' l = nI (ff_tc 5 f t 5 rc l)) → ff_R3 a3' a4' a5' (ff_tc 30 f t 30 mt) (ff_tc 30 f t 30 ac) (ff_tc 30 f t 30 ch) → post (act, opl, ohd, fn, fc, kd, dp, gt, st, a1, a2', a3', a4', a5', a6, a7, a8, a9, a10, a11, a12, a13, a14, a15, a16, a17, a18, a19, a20, a21, a22, a23, a24, a25, a26, a27)) :
    ∀ (m s : Nat) (a2 a3 a4 a5 : Nat → Int32), s + m = 5 → (∀ l, l < 20 → a2 l = nI (ff_tc 5 f t s rc l)) → ff_R3 a3 a4 a5 (ff_tc 30 f t (6 * s) mt) (ff_tc 30 f t (6 * s) ac) (ff_tc 30 f t (6 * s) ch) → wX_copyTable_2 post (nI f) (nI t) (m + 1) (nI s) act opl ohd fn fc kd dp gt st a1 a2 a3 a4 a5 a6 a7 a8 a9 a10 a11 a12 a13 a14 a15 a16 a17 a18 a19 a20 a21 a22 a23 a24 a25 a26 a27 := by
  intro m
  induction m with
  | zero =>
    intro s a2 a3 a4 a5 hs h2 h
    have e : s = 5 := by omega
    subst e
    exact pk_le 5 5 (fun _ => H a2 a3 a4 a5 h2 h) (fun z => absurd z (by omega))
  | succ m ih =>
    intro s a2 a3 a4 a5 hs h2 h
    refine pk_le 5 s (fun z => absurd z (by omega)) (fun _ => ?_)
    unfold wpX_listOf
    try dsimp only
    rw [ff_5, ff_5, nI_clamp (show 5 * f + s < 2 ^ 31 by omega), nI_clamp (show 5 * t + s < 2 ^ 31 by omega)]
    exact ⟨pk_in (5 * f + s) 20 (by omega), pk_in (5 * t + s) 20 (by omega), nm_e ⟨7, ff_ct_38 hf ht hft (by omega) (fun a3' a4' a5' h' => ih (s + 1) _ a3' a4' a5' (by omega) (ff_tc_5 hft (by omega) hf h2) h') 6 0 a3 a4 a5 (by omega) h⟩⟩
theorem ff_tc_Cf {rc mt ac ch : Nat → Nat} {f t : Nat} (hf : f < 4) (h : ff_Cf rc mt ac ch) : ff_Cf (ff_tc 5 f t 5 rc) (ff_tc 30 f t 30 mt) (ff_tc 30 f t 30 ac) (ff_tc 30 f t 30 ch) := by
  refine ⟨fun l hl => ?_, fun j hj => ?_⟩
  · unfold ff_tc
    split
    · exact h.1 _ (by omega)
    · exact h.1 l hl
  · unfold ff_tc
    split
    · exact h.2 _ (by omega)
    · exact h.2 j hj
theorem ff_copyTable {post : St1 → Prop} {act opl ohd fn fc kd dp gt st : Int32} {a1 a2 a3 a4 a5 a6 a7 a8 a9 a10 a11 a12 a13 a14 a15 a16 a17 a18 a19 a20 a21 a22 a23 a24 a25 a26 a27 : Nat → Int32} {lk rc mt ac ch : Nat → Nat} {f t : Nat} (hA : ff_CA a1 a2 a3 a4 a5 lk rc mt ac ch) (hf : f < 4) (ht : t < 4) (hft : f ≠ t)
    (H : ∀ a2' a3' a4' a5' : Nat → Int32, ff_CA a1 a2' a3' a4' a5' lk (ff_tc 5 f t 5 rc) (ff_tc 30 f t 30 mt) (ff_tc 30 f t 30 ac) (ff_tc 30 f t 30 ch) → post (act, opl, ohd, fn, fc, kd, dp, gt, st, a1, a2', a3', a4', a5', a6, a7, a8, a9, a10, a11, a12, a13, a14, a15, a16, a17, a18, a19, a20, a21, a22, a23, a24, a25, a26, a27)) : wpX_copyTable post (act, opl, ohd, fn, fc, kd, dp, gt, st, a1, a2, a3, a4, a5, a6, a7, a8, a9, a10, a11, a12, a13, a14, a15, a16, a17, a18, a19, a20, a21, a22, a23, a24, a25, a26, a27) (nI f) (nI t) := by
  obtain ⟨A1, A2, A3, A4⟩ := hA
  unfold wpX_copyTable
  try dsimp only
  refine ⟨6, ff_ct_2 (rc := rc) (mt := mt) (ac := ac) (ch := ch) hf ht hft (fun a2' a3' a4' a5' h2 h => H a2' a3' a4' a5' ⟨A1, h2, h, ff_tc_Cf hf A4⟩) 5 0 a2 a3 a4 a5 (by omega) (fun l hl => by rw [ff_tc_0]; exact A2 l hl) (ff_R3_c A3 (fun j _ => ⟨(ff_tc_0 _ j).symm, (ff_tc_0 _ j).symm, (ff_tc_0 _ j).symm⟩))⟩
theorem ff_revert {post : Int32 → St1 → Prop} {opl ohd fn fc kd dp gt st : Int32} {a1 a2 a3 a4 a5 a6 a7 a8 a9 a10 a11 a12 a13 a14 a15 a16 a17 a18 a19 a20 a21 a22 a23 a24 a25 a26 a27 : Nat → Int32} {lk rc mt ac ch : Nat → Nat} {t : Nat} (hA : ff_CA a1 a2 a3 a4 a5 lk rc mt ac ch) (ht : t < 4) (ht0 : t ≠ 0)
    (H : ∀ a2' a3' a4' a5' : Nat → Int32, ff_CA a1 a2' a3' a4' a5' lk (ff_tc 5 t 0 5 rc) (ff_tc 30 t 0 30 mt) (ff_tc 30 t 0 30 ac) (ff_tc 30 t 0 30 ch) → post (nI (rc (5 * t) + rc (5 * t + 1) + rc (5 * t + 2) + rc (5 * t + 3) + rc (5 * t + 4))) (nI t, opl, ohd, fn, fc, kd, dp, gt, st, a1, a2', a3', a4', a5', a6, a7, a8, a9, a10, a11, a12, a13, a14, a15, a16, a17, a18, a19, a20, a21, a22, a23, a24, a25, a26, a27)) : wpX_revert post (nI t, opl, ohd, fn, fc, kd, dp, gt, st, a1, a2, a3, a4, a5, a6, a7, a8, a9, a10, a11, a12, a13, a14, a15, a16, a17, a18, a19, a20, a21, a22, a23, a24, a25, a26, a27) := by
  unfold wpX_revert
  try dsimp only
  refine ff_copyTable (t := 0) hA ht (by omega) ht0 (fun a2' a3' a4' a5' hA' => ⟨6, ?_⟩)
  dsimp only
  have g : ∀ k, k < 5 → a2' k = nI (rc (5 * t + k)) := fun k hk => by
    rw [hA'.2.1 k (by omega)]
    unfold ff_tc
    try dsimp only
    rw [if_pos (by omega)]
    congr 2
    omega
  have l0 := g 0 (by omega)
  have l1 := g 1 (by omega)
  have l2 := g 2 (by omega)
  have l3 := g 3 (by omega)
  have l4 := g 4 (by omega)
  refine br_f (by decide) ⟨vp_in_iff.mpr (by decide), nm_r (show _ = nI (rc (5 * t)) by rw [show (0 : Int32).toNatClampNeg = 0 from rfl, l0]; exact (nI_add 0 _).trans (by rw [Nat.zero_add]; rfl)) (nm_r (nI_1 0) ?_)⟩
  try dsimp only
  refine br_f (by decide) ⟨vp_in_iff.mpr (by decide), nm_r (show _ = nI (rc (5 * t) + rc (5 * t + 1)) by rw [show (nI (0 + 1)).toNatClampNeg = 1 from rfl, l1]; exact nI_add _ _) (nm_r (nI_1 1) ?_)⟩
  try dsimp only
  refine br_f (by decide) ⟨vp_in_iff.mpr (by decide), nm_r (show _ = nI (rc (5 * t) + rc (5 * t + 1) + rc (5 * t + 2)) by rw [show (nI (1 + 1)).toNatClampNeg = 2 from rfl, l2]; exact nI_add _ _) (nm_r (nI_1 2) ?_)⟩
  try dsimp only
  refine br_f (by decide) ⟨vp_in_iff.mpr (by decide), nm_r (show _ = nI (rc (5 * t) + rc (5 * t + 1) + rc (5 * t + 2) + rc (5 * t + 3)) by rw [show (nI (2 + 1)).toNatClampNeg = 3 from rfl, l3]; exact nI_add _ _) (nm_r (nI_1 3) ?_)⟩
  try dsimp only
  refine br_f (by decide) ⟨vp_in_iff.mpr (by decide), nm_r (show _ = nI (rc (5 * t) + rc (5 * t + 1) + rc (5 * t + 2) + rc (5 * t + 3) + rc (5 * t + 4)) by rw [show (nI (3 + 1)).toNatClampNeg = 4 from rfl, l4]; exact nI_add _ _) (nm_r (nI_1 4) ?_)⟩
  exact br_t (by decide) (H a2' a3' a4' a5' hA')
end
section
/-! ===== packets ===== -/
def ff_PA (a6 a7 a8 a9 : Nat → Int32) (sx px hx tx : Nat → Nat) : Prop := ∀ k, k < 8 → a6 k = nI (sx k) ∧ sx k ≤ 4 ∧ (sx k ≠ 0 → a7 k = nI (px k) ∧ px k < 20 ∧ a8 k = nI (hx k) ∧ hx k < 64 ∧ a9 k = nI (tx k) ∧ tx k < 4)
def ff_us (sx tx : Nat → Nat) (t : Nat) : Bool := (List.range 8).any (fun k => sx k == 1 && tx k == t)
theorem ff_us_t {sx tx : Nat → Nat} {t : Nat} : ff_us sx tx t = true ↔ ∃ k, k < 8 ∧ sx k = 1 ∧ tx k = t := by
  unfold ff_us
  try dsimp only
  rw [List.any_eq_true]
  constructor
  · rintro ⟨k, hk, h⟩
    rw [Bool.and_eq_true, beq_iff_eq, beq_iff_eq] at h
    exact ⟨k, List.mem_range.mp hk, h⟩
  · rintro ⟨k, hk, h1, h2⟩
    exact ⟨k, List.mem_range.mpr hk, by rw [h1, h2, beq_self_eq_true, beq_self_eq_true]; rfl⟩
theorem ff_isUsed {post : Int32 → Prop} {act opl ohd fn fc kd dp gt st : Int32} {a1 a2 a3 a4 a5 a6 a7 a8 a9 a10 a11 a12 a13 a14 a15 a16 a17 a18 a19 a20 a21 a22 a23 a24 a25 a26 a27 : Nat → Int32} {sx px hx tx : Nat → Nat} {t : Nat} (hP : ff_PA a6 a7 a8 a9 sx px hx tx) (ht : t < 4) (H : post (if ff_us sx tx t then 1 else 0)) : wpX_isUsed post (act, opl, ohd, fn, fc, kd, dp, gt, st, a1, a2, a3, a4, a5, a6, a7, a8, a9, a10, a11, a12, a13, a14, a15, a16, a17, a18, a19, a20, a21, a22, a23, a24, a25, a26, a27) (nI t) := by
  have main : ∀ m i, i + m = 8 → (∀ j, j < i → ¬ (sx j = 1 ∧ tx j = t)) → wX_isUsed_2 post (nI t) act opl ohd fn fc kd dp gt st a1 a2 a3 a4 a5 a6 a7 a8 a9 a10 a11 a12 a13 a14 a15 a16 a17 a18 a19 a20 a21 a22 a23 a24 a25 a26 a27 (m + 1) (nI i) := by
    intro m
    induction m with
    | zero =>
      intro i hi hno
      have e : i = 8 := by omega
      subst e
      have n : ¬ ff_us sx tx t = true := fun z => by
        obtain ⟨k, hk, g⟩ := ff_us_t.mp z
        exact hno k hk g
      try dsimp only
      rw [if_neg n] at H
      exact pk_le 8 8 (fun _ => H) (fun z => absurd z (by omega))
    | succ m ih =>
      intro i hi hno
      obtain ⟨g6, g6', gr⟩ := hP i (by omega)
      have ji : vp_in (nI i) 8 := pk_in i 8 (by omega)
      refine pk_le 8 i (fun z => absurd z (by omega)) (fun _ => ⟨ji, ?_⟩)
      try dsimp only
      rw [nI_clamp (show i < 2 ^ 31 by omega), g6]
      refine pk_eq (sx i) 1 (fun e => ⟨ji, ?_⟩) (fun e => nm_r (nI_1 i) (ih (i + 1) (by omega) (fun j hj => ?_)))
      · obtain ⟨_, _, _, _, g9, g9'⟩ := gr (by omega)
        rw [g9]
        refine pk_eq (tx i) t (fun e' => ?_) (fun e' => nm_r (nI_1 i) (ih (i + 1) (by omega) (fun j hj => ?_)))
        · try dsimp only
          rw [if_pos (ff_us_t.mpr ⟨i, by omega, e, e'⟩)] at H
          exact H
        · by_cases ej : j = i
          · try dsimp only
            rw [ej]
            exact fun z => e' z.2
          · exact hno j (by omega)
      · by_cases ej : j = i
        · try dsimp only
          rw [ej]
          exact fun z => e z.1
        · exact hno j (by omega)
  unfold wpX_isUsed
  try dsimp only
  exact ⟨9, main 8 0 (by omega) (fun j hj => absurd hj (by omega))⟩
def ff_kb (sx tx : Nat → Nat) (a t : Nat) : Nat := if t = a ∨ ff_us sx tx t = true then 1 else 0
def ff_kt (sx tx : Nat → Nat) (a : Nat) : Nat := ff_kb sx tx a 1 + ff_kb sx tx a 2 + ff_kb sx tx a 3
theorem ff_kt_s {post : Int32 → Prop} {opl ohd fn fc kd dp gt st : Int32} {a1 a2 a3 a4 a5 a6 a7 a8 a9 a10 a11 a12 a13 a14 a15 a16 a17 a18 a19 a20 a21 a22 a23 a24 a25 a26 a27 : Nat → Int32} {sx px hx tx : Nat → Nat} {a t x n : Nat} (hP : ff_PA a6 a7 a8 a9 sx px hx tx) (ha : a < 4) (ht : t < 4) (H : wX_keptTables_4 post (nI a) opl ohd fn fc kd dp gt st a1 a2 a3 a4 a5 a6 a7 a8 a9 a10 a11 a12 a13 a14 a15 a16 a17 a18 a19 a20 a21 a22 a23 a24 a25 a26 a27 n (nI (x + ff_kb sx tx a t)) (nI (t + 1))) : wX_keptTables_4 post (nI a) opl ohd fn fc kd dp gt st a1 a2 a3 a4 a5 a6 a7 a8 a9 a10 a11 a12 a13 a14 a15 a16 a17 a18 a19 a20 a21 a22 a23 a24 a25 a26 a27 (n + 1) (nI x) (nI t) := by
  unfold ff_kb at H
  refine pk_le 4 t (fun z => absurd z (by omega)) (fun _ => pk_eq t a (fun e => ?_) (fun e => ff_isUsed hP ht ?_))
  · try dsimp only
    rw [if_pos (Or.inl e)] at H
    exact nm_r (nI_1 x) (nm_r (nI_1 t) H)
  · cases u : ff_us sx tx t
    · try dsimp only
      rw [if_neg (fun z => by
        rcases z with z | z
        · exact e z
        · try dsimp only
          rw [u] at z
          exact absurd z (by decide))] at H
      exact br_t rfl (nm_r (show nI x + 0 = nI (x + 0) from nI_add x 0) (nm_r (nI_1 t) H))
    · try dsimp only
      rw [if_pos (Or.inr u)] at H
      exact br_f (by decide) (nm_r (nI_1 x) (nm_r (nI_1 t) H))
theorem ff_keptTables {post : Int32 → Prop} {opl ohd fn fc kd dp gt st : Int32} {a1 a2 a3 a4 a5 a6 a7 a8 a9 a10 a11 a12 a13 a14 a15 a16 a17 a18 a19 a20 a21 a22 a23 a24 a25 a26 a27 : Nat → Int32} {sx px hx tx : Nat → Nat} {a : Nat} (hP : ff_PA a6 a7 a8 a9 sx px hx tx) (ha : a < 4) (H : post (nI (ff_kt sx tx a))) : wpX_keptTables post (nI a, opl, ohd, fn, fc, kd, dp, gt, st, a1, a2, a3, a4, a5, a6, a7, a8, a9, a10, a11, a12, a13, a14, a15, a16, a17, a18, a19, a20, a21, a22, a23, a24, a25, a26, a27) := by
  unfold wpX_keptTables
  try dsimp only
  refine ⟨4, ff_kt_s (x := 0) (t := 1) hP ha (by omega) (ff_kt_s (t := 2) hP ha (by omega) (ff_kt_s (t := 3) hP ha (by omega) ?_))⟩
  try dsimp only
  refine pk_le 4 (3 + 1) (fun _ => ?_) (fun z => absurd z (by omega))
  try dsimp only
  rw [Nat.zero_add]
  exact H
def ff_pb (sx tx : Nat → Nat) (a : Nat) : Nat := if ff_us sx tx a then (if ff_kb sx tx a 1 = 0 then 1 else if ff_kb sx tx a 2 = 0 then 2 else 3) else a
theorem ff_pb_in {sx tx : Nat → Nat} {a : Nat} (h1 : 1 ≤ a) (h2 : a < 4) : 1 ≤ ff_pb sx tx a ∧ ff_pb sx tx a < 4 := by
  unfold ff_pb
  split
  · split
    · omega
    · split <;> omega
  · omega
theorem ff_publish {post : Int32 → St1 → Prop} {opl ohd fn fc kd dp gt st : Int32} {a1 a2 a3 a4 a5 a6 a7 a8 a9 a10 a11 a12 a13 a14 a15 a16 a17 a18 a19 a20 a21 a22 a23 a24 a25 a26 a27 : Nat → Int32} {lk rc mt ac ch sx px hx tx : Nat → Nat} {a : Nat} (hA : ff_CA a1 a2 a3 a4 a5 lk rc mt ac ch) (hP : ff_PA a6 a7 a8 a9 sx px hx tx) (h1 : 1 ≤ a) (h4 : a < 4)
    (H1 : ff_us sx tx a = true → ff_kt sx tx a = 3 → post (-4) (nI a, opl, ohd, fn, fc, kd, dp, gt, st, a1, a2, a3, a4, a5, a6, a7, a8, a9, a10, a11, a12, a13, a14, a15, a16, a17, a18, a19, a20, a21, a22, a23, a24, a25, a26, a27))
    (H2 : ¬ (ff_us sx tx a = true ∧ ff_kt sx tx a = 3) → ∀ a2' a3' a4' a5' : Nat → Int32, ff_CA a1 a2' a3' a4' a5' lk (ff_tc 5 0 (ff_pb sx tx a) 5 rc) (ff_tc 30 0 (ff_pb sx tx a) 30 mt) (ff_tc 30 0 (ff_pb sx tx a) 30 ac) (ff_tc 30 0 (ff_pb sx tx a) 30 ch) →
      post (nI (ff_kt sx tx (ff_pb sx tx a))) (nI (ff_pb sx tx a), opl, ohd, fn, fc, kd, dp, gt, st, a1, a2', a3', a4', a5', a6, a7, a8, a9, a10, a11, a12, a13, a14, a15, a16, a17, a18, a19, a20, a21, a22, a23, a24, a25, a26, a27)) : wpX_publish post (nI a, opl, ohd, fn, fc, kd, dp, gt, st, a1, a2, a3, a4, a5, a6, a7, a8, a9, a10, a11, a12, a13, a14, a15, a16, a17, a18, a19, a20, a21, a22, a23, a24, a25, a26, a27) := by
  have g := ff_pb_in (sx := sx) (tx := tx) h1 h4
  have p56 : ¬ (ff_us sx tx a = true ∧ ff_kt sx tx a = 3) → ∀ z, z = nI (ff_pb sx tx a) → wX_publish_56 post z opl ohd fn fc kd dp gt st a1 a2 a3 a4 a5 a6 a7 a8 a9 a10 a11 a12 a13 a14 a15 a16 a17 a18 a19 a20 a21 a22 a23 a24 a25 a26 a27 := by
    intro hn z ez
    subst ez
    unfold wX_publish_56
    try dsimp only
    refine ff_copyTable (f := 0) hA (by omega) g.2 (by omega) (fun a2' a3' a4' a5' hA' => ff_keptTables hP g.2 (H2 hn a2' a3' a4' a5' hA'))
  have kn : ∀ t, ff_kb sx tx a t = 0 ∨ ff_kb sx tx a t = 1 := fun t => by
    unfold ff_kb
    split
    · exact Or.inr rfl
    · exact Or.inl rfl
  unfold wpX_publish
  try dsimp only
  refine ff_isUsed hP h4 ?_
  try dsimp only
  cases u : ff_us sx tx a
  · refine br_t rfl (p56 (fun z => by rw [u] at z; exact absurd z.1 (by decide)) _ ?_)
    unfold ff_pb
    try dsimp only
    rw [u]
    rfl
  · have kle : ff_kt sx tx a ≤ 3 := by
      unfold ff_kt
      have := kn 1
      have := kn 2
      have := kn 3
      omega
    refine br_f (by decide) (ff_keptTables hP h4 (pk_eq (ff_kt sx tx a) 3 (fun e => H1 u e) (fun e => ⟨3, ?_⟩)))
    have hn : ¬ (ff_us sx tx a = true ∧ ff_kt sx tx a = 3) := fun z => e z.2
    have step : ∀ (t n : Nat), t < 3 → (ff_kb sx tx a t = 0 → wX_publish_51 post (nI t) (nI a) opl ohd fn fc kd dp gt st a1 a2 a3 a4 a5 a6 a7 a8 a9 a10 a11 a12 a13 a14 a15 a16 a17 a18 a19 a20 a21 a22 a23 a24 a25 a26 a27) → (ff_kb sx tx a t ≠ 0 → wX_publish_24 post (nI a) opl ohd fn fc kd dp gt st a1 a2 a3 a4 a5 a6 a7 a8 a9 a10 a11 a12 a13 a14 a15 a16 a17 a18 a19 a20 a21 a22 a23 a24 a25 a26 a27 n (nI (t + 1))) → wX_publish_24 post (nI a) opl ohd fn fc kd dp gt st a1 a2 a3 a4 a5 a6 a7 a8 a9 a10 a11 a12 a13 a14 a15 a16 a17 a18 a19 a20 a21 a22 a23 a24 a25 a26 a27 (n + 1) (nI t) := by
      intro t n ht f0 f1
      unfold ff_kb at f0 f1
      refine pk_le 3 t (fun z => absurd z (by omega)) (fun _ => pk_eq t a (fun e => nm_r (nI_1 t) (f1 ?_)) (fun e => ff_isUsed hP (by omega) ?_))
      · try dsimp only
        rw [if_pos (Or.inl e)]
        decide
      · cases v : ff_us sx tx t
        · refine br_t rfl (f0 ?_)
          try dsimp only
          rw [if_neg (fun z => by
            rcases z with z | z
            · exact e z
            · try dsimp only
              rw [v] at z
              exact absurd z (by decide))]
        · refine br_f (by decide) (nm_r (nI_1 t) (f1 ?_))
          try dsimp only
          rw [if_pos (Or.inr v)]
          decide
    have fin : ∀ t, ff_pb sx tx a = t → wX_publish_51 post (nI t) (nI a) opl ohd fn fc kd dp gt st a1 a2 a3 a4 a5 a6 a7 a8 a9 a10 a11 a12 a13 a14 a15 a16 a17 a18 a19 a20 a21 a22 a23 a24 a25 a26 a27 := by
      intro t e
      unfold wX_publish_51
      try dsimp only
      exact p56 hn _ (by rw [e])
    have pe : ff_pb sx tx a = if ff_kb sx tx a 1 = 0 then 1 else if ff_kb sx tx a 2 = 0 then 2 else 3 := by
      unfold ff_pb
      try dsimp only
      rw [u]
      rfl
    refine step 1 2 (by omega) (fun z => fin 1 ?_) (fun z => step 2 1 (by omega) (fun z' => fin 2 ?_) (fun z' => ?_))
    · try dsimp only
      rw [pe, if_pos z]
    · try dsimp only
      rw [pe, if_neg z, if_pos z']
    · refine pk_le 3 (2 + 1) (fun _ => fin 3 ?_) (fun z => absurd z (by omega))
      try dsimp only
      rw [pe, if_neg z, if_neg z']
theorem ff_send {post : Int32 → St1 → Prop} {opl ohd fn fc kd dp gt st : Int32} {a1 a2 a3 a4 a5 a6 a7 a8 a9 a10 a11 a12 a13 a14 a15 a16 a17 a18 a19 a20 a21 a22 a23 a24 a25 a26 a27 : Nat → Int32} {lk rc mt ac ch sx px hx tx : Nat → Nat} {a p h : Nat} (hA : ff_CA a1 a2 a3 a4 a5 lk rc mt ac ch) (hP : ff_PA a6 a7 a8 a9 sx px hx tx) (h4 : a < 4) (hp : p < 20) (hh : h < 64)
    (H1 : lk p < 20 → post (-4) (nI a, opl, ohd, fn, fc, kd, dp, gt, st, a1, a2, a3, a4, a5, a6, a7, a8, a9, a10, a11, a12, a13, a14, a15, a16, a17, a18, a19, a20, a21, a22, a23, a24, a25, a26, a27)) (H2 : 20 ≤ lk p → (∀ k, k < 8 → sx k = 1) → post (-3) (nI a, opl, ohd, fn, fc, kd, dp, gt, st, a1, a2, a3, a4, a5, a6, a7, a8, a9, a10, a11, a12, a13, a14, a15, a16, a17, a18, a19, a20, a21, a22, a23, a24, a25, a26, a27))
    (H3 : 20 ≤ lk p → ∀ (k : Nat) (a6' a7' a8' a9' : Nat → Int32), k < 8 → sx k ≠ 1 → (∀ j, j < k → sx j = 1) → ff_PA a6' a7' a8' a9' (ff_up sx k 1) (ff_up px k p) (ff_up hx k h) (ff_up tx k a) → post (nI k) (nI a, opl, ohd, fn, fc, kd, dp, gt, st, a1, a2, a3, a4, a5, a6', a7', a8', a9', upd a10 k 0, a11, a12, a13, a14, a15, a16, a17, a18, a19, a20, a21, a22, a23, a24, a25, a26, a27)) : wpX_send post (nI a, opl, ohd, fn, fc, kd, dp, gt, st, a1, a2, a3, a4, a5, a6, a7, a8, a9, a10, a11, a12, a13, a14, a15, a16, a17, a18, a19, a20, a21, a22, a23, a24, a25, a26, a27) (nI p) (nI h) := by
  unfold wpX_send
  try dsimp only
  refine ff_isPlace hp (br_f (by decide) (ff_isHeader hh (br_f (by decide) ⟨pk_in p 20 hp, ?_⟩)))
  try dsimp only
  rw [nI_clamp (show p < 2 ^ 31 by omega)]
  rcases hA.1 p hp with ⟨g1, g2⟩ | ⟨g1, g2⟩
  · try dsimp only
    rw [g2]
    exact br_f (nI_pos (by omega)) (H1 g1)
  · try dsimp only
    rw [g2]
    refine br_t (by decide) ?_
    have main : ∀ m i, i + m = 8 → (∀ j, j < i → sx j = 1) → wX_send_30 post (nI p) (nI h) (nI a) opl ohd fn fc kd dp gt st a1 a2 a3 a4 a5 a6 a7 a8 a9 a10 a11 a12 a13 a14 a15 a16 a17 a18 a19 a20 a21 a22 a23 a24 a25 a26 a27 (m + 1) (nI i) := by
      intro m
      induction m with
      | zero =>
        intro i hi hall
        have e : i = 8 := by omega
        subst e
        exact pk_le 8 8 (fun _ => H2 g1 hall) (fun z => absurd z (by omega))
      | succ m ih =>
        intro i hi hall
        obtain ⟨g6, g6', gr⟩ := hP i (by omega)
        have ji : vp_in (nI i) 8 := pk_in i 8 (by omega)
        refine pk_le 8 i (fun z => absurd z (by omega)) (fun _ => ⟨ji, ?_⟩)
        try dsimp only
        rw [nI_clamp (show i < 2 ^ 31 by omega), g6]
        refine pk_eq (sx i) 1 (fun e => nm_r (nI_1 i) (ih (i + 1) (by omega) (fun j hj => ?_))) (fun e => ⟨ji, nm_e ⟨ji, nm_e ⟨ji, nm_e ⟨ji, nm_e ⟨ji, nm_e (H3 g1 i _ _ _ _ (by omega) e hall (fun k hk => ?_))⟩⟩⟩⟩⟩)
        · by_cases ej : j = i
          · try dsimp only
            rw [ej, e]
          · exact hall j (by omega)
        · unfold ff_up
          by_cases ek : k = i
          · try dsimp only
            rw [ek, pk_us, pk_us, pk_us, pk_us, if_pos rfl, if_pos rfl, if_pos rfl, if_pos rfl]
            exact ⟨rfl, by omega, fun _ => ⟨rfl, hp, rfl, hh, rfl, h4⟩⟩
          · try dsimp only
            rw [pk_un ek, pk_un ek, pk_un ek, pk_un ek, if_neg ek, if_neg ek, if_neg ek, if_neg ek]
            exact hP k hk
    exact ⟨9, main 8 0 (by omega) (fun j hj => absurd hj (by omega))⟩
/-- a packet is treated once -/
def ff_hop (lk rc mt ac ch : Nat → Nat) (t p h : Nat) (tr : Int32) : Nat × Nat × Nat × Int32 :=
  if 120 ≤ ff_pick (fun j => ff_mb (mt j) h 6) (6 * (5 * t + p / 4)) (rc (5 * t + p / 4)) (rc (5 * t + p / 4)) then (3, p, h, tr)
  else if ac (ff_pick (fun j => ff_mb (mt j) h 6) (6 * (5 * t + p / 4)) (rc (5 * t + p / 4)) (rc (5 * t + p / 4))) = 4 then (3, p, h, tr)
  else if lk (ff_out ac p (ff_pick (fun j => ff_mb (mt j) h 6) (6 * (5 * t + p / 4)) (rc (5 * t + p / 4)) (rc (5 * t + p / 4)))) < 20 then
    (if tr + 1 = 16 then 4 else 1, lk (ff_out ac p (ff_pick (fun j => ff_mb (mt j) h 6) (6 * (5 * t + p / 4)) (rc (5 * t + p / 4)) (rc (5 * t + p / 4)))), ff_chg (ch (ff_pick (fun j => ff_mb (mt j) h 6) (6 * (5 * t + p / 4)) (rc (5 * t + p / 4)) (rc (5 * t + p / 4)))) h, tr + 1)
  else (2, ff_out ac p (ff_pick (fun j => ff_mb (mt j) h 6) (6 * (5 * t + p / 4)) (rc (5 * t + p / 4)) (rc (5 * t + p / 4))), ff_chg (ch (ff_pick (fun j => ff_mb (mt j) h 6) (6 * (5 * t + p / 4)) (rc (5 * t + p / 4)) (rc (5 * t + p / 4)))) h, tr)
theorem ff_hopL {post : St1 → Prop} {act opl ohd fn fc kd dp gt st : Int32} {a1 a2 a3 a4 a5 a6 a7 a8 a9 a10 a11 a12 a13 a14 a15 a16 a17 a18 a19 a20 a21 a22 a23 a24 a25 a26 a27 : Nat → Int32} {lk rc mt ac ch : Nat → Nat} {k t p h : Nat} (hA : ff_CA a1 a2 a3 a4 a5 lk rc mt ac ch) (hk : k < 8) (ht : t < 4) (hp : p < 20) (hh : h < 64) (e7 : a7 k = nI p) (e8 : a8 k = nI h) (e9 : a9 k = nI t)
    (H : ∀ (opl' ohd' : Int32) (a6' a7' a8' a10' : Nat → Int32), (∀ i, i ≠ k → a6' i = a6 i ∧ a7' i = a7 i ∧ a8' i = a8 i ∧ a10' i = a10 i) → a6' k = nI (ff_hop lk rc mt ac ch t p h (a10 k)).1 → a7' k = nI (ff_hop lk rc mt ac ch t p h (a10 k)).2.1 → (ff_hop lk rc mt ac ch t p h (a10 k)).2.1 < 20 →
      a8' k = nI (ff_hop lk rc mt ac ch t p h (a10 k)).2.2.1 → (ff_hop lk rc mt ac ch t p h (a10 k)).2.2.1 < 64 → (ff_hop lk rc mt ac ch t p h (a10 k)).1 ≤ 4 → (ff_hop lk rc mt ac ch t p h (a10 k)).1 ≠ 0 → a10' k = (ff_hop lk rc mt ac ch t p h (a10 k)).2.2.2 → post (act, opl', ohd', fn, fc, kd, dp, gt, st, a1, a2, a3, a4, a5, a6', a7', a8', a9, a10', a11, a12, a13, a14, a15, a16, a17, a18, a19, a20, a21, a22, a23, a24, a25, a26, a27)) : wpX_hop post (act, opl, ohd, fn, fc, kd, dp, gt, st, a1, a2, a3, a4, a5, a6, a7, a8, a9, a10, a11, a12, a13, a14, a15, a16, a17, a18, a19, a20, a21, a22, a23, a24, a25, a26, a27) (nI k) := by
  have ek : (nI k).toNatClampNeg = k := nI_clamp (by omega)
  have jk : vp_in (nI k) 8 := pk_in k 8 hk
  unfold wpX_hop
  try dsimp only
  rw [ek, e7, e8, e9]
  refine ⟨jk, jk, jk, ff_treat hA ht hp hh (fun g => ?_) (fun j hj h4 e => ?_)⟩
  · refine br_t rfl ⟨jk, nm_e ?_⟩
    have e3 : ff_hop lk rc mt ac ch t p h (a10 k) = (3, p, h, a10 k) := by
      have g3 := g 0 (fun j => if ac j = 4 then 0 else 1) (fun j hj => if_pos hj)
      unfold ff_sel at g3
      unfold ff_hop
      by_cases c : 120 ≤ ff_pick (fun j => ff_mb (mt j) h 6) (6 * (5 * t + p / 4)) (rc (5 * t + p / 4)) (rc (5 * t + p / 4))
      · try dsimp only
        rw [if_pos c]
      · try dsimp only
        rw [if_neg c] at g3 ⊢
        by_cases c4 : ac (ff_pick (fun j => ff_mb (mt j) h 6) (6 * (5 * t + p / 4)) (rc (5 * t + p / 4)) (rc (5 * t + p / 4))) = 4
        · try dsimp only
          rw [if_pos c4]
        · dsimp only at g3
          rw [if_neg c4] at g3
          exact absurd g3 (by decide)
    try dsimp only
    rw [e3] at H
    exact H _ _ _ _ _ _ (fun i hi => ⟨pk_un hi, rfl, rfl, rfl⟩) pk_us e7 hp e8 hh (show 3 ≤ 4 by decide) (show 3 ≠ 0 by decide) rfl
  · have ho := ff_out_lt hp (hA.2.2.2.2 _ hj).2.1 h4
    have eo : (nI (ff_out ac p j)).toNatClampNeg = ff_out ac p j := nI_clamp (by omega)
    have io : vp_in (nI (ff_out ac p j)) 20 := pk_in _ 20 ho
    have hc := ff_chg_lt (ch j) hh
    refine br_f (by decide) ⟨jk, nm_e ⟨io, ?_⟩⟩
    try dsimp only
    rw [eo]
    unfold ff_hop at H
    try dsimp only
    rw [e, if_neg (show ¬ 120 ≤ j by omega), if_neg h4] at H
    rcases hA.1 _ ho with ⟨g1, g2⟩ | ⟨g1, g2⟩
    · try dsimp only
      rw [if_pos g1] at H
      rw [g2]
      refine br_t (nI_pos' (by omega)) ⟨io, jk, nm_e ⟨jk, jk, nm_e ⟨jk, ?_⟩⟩⟩
      try dsimp only
      rw [pk_us]
      by_cases c : a10 k + 1 = 16
      · try dsimp only
        rw [if_pos c] at H
        exact br_t c ⟨jk, nm_e (H _ _ _ _ _ _ (fun i hi => ⟨pk_un hi, pk_un hi, pk_un hi, pk_un hi⟩) pk_us pk_us g1 pk_us hc (show 4 ≤ 4 by decide) (show 4 ≠ 0 by decide) pk_us)⟩
      · try dsimp only
        rw [if_neg c] at H
        exact br_f c ⟨jk, nm_e (H _ _ _ _ _ _ (fun i hi => ⟨pk_un hi, pk_un hi, pk_un hi, pk_un hi⟩) pk_us pk_us g1 pk_us hc (show 1 ≤ 4 by decide) (show 1 ≠ 0 by decide) pk_us)⟩
    · try dsimp only
      rw [if_neg (show ¬ lk (ff_out ac p j) < 20 by omega)] at H
      rw [g2]
      exact br_f (by decide) ⟨jk, nm_e ⟨jk, nm_e (H _ _ _ _ _ _ (fun i hi => ⟨pk_un hi, pk_un hi, pk_un hi, rfl⟩) pk_us pk_us ho pk_us hc (show 2 ≤ 4 by decide) (show 2 ≠ 0 by decide) rfl)⟩⟩
def ff_tk (lk rc mt ac ch sx px hx tx : Nat → Nat) (tr : Nat → Int32) (k : Nat) : Nat × Nat × Nat × Int32 := if sx k = 1 then ff_hop lk rc mt ac ch (tx k) (px k) (hx k) (tr k) else (sx k, px k, hx k, tr k)
theorem ff_tick_4 {post : Int32 → St1 → Prop} {lk rc mt ac ch sx px hx tx : Nat → Nat} {tr : Nat → Int32} {act fn fc kd dp gt st : Int32} {a1 a2 a3 a4 a5 a9 a11 a12 a13 a14 a15 a16 a17 a18 a19 a20 a21 a22 a23 a24 a25 a26 a27 : Nat → Int32} (hA : ff_CA a1 a2 a3 a4 a5 lk rc mt ac ch) (hl4 : ∀ k, k < 8 → sx k ≤ 4) (h9 : ∀ k, k < 8 → sx k ≠ 0 → a9 k = nI (tx k) ∧ tx k < 4)
    (H : ∀ (opl' ohd' : Int32) (a6' a7' a8' a10' : Nat → Int32), ff_PA a6' a7' a8' a9 (fun k => (ff_tk lk rc mt ac ch sx px hx tx tr k).1) (fun k => (ff_tk lk rc mt ac ch sx px hx tx tr k).2.1) (fun k => (ff_tk lk rc mt ac ch sx px hx tx tr k).2.2.1) tx → (∀ k, k < 8 → a10' k = (ff_tk lk rc mt ac ch sx px hx tx tr k).2.2.2) →
      post (nI (ff_nm (fun k => sx k == 1 && (ff_tk lk rc mt ac ch sx px hx tx tr k).1 == 1) 8)) (act, opl', ohd', fn, fc, kd, dp, gt, st, a1, a2, a3, a4, a5, a6', a7', a8', a9, a10', a11, a12, a13, a14, a15, a16, a17, a18, a19, a20, a21, a22, a23, a24, a25, a26, a27)) :
    ∀ (m i : Nat) (opl ohd : Int32) (a6 a7 a8 a10 : Nat → Int32), i + m = 8 →
    (∀ k, k < i → a6 k = nI (ff_tk lk rc mt ac ch sx px hx tx tr k).1 ∧ a10 k = (ff_tk lk rc mt ac ch sx px hx tx tr k).2.2.2 ∧ (ff_tk lk rc mt ac ch sx px hx tx tr k).1 ≤ 4 ∧ (sx k ≠ 0 → (ff_tk lk rc mt ac ch sx px hx tx tr k).1 ≠ 0) ∧ ((ff_tk lk rc mt ac ch sx px hx tx tr k).1 ≠ 0 → sx k ≠ 0 ∧ a7 k = nI (ff_tk lk rc mt ac ch sx px hx tx tr k).2.1 ∧ (ff_tk lk rc mt ac ch sx px hx tx tr k).2.1 < 20 ∧ a8 k = nI (ff_tk lk rc mt ac ch sx px hx tx tr k).2.2.1 ∧ (ff_tk lk rc mt ac ch sx px hx tx tr k).2.2.1 < 64)) →
    (∀ k, i ≤ k → k < 8 → a6 k = nI (sx k) ∧ a10 k = tr k ∧ (sx k ≠ 0 → a7 k = nI (px k) ∧ px k < 20 ∧ a8 k = nI (hx k) ∧ hx k < 64)) →
    wX_tick_4 post (m + 1) (nI (ff_nm (fun k => sx k == 1 && (ff_tk lk rc mt ac ch sx px hx tx tr k).1 == 1) i)) (nI i) act opl ohd fn fc kd dp gt st a1 a2 a3 a4 a5 a6 a7 a8 a9 a10 a11 a12 a13 a14 a15 a16 a17 a18 a19 a20 a21 a22 a23 a24 a25 a26 a27 := by
  intro m
  induction m with
  | zero =>
    intro i opl ohd a6 a7 a8 a10 hi h1 h2
    have e : i = 8 := by omega
    subst e
    refine pk_le 8 8 (fun _ => H opl ohd a6 a7 a8 a10 (fun k hk => ?_) (fun k hk => (h1 k hk).2.1)) (fun z => absurd z (by omega))
    obtain ⟨q1, q2, q3, _, q4⟩ := h1 k hk
    refine ⟨q1, q3, fun z => ?_⟩
    obtain ⟨r0, r1, r2, r3, r4⟩ := q4 z
    exact ⟨r1, r2, r3, r4, h9 k hk r0⟩
  | succ m ih =>
    intro i opl ohd a6 a7 a8 a10 hi h1 h2
    have hi8 : i < 8 := by omega
    obtain ⟨g6, g10, gr⟩ := h2 i (Nat.le_refl i) hi8
    have := hl4 i hi8
    have ji : vp_in (nI i) 8 := pk_in i 8 hi8
    have ei : (nI i).toNatClampNeg = i := nI_clamp (by omega)
    refine pk_le 8 i (fun z => absurd z (by omega)) (fun _ => ⟨ji, ?_⟩)
    try dsimp only
    rw [ei, g6]
    refine pk_eq (sx i) 1 (fun e => ?_) (fun e => nm_r (nI_1 i) ?_)
    · obtain ⟨g7, g7', g8, g8'⟩ := gr (by omega)
      obtain ⟨g9, g9'⟩ := h9 i hi8 (by omega)
      have et : ff_tk lk rc mt ac ch sx px hx tx tr i = ff_hop lk rc mt ac ch (tx i) (px i) (hx i) (a10 i) := by
        unfold ff_tk
        try dsimp only
        rw [if_pos e, g10]
      refine ff_hopL hA hi8 g9' g7' g8' g7 g8 g9 (fun opl' ohd' a6' a7' a8' a10' hfr q6 q7 q7' q8 q8' q4 q0 q10 => ⟨ji, ?_⟩)
      try dsimp only
      rw [← et] at q6 q7 q7' q8 q8' q4 q0 q10
      rw [q6]
      have fin : wX_tick_4 post (m + 1) (nI (ff_nm (fun k => sx k == 1 && (ff_tk lk rc mt ac ch sx px hx tx tr k).1 == 1) (i + 1))) (nI (i + 1)) act opl' ohd' fn fc kd dp gt st a1 a2 a3 a4 a5 a6' a7' a8' a9 a10' a11 a12 a13 a14 a15 a16 a17 a18 a19 a20 a21 a22 a23 a24 a25 a26 a27 := by
        refine ih (i + 1) opl' ohd' a6' a7' a8' a10' (by omega) (fun k hk => ?_) (fun k hk1 hk2 => ?_)
        · by_cases ek : k = i
          · subst ek
            exact ⟨q6, q10, q4, fun _ => q0, fun _ => ⟨by omega, q7, q7', q8, q8'⟩⟩
          · obtain ⟨r1, r2, r3, r4⟩ := hfr k ek
            rw [r1, r2, r3, r4]
            exact h1 k (by omega)
        · obtain ⟨r1, r2, r3, r4⟩ := hfr k (by omega)
          rw [r1, r2, r3, r4]
          exact h2 k (by omega) hk2
      try dsimp only
      rw [ff_nm_s, e] at fin
      refine pk_eq (ff_tk lk rc mt ac ch sx px hx tx tr i).1 1 (fun c => nm_r (nI_1 _) (nm_r (nI_1 i) ?_)) (fun c => nm_r (nI_add _ 0) (nm_r (nI_1 i) ?_))
      · try dsimp only
        rw [c] at fin
        exact fin
      · try dsimp only
        rw [beq_eq_false_iff_ne.mpr c] at fin
        exact fin
    · have et : ff_tk lk rc mt ac ch sx px hx tx tr i = (sx i, px i, hx i, tr i) := by
        unfold ff_tk
        try dsimp only
        rw [if_neg e]
      have fin := ih (i + 1) opl ohd a6 a7 a8 a10 (by omega) (fun k hk => by
        by_cases ek : k = i
        · subst ek
          rw [et]
          exact ⟨g6, g10, hl4 k hi8, fun z => z, fun z => ⟨z, gr z⟩⟩
        · exact h1 k (by omega)) (fun k hk1 hk2 => h2 k (by omega) hk2)
      try dsimp only
      rw [ff_nm_s, beq_eq_false_iff_ne.mpr e, Bool.false_and, if_neg (by decide), Nat.add_zero] at fin
      exact fin
theorem ff_tick {post : Int32 → St1 → Prop} {act opl ohd fn fc kd dp gt st : Int32} {a1 a2 a3 a4 a5 a6 a7 a8 a9 a10 a11 a12 a13 a14 a15 a16 a17 a18 a19 a20 a21 a22 a23 a24 a25 a26 a27 : Nat → Int32} {lk rc mt ac ch sx px hx tx : Nat → Nat} (hA : ff_CA a1 a2 a3 a4 a5 lk rc mt ac ch) (hP : ff_PA a6 a7 a8 a9 sx px hx tx)
    (H : ∀ (opl' ohd' : Int32) (a6' a7' a8' a10' : Nat → Int32), ff_PA a6' a7' a8' a9 (fun k => (ff_tk lk rc mt ac ch sx px hx tx a10 k).1) (fun k => (ff_tk lk rc mt ac ch sx px hx tx a10 k).2.1) (fun k => (ff_tk lk rc mt ac ch sx px hx tx a10 k).2.2.1) tx → (∀ k, k < 8 → a10' k = (ff_tk lk rc mt ac ch sx px hx tx a10 k).2.2.2) →
      post (nI (ff_nm (fun k => sx k == 1 && (ff_tk lk rc mt ac ch sx px hx tx a10 k).1 == 1) 8)) (act, opl', ohd', fn, fc, kd, dp, gt, st, a1, a2, a3, a4, a5, a6', a7', a8', a9, a10', a11, a12, a13, a14, a15, a16, a17, a18, a19, a20, a21, a22, a23, a24, a25, a26, a27)) : wpX_tick post (act, opl, ohd, fn, fc, kd, dp, gt, st, a1, a2, a3, a4, a5, a6, a7, a8, a9, a10, a11, a12, a13, a14, a15, a16, a17, a18, a19, a20, a21, a22, a23, a24, a25, a26, a27) := by
  unfold wpX_tick
  try dsimp only
  exact ⟨9, ff_tick_4 (tr := a10) hA (fun k hk => (hP k hk).2.1) (fun k hk z => ⟨((hP k hk).2.2 z).2.2.2.2.1, ((hP k hk).2.2 z).2.2.2.2.2⟩) H 8 0 opl ohd a6 a7 a8 a10 (by omega) (fun k hk => absurd hk (by omega))
    (fun k _ hk => ⟨(hP k hk).1, rfl, fun z => ⟨((hP k hk).2.2 z).1, ((hP k hk).2.2 z).2.1, ((hP k hk).2.2 z).2.2.1, ((hP k hk).2.2 z).2.2.2.1⟩⟩)⟩
theorem ff_isPacket {post : Int32 → Prop} {x : Nat} (hx : x < 8) (H : post 1) : wpX_isPacket post () (nI x) := by
  unfold wpX_isPacket
  try dsimp only
  exact br_f (nI_pos (by omega)) (br_f (nI_ge (b := 8) hx (by omega)) H)
theorem ff_state {post : Int32 → Prop} {act opl ohd fn fc kd dp gt st : Int32} {a1 a2 a3 a4 a5 a6 a7 a8 a9 a10 a11 a12 a13 a14 a15 a16 a17 a18 a19 a20 a21 a22 a23 a24 a25 a26 a27 : Nat → Int32} {sx px hx tx : Nat → Nat} {k : Nat} (hP : ff_PA a6 a7 a8 a9 sx px hx tx) (hk : k < 8) (H : post (nI (sx k))) : wpX_state post (act, opl, ohd, fn, fc, kd, dp, gt, st, a1, a2, a3, a4, a5, a6, a7, a8, a9, a10, a11, a12, a13, a14, a15, a16, a17, a18, a19, a20, a21, a22, a23, a24, a25, a26, a27) (nI k) := by
  unfold wpX_state
  try dsimp only
  refine ff_isPacket hk (br_f (by decide) ⟨pk_in k 8 hk, ?_⟩)
  try dsimp only
  rw [nI_clamp (by omega), (hP k hk).1]
  exact H
theorem ff_header {post : Int32 → Prop} {act opl ohd fn fc kd dp gt st : Int32} {a1 a2 a3 a4 a5 a6 a7 a8 a9 a10 a11 a12 a13 a14 a15 a16 a17 a18 a19 a20 a21 a22 a23 a24 a25 a26 a27 : Nat → Int32} {sx px hx tx : Nat → Nat} {k : Nat} (hP : ff_PA a6 a7 a8 a9 sx px hx tx) (hk : k < 8) (H0 : sx k = 0 → post (-2)) (H : sx k ≠ 0 → post (nI (hx k))) : wpX_header post (act, opl, ohd, fn, fc, kd, dp, gt, st, a1, a2, a3, a4, a5, a6, a7, a8, a9, a10, a11, a12, a13, a14, a15, a16, a17, a18, a19, a20, a21, a22, a23, a24, a25, a26, a27) (nI k) := by
  obtain ⟨g6, g4, gr⟩ := hP k hk
  unfold wpX_header
  try dsimp only
  refine ff_isPacket hk (br_f (by decide) ⟨pk_in k 8 hk, ?_⟩)
  try dsimp only
  rw [nI_clamp (by omega), g6]
  refine pk_eq (sx k) 0 H0 (fun e => ⟨pk_in k 8 hk, ?_⟩)
  try dsimp only
  rw [(gr e).2.2.1]
  exact H e
theorem ff_where {post : Int32 → Prop} {act opl ohd fn fc kd dp gt st : Int32} {a1 a2 a3 a4 a5 a6 a7 a8 a9 a10 a11 a12 a13 a14 a15 a16 a17 a18 a19 a20 a21 a22 a23 a24 a25 a26 a27 : Nat → Int32} {sx px hx tx : Nat → Nat} {k : Nat} (hP : ff_PA a6 a7 a8 a9 sx px hx tx) (hk : k < 8) (H0 : sx k = 0 → post (-2)) (H : sx k ≠ 0 → post (nI (px k))) : wpX_where post (act, opl, ohd, fn, fc, kd, dp, gt, st, a1, a2, a3, a4, a5, a6, a7, a8, a9, a10, a11, a12, a13, a14, a15, a16, a17, a18, a19, a20, a21, a22, a23, a24, a25, a26, a27) (nI k) := by
  obtain ⟨g6, g4, gr⟩ := hP k hk
  unfold wpX_where
  try dsimp only
  refine ff_isPacket hk (br_f (by decide) ⟨pk_in k 8 hk, ?_⟩)
  try dsimp only
  rw [nI_clamp (by omega), g6]
  refine pk_eq (sx k) 0 H0 (fun e => ⟨pk_in k 8 hk, ?_⟩)
  try dsimp only
  rw [(gr e).1]
  exact H e
end
section
/-! ===== the turn is kept ===== -/
def ff_Lk (lk lk' : Nat → Nat) : Prop := ∀ p, p < 20 → (lk p < 20 → lk' (ff_t p) = ff_t (lk p)) ∧ (20 ≤ lk p → 20 ≤ lk' (ff_t p))
def ff_Rw (rc mt ac ch rc' mt' ac' ch' : Nat → Nat) (t s : Nat) : Prop := rc' (5 * t + (s + 1) % 5) = rc (5 * t + s) ∧ ∀ i, i < rc (5 * t + s) →
    mt' (6 * (5 * t + (s + 1) % 5) + i) = mt (6 * (5 * t + s) + i) ^^^ 63 ∧ ac' (6 * (5 * t + (s + 1) % 5) + i) = ff_o (ac (6 * (5 * t + s) + i)) ∧ ch' (6 * (5 * t + (s + 1) % 5) + i) = ch (6 * (5 * t + s) + i) ^^^ 63
theorem ff_Lk_2 {lk lk' : Nat → Nat} {a x b y x' y' : Nat} (h : ff_Lk lk lk') (ha : a < 20) (hb : b < 20) (hx : (x < 20 → x' = ff_t x) ∧ (20 ≤ x → 20 ≤ x')) (hy : (y < 20 → y' = ff_t y) ∧ (20 ≤ y → 20 ≤ y')) : ff_Lk (ff_lk2 lk a x b y) (ff_lk2 lk' (ff_t a) x' (ff_t b) y') := by
  intro p hp
  unfold ff_lk2
  by_cases e : p = b
  · try dsimp only
    rw [if_pos e, if_pos (by rw [e])]
    exact hy
  · try dsimp only
    rw [if_neg e, if_neg (fun z => e (ff_t_inj hp hb z))]
    by_cases e' : p = a
    · try dsimp only
      rw [if_pos e', if_pos (by rw [e'])]
      exact hx
    · try dsimp only
      rw [if_neg e', if_neg (fun z => e' (ff_t_inj hp ha z))]
      exact h p hp
theorem ff_up_o {f : Nat → Nat} {k x j : Nat} (h : j ≠ k) : ff_up f k x j = f j := if_neg h
theorem ff_up_s {f : Nat → Nat} {k x : Nat} : ff_up f k x k = x := if_pos rfl
theorem ff_Rw_add {rc mt ac ch rc' mt' ac' ch' : Nat → Nat} {sw m a c : Nat} (hc : ff_Cf rc mt ac ch) (h : ∀ t s, t < 4 → s < 5 → ff_Rw rc mt ac ch rc' mt' ac' ch' t s) (hsw : sw < 5) (hr : rc sw < 6) :
    ∀ t s, t < 4 → s < 5 → ff_Rw (ff_up rc sw (rc sw + 1)) (ff_up mt (6 * sw + rc sw) m) (ff_up ac (6 * sw + rc sw) a) (ff_up ch (6 * sw + rc sw) c)
      (ff_up rc' ((sw + 1) % 5) (rc' ((sw + 1) % 5) + 1)) (ff_up mt' (6 * ((sw + 1) % 5) + rc' ((sw + 1) % 5)) (m ^^^ 63)) (ff_up ac' (6 * ((sw + 1) % 5) + rc' ((sw + 1) % 5)) (ff_o a)) (ff_up ch' (6 * ((sw + 1) % 5) + rc' ((sw + 1) % 5)) (c ^^^ 63)) t s := by
  intro t s ht hs
  have e0 : rc' ((sw + 1) % 5) = rc sw := by
    have := (h 0 sw (by omega) hsw).1
    rw [show 5 * 0 + (sw + 1) % 5 = (sw + 1) % 5 by omega, show 5 * 0 + sw = sw by omega] at this
    exact this
  obtain ⟨g1, g2⟩ := h t s ht hs
  have hl := hc.1 (5 * t + s) (by omega)
  rw [e0]
  unfold ff_Rw
  by_cases e : 5 * t + s = sw
  · have e' : 5 * t + (s + 1) % 5 = (sw + 1) % 5 := by omega
    rw [e] at g2 ⊢
    rw [e'] at g2 ⊢
    rw [ff_up_s, ff_up_s]
    refine ⟨rfl, fun i hi => ?_⟩
    try dsimp only
    by_cases ei : i = rc sw
    · subst ei
      rw [ff_up_s, ff_up_s, ff_up_s, ff_up_s, ff_up_s, ff_up_s]
      exact ⟨rfl, rfl, rfl⟩
    · try dsimp only
      rw [ff_up_o (by omega), ff_up_o (by omega), ff_up_o (by omega), ff_up_o (by omega), ff_up_o (by omega), ff_up_o (by omega)]
      exact g2 i (by omega)
  · have e' : 5 * t + (s + 1) % 5 ≠ (sw + 1) % 5 := by omega
    rw [ff_up_o e, ff_up_o e']
    refine ⟨g1, fun i hi => ?_⟩
    try dsimp only
    rw [ff_up_o (by omega), ff_up_o (by omega), ff_up_o (by omega), ff_up_o (by omega), ff_up_o (by omega), ff_up_o (by omega)]
    exact g2 i hi
theorem ff_sh_in {s i k x : Nat} {M : Nat → Nat} (hx : i ≤ x) (hk : x < k) : ff_sh s i k M (6 * s + x) = M (6 * s + (x + 1)) := by
  unfold ff_sh
  try dsimp only
  rw [if_pos (by omega)]
  rfl
theorem ff_sh_out {s i k j : Nat} {M : Nat → Nat} (h : ¬ (6 * s + i ≤ j ∧ j < 6 * s + k)) : ff_sh s i k M j = M j := if_neg h
theorem ff_Rw_drop {rc mt ac ch rc' mt' ac' ch' : Nat → Nat} {sw k : Nat} (hc : ff_Cf rc mt ac ch) (h : ∀ t s, t < 4 → s < 5 → ff_Rw rc mt ac ch rc' mt' ac' ch' t s) (hsw : sw < 5) (hk : k < rc sw) :
    ∀ t s, t < 4 → s < 5 → ff_Rw (ff_up rc sw (rc sw - 1)) (ff_sh sw k (rc sw - 1) mt) (ff_sh sw k (rc sw - 1) ac) (ff_sh sw k (rc sw - 1) ch)
      (ff_up rc' ((sw + 1) % 5) (rc' ((sw + 1) % 5) - 1)) (ff_sh ((sw + 1) % 5) k (rc' ((sw + 1) % 5) - 1) mt') (ff_sh ((sw + 1) % 5) k (rc' ((sw + 1) % 5) - 1) ac') (ff_sh ((sw + 1) % 5) k (rc' ((sw + 1) % 5) - 1) ch') t s := by
  intro t s ht hs
  have e0 : rc' ((sw + 1) % 5) = rc sw := by
    have := (h 0 sw (by omega) hsw).1
    rw [show 5 * 0 + (sw + 1) % 5 = (sw + 1) % 5 by omega, show 5 * 0 + sw = sw by omega] at this
    exact this
  obtain ⟨g1, g2⟩ := h t s ht hs
  have hl := hc.1 (5 * t + s) (by omega)
  have hl0 := hc.1 sw (by omega)
  rw [e0]
  unfold ff_Rw
  by_cases e : 5 * t + s = sw
  · have e' : 5 * t + (s + 1) % 5 = (sw + 1) % 5 := by omega
    rw [e] at g2 ⊢
    rw [e'] at g2 ⊢
    rw [ff_up_s, ff_up_s]
    refine ⟨rfl, fun i hi => ?_⟩
    try dsimp only
    by_cases ei : k ≤ i
    · try dsimp only
      rw [ff_sh_in ei hi, ff_sh_in ei hi, ff_sh_in ei hi, ff_sh_in ei hi, ff_sh_in ei hi, ff_sh_in ei hi]
      exact g2 (i + 1) (by omega)
    · try dsimp only
      rw [ff_sh_out (by omega), ff_sh_out (by omega), ff_sh_out (by omega), ff_sh_out (by omega), ff_sh_out (by omega), ff_sh_out (by omega)]
      exact g2 i (by omega)
  · have e' : 5 * t + (s + 1) % 5 ≠ (sw + 1) % 5 := by omega
    rw [ff_up_o e, ff_up_o e']
    refine ⟨g1, fun i hi => ?_⟩
    try dsimp only
    rw [ff_sh_out (by omega), ff_sh_out (by omega), ff_sh_out (by omega), ff_sh_out (by omega), ff_sh_out (by omega), ff_sh_out (by omega)]
    exact g2 i hi
/-- where the rule at x comes from -/
def ff_mi (i j x : Nat) : Nat := if x = j then i else if i ≤ x ∧ x < j then x + 1 else if j < x ∧ x ≤ i then x - 1 else x
theorem ff_mv_in {s i j x : Nat} {M : Nat → Nat} : ff_mv s i j M (6 * s + x) = M (6 * s + ff_mi i j x) := by
  unfold ff_mv ff_mi
  by_cases e : x = j
  · try dsimp only
    rw [if_pos (by omega), if_pos e]
  · try dsimp only
    rw [if_neg (by omega), if_neg e]
    by_cases c : i ≤ x ∧ x < j
    · try dsimp only
      rw [if_pos (by omega), if_pos c]
      rfl
    · try dsimp only
      rw [if_neg (by omega), if_neg c]
      by_cases d : j < x ∧ x ≤ i
      · try dsimp only
        rw [if_pos (by omega), if_pos d]
        congr 1
        omega
      · try dsimp only
        rw [if_neg (by omega), if_neg d]
theorem ff_mv_out {s i j y : Nat} {M : Nat → Nat} (hi : i < 6) (hj : j < 6) (h : y < 6 * s ∨ 6 * s + 6 ≤ y) : ff_mv s i j M y = M y := by
  unfold ff_mv
  try dsimp only
  rw [if_neg (by omega), if_neg (by omega), if_neg (by omega)]
theorem ff_mi_lt {i j x r : Nat} (hi : i < r) (hj : j < r) (hx : x < r) : ff_mi i j x < r := by
  unfold ff_mi
  split
  · omega
  · split
    · omega
    · split <;> omega
theorem ff_Rw_move {rc mt ac ch rc' mt' ac' ch' : Nat → Nat} {sw k l : Nat} (hc : ff_Cf rc mt ac ch) (h : ∀ t s, t < 4 → s < 5 → ff_Rw rc mt ac ch rc' mt' ac' ch' t s) (hsw : sw < 5) (hk : k < rc sw) (hl : l < rc sw) :
    ∀ t s, t < 4 → s < 5 → ff_Rw rc (ff_mv sw k l mt) (ff_mv sw k l ac) (ff_mv sw k l ch) rc' (ff_mv ((sw + 1) % 5) k l mt') (ff_mv ((sw + 1) % 5) k l ac') (ff_mv ((sw + 1) % 5) k l ch') t s := by
  intro t s ht hs
  obtain ⟨g1, g2⟩ := h t s ht hs
  have hl1 := hc.1 (5 * t + s) (by omega)
  have hl0 := hc.1 sw (by omega)
  unfold ff_Rw
  refine ⟨g1, fun i hi => ?_⟩
  try dsimp only
  by_cases e : 5 * t + s = sw
  · have e' : 5 * t + (s + 1) % 5 = (sw + 1) % 5 := by omega
    rw [e] at g2 hi ⊢
    rw [e'] at g2 ⊢
    rw [ff_mv_in, ff_mv_in, ff_mv_in, ff_mv_in, ff_mv_in, ff_mv_in]
    exact g2 _ (ff_mi_lt hk hl hi)
  · have e' : 5 * t + (s + 1) % 5 ≠ (sw + 1) % 5 := by omega
    rw [ff_mv_out (by omega) (by omega) (by omega), ff_mv_out (by omega) (by omega) (by omega), ff_mv_out (by omega) (by omega) (by omega), ff_mv_out (by omega) (by omega) (by omega), ff_mv_out (by omega) (by omega) (by omega), ff_mv_out (by omega) (by omega) (by omega)]
    exact g2 i hi
theorem ff_tc5_in {f t s : Nat} {M : Nat → Nat} (hs : s < 5) : ff_tc 5 f t 5 M (5 * t + s) = M (5 * f + s) := by
  unfold ff_tc
  try dsimp only
  rw [if_pos (by omega)]
  congr 1
  omega
theorem ff_tc5_out {f t t' s : Nat} {M : Nat → Nat} (hs : s < 5) (h : t' ≠ t) : ff_tc 5 f t 5 M (5 * t' + s) = M (5 * t' + s) := by
  unfold ff_tc
  try dsimp only
  rw [if_neg (by omega)]
theorem ff_tc30_in {f t s i : Nat} {M : Nat → Nat} (hs : s < 5) (hi : i < 6) : ff_tc 30 f t 30 M (6 * (5 * t + s) + i) = M (6 * (5 * f + s) + i) := by
  unfold ff_tc
  try dsimp only
  rw [if_pos (by omega)]
  congr 1
  omega
theorem ff_tc30_out {f t t' s i : Nat} {M : Nat → Nat} (hs : s < 5) (hi : i < 6) (h : t' ≠ t) : ff_tc 30 f t 30 M (6 * (5 * t' + s) + i) = M (6 * (5 * t' + s) + i) := by
  unfold ff_tc
  try dsimp only
  rw [if_neg (by omega)]
theorem ff_Rw_tc {rc mt ac ch rc' mt' ac' ch' : Nat → Nat} {f t : Nat} (hc : ff_Cf rc mt ac ch) (h : ∀ t s, t < 4 → s < 5 → ff_Rw rc mt ac ch rc' mt' ac' ch' t s) (hf : f < 4) :
    ∀ t' s, t' < 4 → s < 5 → ff_Rw (ff_tc 5 f t 5 rc) (ff_tc 30 f t 30 mt) (ff_tc 30 f t 30 ac) (ff_tc 30 f t 30 ch) (ff_tc 5 f t 5 rc') (ff_tc 30 f t 30 mt') (ff_tc 30 f t 30 ac') (ff_tc 30 f t 30 ch') t' s := by
  intro t' s ht hs
  have h5 : (s + 1) % 5 < 5 := by omega
  unfold ff_Rw
  by_cases e : t' = t
  · subst e
    obtain ⟨g1, g2⟩ := h f s hf hs
    have hl := hc.1 (5 * f + s) (by omega)
    rw [ff_tc5_in hs, ff_tc5_in h5]
    refine ⟨g1, fun i hi => ?_⟩
    try dsimp only
    rw [ff_tc30_in hs (by omega), ff_tc30_in hs (by omega), ff_tc30_in hs (by omega), ff_tc30_in h5 (by omega), ff_tc30_in h5 (by omega), ff_tc30_in h5 (by omega)]
    exact g2 i hi
  · obtain ⟨g1, g2⟩ := h t' s ht hs
    have hl := hc.1 (5 * t' + s) (by omega)
    rw [ff_tc5_out hs e, ff_tc5_out h5 e]
    refine ⟨g1, fun i hi => ?_⟩
    try dsimp only
    rw [ff_tc30_out hs (by omega) e, ff_tc30_out hs (by omega) e, ff_tc30_out hs (by omega) e, ff_tc30_out h5 (by omega) e, ff_tc30_out h5 (by omega) e, ff_tc30_out h5 (by omega) e]
    exact g2 i hi
/-! packets -/
def ff_PSy (sx px hx tx : Nat → Nat) (tr : Nat → Int32) (sx' px' hx' tx' : Nat → Nat) (tr' : Nat → Int32) : Prop := ∀ k, k < 8 → sx' k = sx k ∧ (sx k ≠ 0 → px' k = ff_t (px k) ∧ hx' k = 63 - hx k ∧ tx' k = tx k ∧ tr' k = tr k)
theorem ff_us_y {sx px hx tx sx' px' hx' tx' : Nat → Nat} {tr tr' : Nat → Int32} (h : ff_PSy sx px hx tx tr sx' px' hx' tx' tr') (t : Nat) : ff_us sx' tx' t = ff_us sx tx t := by
  rw [Bool.eq_iff_iff, ff_us_t, ff_us_t]
  constructor
  · rintro ⟨k, hk, h1, h2⟩
    obtain ⟨g1, g2⟩ := h k hk
    rw [g1] at h1
    obtain ⟨_, _, g3, _⟩ := g2 (by omega)
    exact ⟨k, hk, h1, by rw [← g3]; exact h2⟩
  · rintro ⟨k, hk, h1, h2⟩
    obtain ⟨g1, g2⟩ := h k hk
    obtain ⟨_, _, g3, _⟩ := g2 (by omega)
    exact ⟨k, hk, by rw [g1]; exact h1, by rw [g3]; exact h2⟩
theorem ff_kt_y {sx px hx tx sx' px' hx' tx' : Nat → Nat} {tr tr' : Nat → Int32} (h : ff_PSy sx px hx tx tr sx' px' hx' tx' tr') (a : Nat) : ff_kt sx' tx' a = ff_kt sx tx a := by
  unfold ff_kt ff_kb
  try dsimp only
  rw [ff_us_y h, ff_us_y h, ff_us_y h]
theorem ff_pb_y {sx px hx tx sx' px' hx' tx' : Nat → Nat} {tr tr' : Nat → Int32} (h : ff_PSy sx px hx tx tr sx' px' hx' tx' tr') (a : Nat) : ff_pb sx' tx' a = ff_pb sx tx a := by
  unfold ff_pb ff_kb
  try dsimp only
  rw [ff_us_y h, ff_us_y h, ff_us_y h]
theorem ff_hop_y {lk rc mt ac ch lk' rc' mt' ac' ch' : Nat → Nat} {t p h : Nat} {tr : Int32} (hc : ff_Cf rc mt ac ch) (hS : ff_Sym lk rc mt ac ch lk' rc' mt' ac' ch') (ht : t < 4) (hp : p < 20) (hh : h < 64) :
    ff_hop lk' rc' mt' ac' ch' t (ff_t p) (63 - h) tr = ((ff_hop lk rc mt ac ch t p h tr).1, ff_t (ff_hop lk rc mt ac ch t p h tr).2.1, 63 - (ff_hop lk rc mt ac ch t p h tr).2.2.1, (ff_hop lk rc mt ac ch t p h tr).2.2.2) := by
  unfold ff_hop
  try dsimp only
  rw [ff_t_sw hp]
  have hl : 5 * t + p / 4 < 20 := by omega
  have hr := hc.1 _ hl
  obtain ⟨k1, k2⟩ := hS.2 t (p / 4) ht (by omega)
  rw [k1]
  rcases ff_pick_sym (q := fun j => ff_mb (mt j) h 6) (q' := fun j => ff_mb (mt' j) (63 - h) 6) (base := 6 * (5 * t + p / 4)) (base' := 6 * (5 * t + (p / 4 + 1) % 5)) (cnt := rc (5 * t + p / 4))
    (fun i hi => by
      try dsimp only
      rw [(k2 i hi).1, ff_mb_rev _ hh 6 (Nat.le_refl 6)]) _ (Nat.le_refl _) with ⟨e, e'⟩ | ⟨i, hi, e, e'⟩
  · try dsimp only
    rw [e, e', if_pos (by omega), if_pos (by omega)]
  · try dsimp only
    rw [e, e']
    obtain ⟨m1, m2, m3⟩ := k2 i hi
    have hj := ff_idx hl (Nat.lt_of_lt_of_le hi hr)
    have hj' : 6 * (5 * t + (p / 4 + 1) % 5) + i < 120 := ff_idx (by omega) (Nat.lt_of_lt_of_le hi hr)
    have ha := (hc.2 _ hj).2.1
    rw [if_neg (show ¬ 120 ≤ 6 * (5 * t + p / 4) + i by omega), if_neg (show ¬ 120 ≤ 6 * (5 * t + (p / 4 + 1) % 5) + i by omega)]
    by_cases h4 : ac (6 * (5 * t + p / 4) + i) = 4
    · try dsimp only
      rw [if_pos h4, if_pos (by rw [m2, h4]; rfl)]
    · try dsimp only
      rw [if_neg h4, if_neg (show ¬ ac' (6 * (5 * t + (p / 4 + 1) % 5) + i) = 4 by rw [m2]; unfold ff_o; split <;> omega)]
      have ho := ff_out_lt hp ha h4
      rw [ff_out_sym hp ha h4 m2]
      obtain ⟨g1, g2⟩ := hS.1 _ ho
      by_cases hk : lk (ff_out ac p (6 * (5 * t + p / 4) + i)) < 20
      · have hk' : lk' (ff_t (ff_out ac p (6 * (5 * t + p / 4) + i))) < 20 := by rw [g1 hk]; exact ff_t_lt hk
        rw [if_pos hk, if_pos hk', g1 hk, m3, ff_chg_rev _ hh]
      · have := g2 (by omega)
        rw [if_neg hk, if_neg (by omega), m3, ff_chg_rev _ hh]
theorem ff_tk_y {lk rc mt ac ch lk' rc' mt' ac' ch' sx px hx tx sx' px' hx' tx' : Nat → Nat} {tr tr' : Nat → Int32} (hc : ff_Cf rc mt ac ch) (hS : ff_Sym lk rc mt ac ch lk' rc' mt' ac' ch') (h : ff_PSy sx px hx tx tr sx' px' hx' tx' tr') (hb : ∀ k, k < 8 → sx k ≠ 0 → px k < 20 ∧ hx k < 64 ∧ tx k < 4) {k : Nat} (hk : k < 8) :
    (ff_tk lk' rc' mt' ac' ch' sx' px' hx' tx' tr' k).1 = (ff_tk lk rc mt ac ch sx px hx tx tr k).1 ∧ (sx k ≠ 0 →
      (ff_tk lk' rc' mt' ac' ch' sx' px' hx' tx' tr' k).2.1 = ff_t (ff_tk lk rc mt ac ch sx px hx tx tr k).2.1 ∧ (ff_tk lk' rc' mt' ac' ch' sx' px' hx' tx' tr' k).2.2.1 = 63 - (ff_tk lk rc mt ac ch sx px hx tx tr k).2.2.1 ∧ (ff_tk lk' rc' mt' ac' ch' sx' px' hx' tx' tr' k).2.2.2 = (ff_tk lk rc mt ac ch sx px hx tx tr k).2.2.2) := by
  obtain ⟨g1, g2⟩ := h k hk
  unfold ff_tk
  try dsimp only
  rw [g1]
  by_cases e : sx k = 1
  · obtain ⟨g3, g4, g5, g6⟩ := g2 (by omega)
    obtain ⟨b1, b2, b3⟩ := hb k hk (by omega)
    rw [if_pos e, if_pos e, g3, g4, g5, g6, ff_hop_y hc hS b3 b1 b2]
    exact ⟨rfl, fun _ => ⟨rfl, rfl, rfl⟩⟩
  · try dsimp only
    rw [if_neg e, if_neg e]
    refine ⟨rfl, fun z => ?_⟩
    obtain ⟨g3, g4, g5, g6⟩ := g2 z
    exact ⟨g3, g4, g6⟩
/-! questions -/
theorem ff_q_arr {lk rc mt ac ch lk' rc' mt' ac' ch' : Nat → Nat} {tb p to : Nat} (hc : ff_Cf rc mt ac ch) (hS : ff_Sym lk rc mt ac ch lk' rc' mt' ac' ch') (htb : tb < 4) (hp : p < 20) (hto : to < 20) :
    ff_cn (fun h => ff_res lk' rc' mt' ac' ch' tb 5 16 (ff_t p) h == 100 + ff_t to) = ff_cn (fun h => ff_res lk rc mt ac ch tb 5 16 p h == 100 + to) := by
  rw [← ff_cn_rev]
  refine ff_cn_c (fun h hh => ?_)
  have e := ff_res_sym (s := 5) hc hS htb 16 p h hp hh
  have e' : ff_res lk' rc' mt' ac' ch' tb 5 16 (ff_t p) (63 - h) = ff_tau (ff_res lk rc mt ac ch tb 5 16 p h) := e
  have hv := ff_res_lt (lk := lk) (s := 5) hc htb 16 p h hp
  try dsimp only
  rw [e', Bool.eq_iff_iff, beq_iff_eq, beq_iff_eq]
  have et : 100 + ff_t to = ff_tau (100 + to) := by
    unfold ff_tau
    try dsimp only
    rw [if_pos (by omega), show 100 + to - 100 = to by omega]
  rw [et]
  exact ⟨fun z => ff_tau_inj hv (by omega) z, fun z => by rw [z]⟩
theorem ff_q_low {lk rc mt ac ch lk' rc' mt' ac' ch' : Nat → Nat} {tb s p v : Nat} (hc : ff_Cf rc mt ac ch) (hS : ff_Sym lk rc mt ac ch lk' rc' mt' ac' ch') (htb : tb < 4) (hp : p < 20) (hv : v < 100) :
    ff_cn (fun h => ff_res lk' rc' mt' ac' ch' tb (ff_ts s) 16 (ff_t p) h == v) = ff_cn (fun h => ff_res lk rc mt ac ch tb s 16 p h == v) := by
  rw [← ff_cn_rev]
  refine ff_cn_c (fun h hh => ?_)
  have e := ff_res_sym (s := s) hc hS htb 16 p h hp hh
  have hv' := ff_res_lt (lk := lk) (s := s) hc htb 16 p h hp
  try dsimp only
  rw [e, Bool.eq_iff_iff, beq_iff_eq, beq_iff_eq]
  have et : v = ff_tau v := by
    unfold ff_tau
    try dsimp only
    rw [if_neg (by omega)]
  constructor
  · intro z
    rw [et] at z
    exact ff_tau_inj hv' (by omega) z
  · intro z
    rw [z]
    exact et.symm
theorem ff_q_dif {lk rc mt ac ch lk' rc' mt' ac' ch' : Nat → Nat} {tb p : Nat} (hc : ff_Cf rc mt ac ch) (hS : ff_Sym lk rc mt ac ch lk' rc' mt' ac' ch') (htb : tb < 4) (hp : p < 20) :
    ff_cn (fun h => ff_res lk' rc' mt' ac' ch' tb 5 16 (ff_t p) h != ff_res lk' rc' mt' ac' ch' 0 5 16 (ff_t p) h) = ff_cn (fun h => ff_res lk rc mt ac ch tb 5 16 p h != ff_res lk rc mt ac ch 0 5 16 p h) := by
  rw [← ff_cn_rev]
  refine ff_cn_c (fun h hh => ?_)
  have e1 : ff_res lk' rc' mt' ac' ch' tb 5 16 (ff_t p) (63 - h) = ff_tau (ff_res lk rc mt ac ch tb 5 16 p h) := ff_res_sym (s := 5) hc hS htb 16 p h hp hh
  have e2 : ff_res lk' rc' mt' ac' ch' 0 5 16 (ff_t p) (63 - h) = ff_tau (ff_res lk rc mt ac ch 0 5 16 p h) := ff_res_sym (s := 5) hc hS (by omega) 16 p h hp hh
  have h1 := ff_res_lt (lk := lk) (s := 5) hc htb 16 p h hp
  have h2 := ff_res_lt (lk := lk) (s := 5) (tb := 0) hc (by omega) 16 p h hp
  try dsimp only
  rw [e1, e2, Bool.eq_iff_iff, bne_iff_ne, bne_iff_ne]
  exact ⟨fun z g => z (by rw [g]), fun z g => z (ff_tau_inj h1 h2 g)⟩
theorem ff_q_dec {lk rc mt ac ch lk' rc' mt' ac' ch' : Nat → Nat} {sw i : Nat} (hc : ff_Cf rc mt ac ch) (hS : ff_Sym lk rc mt ac ch lk' rc' mt' ac' ch') (hsw : sw < 5) :
    ff_cn (fun h => ff_dc rc' mt' ((sw + 1) % 5) h == i) = ff_cn (fun h => ff_dc rc mt sw h == i) := by
  rw [← ff_cn_rev]
  refine ff_cn_c (fun h hh => ?_)
  obtain ⟨k1, k2⟩ := hS.2 0 sw (by omega) hsw
  rw [show 5 * 0 + (sw + 1) % 5 = (sw + 1) % 5 by omega, show 5 * 0 + sw = sw by omega] at k1 k2
  have hr := hc.1 sw (by omega)
  have e : ff_dc rc' mt' ((sw + 1) % 5) (63 - h) = ff_dc rc mt sw h := by
    unfold ff_dc
    try dsimp only
    rw [k1]
    rcases ff_pick_sym (q := fun j => ff_mb (mt j) h 6) (q' := fun j => ff_mb (mt' j) (63 - h) 6) (base := 6 * sw) (base' := 6 * ((sw + 1) % 5)) (cnt := rc sw)
      (fun i hi => by
        try dsimp only
        rw [(k2 i hi).1, ff_mb_rev _ hh 6 (Nat.le_refl 6)]) _ (Nat.le_refl _) with ⟨e, e'⟩ | ⟨i, hi, e, e'⟩
    · try dsimp only
      rw [e, e']
      rfl
    · try dsimp only
      rw [e, e']
      unfold ff_sel
      try dsimp only
      rw [if_neg (by omega), if_neg (by omega)]
      omega
  try dsimp only
  rw [e]
def ff_sg (v : Nat) : Nat := if v = 256 then 256 else 64 * ff_o (v / 64) + (63 - v % 64)
theorem ff_T_y {lk rc mt ac ch lk' rc' mt' ac' ch' : Nat → Nat} {sw wo wo' h : Nat} (hc : ff_Cf rc mt ac ch) (hS : ff_Sym lk rc mt ac ch lk' rc' mt' ac' ch') (hsw : sw < 5) (hh : h < 64) (hw : ∀ i, i < 6 → (6 * sw + i = wo ↔ 6 * ((sw + 1) % 5) + i = wo')) :
    ff_T rc' mt' ac' ch' ((sw + 1) % 5) wo' (63 - h) = ff_sg (ff_T rc mt ac ch sw wo h) ∧ (ff_T rc mt ac ch sw wo h = 256 ∨ ∃ a x, a ≤ 5 ∧ a ≠ 4 ∧ x < 64 ∧ ff_T rc mt ac ch sw wo h = 64 * a + x) := by
  obtain ⟨k1, k2⟩ := hS.2 0 sw (by omega) hsw
  rw [show 5 * 0 + (sw + 1) % 5 = (sw + 1) % 5 by omega, show 5 * 0 + sw = sw by omega] at k1 k2
  have hr := hc.1 sw (by omega)
  unfold ff_T
  try dsimp only
  rw [k1]
  rcases ff_pick_sym (q := fun j => decide (j ≠ wo) && ff_mb (mt j) h 6) (q' := fun j => decide (j ≠ wo') && ff_mb (mt' j) (63 - h) 6) (base := 6 * sw) (base' := 6 * ((sw + 1) % 5)) (cnt := rc sw)
    (fun i hi => by
      try dsimp only
      rw [(k2 i hi).1, ff_mb_rev _ hh 6 (Nat.le_refl 6)]
      congr 1
      rw [decide_eq_decide]
      exact ⟨fun z g => z ((hw i (by omega)).mp g), fun z g => z ((hw i (by omega)).mpr g)⟩) _ (Nat.le_refl _) with ⟨e, e'⟩ | ⟨i, hi, e, e'⟩
  · try dsimp only
    rw [e, e']
    exact ⟨rfl, Or.inl rfl⟩
  · try dsimp only
    rw [e, e']
    unfold ff_sel
    try dsimp only
    rw [if_neg (by omega), if_neg (by omega)]
    obtain ⟨m1, m2, m3⟩ := k2 i hi
    have ha := (hc.2 (6 * sw + i) (by omega)).2.1
    have hx := ff_chg_lt (ch (6 * sw + i)) hh
    unfold ff_tv
    by_cases h4 : ac (6 * sw + i) = 4
    · try dsimp only
      rw [if_pos h4, if_pos (by rw [m2, h4]; rfl)]
      exact ⟨rfl, Or.inl rfl⟩
    · try dsimp only
      rw [if_neg h4, if_neg (show ¬ ac' (6 * ((sw + 1) % 5) + i) = 4 by rw [m2]; unfold ff_o; split <;> omega), m2, m3, ff_chg_rev _ hh]
      refine ⟨?_, Or.inr ⟨ac (6 * sw + i), ff_chg (ch (6 * sw + i)) h, ha, h4, hx, rfl⟩⟩
      unfold ff_sg
      try dsimp only
      rw [if_neg (by omega), show (64 * ac (6 * sw + i) + ff_chg (ch (6 * sw + i)) h) / 64 = ac (6 * sw + i) by omega, show (64 * ac (6 * sw + i) + ff_chg (ch (6 * sw + i)) h) % 64 = ff_chg (ch (6 * sw + i)) h by omega]
theorem ff_sg_v {a x : Nat} (h1 : a ≤ 5) (h2 : a ≠ 4) (h3 : x < 64) : ff_sg (64 * a + x) = 64 * ff_o a + (63 - x) := by
  unfold ff_sg
  rw [if_neg (by omega), show (64 * a + x) / 64 = a by omega, show (64 * a + x) % 64 = x by omega]
theorem ff_o_n4 {a : Nat} (h1 : a ≤ 5) (h2 : a ≠ 4) : ff_o a ≠ 4 := by
  unfold ff_o
  split <;> omega
theorem ff_o_inj {a b : Nat} (h1 : a ≤ 5) (h2 : b ≤ 5) (h : ff_o a = ff_o b) : a = b := by
  unfold ff_o at h
  by_cases c : a < 4
  · rw [if_pos c] at h
    by_cases d : b < 4
    · rw [if_pos d] at h
      omega
    · rw [if_neg d] at h
      omega
  · rw [if_neg c] at h
    by_cases d : b < 4
    · rw [if_pos d] at h
      omega
    · rw [if_neg d] at h
      omega
theorem ff_sg_inj {v w : Nat} (hv : v = 256 ∨ ∃ a x, a ≤ 5 ∧ a ≠ 4 ∧ x < 64 ∧ v = 64 * a + x) (hw : w = 256 ∨ ∃ a x, a ≤ 5 ∧ a ≠ 4 ∧ x < 64 ∧ w = 64 * a + x) (h : ff_sg v = ff_sg w) : v = w := by
  have h256 : ff_sg 256 = 256 := rfl
  rcases hv with hv | ⟨a, x, h1, h2, h3, hv⟩
  · rcases hw with hw | ⟨b, y, g1, g2, g3, hw⟩
    · rw [hv, hw]
    · rw [hv, hw, h256, ff_sg_v g1 g2 g3] at h
      have := ff_o_n4 g1 g2
      omega
  · rcases hw with hw | ⟨b, y, g1, g2, g3, hw⟩
    · rw [hv, hw, h256, ff_sg_v h1 h2 h3] at h
      have := ff_o_n4 h1 h2
      omega
    · rw [hv, hw, ff_sg_v h1 h2 h3, ff_sg_v g1 g2 g3] at h
      have e : a = b := ff_o_inj h1 g1 (by omega)
      subst e
      omega
theorem ff_q_ndl {lk rc mt ac ch lk' rc' mt' ac' ch' : Nat → Nat} {sw i : Nat} (hc : ff_Cf rc mt ac ch) (hS : ff_Sym lk rc mt ac ch lk' rc' mt' ac' ch') (hsw : sw < 5) (hi : i < 6) :
    (∀ h, h < 64 → ff_T rc' mt' ac' ch' ((sw + 1) % 5) 120 h = ff_T rc' mt' ac' ch' ((sw + 1) % 5) (6 * ((sw + 1) % 5) + i) h) ↔ (∀ h, h < 64 → ff_T rc mt ac ch sw 120 h = ff_T rc mt ac ch sw (6 * sw + i) h) := by
  have w1 : ∀ j, j < 6 → (6 * sw + j = 120 ↔ 6 * ((sw + 1) % 5) + j = 120) := fun j hj => by omega
  have w2 : ∀ j, j < 6 → (6 * sw + j = 6 * sw + i ↔ 6 * ((sw + 1) % 5) + j = 6 * ((sw + 1) % 5) + i) := fun j hj => by omega
  constructor
  · intro z h hh
    obtain ⟨p1, p2⟩ := ff_T_y hc hS hsw hh w1
    obtain ⟨q1, q2⟩ := ff_T_y hc hS hsw hh w2
    have t := z (63 - h) (by omega)
    rw [p1, q1] at t
    exact ff_sg_inj p2 q2 t
  · intro z h hh
    have hh' : 63 - h < 64 := by omega
    have e63 : 63 - (63 - h) = h := by omega
    obtain ⟨p1, p2⟩ := ff_T_y hc hS hsw hh' w1
    obtain ⟨q1, q2⟩ := ff_T_y hc hS hsw hh' w2
    rw [e63] at p1 q1
    rw [p1, q1, z (63 - h) hh']
end
section
/-! ===== two fabrics answer alike ===== -/
def ff_St (st : Int32) (a23 : Nat → Int32) (B : Nat) : Prop := ∃ s, s ≤ B ∧ st = nI s ∧ ff_Mf a23 s
theorem ff_St_m {st : Int32} {a23 : Nat → Int32} {B B' : Nat} (h : ff_St st a23 B) (e : B ≤ B') : ff_St st a23 B' := by
  obtain ⟨s, h1, h2, h3⟩ := h
  exact ⟨s, by omega, h2, h3⟩
theorem ff_w_arr {post : Int32 → St1 → Prop} {opl ohd fn fc kd dp gt st : Int32} {a1 a2 a3 a4 a5 a6 a7 a8 a9 a10 a11 a12 a13 a14 a15 a16 a17 a18 a19 a20 a21 a22 a23 a24 a25 a26 a27 : Nat → Int32} {lk rc mt ac ch : Nat → Nat} {t f p B to x : Nat} (hx : x = 20 * f + p) (hA : ff_CA a1 a2 a3 a4 a5 lk rc mt ac ch) (ht : t < 4) (hf : f < 2) (hp : p < 20) (hto : to < 20) (hSt : ff_St st a23 B) (hB : B + 3840 < 2 ^ 31)
    (H : ∀ (fn' fc' kd' dp' gt' st' : Int32) (a11' a12' a13' a14' a15' a16' a17' a18' a19' a20' a21' a22' a23' a24' a25' a26' a27' : Nat → Int32), ff_St st' a23' (B + 3840) → post (nI (ff_cn (fun h => ff_res lk rc mt ac ch (ff_tf f t) 5 16 p h == 100 + to))) (nI t, opl, ohd, fn', fc', kd', dp', gt', st', a1, a2, a3, a4, a5, a6, a7, a8, a9, a10, a11', a12', a13', a14', a15', a16', a17', a18', a19', a20', a21', a22', a23', a24', a25', a26', a27')) : wpX_arriving post (nI t, opl, ohd, fn, fc, kd, dp, gt, st, a1, a2, a3, a4, a5, a6, a7, a8, a9, a10, a11, a12, a13, a14, a15, a16, a17, a18, a19, a20, a21, a22, a23, a24, a25, a26, a27) (nI x) (nI to) := by
  obtain ⟨s, h1, h2, h3⟩ := hSt
  subst h2 hx
  exact ff_arriving hA ht hf hp hto (by omega) h3 (fun s' fn' fc' kd' dp' gt' a11' a12' a13' a14' a15' a16' a17' a18' a19' a20' a21' a22' a23' a24' a25' a26' a27' hM hs => H fn' fc' kd' dp' gt' _ a11' a12' a13' a14' a15' a16' a17' a18' a19' a20' a21' a22' a23' a24' a25' a26' a27' ⟨s', by omega, rfl, hM⟩)
theorem ff_w_end {post : Int32 → St1 → Prop} {opl ohd fn fc kd dp gt st : Int32} {a1 a2 a3 a4 a5 a6 a7 a8 a9 a10 a11 a12 a13 a14 a15 a16 a17 a18 a19 a20 a21 a22 a23 a24 a25 a26 a27 : Nat → Int32} {lk rc mt ac ch : Nat → Nat} {t f p B kk x : Nat} (hx : x = 20 * f + p) (hA : ff_CA a1 a2 a3 a4 a5 lk rc mt ac ch) (ht : t < 4) (hf : f < 2) (hp : p < 20) (hkk : kk < 2) (hSt : ff_St st a23 B) (hB : B + 3840 < 2 ^ 31)
    (H : ∀ (fn' fc' kd' dp' gt' st' : Int32) (a11' a12' a13' a14' a15' a16' a17' a18' a19' a20' a21' a22' a23' a24' a25' a26' a27' : Nat → Int32), ff_St st' a23' (B + 3840) → post (nI (ff_cn (fun h => ff_res lk rc mt ac ch (ff_tf f t) 5 16 p h == 1 + kk))) (nI t, opl, ohd, fn', fc', kd', dp', gt', st', a1, a2, a3, a4, a5, a6, a7, a8, a9, a10, a11', a12', a13', a14', a15', a16', a17', a18', a19', a20', a21', a22', a23', a24', a25', a26', a27')) : wpX_ending post (nI t, opl, ohd, fn, fc, kd, dp, gt, st, a1, a2, a3, a4, a5, a6, a7, a8, a9, a10, a11, a12, a13, a14, a15, a16, a17, a18, a19, a20, a21, a22, a23, a24, a25, a26, a27) (nI x) (nI kk) := by
  obtain ⟨s, h1, h2, h3⟩ := hSt
  subst h2 hx
  exact ff_ending hA ht hf hp hkk (by omega) h3 (fun s' fn' fc' kd' dp' gt' a11' a12' a13' a14' a15' a16' a17' a18' a19' a20' a21' a22' a23' a24' a25' a26' a27' hM hs => H fn' fc' kd' dp' gt' _ a11' a12' a13' a14' a15' a16' a17' a18' a19' a20' a21' a22' a23' a24' a25' a26' a27' ⟨s', by omega, rfl, hM⟩)
theorem ff_w_vis {post : Int32 → St1 → Prop} {opl ohd fn fc kd dp gt st : Int32} {a1 a2 a3 a4 a5 a6 a7 a8 a9 a10 a11 a12 a13 a14 a15 a16 a17 a18 a19 a20 a21 a22 a23 a24 a25 a26 a27 : Nat → Int32} {lk rc mt ac ch : Nat → Nat} {t f p B sw x : Nat} (hx : x = 20 * f + p) (hA : ff_CA a1 a2 a3 a4 a5 lk rc mt ac ch) (ht : t < 4) (hf : f < 2) (hp : p < 20) (hsw : sw < 5) (hSt : ff_St st a23 B) (hB : B + 3840 < 2 ^ 31)
    (H : ∀ (fn' fc' kd' dp' gt' st' : Int32) (a11' a12' a13' a14' a15' a16' a17' a18' a19' a20' a21' a22' a23' a24' a25' a26' a27' : Nat → Int32), ff_St st' a23' (B + 3840) → post (nI (ff_cn (fun h => ff_res lk rc mt ac ch (ff_tf f t) sw 16 p h == 1))) (nI t, opl, ohd, fn', fc', kd', dp', gt', st', a1, a2, a3, a4, a5, a6, a7, a8, a9, a10, a11', a12', a13', a14', a15', a16', a17', a18', a19', a20', a21', a22', a23', a24', a25', a26', a27')) : wpX_visiting post (nI t, opl, ohd, fn, fc, kd, dp, gt, st, a1, a2, a3, a4, a5, a6, a7, a8, a9, a10, a11, a12, a13, a14, a15, a16, a17, a18, a19, a20, a21, a22, a23, a24, a25, a26, a27) (nI x) (nI sw) := by
  obtain ⟨s, h1, h2, h3⟩ := hSt
  subst h2 hx
  exact ff_visiting hA ht hf hp hsw (by omega) h3 (fun s' fn' fc' kd' dp' gt' a11' a12' a13' a14' a15' a16' a17' a18' a19' a20' a21' a22' a23' a24' a25' a26' a27' hM hs => H fn' fc' kd' dp' gt' _ a11' a12' a13' a14' a15' a16' a17' a18' a19' a20' a21' a22' a23' a24' a25' a26' a27' ⟨s', by omega, rfl, hM⟩)
theorem ff_w_dif {post : Int32 → St1 → Prop} {opl ohd fn fc kd dp gt st : Int32} {a1 a2 a3 a4 a5 a6 a7 a8 a9 a10 a11 a12 a13 a14 a15 a16 a17 a18 a19 a20 a21 a22 a23 a24 a25 a26 a27 : Nat → Int32} {lk rc mt ac ch : Nat → Nat} {t p B : Nat} (hA : ff_CA a1 a2 a3 a4 a5 lk rc mt ac ch) (ht : t < 4) (hp : p < 20) (hSt : ff_St st a23 B) (hB : B + 7680 < 2 ^ 31)
    (H : ∀ (fn' fc' kd' dp' gt' st' : Int32) (a11' a12' a13' a14' a15' a16' a17' a18' a19' a20' a21' a22' a23' a24' a25' a26' a27' : Nat → Int32), ff_St st' a23' (B + 7680) → post (nI (ff_cn (fun h => ff_res lk rc mt ac ch t 5 16 p h != ff_res lk rc mt ac ch 0 5 16 p h))) (nI t, opl, ohd, fn', fc', kd', dp', gt', st', a1, a2, a3, a4, a5, a6, a7, a8, a9, a10, a11', a12', a13', a14', a15', a16', a17', a18', a19', a20', a21', a22', a23', a24', a25', a26', a27')) : wpX_differing post (nI t, opl, ohd, fn, fc, kd, dp, gt, st, a1, a2, a3, a4, a5, a6, a7, a8, a9, a10, a11, a12, a13, a14, a15, a16, a17, a18, a19, a20, a21, a22, a23, a24, a25, a26, a27) (nI p) := by
  obtain ⟨s, h1, h2, h3⟩ := hSt
  subst h2
  exact ff_differing hA ht hp (by omega) h3 (fun s' fn' fc' kd' dp' gt' a11' a12' a13' a14' a15' a16' a17' a18' a19' a20' a21' a22' a23' a24' a25' a26' a27' hM hs => H fn' fc' kd' dp' gt' _ a11' a12' a13' a14' a15' a16' a17' a18' a19' a20' a21' a22' a23' a24' a25' a26' a27' ⟨s', by omega, rfl, hM⟩)
def ff_dR (rc mt : Nat → Nat) (sw i : Nat) : Int32 := if rc sw ≤ i then -1 else nI (ff_cn (fun h => ff_dc rc mt sw h == i))
theorem ff_w_dec {post : Int32 → St1 → Prop} {act opl ohd fn fc kd dp gt st : Int32} {a1 a2 a3 a4 a5 a6 a7 a8 a9 a10 a11 a12 a13 a14 a15 a16 a17 a18 a19 a20 a21 a22 a23 a24 a25 a26 a27 : Nat → Int32} {lk rc mt ac ch : Nat → Nat} {sw i B : Nat} (hA : ff_CA a1 a2 a3 a4 a5 lk rc mt ac ch) (hsw : sw < 5) (hi : i < 6) (hSt : ff_St st a23 B) (hB : B + 6 < 2 ^ 31)
    (H : ∀ (fn' fc' kd' dp' gt' st' : Int32) (a11' a12' a13' a14' a15' a16' a17' a18' a19' a20' a21' a22' a23' a24' a25' a26' a27' : Nat → Int32), ff_St st' a23' (B + 6) → post (ff_dR rc mt sw i) (act, opl, ohd, fn', fc', kd', dp', gt', st', a1, a2, a3, a4, a5, a6, a7, a8, a9, a10, a11', a12', a13', a14', a15', a16', a17', a18', a19', a20', a21', a22', a23', a24', a25', a26', a27')) : wpX_deciding post (act, opl, ohd, fn, fc, kd, dp, gt, st, a1, a2, a3, a4, a5, a6, a7, a8, a9, a10, a11, a12, a13, a14, a15, a16, a17, a18, a19, a20, a21, a22, a23, a24, a25, a26, a27) (nI sw) (nI i) := by
  obtain ⟨s, h1, h2, h3⟩ := hSt
  subst h2
  unfold ff_dR at H
  refine ff_deciding hA hsw hi (by omega) h3 (fun z => ?_) (fun z s' fn' fc' kd' dp' gt' a11' a12' a13' a14' a15' a16' a17' a18' a19' a20' a21' a22' a23' a24' a25' a26' a27' hM hs => ?_)
  · try dsimp only
    rw [if_pos z] at H
    exact H fn fc kd dp gt _ a11 a12 a13 a14 a15 a16 a17 a18 a19 a20 a21 a22 a23 a24 a25 a26 a27 ⟨s, by omega, rfl, h3⟩
  · try dsimp only
    rw [if_neg (by omega)] at H
    exact H fn' fc' kd' dp' gt' _ a11' a12' a13' a14' a15' a16' a17' a18' a19' a20' a21' a22' a23' a24' a25' a26' a27' ⟨s', by omega, rfl, hM⟩
def ff_nR (rc mt ac ch : Nat → Nat) (sw i : Nat) (R : Int32) : Prop := (rc sw ≤ i ∧ R = -1) ∨ (i < rc sw ∧ ∃ rr, rr ≤ 1 ∧ R = nI rr ∧ (rr = 1 ↔ ∀ h, h < 64 → ff_T rc mt ac ch sw 120 h = ff_T rc mt ac ch sw (6 * sw + i) h))
theorem ff_w_ndl {post : Int32 → St1 → Prop} {act opl ohd fn fc kd dp gt st : Int32} {a1 a2 a3 a4 a5 a6 a7 a8 a9 a10 a11 a12 a13 a14 a15 a16 a17 a18 a19 a20 a21 a22 a23 a24 a25 a26 a27 : Nat → Int32} {lk rc mt ac ch : Nat → Nat} {sw i B : Nat} (hA : ff_CA a1 a2 a3 a4 a5 lk rc mt ac ch) (hsw : sw < 5) (hi : i < 6) (hSt : ff_St st a23 B) (hB : B + 12 < 2 ^ 31)
    (H : ∀ (R : Int32) (fn' fc' kd' dp' gt' st' : Int32) (a11' a12' a13' a14' a15' a16' a17' a18' a19' a20' a21' a22' a23' a24' a25' a26' a27' : Nat → Int32), ff_nR rc mt ac ch sw i R → ff_St st' a23' (B + 12) → post R (act, opl, ohd, fn', fc', kd', dp', gt', st', a1, a2, a3, a4, a5, a6, a7, a8, a9, a10, a11', a12', a13', a14', a15', a16', a17', a18', a19', a20', a21', a22', a23', a24', a25', a26', a27')) : wpX_needless post (act, opl, ohd, fn, fc, kd, dp, gt, st, a1, a2, a3, a4, a5, a6, a7, a8, a9, a10, a11, a12, a13, a14, a15, a16, a17, a18, a19, a20, a21, a22, a23, a24, a25, a26, a27) (nI sw) (nI i) := by
  obtain ⟨s, h1, h2, h3⟩ := hSt
  subst h2
  refine ff_needless hA hsw hi (by omega) h3 (fun z => ?_) (fun z s' rr fn' fc' kd' dp' gt' a11' a12' a13' a14' a15' a16' a17' a18' a19' a20' a21' a22' a23' a24' a25' a26' a27' hM hs h1' hrr => ?_)
  · exact H _ fn fc kd dp gt _ a11 a12 a13 a14 a15 a16 a17 a18 a19 a20 a21 a22 a23 a24 a25 a26 a27 (Or.inl ⟨z, rfl⟩) ⟨s, by omega, rfl, h3⟩
  · exact H _ fn' fc' kd' dp' gt' _ a11' a12' a13' a14' a15' a16' a17' a18' a19' a20' a21' a22' a23' a24' a25' a26' a27' (Or.inr ⟨z, rr, h1', rfl, hrr⟩) ⟨s', by omega, rfl, hM⟩
theorem ff_nR_y {lk rc mt ac ch lk' rc' mt' ac' ch' : Nat → Nat} {sw i : Nat} {R R' : Int32} (hc : ff_Cf rc mt ac ch) (hS : ff_Sym lk rc mt ac ch lk' rc' mt' ac' ch') (hsw : sw < 5) (hi : i < 6) (h : ff_nR rc mt ac ch sw i R) (h' : ff_nR rc' mt' ac' ch' ((sw + 1) % 5) i R') : R = R' := by
  have k1 := (hS.2 0 sw (by omega) hsw).1
  rw [show 5 * 0 + (sw + 1) % 5 = (sw + 1) % 5 by omega, show 5 * 0 + sw = sw by omega] at k1
  rcases h with ⟨g1, g2⟩ | ⟨g1, r, g2, g3, g4⟩
  · rcases h' with ⟨p1, p2⟩ | ⟨p1, r', p2, p3, p4⟩
    · try dsimp only
      rw [g2, p2]
    · omega
  · rcases h' with ⟨p1, p2⟩ | ⟨p1, r', p2, p3, p4⟩
    · omega
    · try dsimp only
      rw [g3, p3]
      have q := ff_q_ndl hc hS hsw hi
      congr 1
      have : r = 1 ↔ r' = 1 := g4.trans (q.symm.trans p4.symm)
      omega
theorem ff_dR_y {lk rc mt ac ch lk' rc' mt' ac' ch' : Nat → Nat} {sw i : Nat} (hc : ff_Cf rc mt ac ch) (hS : ff_Sym lk rc mt ac ch lk' rc' mt' ac' ch') (hsw : sw < 5) : ff_dR rc mt sw i = ff_dR rc' mt' ((sw + 1) % 5) i := by
  have k1 := (hS.2 0 sw (by omega) hsw).1
  rw [show 5 * 0 + (sw + 1) % 5 = (sw + 1) % 5 by omega, show 5 * 0 + sw = sw by omega] at k1
  unfold ff_dR
  try dsimp only
  rw [k1, ff_q_dec hc hS hsw]
theorem ff_i_t : ∀ p, p < 20 → (((4 * (((nI p / 4) + 1) - ((nI p / 4) + 1) / 5 * 5)) + 3) - (nI p - nI p / 4 * 4)) = nI (ff_t p) := by decide +kernel
theorem ff_turned {post : Int32 → Prop} {p : Nat} (hp : p < 20) (H : post (nI (ff_t p))) : wpL_turned post () (nI p) := by
  unfold wpL_turned
  try dsimp only
  refine br_t (nI_pos' (by omega)) ⟨by decide, by decide, by decide, ?_⟩
  try dsimp only
  rw [ff_i_t p hp]
  exact H
theorem ff_m5 (i : Nat) (hi : i < 100) : (nI i + 1) - (nI i + 1) / 5 * 5 = nI ((i + 1) % 5) := by
  rw [nI_1, show (5 : Int32) = nI 5 from rfl, pk_rem (by omega) (by omega) (by omega)]
/-! the loops of the law's comparison -/
theorem ff_s292 {post : Int32 → St3 → Prop} {opl ohd fn fc kd dp gt st : Int32} {a1 a2 a3 a4 a5 a6 a7 a8 a9 a10 a11 a12 a13 a14 a15 a16 a17 a18 a19 a20 a21 a22 a23 a24 a25 a26 a27 : Nat → Int32} {opld ohdd fnd fcd kdd dpd gtd std : Int32} {a1d a2d a3d a4d a5d a6d a7d a8d a9d a10d a11d a12d a13d a14d a15d a16d a17d a18d a19d a20d a21d a22d a23d a24d a25d a26d a27d : Nat → Int32} {lk rc mt ac ch lk' rc' mt' ac' ch' sx px hx tx sx' px' hx' tx' : Nat → Nat} {t p B : Nat} (ht : t < 4) (hp : p < 20) (hA : ff_CA a1 a2 a3 a4 a5 lk rc mt ac ch) (hA' : ff_CA a1d a2d a3d a4d a5d lk' rc' mt' ac' ch') (hS : ff_Sym lk rc mt ac ch lk' rc' mt' ac' ch')
    (hP : ff_PA a6 a7 a8 a9 sx px hx tx) (hP' : ff_PA a6d a7d a8d a9d sx' px' hx' tx') (hY : ff_PSy sx px hx tx a10 sx' px' hx' tx' a10d) (hB : B + 7680 < 2 ^ 31) (hSt : ff_St st a23 B) (hSt' : ff_St std a23d B)
    (H : ∀ (fn' fc' kd' dp' gt' st' : Int32) (a11' a12' a13' a14' a15' a16' a17' a18' a19' a20' a21' a22' a23' a24' a25' a26' a27' : Nat → Int32) (fnd' fcd' kdd' dpd' gtd' std' : Int32) (a11d' a12d' a13d' a14d' a15d' a16d' a17d' a18d' a19d' a20d' a21d' a22d' a23d' a24d' a25d' a26d' a27d' : Nat → Int32), ff_St st' a23' (B + 7680) → ff_St std' a23d' (B + 7680) → post 1 (nI t, opl, ohd, fn', fc', kd', dp', gt', st', a1, a2, a3, a4, a5, a6, a7, a8, a9, a10, a11', a12', a13', a14', a15', a16', a17', a18', a19', a20', a21', a22', a23', a24', a25', a26', a27', nI t, opld, ohdd, fnd', fcd', kdd', dpd', gtd', std', a1d, a2d, a3d, a4d, a5d, a6d, a7d, a8d, a9d, a10d, a11d', a12d', a13d', a14d', a15d', a16d', a17d', a18d', a19d', a20d', a21d', a22d', a23d', a24d', a25d', a26d', a27d')) :
    ∀ m i, i + m = 8 → wL_same_292 post (nI p) (nI t) opl ohd fn fc kd dp gt st a1 a2 a3 a4 a5 a6 a7 a8 a9 a10 a11 a12 a13 a14 a15 a16 a17 a18 a19 a20 a21 a22 a23 a24 a25 a26 a27 (nI t) opld ohdd fnd fcd kdd dpd gtd std a1d a2d a3d a4d a5d a6d a7d a8d a9d a10d a11d a12d a13d a14d a15d a16d a17d a18d a19d a20d a21d a22d a23d a24d a25d a26d a27d (m + 1) (nI i) := by
  intro m
  induction m with
  | zero =>
    intro i hi
    refine pk_le 8 i (fun _ => ?_) (fun z => absurd z (by omega))
    try dsimp only
    refine ff_w_dif hA ht hp hSt hB (fun fn' fc' kd' dp' gt' st' a11' a12' a13' a14' a15' a16' a17' a18' a19' a20' a21' a22' a23' a24' a25' a26' a27' hS1 => ff_turned hp (ff_w_dif hA' ht (ff_t_lt hp) hSt' hB (fun fnd' fcd' kdd' dpd' gtd' std' a11d' a12d' a13d' a14d' a15d' a16d' a17d' a18d' a19d' a20d' a21d' a22d' a23d' a24d' a25d' a26d' a27d' hS2 => br_t ?_ (H fn' fc' kd' dp' gt' st' a11' a12' a13' a14' a15' a16' a17' a18' a19' a20' a21' a22' a23' a24' a25' a26' a27' fnd' fcd' kdd' dpd' gtd' std' a11d' a12d' a13d' a14d' a15d' a16d' a17d' a18d' a19d' a20d' a21d' a22d' a23d' a24d' a25d' a26d' a27d' hS1 hS2))))
    try dsimp only
    rw [ff_q_dif hA.2.2.2 hS ht hp]
  | succ m ih =>
    intro i hi
    have hi8 : i < 8 := by omega
    obtain ⟨y1, y2⟩ := hY i hi8
    refine pk_le 8 i (fun z => absurd z (by omega)) (fun _ => ?_)
    try dsimp only
    by_cases c : sx i = 0
    · refine ff_header hP hi8 (fun _ => ?_) (fun z => absurd c z)
      try dsimp only
      refine ff_state hP hi8 (ff_state hP' hi8 (br_t (by rw [y1]) ?_))
      try dsimp only
      refine ff_where hP' hi8 (fun _ => ?_) (fun z => absurd (y1.trans c) z)
      try dsimp only
      refine ff_where hP hi8 (fun _ => ?_) (fun z => absurd c z)
      unfold wpL_turned
      try dsimp only
      refine br_f (by decide) (br_t rfl ?_)
      try dsimp only
      refine ff_header hP' hi8 (fun _ => ?_) (fun z => absurd (y1.trans c) z)
      try dsimp only
      refine br_f (by decide) ?_
      unfold wL_same_361
      try dsimp only
      exact br_t rfl (nm_r (nI_1 i) (ih (i + 1) (by omega)))
    · obtain ⟨y3, y4, y5, y6⟩ := y2 c
      obtain ⟨_, _, gr⟩ := hP i hi8
      obtain ⟨g7, g7', g8, g8', _⟩ := gr c
      refine ff_header hP hi8 (fun z => absurd z c) (fun _ => ?_)
      try dsimp only
      refine ff_state hP hi8 (ff_state hP' hi8 (br_t (by rw [y1]) ?_))
      try dsimp only
      refine ff_where hP' hi8 (fun z => absurd (y1.symm.trans z) c) (fun _ => ?_)
      try dsimp only
      refine ff_where hP hi8 (fun z => absurd z c) (fun _ => ?_)
      try dsimp only
      refine ff_turned g7' (br_t (by rw [y3]) ?_)
      try dsimp only
      refine ff_header hP' hi8 (fun z => absurd (y1.symm.trans z) c) (fun _ => ?_)
      try dsimp only
      refine br_t (nI_pos' (by omega)) ?_
      unfold wL_same_361
      try dsimp only
      refine br_t ?_ (nm_r (nI_1 i) (ih (i + 1) (by omega)))
      try dsimp only
      rw [y4]
      exact (pk_sub (show hx i ≤ 63 by omega)).symm
theorem ff_s222 {post : Int32 → St3 → Prop} {J : Int32 → Int32 → Int32 → Int32 → Int32 → Int32 → Int32 → Int32 → Int32 → Int32 → (Nat → Int32) → (Nat → Int32) → (Nat → Int32) → (Nat → Int32) → (Nat → Int32) → (Nat → Int32) → (Nat → Int32) → (Nat → Int32) → (Nat → Int32) → (Nat → Int32) → (Nat → Int32) → (Nat → Int32) → (Nat → Int32) → (Nat → Int32) → (Nat → Int32) → (Nat → Int32) → (Nat → Int32) → (Nat → Int32) → (Nat → Int32) → (Nat → Int32) → (Nat → Int32) → (Nat → Int32) → (Nat → Int32) → (Nat → Int32) → (Nat → Int32) → (Nat → Int32) → (Nat → Int32) → Int32 → Int32 → Int32 → Int32 → Int32 → Int32 → Int32 → Int32 → Int32 → (Nat → Int32) → (Nat → Int32) → (Nat → Int32) → (Nat → Int32) → (Nat → Int32) → (Nat → Int32) → (Nat → Int32) → (Nat → Int32) → (Nat → Int32) → (Nat → Int32) → (Nat → Int32) → (Nat → Int32) → (Nat → Int32) → (Nat → Int32) → (Nat → Int32) → (Nat → Int32) → (Nat → Int32) → (Nat → Int32) → (Nat → Int32) → (Nat → Int32) → (Nat → Int32) → (Nat → Int32) → (Nat → Int32) → (Nat → Int32) → (Nat → Int32) → (Nat → Int32) → (Nat → Int32) → Prop} {lk rc mt ac ch lk' rc' mt' ac' ch' : Nat → Nat} {act opl ohd actd opld ohdd : Int32} {a1 a2 a3 a4 a5 a6 a7 a8 a9 a10 a1d a2d a3d a4d a5d a6d a7d a8d a9d a10d : Nat → Int32} {sw B0 : Nat} {x2 : Int32} (hsw : sw < 5) (hA : ff_CA a1 a2 a3 a4 a5 lk rc mt ac ch) (hA' : ff_CA a1d a2d a3d a4d a5d lk' rc' mt' ac' ch') (hS : ff_Sym lk rc mt ac ch lk' rc' mt' ac' ch') (hB : B0 + 108 < 2 ^ 31)
    (K : ∀ (fn fc kd dp gt st : Int32) (a11 a12 a13 a14 a15 a16 a17 a18 a19 a20 a21 a22 a23 a24 a25 a26 a27 : Nat → Int32) (fnd fcd kdd dpd gtd std : Int32) (a11d a12d a13d a14d a15d a16d a17d a18d a19d a20d a21d a22d a23d a24d a25d a26d a27d : Nat → Int32), ff_St st a23 (B0 + 108) → ff_St std a23d (B0 + 108) → J (nI (sw + 1)) act opl ohd fn fc kd dp gt st a1 a2 a3 a4 a5 a6 a7 a8 a9 a10 a11 a12 a13 a14 a15 a16 a17 a18 a19 a20 a21 a22 a23 a24 a25 a26 a27 actd opld ohdd fnd fcd kdd dpd gtd std a1d a2d a3d a4d a5d a6d a7d a8d a9d a10d a11d a12d a13d a14d a15d a16d a17d a18d a19d a20d a21d a22d a23d a24d a25d a26d a27d) :
    ∀ (m i : Nat) (fn fc kd dp gt st : Int32) (a11 a12 a13 a14 a15 a16 a17 a18 a19 a20 a21 a22 a23 a24 a25 a26 a27 : Nat → Int32) (fnd fcd kdd dpd gtd std : Int32) (a11d a12d a13d a14d a15d a16d a17d a18d a19d a20d a21d a22d a23d a24d a25d a26d a27d : Nat → Int32), i + m = 6 → ff_St st a23 (B0 + 18 * i) → ff_St std a23d (B0 + 18 * i) → wL_same_222 post J x2 (nI sw) (m + 1) (nI i) act opl ohd fn fc kd dp gt st a1 a2 a3 a4 a5 a6 a7 a8 a9 a10 a11 a12 a13 a14 a15 a16 a17 a18 a19 a20 a21 a22 a23 a24 a25 a26 a27 actd opld ohdd fnd fcd kdd dpd gtd std a1d a2d a3d a4d a5d a6d a7d a8d a9d a10d a11d a12d a13d a14d a15d a16d a17d a18d a19d a20d a21d a22d a23d a24d a25d a26d a27d := by
  intro m
  induction m with
  | zero =>
    intro i fn fc kd dp gt st a11 a12 a13 a14 a15 a16 a17 a18 a19 a20 a21 a22 a23 a24 a25 a26 a27 fnd fcd kdd dpd gtd std a11d a12d a13d a14d a15d a16d a17d a18d a19d a20d a21d a22d a23d a24d a25d a26d a27d hi h1 h2
    have e : i = 6 := by omega
    subst e
    exact pk_le 6 6 (fun _ => nm_r (nI_1 sw) (K fn fc kd dp gt st a11 a12 a13 a14 a15 a16 a17 a18 a19 a20 a21 a22 a23 a24 a25 a26 a27 fnd fcd kdd dpd gtd std a11d a12d a13d a14d a15d a16d a17d a18d a19d a20d a21d a22d a23d a24d a25d a26d a27d h1 h2)) (fun z => absurd z (by omega))
  | succ m ih =>
    intro i fn fc kd dp gt st a11 a12 a13 a14 a15 a16 a17 a18 a19 a20 a21 a22 a23 a24 a25 a26 a27 fnd fcd kdd dpd gtd std a11d a12d a13d a14d a15d a16d a17d a18d a19d a20d a21d a22d a23d a24d a25d a26d a27d hi h1 h2
    have h5 : (sw + 1) % 5 < 5 := by omega
    refine pk_le 6 i (fun z => absurd z (by omega)) (fun _ => ?_)
    try dsimp only
    rw [ff_m5 sw (by omega)]
    refine ff_w_dec hA hsw (by omega) h1 (by omega) (fun fn1 fc1 kd1 dp1 gt1 st1 a111 a121 a131 a141 a151 a161 a171 a181 a191 a201 a211 a221 a231 a241 a251 a261 a271 g1 => ⟨by decide, ff_w_dec hA' h5 (by omega) h2 (by omega) (fun fne fce kde dpe gte ste a11e a12e a13e a14e a15e a16e a17e a18e a19e a20e a21e a22e a23e a24e a25e a26e a27e g2 => br_t (ff_dR_y hA.2.2.2 hS hsw) ?_)⟩)
    try dsimp only
    refine ff_w_ndl hA hsw (by omega) g1 (by omega) (fun R1 fn2 fc2 kd2 dp2 gt2 st2 a112 a122 a132 a142 a152 a162 a172 a182 a192 a202 a212 a222 a232 a242 a252 a262 a272 r1 g3 => ⟨by decide, ff_w_ndl hA' h5 (by omega) g2 (by omega) (fun R2 fnf fcf kdf dpf gtf stf a11f a12f a13f a14f a15f a16f a17f a18f a19f a20f a21f a22f a23f a24f a25f a26f a27f r2 g4 => br_t (ff_nR_y hA.2.2.2 hS hsw (by omega) r1 r2) (nm_r (nI_1 i) (ih (i + 1) fn2 fc2 kd2 dp2 gt2 st2 a112 a122 a132 a142 a152 a162 a172 a182 a192 a202 a212 a222 a232 a242 a252 a262 a272 fnf fcf kdf dpf gtf stf a11f a12f a13f a14f a15f a16f a17f a18f a19f a20f a21f a22f a23f a24f a25f a26f a27f (by omega) (ff_St_m g3 (by omega)) (ff_St_m g4 (by omega)))))⟩)
end
section
theorem ff_s213 {post : Int32 → St3 → Prop} {lk rc mt ac ch lk' rc' mt' ac' ch' sx px hx tx sx' px' hx' tx' : Nat → Nat} {opl ohd opld ohdd : Int32} {a1 a2 a3 a4 a5 a6 a7 a8 a9 a10 a1d a2d a3d a4d a5d a6d a7d a8d a9d a10d : Nat → Int32} {t p B0 : Nat} (ht : t < 4) (hp : p < 20) (hA : ff_CA a1 a2 a3 a4 a5 lk rc mt ac ch) (hA' : ff_CA a1d a2d a3d a4d a5d lk' rc' mt' ac' ch') (hS : ff_Sym lk rc mt ac ch lk' rc' mt' ac' ch')
    (hP : ff_PA a6 a7 a8 a9 sx px hx tx) (hP' : ff_PA a6d a7d a8d a9d sx' px' hx' tx') (hY : ff_PSy sx px hx tx a10 sx' px' hx' tx' a10d) (hB : B0 + 8220 < 2 ^ 31)
    (H : ∀ (fn fc kd dp gt st : Int32) (a11 a12 a13 a14 a15 a16 a17 a18 a19 a20 a21 a22 a23 a24 a25 a26 a27 : Nat → Int32) (fnd fcd kdd dpd gtd std : Int32) (a11d a12d a13d a14d a15d a16d a17d a18d a19d a20d a21d a22d a23d a24d a25d a26d a27d : Nat → Int32), ff_St st a23 (B0 + 8220) → ff_St std a23d (B0 + 8220) → post 1 (nI t, opl, ohd, fn, fc, kd, dp, gt, st, a1, a2, a3, a4, a5, a6, a7, a8, a9, a10, a11, a12, a13, a14, a15, a16, a17, a18, a19, a20, a21, a22, a23, a24, a25, a26, a27, nI t, opld, ohdd, fnd, fcd, kdd, dpd, gtd, std, a1d, a2d, a3d, a4d, a5d, a6d, a7d, a8d, a9d, a10d, a11d, a12d, a13d, a14d, a15d, a16d, a17d, a18d, a19d, a20d, a21d, a22d, a23d, a24d, a25d, a26d, a27d)) :
    ∀ (m i : Nat) (fn fc kd dp gt st : Int32) (a11 a12 a13 a14 a15 a16 a17 a18 a19 a20 a21 a22 a23 a24 a25 a26 a27 : Nat → Int32) (fnd fcd kdd dpd gtd std : Int32) (a11d a12d a13d a14d a15d a16d a17d a18d a19d a20d a21d a22d a23d a24d a25d a26d a27d : Nat → Int32), i + m = 5 → ff_St st a23 (B0 + 108 * i) → ff_St std a23d (B0 + 108 * i) → wL_same_213 post (nI p) (m + 1) (nI i) (nI t) opl ohd fn fc kd dp gt st a1 a2 a3 a4 a5 a6 a7 a8 a9 a10 a11 a12 a13 a14 a15 a16 a17 a18 a19 a20 a21 a22 a23 a24 a25 a26 a27 (nI t) opld ohdd fnd fcd kdd dpd gtd std a1d a2d a3d a4d a5d a6d a7d a8d a9d a10d a11d a12d a13d a14d a15d a16d a17d a18d a19d a20d a21d a22d a23d a24d a25d a26d a27d := by
  intro m
  induction m with
  | zero =>
    intro i fn fc kd dp gt st a11 a12 a13 a14 a15 a16 a17 a18 a19 a20 a21 a22 a23 a24 a25 a26 a27 fnd fcd kdd dpd gtd std a11d a12d a13d a14d a15d a16d a17d a18d a19d a20d a21d a22d a23d a24d a25d a26d a27d hi h1 h2
    have e : i = 5 := by omega
    subst e
    exact pk_le 5 5 (fun _ => ⟨9, ff_s292 (B := B0 + 540) ht hp hA hA' hS hP hP' hY (by omega) (ff_St_m h1 (by omega)) (ff_St_m h2 (by omega)) (fun fn' fc' kd' dp' gt' st' a11' a12' a13' a14' a15' a16' a17' a18' a19' a20' a21' a22' a23' a24' a25' a26' a27' fnd' fcd' kdd' dpd' gtd' std' a11d' a12d' a13d' a14d' a15d' a16d' a17d' a18d' a19d' a20d' a21d' a22d' a23d' a24d' a25d' a26d' a27d' g1 g2 => H fn' fc' kd' dp' gt' st' a11' a12' a13' a14' a15' a16' a17' a18' a19' a20' a21' a22' a23' a24' a25' a26' a27' fnd' fcd' kdd' dpd' gtd' std' a11d' a12d' a13d' a14d' a15d' a16d' a17d' a18d' a19d' a20d' a21d' a22d' a23d' a24d' a25d' a26d' a27d' (ff_St_m g1 (by omega)) (ff_St_m g2 (by omega))) 8 0 (by omega)⟩) (fun z => absurd z (by omega))
  | succ m ih =>
    intro i fn fc kd dp gt st a11 a12 a13 a14 a15 a16 a17 a18 a19 a20 a21 a22 a23 a24 a25 a26 a27 fnd fcd kdd dpd gtd std a11d a12d a13d a14d a15d a16d a17d a18d a19d a20d a21d a22d a23d a24d a25d a26d a27d hi h1 h2
    refine pk_le 5 i (fun z => absurd z (by omega)) (fun _ => ⟨7, ?_⟩)
    try dsimp only
    exact ff_s222 (B0 := B0 + 108 * i) (by omega) hA hA' hS (by omega) (fun fn' fc' kd' dp' gt' st' a11' a12' a13' a14' a15' a16' a17' a18' a19' a20' a21' a22' a23' a24' a25' a26' a27' fnd' fcd' kdd' dpd' gtd' std' a11d' a12d' a13d' a14d' a15d' a16d' a17d' a18d' a19d' a20d' a21d' a22d' a23d' a24d' a25d' a26d' a27d' g1 g2 => ih (i + 1) fn' fc' kd' dp' gt' st' a11' a12' a13' a14' a15' a16' a17' a18' a19' a20' a21' a22' a23' a24' a25' a26' a27' fnd' fcd' kdd' dpd' gtd' std' a11d' a12d' a13d' a14d' a15d' a16d' a17d' a18d' a19d' a20d' a21d' a22d' a23d' a24d' a25d' a26d' a27d' (by omega) (ff_St_m g1 (by omega)) (ff_St_m g2 (by omega))) 6 0 fn fc kd dp gt st a11 a12 a13 a14 a15 a16 a17 a18 a19 a20 a21 a22 a23 a24 a25 a26 a27 fnd fcd kdd dpd gtd std a11d a12d a13d a14d a15d a16d a17d a18d a19d a20d a21d a22d a23d a24d a25d a26d a27d (by omega) h1 h2
theorem ff_fr (f p : Nat) : nI (20 * f) + nI p = nI (20 * f + p) := nI_add _ _
theorem ff_s67 {post : Int32 → St3 → Prop} {J : Int32 → Int32 → Int32 → Int32 → Int32 → Int32 → Int32 → Int32 → Int32 → Int32 → (Nat → Int32) → (Nat → Int32) → (Nat → Int32) → (Nat → Int32) → (Nat → Int32) → (Nat → Int32) → (Nat → Int32) → (Nat → Int32) → (Nat → Int32) → (Nat → Int32) → (Nat → Int32) → (Nat → Int32) → (Nat → Int32) → (Nat → Int32) → (Nat → Int32) → (Nat → Int32) → (Nat → Int32) → (Nat → Int32) → (Nat → Int32) → (Nat → Int32) → (Nat → Int32) → (Nat → Int32) → (Nat → Int32) → (Nat → Int32) → (Nat → Int32) → (Nat → Int32) → (Nat → Int32) → Int32 → Int32 → Int32 → Int32 → Int32 → Int32 → Int32 → Int32 → Int32 → (Nat → Int32) → (Nat → Int32) → (Nat → Int32) → (Nat → Int32) → (Nat → Int32) → (Nat → Int32) → (Nat → Int32) → (Nat → Int32) → (Nat → Int32) → (Nat → Int32) → (Nat → Int32) → (Nat → Int32) → (Nat → Int32) → (Nat → Int32) → (Nat → Int32) → (Nat → Int32) → (Nat → Int32) → (Nat → Int32) → (Nat → Int32) → (Nat → Int32) → (Nat → Int32) → (Nat → Int32) → (Nat → Int32) → (Nat → Int32) → (Nat → Int32) → (Nat → Int32) → (Nat → Int32) → Prop} {lk rc mt ac ch lk' rc' mt' ac' ch' : Nat → Nat} {opl ohd opld ohdd : Int32} {a1 a2 a3 a4 a5 a6 a7 a8 a9 a10 a1d a2d a3d a4d a5d a6d a7d a8d a9d a10d : Nat → Int32} {t p h f B0 : Nat} (ht : t < 4) (hp : p < 20) (hh : h < 64) (hf : f < 2) (hA : ff_CA a1 a2 a3 a4 a5 lk rc mt ac ch) (hA' : ff_CA a1d a2d a3d a4d a5d lk' rc' mt' ac' ch') (hS : ff_Sym lk rc mt ac ch lk' rc' mt' ac' ch') (hB : B0 + 46080 < 2 ^ 31)
    (K : ∀ (fn fc kd dp gt st : Int32) (a11 a12 a13 a14 a15 a16 a17 a18 a19 a20 a21 a22 a23 a24 a25 a26 a27 : Nat → Int32) (fnd fcd kdd dpd gtd std : Int32) (a11d a12d a13d a14d a15d a16d a17d a18d a19d a20d a21d a22d a23d a24d a25d a26d a27d : Nat → Int32), ff_St st a23 (B0 + 46080) → ff_St std a23d (B0 + 46080) → J (nI (20 * (f + 1))) (nI t) opl ohd fn fc kd dp gt st a1 a2 a3 a4 a5 a6 a7 a8 a9 a10 a11 a12 a13 a14 a15 a16 a17 a18 a19 a20 a21 a22 a23 a24 a25 a26 a27 (nI t) opld ohdd fnd fcd kdd dpd gtd std a1d a2d a3d a4d a5d a6d a7d a8d a9d a10d a11d a12d a13d a14d a15d a16d a17d a18d a19d a20d a21d a22d a23d a24d a25d a26d a27d) :
    ∀ (m i : Nat) (fn fc kd dp gt st : Int32) (a11 a12 a13 a14 a15 a16 a17 a18 a19 a20 a21 a22 a23 a24 a25 a26 a27 : Nat → Int32) (fnd fcd kdd dpd gtd std : Int32) (a11d a12d a13d a14d a15d a16d a17d a18d a19d a20d a21d a22d a23d a24d a25d a26d a27d : Nat → Int32), i + m = 5 → ff_St st a23 (B0 + 7680 * i) → ff_St std a23d (B0 + 7680 * i) → wL_same_67 post J (nI p) (nI h) (nI (20 * f)) (m + 1) (nI i) (nI t) opl ohd fn fc kd dp gt st a1 a2 a3 a4 a5 a6 a7 a8 a9 a10 a11 a12 a13 a14 a15 a16 a17 a18 a19 a20 a21 a22 a23 a24 a25 a26 a27 (nI t) opld ohdd fnd fcd kdd dpd gtd std a1d a2d a3d a4d a5d a6d a7d a8d a9d a10d a11d a12d a13d a14d a15d a16d a17d a18d a19d a20d a21d a22d a23d a24d a25d a26d a27d := by
  have hpt := ff_t_lt hp
  have hc := hA.2.2.2
  intro m
  induction m with
  | zero =>
    intro i fn fc kd dp gt st a11 a12 a13 a14 a15 a16 a17 a18 a19 a20 a21 a22 a23 a24 a25 a26 a27 fnd fcd kdd dpd gtd std a11d a12d a13d a14d a15d a16d a17d a18d a19d a20d a21d a22d a23d a24d a25d a26d a27d hi h1 h2
    have e : i = 5 := by omega
    subst e
    refine pk_le 5 5 (fun _ => ?_) (fun z => absurd z (by omega))
    try dsimp only
    try rw [ff_fr]
    refine ff_w_end (kk := 0) rfl hA ht hf hp (by omega) h1 (by omega) (fun fn1 fc1 kd1 dp1 gt1 st1 a111 a121 a131 a141 a151 a161 a171 a181 a191 a201 a211 a221 a231 a241 a251 a261 a271 g1 => ff_turned hp ?_)
    try dsimp only
    try rw [ff_fr]
    refine ff_w_end (kk := 0) rfl hA' ht hf hpt (by omega) h2 (by omega) (fun fne fce kde dpe gte ste a11e a12e a13e a14e a15e a16e a17e a18e a19e a20e a21e a22e a23e a24e a25e a26e a27e g2 => br_t (by rw [← ff_q_low (s := 5) hc hS (ff_tf_lt ht) hp (by omega)]; rfl) ?_)
    try dsimp only
    try rw [ff_fr]
    refine ff_w_end (kk := 1) rfl hA ht hf hp (by omega) g1 (by omega) (fun fn2 fc2 kd2 dp2 gt2 st2 a112 a122 a132 a142 a152 a162 a172 a182 a192 a202 a212 a222 a232 a242 a252 a262 a272 g3 => ff_turned hp ?_)
    try dsimp only
    try rw [ff_fr]
    refine ff_w_end (kk := 1) rfl hA' ht hf hpt (by omega) g2 (by omega) (fun fnf fcf kdf dpf gtf stf a11f a12f a13f a14f a15f a16f a17f a18f a19f a20f a21f a22f a23f a24f a25f a26f a27f g4 => br_t (by rw [← ff_q_low (s := 5) hc hS (ff_tf_lt ht) hp (by omega)]; rfl) ?_)
    try dsimp only
    refine nm_r (show nI (20 * f) + 20 = nI (20 * (f + 1)) from (nI_add (20 * f) 20).trans (by rw [show 20 * f + 20 = 20 * (f + 1) by omega])) (K fn2 fc2 kd2 dp2 gt2 st2 a112 a122 a132 a142 a152 a162 a172 a182 a192 a202 a212 a222 a232 a242 a252 a262 a272 fnf fcf kdf dpf gtf stf a11f a12f a13f a14f a15f a16f a17f a18f a19f a20f a21f a22f a23f a24f a25f a26f a27f (ff_St_m g3 (by omega)) (ff_St_m g4 (by omega)))
  | succ m ih =>
    intro i fn fc kd dp gt st a11 a12 a13 a14 a15 a16 a17 a18 a19 a20 a21 a22 a23 a24 a25 a26 a27 fnd fcd kdd dpd gtd std a11d a12d a13d a14d a15d a16d a17d a18d a19d a20d a21d a22d a23d a24d a25d a26d a27d hi h1 h2
    have hto : 4 * i + h % 4 < 20 := by omega
    have h5 : (i + 1) % 5 < 5 := by omega
    refine pk_le 5 i (fun z => absurd z (by omega)) (fun _ => nm_r (show (4 : Int32) * nI i + (nI h &&& 3) = nI (4 * i + h % 4) by rw [show (4 : Int32) = nI 4 from rfl, pk_mul, pk_andN (by omega) 2 (by decide), nI_add]) ?_)
    try dsimp only
    rw [ff_fr, ff_m5 i (by omega)]
    refine ff_w_arr rfl hA ht hf hp hto h1 (by omega) (fun fn1 fc1 kd1 dp1 gt1 st1 a111 a121 a131 a141 a151 a161 a171 a181 a191 a201 a211 a221 a231 a241 a251 a261 a271 g1 => ff_turned hp (ff_turned hto ?_))
    try dsimp only
    try rw [ff_fr]
    refine ff_w_arr rfl hA' ht hf hpt (ff_t_lt hto) h2 (by omega) (fun fne fce kde dpe gte ste a11e a12e a13e a14e a15e a16e a17e a18e a19e a20e a21e a22e a23e a24e a25e a26e a27e g2 => br_t (by rw [ff_q_arr hc hS (ff_tf_lt ht) hp hto]) ?_)
    try dsimp only
    refine ff_w_vis rfl hA ht hf hp (by omega) g1 (by omega) (fun fn2 fc2 kd2 dp2 gt2 st2 a112 a122 a132 a142 a152 a162 a172 a182 a192 a202 a212 a222 a232 a242 a252 a262 a272 g3 => ff_turned hp ⟨by decide, ?_⟩)
    try dsimp only
    try rw [ff_fr]
    refine ff_w_vis rfl hA' ht hf hpt h5 g2 (by omega) (fun fnf fcf kdf dpf gtf stf a11f a12f a13f a14f a15f a16f a17f a18f a19f a20f a21f a22f a23f a24f a25f a26f a27f g4 => br_t ?_ (nm_r (nI_1 i) (ih (i + 1) fn2 fc2 kd2 dp2 gt2 st2 a112 a122 a132 a142 a152 a162 a172 a182 a192 a202 a212 a222 a232 a242 a252 a262 a272 fnf fcf kdf dpf gtf stf a11f a12f a13f a14f a15f a16f a17f a18f a19f a20f a21f a22f a23f a24f a25f a26f a27f (by omega) (ff_St_m g3 (by omega)) (ff_St_m g4 (by omega)))))
    have q := ff_q_low (s := i) (v := 1) hc hS (ff_tf_lt (f := f) ht) hp (by omega)
    unfold ff_ts at q
    try dsimp only
    rw [if_pos (by omega)] at q
    rw [q]
theorem ff_same {post : Int32 → St3 → Prop} {opl ohd fn fc kd dp gt st : Int32} {a1 a2 a3 a4 a5 a6 a7 a8 a9 a10 a11 a12 a13 a14 a15 a16 a17 a18 a19 a20 a21 a22 a23 a24 a25 a26 a27 : Nat → Int32} {opld ohdd fnd fcd kdd dpd gtd std : Int32} {a1d a2d a3d a4d a5d a6d a7d a8d a9d a10d a11d a12d a13d a14d a15d a16d a17d a18d a19d a20d a21d a22d a23d a24d a25d a26d a27d : Nat → Int32} {lk rc mt ac ch lk' rc' mt' ac' ch' sx px hx tx sx' px' hx' tx' : Nat → Nat} {t p h B : Nat} (ht : t < 4) (hp : p < 20) (hh : h < 64) (hA : ff_CA a1 a2 a3 a4 a5 lk rc mt ac ch) (hA' : ff_CA a1d a2d a3d a4d a5d lk' rc' mt' ac' ch') (hS : ff_Sym lk rc mt ac ch lk' rc' mt' ac' ch')
    (hP : ff_PA a6 a7 a8 a9 sx px hx tx) (hP' : ff_PA a6d a7d a8d a9d sx' px' hx' tx') (hY : ff_PSy sx px hx tx a10 sx' px' hx' tx' a10d) (hB : B + 100380 < 2 ^ 31) (hSt : ff_St st a23 B) (hSt' : ff_St std a23d B)
    (H : ∀ (opl' ohd' fn' fc' kd' dp' gt' st' : Int32) (a11' a12' a13' a14' a15' a16' a17' a18' a19' a20' a21' a22' a23' a24' a25' a26' a27' : Nat → Int32) (opld' ohdd' fnd' fcd' kdd' dpd' gtd' std' : Int32) (a11d' a12d' a13d' a14d' a15d' a16d' a17d' a18d' a19d' a20d' a21d' a22d' a23d' a24d' a25d' a26d' a27d' : Nat → Int32), ff_St st' a23' (B + 100380) → ff_St std' a23d' (B + 100380) → post 1 (nI t, opl', ohd', fn', fc', kd', dp', gt', st', a1, a2, a3, a4, a5, a6, a7, a8, a9, a10, a11', a12', a13', a14', a15', a16', a17', a18', a19', a20', a21', a22', a23', a24', a25', a26', a27', nI t, opld', ohdd', fnd', fcd', kdd', dpd', gtd', std', a1d, a2d, a3d, a4d, a5d, a6d, a7d, a8d, a9d, a10d, a11d', a12d', a13d', a14d', a15d', a16d', a17d', a18d', a19d', a20d', a21d', a22d', a23d', a24d', a25d', a26d', a27d')) : wpL_same post (nI t, opl, ohd, fn, fc, kd, dp, gt, st, a1, a2, a3, a4, a5, a6, a7, a8, a9, a10, a11, a12, a13, a14, a15, a16, a17, a18, a19, a20, a21, a22, a23, a24, a25, a26, a27, nI t, opld, ohdd, fnd, fcd, kdd, dpd, gtd, std, a1d, a2d, a3d, a4d, a5d, a6d, a7d, a8d, a9d, a10d, a11d, a12d, a13d, a14d, a15d, a16d, a17d, a18d, a19d, a20d, a21d, a22d, a23d, a24d, a25d, a26d, a27d) (nI p) (nI h) := by
  have hpt := ff_t_lt hp
  have hc := hA.2.2.2
  have e63 : (63 : Int32) - nI h = nI (63 - h) := pk_sub (show h ≤ 63 by omega)
  have main : ∀ (m f : Nat) (opl ohd fn fc kd dp gt st : Int32) (a11 a12 a13 a14 a15 a16 a17 a18 a19 a20 a21 a22 a23 a24 a25 a26 a27 : Nat → Int32) (opld ohdd fnd fcd kdd dpd gtd std : Int32) (a11d a12d a13d a14d a15d a16d a17d a18d a19d a20d a21d a22d a23d a24d a25d a26d a27d : Nat → Int32), f + m = 2 → ff_St st a23 (B + 46080 * f) → ff_St std a23d (B + 46080 * f) → wL_same_3 post (nI p) (nI h) (m + 1) (nI (20 * f)) (nI t) opl ohd fn fc kd dp gt st a1 a2 a3 a4 a5 a6 a7 a8 a9 a10 a11 a12 a13 a14 a15 a16 a17 a18 a19 a20 a21 a22 a23 a24 a25 a26 a27 (nI t) opld ohdd fnd fcd kdd dpd gtd std a1d a2d a3d a4d a5d a6d a7d a8d a9d a10d a11d a12d a13d a14d a15d a16d a17d a18d a19d a20d a21d a22d a23d a24d a25d a26d a27d := by
    intro m
    induction m with
    | zero =>
      intro f opl ohd fn fc kd dp gt st a11 a12 a13 a14 a15 a16 a17 a18 a19 a20 a21 a22 a23 a24 a25 a26 a27 opld ohdd fnd fcd kdd dpd gtd std a11d a12d a13d a14d a15d a16d a17d a18d a19d a20d a21d a22d a23d a24d a25d a26d a27d hf h1 h2
      have e : f = 2 := by omega
      subst e
      exact pk_le 40 40 (fun _ => ⟨6, ff_s213 (B0 := B + 92160) ht hp hA hA' hS hP hP' hY (by omega) (fun fn' fc' kd' dp' gt' st' a11' a12' a13' a14' a15' a16' a17' a18' a19' a20' a21' a22' a23' a24' a25' a26' a27' fnd' fcd' kdd' dpd' gtd' std' a11d' a12d' a13d' a14d' a15d' a16d' a17d' a18d' a19d' a20d' a21d' a22d' a23d' a24d' a25d' a26d' a27d' g1 g2 => H opl ohd fn' fc' kd' dp' gt' st' a11' a12' a13' a14' a15' a16' a17' a18' a19' a20' a21' a22' a23' a24' a25' a26' a27' opld ohdd fnd' fcd' kdd' dpd' gtd' std' a11d' a12d' a13d' a14d' a15d' a16d' a17d' a18d' a19d' a20d' a21d' a22d' a23d' a24d' a25d' a26d' a27d' (ff_St_m g1 (by omega)) (ff_St_m g2 (by omega))) 5 0 fn fc kd dp gt st a11 a12 a13 a14 a15 a16 a17 a18 a19 a20 a21 a22 a23 a24 a25 a26 a27 fnd fcd kdd dpd gtd std a11d a12d a13d a14d a15d a16d a17d a18d a19d a20d a21d a22d a23d a24d a25d a26d a27d (by omega) (ff_St_m h1 (by omega)) (ff_St_m h2 (by omega))⟩) (fun z => absurd z (by omega))
    | succ m ih =>
      intro f opl ohd fn fc kd dp gt st a11 a12 a13 a14 a15 a16 a17 a18 a19 a20 a21 a22 a23 a24 a25 a26 a27 opld ohdd fnd fcd kdd dpd gtd std a11d a12d a13d a14d a15d a16d a17d a18d a19d a20d a21d a22d a23d a24d a25d a26d a27d hf h1 h2
      have hf2 : f < 2 := by omega
      refine pk_le 40 (20 * f) (fun z => absurd z (by omega)) (fun _ => ?_)
      try dsimp only
      rw [ff_fr, e63]
      refine ff_end hA ht hf2 hp hh (fun opl1 ohd1 => ff_turned hp ?_)
      try dsimp only
      rw [ff_fr]
      refine ff_end hA' ht hf2 hpt (show 63 - h < 64 by omega) (fun opl2 ohd2 => ?_)
      have hv := ff_res_lt (lk := lk) (s := 5) (tb := ff_tf f t) hc (ff_tf_lt ht) 16 p h hp
      have es : ff_res lk' rc' mt' ac' ch' (ff_tf f t) 5 16 (ff_t p) (63 - h) = ff_tau (ff_res lk rc mt ac ch (ff_tf f t) 5 16 p h) := ff_res_sym (s := 5) hc hS (ff_tf_lt ht) 16 p h hp hh
      rw [es]
      have s59 : ∀ z0, z0 = nI (ff_tau (ff_res lk rc mt ac ch (ff_tf f t) 5 16 p h)) → wL_same_59 post (wL_same_3 post (nI p) (nI h) (m + 1)) (nI p) (nI h) (nI (20 * f)) z0 (nI (ff_tau (ff_res lk rc mt ac ch (ff_tf f t) 5 16 p h))) (nI t) opl1 ohd1 fn fc kd dp gt st a1 a2 a3 a4 a5 a6 a7 a8 a9 a10 a11 a12 a13 a14 a15 a16 a17 a18 a19 a20 a21 a22 a23 a24 a25 a26 a27 (nI t) opl2 ohd2 fnd fcd kdd dpd gtd std a1d a2d a3d a4d a5d a6d a7d a8d a9d a10d a11d a12d a13d a14d a15d a16d a17d a18d a19d a20d a21d a22d a23d a24d a25d a26d a27d := by
        intro z0 e0
        subst e0
        unfold wL_same_59
        try dsimp only
        refine br_t rfl ⟨6, ff_s67 (B0 := B + 46080 * f) ht hp hh hf2 hA hA' hS (by omega) (fun fn' fc' kd' dp' gt' st' a11' a12' a13' a14' a15' a16' a17' a18' a19' a20' a21' a22' a23' a24' a25' a26' a27' fnd' fcd' kdd' dpd' gtd' std' a11d' a12d' a13d' a14d' a15d' a16d' a17d' a18d' a19d' a20d' a21d' a22d' a23d' a24d' a25d' a26d' a27d' g1 g2 => ih (f + 1) opl1 ohd1 fn' fc' kd' dp' gt' st' a11' a12' a13' a14' a15' a16' a17' a18' a19' a20' a21' a22' a23' a24' a25' a26' a27' opl2 ohd2 fnd' fcd' kdd' dpd' gtd' std' a11d' a12d' a13d' a14d' a15d' a16d' a17d' a18d' a19d' a20d' a21d' a22d' a23d' a24d' a25d' a26d' a27d' (by omega) (ff_St_m g1 (by omega)) (ff_St_m g2 (by omega))) 5 0 fn fc kd dp gt st a11 a12 a13 a14 a15 a16 a17 a18 a19 a20 a21 a22 a23 a24 a25 a26 a27 fnd fcd kdd dpd gtd std a11d a12d a13d a14d a15d a16d a17d a18d a19d a20d a21d a22d a23d a24d a25d a26d a27d (by omega) h1 h2⟩
      generalize ff_res lk rc mt ac ch (ff_tf f t) 5 16 p h = v at *
      refine pk_le v 99 (fun c => s59 _ ?_) (fun c => ?_)
      · unfold ff_tau
        try dsimp only
        rw [if_neg (by omega)]
      · try dsimp only
        rw [show nI v - 100 = nI (v - 100) from pk_sub (show 100 ≤ v by omega)]
        refine ff_turned (by omega) (s59 _ ?_)
        unfold ff_tau
        try dsimp only
        rw [if_pos (by omega)]
        exact nI_add 100 _
  unfold wpL_same
  try dsimp only
  exact ⟨3, main 2 0 opl ohd fn fc kd dp gt st a11 a12 a13 a14 a15 a16 a17 a18 a19 a20 a21 a22 a23 a24 a25 a26 a27 opld ohdd fnd fcd kdd dpd gtd std a11d a12d a13d a14d a15d a16d a17d a18d a19d a20d a21d a22d a23d a24d a25d a26d a27d (by omega) (ff_St_m hSt (by omega)) (ff_St_m hSt' (by omega))⟩
end
section
/-! ===== the law ===== -/
/-- two fabrics, the one turned into the other -/
def ff_In (act st : Int32) (a1 a2 a3 a4 a5 a6 a7 a8 a9 a10 a23 : Nat → Int32) (actd std : Int32) (a1d a2d a3d a4d a5d a6d a7d a8d a9d a10d a23d : Nat → Int32) (B : Nat) : Prop :=
  ∃ (t : Nat) (lk rc mt ac ch lk' rc' mt' ac' ch' sx px hx tx sx' px' hx' tx' : Nat → Nat), 1 ≤ t ∧ t < 4 ∧ act = nI t ∧ actd = nI t ∧ ff_CA a1 a2 a3 a4 a5 lk rc mt ac ch ∧ ff_CA a1d a2d a3d a4d a5d lk' rc' mt' ac' ch' ∧ ff_Sym lk rc mt ac ch lk' rc' mt' ac' ch' ∧
    ff_PA a6 a7 a8 a9 sx px hx tx ∧ ff_PA a6d a7d a8d a9d sx' px' hx' tx' ∧ ff_PSy sx px hx tx a10 sx' px' hx' tx' a10d ∧ ff_St st a23 B ∧ ff_St std a23d B
theorem ff_nIof (x : Int32) : ∃ n, n < 2 ^ 32 ∧ x = nI n := by
  refine ⟨x.toBitVec.toNat, x.toBitVec.isLt, ?_⟩
  apply Int32.toBitVec_inj.1
  show x.toBitVec = BitVec.ofNat 32 x.toBitVec.toNat
  simp
theorem ff_470 {post : Int32 → Prop} {L : Nat} {xs : Nat → Int32} {J : Int32 → Int32 → Int32 → Int32 → Int32 → Int32 → Int32 → Int32 → Int32 → Int32 → (Nat → Int32) → (Nat → Int32) → (Nat → Int32) → (Nat → Int32) → (Nat → Int32) → (Nat → Int32) → (Nat → Int32) → (Nat → Int32) → (Nat → Int32) → (Nat → Int32) → (Nat → Int32) → (Nat → Int32) → (Nat → Int32) → (Nat → Int32) → (Nat → Int32) → (Nat → Int32) → (Nat → Int32) → (Nat → Int32) → (Nat → Int32) → (Nat → Int32) → (Nat → Int32) → (Nat → Int32) → (Nat → Int32) → (Nat → Int32) → (Nat → Int32) → (Nat → Int32) → (Nat → Int32) → Int32 → Int32 → Int32 → Int32 → Int32 → Int32 → Int32 → Int32 → Int32 → (Nat → Int32) → (Nat → Int32) → (Nat → Int32) → (Nat → Int32) → (Nat → Int32) → (Nat → Int32) → (Nat → Int32) → (Nat → Int32) → (Nat → Int32) → (Nat → Int32) → (Nat → Int32) → (Nat → Int32) → (Nat → Int32) → (Nat → Int32) → (Nat → Int32) → (Nat → Int32) → (Nat → Int32) → (Nat → Int32) → (Nat → Int32) → (Nat → Int32) → (Nat → Int32) → (Nat → Int32) → (Nat → Int32) → (Nat → Int32) → (Nat → Int32) → (Nat → Int32) → (Nat → Int32) → Prop} {i b B kc ks : Nat} {x6 r r' : Int32} {act opl ohd fn fc kd dp gt st : Int32} {a1 a2 a3 a4 a5 a6 a7 a8 a9 a10 a11 a12 a13 a14 a15 a16 a17 a18 a19 a20 a21 a22 a23 a24 a25 a26 a27 : Nat → Int32} {actd opld ohdd fnd fcd kdd dpd gtd std : Int32} {a1d a2d a3d a4d a5d a6d a7d a8d a9d a10d a11d a12d a13d a14d a15d a16d a17d a18d a19d a20d a21d a22d a23d a24d a25d a26d a27d : Nat → Int32} (hr : r = r') (hb : b < 20) (hB : B + 100380 < 2 ^ 31) (hI : ff_In act st a1 a2 a3 a4 a5 a6 a7 a8 a9 a10 a23 actd std a1d a2d a3d a4d a5d a6d a7d a8d a9d a10d a23d B)
    (K : ∀ (opl' ohd' fn' fc' kd' dp' gt' st' : Int32) (a11' a12' a13' a14' a15' a16' a17' a18' a19' a20' a21' a22' a23' a24' a25' a26' a27' : Nat → Int32) (opld' ohdd' fnd' fcd' kdd' dpd' gtd' std' : Int32) (a11d' a12d' a13d' a14d' a15d' a16d' a17d' a18d' a19d' a20d' a21d' a22d' a23d' a24d' a25d' a26d' a27d' : Nat → Int32), ff_In act st' a1 a2 a3 a4 a5 a6 a7 a8 a9 a10 a23' actd std' a1d a2d a3d a4d a5d a6d a7d a8d a9d a10d a23d' (B + 100380) → J (nI (2 * (i + 1))) act opl' ohd' fn' fc' kd' dp' gt' st' a1 a2 a3 a4 a5 a6 a7 a8 a9 a10 a11' a12' a13' a14' a15' a16' a17' a18' a19' a20' a21' a22' a23' a24' a25' a26' a27' actd opld' ohdd' fnd' fcd' kdd' dpd' gtd' std' a1d a2d a3d a4d a5d a6d a7d a8d a9d a10d a11d' a12d' a13d' a14d' a15d' a16d' a17d' a18d' a19d' a20d' a21d' a22d' a23d' a24d' a25d' a26d' a27d') :
    wL_law_470 post L xs J (nI (2 * i)) x6 (nI b) r r' kc ks act opl ohd fn fc kd dp gt st a1 a2 a3 a4 a5 a6 a7 a8 a9 a10 a11 a12 a13 a14 a15 a16 a17 a18 a19 a20 a21 a22 a23 a24 a25 a26 a27 actd opld ohdd fnd fcd kdd dpd gtd std a1d a2d a3d a4d a5d a6d a7d a8d a9d a10d a11d a12d a13d a14d a15d a16d a17d a18d a19d a20d a21d a22d a23d a24d a25d a26d a27d := by
  obtain ⟨t, lk, rc, mt, ac, ch, lk', rc', mt', ac', ch', sx, px, hx, tx, sx', px', hx', tx', t1, t4, ea, ead, hA, hA', hS, hP, hP', hY, hSt, hSt'⟩ := hI
  subst ea ead hr
  obtain ⟨h, hh, eh⟩ := pk_andE (x6 >>> ((10 : Int32) &&& 31)) (m := 63) 6 (by decide)
  unfold wL_law_470
  try dsimp only
  refine br_t rfl ?_
  try dsimp only
  rw [eh]
  refine ff_same t4 hb hh hA hA' hS hP hP' hY hB hSt hSt' (fun opl' ohd' fn' fc' kd' dp' gt' st' a11' a12' a13' a14' a15' a16' a17' a18' a19' a20' a21' a22' a23' a24' a25' a26' a27' opld' ohdd' fnd' fcd' kdd' dpd' gtd' std' a11d' a12d' a13d' a14d' a15d' a16d' a17d' a18d' a19d' a20d' a21d' a22d' a23d' a24d' a25d' a26d' a27d' g1 g2 => br_f (by decide) (nm_r (show nI (2 * i) + 2 = nI (2 * (i + 1)) from nI_add (2 * i) 2) ?_))
  exact K opl' ohd' fn' fc' kd' dp' gt' st' a11' a12' a13' a14' a15' a16' a17' a18' a19' a20' a21' a22' a23' a24' a25' a26' a27' opld' ohdd' fnd' fcd' kdd' dpd' gtd' std' a11d' a12d' a13d' a14d' a15d' a16d' a17d' a18d' a19d' a20d' a21d' a22d' a23d' a24d' a25d' a26d' a27d' ⟨t, lk, rc, mt, ac, ch, lk', rc', mt', ac', ch', sx, px, hx, tx, sx', px', hx', tx', t1, t4, rfl, rfl, hA, hA', hS, hP, hP', hY, g1, g2⟩
theorem ff_Sym_of {lk rc mt ac ch lk' rc' mt' ac' ch' : Nat → Nat} (h1 : ff_Lk lk lk') (h2 : ∀ t s, t < 4 → s < 5 → ff_Rw rc mt ac ch rc' mt' ac' ch' t s) : ff_Sym lk rc mt ac ch lk' rc' mt' ac' ch' := ⟨h1, h2⟩
theorem ff_md (X : Int32) {d : Nat} (h0 : 0 < d) (hd : d < 200) : ∃ a, a < d ∧ (X &&& 255) - (X &&& 255) / nI d * nI d = nI a := by
  obtain ⟨j, hj, e⟩ := pk_andE X (m := 255) 8 (by decide)
  rw [e, pk_rem (by omega) h0 (by omega)]
  exact ⟨j % d, Nat.mod_lt _ h0, rfl⟩
theorem ff_k_link {L : Nat} {xs : Nat → Int32} {i B kc ks n kd0 : Nat} {act opl ohd fn fc kd dp gt st : Int32} {a1 a2 a3 a4 a5 a6 a7 a8 a9 a10 a11 a12 a13 a14 a15 a16 a17 a18 a19 a20 a21 a22 a23 a24 a25 a26 a27 : Nat → Int32} {actd opld ohdd fnd fcd kdd dpd gtd std : Int32} {a1d a2d a3d a4d a5d a6d a7d a8d a9d a10d a11d a12d a13d a14d a15d a16d a17d a18d a19d a20d a21d a22d a23d a24d a25d a26d a27d : Nat → Int32} (hL : L ≤ 260) (hkd : xs (2 * i) &&& 15 = nI kd0) (hk16 : kd0 < 16) (h1L : 2 * i + 1 < L) (h60 : 2 * i < 60) (hB : B + 100380 < 2 ^ 31) (hI : ff_In act st a1 a2 a3 a4 a5 a6 a7 a8 a9 a10 a23 actd std a1d a2d a3d a4d a5d a6d a7d a8d a9d a10d a23d B)
    (K : ∀ (act' opl' ohd' fn' fc' kd' dp' gt' st' : Int32) (a1' a2' a3' a4' a5' a6' a7' a8' a9' a10' a11' a12' a13' a14' a15' a16' a17' a18' a19' a20' a21' a22' a23' a24' a25' a26' a27' : Nat → Int32) (actd' opld' ohdd' fnd' fcd' kdd' dpd' gtd' std' : Int32) (a1d' a2d' a3d' a4d' a5d' a6d' a7d' a8d' a9d' a10d' a11d' a12d' a13d' a14d' a15d' a16d' a17d' a18d' a19d' a20d' a21d' a22d' a23d' a24d' a25d' a26d' a27d' : Nat → Int32), ff_In act' st' a1' a2' a3' a4' a5' a6' a7' a8' a9' a10' a23' actd' std' a1d' a2d' a3d' a4d' a5d' a6d' a7d' a8d' a9d' a10d' a23d' (B + 100380) → wL_law_18 (fun r => r = 1) L xs kc ks n (nI (2 * (i + 1))) act' opl' ohd' fn' fc' kd' dp' gt' st' a1' a2' a3' a4' a5' a6' a7' a8' a9' a10' a11' a12' a13' a14' a15' a16' a17' a18' a19' a20' a21' a22' a23' a24' a25' a26' a27' actd' opld' ohdd' fnd' fcd' kdd' dpd' gtd' std' a1d' a2d' a3d' a4d' a5d' a6d' a7d' a8d' a9d' a10d' a11d' a12d' a13d' a14d' a15d' a16d' a17d' a18d' a19d' a20d' a21d' a22d' a23d' a24d' a25d' a26d' a27d') (hc : kd0 < 3) : wL_law_18 (fun r => r = 1) L xs kc ks (n + 1) (nI (2 * i)) act opl ohd fn fc kd dp gt st a1 a2 a3 a4 a5 a6 a7 a8 a9 a10 a11 a12 a13 a14 a15 a16 a17 a18 a19 a20 a21 a22 a23 a24 a25 a26 a27 actd opld ohdd fnd fcd kdd dpd gtd std a1d a2d a3d a4d a5d a6d a7d a8d a9d a10d a11d a12d a13d a14d a15d a16d a17d a18d a19d a20d a21d a22d a23d a24d a25d a26d a27d := by
  obtain ⟨t, lk, rc, mt, ac, ch, lk', rc', mt', ac', ch', sx, px, hx, tx, sx', px', hx', tx', t1, t4, ea, ead, hA, hA', hS, hP, hP', hY, hSt, hSt'⟩ := id hI
  have e2i : (nI (2 * i)).toNatClampNeg = 2 * i := nI_clamp (by omega)
  have hvL : vp_in (nI (2 * i)) L := pk_in (2 * i) L (by omega)
  have hvL1 : vp_in (nI (2 * i) + 1) L := by rw [nI_1]; exact pk_in _ L h1L
  obtain ⟨sw, hsw, esw⟩ := ff_md (xs (2 * i) >>> ((4 : Int32) &&& 31)) (d := 5) (by omega) (by omega)
  have hsw' : (sw + 1) % 5 < 5 := by omega
  refine br_f (show ¬ nI L ≤ nI (2 * i) + 1 by rw [nI_1]; exact nI_ge h1L (by omega)) (br_f (nI_ge (b := 60) h60 (by omega)) ⟨hvL, ?_⟩)
  try dsimp only
  rw [e2i]
  refine nm_r hkd ⟨hvL, by decide, nm_r esw ⟨hvL1, fun x6 _ => ?_⟩⟩
  obtain ⟨a, ha, ea20⟩ := ff_md x6 (d := 20) (by omega) (by omega)
  obtain ⟨b, hb, eb20⟩ := ff_md (x6 >>> ((8 : Int32) &&& 31)) (d := 20) (by omega) (by omega)
  have hta := ff_t_lt ha
  have htb := ff_t_lt hb
  refine ⟨by decide, nm_r ea20 ⟨by decide, nm_r eb20 ?_⟩⟩
  refine pk_le 3 kd0 (fun z => absurd z (by omega)) (fun _ => ?_)
  try dsimp only
  refine ff_link hA ha hb (fun e => ?_) (fun e c => ?_) (fun e c1 c2 a1c hA1 => ?_)
  · refine ff_turned ha (ff_turned hb (ff_link hA' hta htb (fun e' => ?_) (fun e' _ => absurd (by rw [e]) e') (fun e' _ _ _ _ => absurd (by rw [e]) e')))
    exact ff_470 rfl hb hB hI (fun opl' ohd' fn' fc' kd' dp' gt' st' a11' a12' a13' a14' a15' a16' a17' a18' a19' a20' a21' a22' a23' a24' a25' a26' a27' opld' ohdd' fnd' fcd' kdd' dpd' gtd' std' a11d' a12d' a13d' a14d' a15d' a16d' a17d' a18d' a19d' a20d' a21d' a22d' a23d' a24d' a25d' a26d' a27d' g => K _ _ _ _ _ _ _ _ _ _ _ _ _ _ _ _ _ _ _ _ _ _ _ _ _ _ _ _ _ _ _ _ _ _ _ _ _ _ _ _ _ _ _ _ _ _ _ _ _ _ _ _ _ _ _ _ _ _ _ _ _ _ _ _ _ _ _ _ _ _ _ _ g)
  · refine ff_turned ha (ff_turned hb (ff_link hA' hta htb (fun e' => absurd (ff_t_inj ha hb e') e) (fun e' _ => ?_) (fun e' d1 d2 _ _ => ?_)))
    · exact ff_470 rfl hb hB hI (fun opl' ohd' fn' fc' kd' dp' gt' st' a11' a12' a13' a14' a15' a16' a17' a18' a19' a20' a21' a22' a23' a24' a25' a26' a27' opld' ohdd' fnd' fcd' kdd' dpd' gtd' std' a11d' a12d' a13d' a14d' a15d' a16d' a17d' a18d' a19d' a20d' a21d' a22d' a23d' a24d' a25d' a26d' a27d' g => K _ _ _ _ _ _ _ _ _ _ _ _ _ _ _ _ _ _ _ _ _ _ _ _ _ _ _ _ _ _ _ _ _ _ _ _ _ _ _ _ _ _ _ _ _ _ _ _ _ _ _ _ _ _ _ _ _ _ _ _ _ _ _ _ _ _ _ _ _ _ _ _ g)
    · rcases c with c | c
      · have := (hS.1 a ha).1 c
        have := ff_t_lt c
        omega
      · have := (hS.1 b hb).1 c
        have := ff_t_lt c
        omega
  · refine ff_turned ha (ff_turned hb (ff_link hA' hta htb (fun e' => absurd (ff_t_inj ha hb e') e) (fun e' d => ?_) (fun e' d1 d2 a1e hA1' => ?_)))
    · have := (hS.1 a ha).2 c1
      have := (hS.1 b hb).2 c2
      omega
    · exact ff_470 rfl hb hB ⟨t, _, rc, mt, ac, ch, _, rc', mt', ac', ch', sx, px, hx, tx, sx', px', hx', tx', t1, t4, ea, ead, hA1, hA1', ff_Sym_of (ff_Lk_2 hS.1 ha hb ⟨fun _ => rfl, fun z => absurd z (by omega)⟩ ⟨fun _ => rfl, fun z => absurd z (by omega)⟩) hS.2, hP, hP', hY, hSt, hSt'⟩ (fun opl' ohd' fn' fc' kd' dp' gt' st' a11' a12' a13' a14' a15' a16' a17' a18' a19' a20' a21' a22' a23' a24' a25' a26' a27' opld' ohdd' fnd' fcd' kdd' dpd' gtd' std' a11d' a12d' a13d' a14d' a15d' a16d' a17d' a18d' a19d' a20d' a21d' a22d' a23d' a24d' a25d' a26d' a27d' g => K _ _ _ _ _ _ _ _ _ _ _ _ _ _ _ _ _ _ _ _ _ _ _ _ _ _ _ _ _ _ _ _ _ _ _ _ _ _ _ _ _ _ _ _ _ _ _ _ _ _ _ _ _ _ _ _ _ _ _ _ _ _ _ _ _ _ _ _ _ _ _ _ g)
theorem ff_x63 {m : Nat} (h : m < 4096) : m ^^^ 63 < 4096 := Nat.xor_lt_two_pow (n := 12) h (by omega)
theorem ff_k_add {L : Nat} {xs : Nat → Int32} {i B kc ks n kd0 : Nat} {act opl ohd fn fc kd dp gt st : Int32} {a1 a2 a3 a4 a5 a6 a7 a8 a9 a10 a11 a12 a13 a14 a15 a16 a17 a18 a19 a20 a21 a22 a23 a24 a25 a26 a27 : Nat → Int32} {actd opld ohdd fnd fcd kdd dpd gtd std : Int32} {a1d a2d a3d a4d a5d a6d a7d a8d a9d a10d a11d a12d a13d a14d a15d a16d a17d a18d a19d a20d a21d a22d a23d a24d a25d a26d a27d : Nat → Int32} (hL : L ≤ 260) (hkd : xs (2 * i) &&& 15 = nI kd0) (hk16 : kd0 < 16) (h1L : 2 * i + 1 < L) (h60 : 2 * i < 60) (hB : B + 100380 < 2 ^ 31) (hI : ff_In act st a1 a2 a3 a4 a5 a6 a7 a8 a9 a10 a23 actd std a1d a2d a3d a4d a5d a6d a7d a8d a9d a10d a23d B)
    (K : ∀ (act' opl' ohd' fn' fc' kd' dp' gt' st' : Int32) (a1' a2' a3' a4' a5' a6' a7' a8' a9' a10' a11' a12' a13' a14' a15' a16' a17' a18' a19' a20' a21' a22' a23' a24' a25' a26' a27' : Nat → Int32) (actd' opld' ohdd' fnd' fcd' kdd' dpd' gtd' std' : Int32) (a1d' a2d' a3d' a4d' a5d' a6d' a7d' a8d' a9d' a10d' a11d' a12d' a13d' a14d' a15d' a16d' a17d' a18d' a19d' a20d' a21d' a22d' a23d' a24d' a25d' a26d' a27d' : Nat → Int32), ff_In act' st' a1' a2' a3' a4' a5' a6' a7' a8' a9' a10' a23' actd' std' a1d' a2d' a3d' a4d' a5d' a6d' a7d' a8d' a9d' a10d' a23d' (B + 100380) → wL_law_18 (fun r => r = 1) L xs kc ks n (nI (2 * (i + 1))) act' opl' ohd' fn' fc' kd' dp' gt' st' a1' a2' a3' a4' a5' a6' a7' a8' a9' a10' a11' a12' a13' a14' a15' a16' a17' a18' a19' a20' a21' a22' a23' a24' a25' a26' a27' actd' opld' ohdd' fnd' fcd' kdd' dpd' gtd' std' a1d' a2d' a3d' a4d' a5d' a6d' a7d' a8d' a9d' a10d' a11d' a12d' a13d' a14d' a15d' a16d' a17d' a18d' a19d' a20d' a21d' a22d' a23d' a24d' a25d' a26d' a27d') (hc : 3 ≤ kd0) (hc9 : kd0 < 9) : wL_law_18 (fun r => r = 1) L xs kc ks (n + 1) (nI (2 * i)) act opl ohd fn fc kd dp gt st a1 a2 a3 a4 a5 a6 a7 a8 a9 a10 a11 a12 a13 a14 a15 a16 a17 a18 a19 a20 a21 a22 a23 a24 a25 a26 a27 actd opld ohdd fnd fcd kdd dpd gtd std a1d a2d a3d a4d a5d a6d a7d a8d a9d a10d a11d a12d a13d a14d a15d a16d a17d a18d a19d a20d a21d a22d a23d a24d a25d a26d a27d := by
  obtain ⟨t, lk, rc, mt, ac, ch, lk', rc', mt', ac', ch', sx, px, hx, tx, sx', px', hx', tx', t1, t4, ea, ead, hA, hA', hS, hP, hP', hY, hSt, hSt'⟩ := id hI
  have e2i : (nI (2 * i)).toNatClampNeg = 2 * i := nI_clamp (by omega)
  have hvL : vp_in (nI (2 * i)) L := pk_in (2 * i) L (by omega)
  have hvL1 : vp_in (nI (2 * i) + 1) L := by rw [nI_1]; exact pk_in _ L h1L
  obtain ⟨sw, hsw, esw⟩ := ff_md (xs (2 * i) >>> ((4 : Int32) &&& 31)) (d := 5) (by omega) (by omega)
  have hsw' : (sw + 1) % 5 < 5 := by omega
  refine br_f (show ¬ nI L ≤ nI (2 * i) + 1 by rw [nI_1]; exact nI_ge h1L (by omega)) (br_f (nI_ge (b := 60) h60 (by omega)) ⟨hvL, ?_⟩)
  try dsimp only
  rw [e2i]
  refine nm_r hkd ⟨hvL, by decide, nm_r esw ⟨hvL1, fun x6 _ => ?_⟩⟩
  obtain ⟨a, ha, ea20⟩ := ff_md x6 (d := 20) (by omega) (by omega)
  obtain ⟨b, hb, eb20⟩ := ff_md (x6 >>> ((8 : Int32) &&& 31)) (d := 20) (by omega) (by omega)
  have hta := ff_t_lt ha
  have htb := ff_t_lt hb
  refine ⟨by decide, nm_r ea20 ⟨by decide, nm_r eb20 ?_⟩⟩
  refine pk_le 3 kd0 (fun _ => pk_le 9 kd0 (fun z => absurd z (by omega)) (fun _ => ⟨hvL, ?_⟩)) (fun z => absurd z (by omega))
  obtain ⟨m0, hm0, em0⟩ := pk_andE x6 (m := 4095) 12 (by decide)
  obtain ⟨y, hy, ey⟩ := ff_nIof ((xs (2 * i) >>> ((12 : Int32) &&& 31)) ||| 63)
  obtain ⟨c, hcc, ec⟩ := pk_andE (x6 >>> ((12 : Int32) &&& 31)) (m := 4095) 12 (by decide)
  obtain ⟨o, ho, eo⟩ := ff_md (xs (2 * i) >>> ((24 : Int32) &&& 31)) (d := 6) (by omega) (by omega)
  have hm : m0 &&& y < 4096 := Nat.lt_of_le_of_lt Nat.and_le_left hm0
  refine nm_r (show _ = nI (m0 &&& y) by rw [em0, ey, ff_and]) (nm_r ec ⟨hvL, by decide, nm_r eo ?_⟩)
  generalize m0 &&& y = m at hm
  have ef1 : nI m ^^^ 63 = nI (m ^^^ 63) := ff_xor m 63
  have ef2 : nI c ^^^ 63 = nI (c ^^^ 63) := ff_xor c 63
  have oth : ∀ {P : Int32 → Prop}, P (nI (ff_o o)) → wpL_other P () (nI o) := by
    intro P hP0
    unfold wpL_other
    try dsimp only
    unfold ff_o at hP0
    refine pk_le 4 o (fun z => ?_) (fun z => ?_)
    · try dsimp only
      rw [if_neg (by omega)] at hP0
      exact hP0
    · try dsimp only
      rw [if_pos z] at hP0
      rw [show (3 : Int32) - nI o = nI (3 - o) from pk_sub (show o ≤ 3 by omega)]
      exact hP0
  have e0 : rc' ((sw + 1) % 5) = rc sw := by
    have := (hS.2 0 sw (by omega) hsw).1
    rw [show 5 * 0 + (sw + 1) % 5 = (sw + 1) % 5 by omega, show 5 * 0 + sw = sw by omega] at this
    exact this
  have ho5 : ff_o o ≤ 5 := by unfold ff_o; split <;> omega
  refine ff_add hA hsw hm (show o ≤ 5 by omega) hcc (fun z => ⟨by decide, ?_⟩) (fun z a2c a3c a4c a5c hA1 => ⟨by decide, ?_⟩)
  · unfold wpL_flip
    try dsimp only
    rw [ef1, ef2, ff_m5 sw (by omega)]
    refine oth (ff_add hA' hsw' (ff_x63 hm) ho5 (ff_x63 hcc) (fun _ => ?_) (fun z' => absurd z' (by omega)))
    exact ff_470 rfl hb hB hI (fun opl' ohd' fn' fc' kd' dp' gt' st' a11' a12' a13' a14' a15' a16' a17' a18' a19' a20' a21' a22' a23' a24' a25' a26' a27' opld' ohdd' fnd' fcd' kdd' dpd' gtd' std' a11d' a12d' a13d' a14d' a15d' a16d' a17d' a18d' a19d' a20d' a21d' a22d' a23d' a24d' a25d' a26d' a27d' g => K _ _ _ _ _ _ _ _ _ _ _ _ _ _ _ _ _ _ _ _ _ _ _ _ _ _ _ _ _ _ _ _ _ _ _ _ _ _ _ _ _ _ _ _ _ _ _ _ _ _ _ _ _ _ _ _ _ _ _ _ _ _ _ _ _ _ _ _ _ _ _ _ g)
  · unfold wpL_flip
    try dsimp only
    rw [ef1, ef2, ff_m5 sw (by omega)]
    refine oth (ff_add hA' hsw' (ff_x63 hm) ho5 (ff_x63 hcc) (fun z' => absurd z' (by omega)) (fun z' a2e a3e a4e a5e hA1' => ?_))
    exact ff_470 (by rw [e0]) hb hB ⟨t, lk, _, _, _, _, lk', _, _, _, _, sx, px, hx, tx, sx', px', hx', tx', t1, t4, ea, ead, hA1, hA1', ff_Sym_of hS.1 (ff_Rw_add hA.2.2.2 hS.2 hsw z), hP, hP', hY, hSt, hSt'⟩ (fun opl' ohd' fn' fc' kd' dp' gt' st' a11' a12' a13' a14' a15' a16' a17' a18' a19' a20' a21' a22' a23' a24' a25' a26' a27' opld' ohdd' fnd' fcd' kdd' dpd' gtd' std' a11d' a12d' a13d' a14d' a15d' a16d' a17d' a18d' a19d' a20d' a21d' a22d' a23d' a24d' a25d' a26d' a27d' g => K _ _ _ _ _ _ _ _ _ _ _ _ _ _ _ _ _ _ _ _ _ _ _ _ _ _ _ _ _ _ _ _ _ _ _ _ _ _ _ _ _ _ _ _ _ _ _ _ _ _ _ _ _ _ _ _ _ _ _ _ _ _ _ _ _ _ _ _ _ _ _ _ g)
theorem ff_k_drop {L : Nat} {xs : Nat → Int32} {i B kc ks n kd0 : Nat} {act opl ohd fn fc kd dp gt st : Int32} {a1 a2 a3 a4 a5 a6 a7 a8 a9 a10 a11 a12 a13 a14 a15 a16 a17 a18 a19 a20 a21 a22 a23 a24 a25 a26 a27 : Nat → Int32} {actd opld ohdd fnd fcd kdd dpd gtd std : Int32} {a1d a2d a3d a4d a5d a6d a7d a8d a9d a10d a11d a12d a13d a14d a15d a16d a17d a18d a19d a20d a21d a22d a23d a24d a25d a26d a27d : Nat → Int32} (hL : L ≤ 260) (hkd : xs (2 * i) &&& 15 = nI kd0) (hk16 : kd0 < 16) (h1L : 2 * i + 1 < L) (h60 : 2 * i < 60) (hB : B + 100380 < 2 ^ 31) (hI : ff_In act st a1 a2 a3 a4 a5 a6 a7 a8 a9 a10 a23 actd std a1d a2d a3d a4d a5d a6d a7d a8d a9d a10d a23d B)
    (K : ∀ (act' opl' ohd' fn' fc' kd' dp' gt' st' : Int32) (a1' a2' a3' a4' a5' a6' a7' a8' a9' a10' a11' a12' a13' a14' a15' a16' a17' a18' a19' a20' a21' a22' a23' a24' a25' a26' a27' : Nat → Int32) (actd' opld' ohdd' fnd' fcd' kdd' dpd' gtd' std' : Int32) (a1d' a2d' a3d' a4d' a5d' a6d' a7d' a8d' a9d' a10d' a11d' a12d' a13d' a14d' a15d' a16d' a17d' a18d' a19d' a20d' a21d' a22d' a23d' a24d' a25d' a26d' a27d' : Nat → Int32), ff_In act' st' a1' a2' a3' a4' a5' a6' a7' a8' a9' a10' a23' actd' std' a1d' a2d' a3d' a4d' a5d' a6d' a7d' a8d' a9d' a10d' a23d' (B + 100380) → wL_law_18 (fun r => r = 1) L xs kc ks n (nI (2 * (i + 1))) act' opl' ohd' fn' fc' kd' dp' gt' st' a1' a2' a3' a4' a5' a6' a7' a8' a9' a10' a11' a12' a13' a14' a15' a16' a17' a18' a19' a20' a21' a22' a23' a24' a25' a26' a27' actd' opld' ohdd' fnd' fcd' kdd' dpd' gtd' std' a1d' a2d' a3d' a4d' a5d' a6d' a7d' a8d' a9d' a10d' a11d' a12d' a13d' a14d' a15d' a16d' a17d' a18d' a19d' a20d' a21d' a22d' a23d' a24d' a25d' a26d' a27d') (hc : kd0 = 9) : wL_law_18 (fun r => r = 1) L xs kc ks (n + 1) (nI (2 * i)) act opl ohd fn fc kd dp gt st a1 a2 a3 a4 a5 a6 a7 a8 a9 a10 a11 a12 a13 a14 a15 a16 a17 a18 a19 a20 a21 a22 a23 a24 a25 a26 a27 actd opld ohdd fnd fcd kdd dpd gtd std a1d a2d a3d a4d a5d a6d a7d a8d a9d a10d a11d a12d a13d a14d a15d a16d a17d a18d a19d a20d a21d a22d a23d a24d a25d a26d a27d := by
  obtain ⟨t, lk, rc, mt, ac, ch, lk', rc', mt', ac', ch', sx, px, hx, tx, sx', px', hx', tx', t1, t4, ea, ead, hA, hA', hS, hP, hP', hY, hSt, hSt'⟩ := id hI
  have e2i : (nI (2 * i)).toNatClampNeg = 2 * i := nI_clamp (by omega)
  have hvL : vp_in (nI (2 * i)) L := pk_in (2 * i) L (by omega)
  have hvL1 : vp_in (nI (2 * i) + 1) L := by rw [nI_1]; exact pk_in _ L h1L
  obtain ⟨sw, hsw, esw⟩ := ff_md (xs (2 * i) >>> ((4 : Int32) &&& 31)) (d := 5) (by omega) (by omega)
  have hsw' : (sw + 1) % 5 < 5 := by omega
  refine br_f (show ¬ nI L ≤ nI (2 * i) + 1 by rw [nI_1]; exact nI_ge h1L (by omega)) (br_f (nI_ge (b := 60) h60 (by omega)) ⟨hvL, ?_⟩)
  try dsimp only
  rw [e2i]
  refine nm_r hkd ⟨hvL, by decide, nm_r esw ⟨hvL1, fun x6 _ => ?_⟩⟩
  obtain ⟨a, ha, ea20⟩ := ff_md x6 (d := 20) (by omega) (by omega)
  obtain ⟨b, hb, eb20⟩ := ff_md (x6 >>> ((8 : Int32) &&& 31)) (d := 20) (by omega) (by omega)
  have hta := ff_t_lt ha
  have htb := ff_t_lt hb
  refine ⟨by decide, nm_r ea20 ⟨by decide, nm_r eb20 ?_⟩⟩
  refine pk_le 3 kd0 (fun _ => pk_le 9 kd0 (fun _ => pk_eq kd0 9 (fun _ => ?_) (fun z => absurd hc z)) (fun z => absurd z (by omega))) (fun z => absurd z (by omega))
  obtain ⟨q, hq, eq⟩ := pk_andE x6 (m := 3) 2 (by decide)
  rw [eq, ff_m5 sw (by omega)]
  have e0 : rc' ((sw + 1) % 5) = rc sw := by
    have := (hS.2 0 sw (by omega) hsw).1
    rw [show 5 * 0 + (sw + 1) % 5 = (sw + 1) % 5 by omega, show 5 * 0 + sw = sw by omega] at this
    exact this
  refine ff_drop hA hsw hq (fun z => ⟨by decide, ?_⟩) (fun z a2c a3c a4c a5c hA1 => ⟨by decide, ?_⟩)
  · refine ff_drop hA' hsw' hq (fun _ => ?_) (fun z' => absurd z' (by omega))
    exact ff_470 rfl hb hB hI (fun opl' ohd' fn' fc' kd' dp' gt' st' a11' a12' a13' a14' a15' a16' a17' a18' a19' a20' a21' a22' a23' a24' a25' a26' a27' opld' ohdd' fnd' fcd' kdd' dpd' gtd' std' a11d' a12d' a13d' a14d' a15d' a16d' a17d' a18d' a19d' a20d' a21d' a22d' a23d' a24d' a25d' a26d' a27d' g => K _ _ _ _ _ _ _ _ _ _ _ _ _ _ _ _ _ _ _ _ _ _ _ _ _ _ _ _ _ _ _ _ _ _ _ _ _ _ _ _ _ _ _ _ _ _ _ _ _ _ _ _ _ _ _ _ _ _ _ _ _ _ _ _ _ _ _ _ _ _ _ _ g)
  · refine ff_drop hA' hsw' hq (fun z' => absurd z' (by omega)) (fun z' a2e a3e a4e a5e hA1' => ?_)
    try dsimp only
    exact ff_470 (by rw [e0]) hb hB ⟨t, lk, _, _, _, _, lk', _, _, _, _, sx, px, hx, tx, sx', px', hx', tx', t1, t4, ea, ead, hA1, hA1', ff_Sym_of hS.1 (ff_Rw_drop hA.2.2.2 hS.2 hsw z), hP, hP', hY, hSt, hSt'⟩ (fun opl' ohd' fn' fc' kd' dp' gt' st' a11' a12' a13' a14' a15' a16' a17' a18' a19' a20' a21' a22' a23' a24' a25' a26' a27' opld' ohdd' fnd' fcd' kdd' dpd' gtd' std' a11d' a12d' a13d' a14d' a15d' a16d' a17d' a18d' a19d' a20d' a21d' a22d' a23d' a24d' a25d' a26d' a27d' g => K _ _ _ _ _ _ _ _ _ _ _ _ _ _ _ _ _ _ _ _ _ _ _ _ _ _ _ _ _ _ _ _ _ _ _ _ _ _ _ _ _ _ _ _ _ _ _ _ _ _ _ _ _ _ _ _ _ _ _ _ _ _ _ _ _ _ _ _ _ _ _ _ g)
theorem ff_k_move {L : Nat} {xs : Nat → Int32} {i B kc ks n kd0 : Nat} {act opl ohd fn fc kd dp gt st : Int32} {a1 a2 a3 a4 a5 a6 a7 a8 a9 a10 a11 a12 a13 a14 a15 a16 a17 a18 a19 a20 a21 a22 a23 a24 a25 a26 a27 : Nat → Int32} {actd opld ohdd fnd fcd kdd dpd gtd std : Int32} {a1d a2d a3d a4d a5d a6d a7d a8d a9d a10d a11d a12d a13d a14d a15d a16d a17d a18d a19d a20d a21d a22d a23d a24d a25d a26d a27d : Nat → Int32} (hL : L ≤ 260) (hkd : xs (2 * i) &&& 15 = nI kd0) (hk16 : kd0 < 16) (h1L : 2 * i + 1 < L) (h60 : 2 * i < 60) (hB : B + 100380 < 2 ^ 31) (hI : ff_In act st a1 a2 a3 a4 a5 a6 a7 a8 a9 a10 a23 actd std a1d a2d a3d a4d a5d a6d a7d a8d a9d a10d a23d B)
    (K : ∀ (act' opl' ohd' fn' fc' kd' dp' gt' st' : Int32) (a1' a2' a3' a4' a5' a6' a7' a8' a9' a10' a11' a12' a13' a14' a15' a16' a17' a18' a19' a20' a21' a22' a23' a24' a25' a26' a27' : Nat → Int32) (actd' opld' ohdd' fnd' fcd' kdd' dpd' gtd' std' : Int32) (a1d' a2d' a3d' a4d' a5d' a6d' a7d' a8d' a9d' a10d' a11d' a12d' a13d' a14d' a15d' a16d' a17d' a18d' a19d' a20d' a21d' a22d' a23d' a24d' a25d' a26d' a27d' : Nat → Int32), ff_In act' st' a1' a2' a3' a4' a5' a6' a7' a8' a9' a10' a23' actd' std' a1d' a2d' a3d' a4d' a5d' a6d' a7d' a8d' a9d' a10d' a23d' (B + 100380) → wL_law_18 (fun r => r = 1) L xs kc ks n (nI (2 * (i + 1))) act' opl' ohd' fn' fc' kd' dp' gt' st' a1' a2' a3' a4' a5' a6' a7' a8' a9' a10' a11' a12' a13' a14' a15' a16' a17' a18' a19' a20' a21' a22' a23' a24' a25' a26' a27' actd' opld' ohdd' fnd' fcd' kdd' dpd' gtd' std' a1d' a2d' a3d' a4d' a5d' a6d' a7d' a8d' a9d' a10d' a11d' a12d' a13d' a14d' a15d' a16d' a17d' a18d' a19d' a20d' a21d' a22d' a23d' a24d' a25d' a26d' a27d') (hc : kd0 = 10) : wL_law_18 (fun r => r = 1) L xs kc ks (n + 1) (nI (2 * i)) act opl ohd fn fc kd dp gt st a1 a2 a3 a4 a5 a6 a7 a8 a9 a10 a11 a12 a13 a14 a15 a16 a17 a18 a19 a20 a21 a22 a23 a24 a25 a26 a27 actd opld ohdd fnd fcd kdd dpd gtd std a1d a2d a3d a4d a5d a6d a7d a8d a9d a10d a11d a12d a13d a14d a15d a16d a17d a18d a19d a20d a21d a22d a23d a24d a25d a26d a27d := by
  obtain ⟨t, lk, rc, mt, ac, ch, lk', rc', mt', ac', ch', sx, px, hx, tx, sx', px', hx', tx', t1, t4, ea, ead, hA, hA', hS, hP, hP', hY, hSt, hSt'⟩ := id hI
  have e2i : (nI (2 * i)).toNatClampNeg = 2 * i := nI_clamp (by omega)
  have hvL : vp_in (nI (2 * i)) L := pk_in (2 * i) L (by omega)
  have hvL1 : vp_in (nI (2 * i) + 1) L := by rw [nI_1]; exact pk_in _ L h1L
  obtain ⟨sw, hsw, esw⟩ := ff_md (xs (2 * i) >>> ((4 : Int32) &&& 31)) (d := 5) (by omega) (by omega)
  have hsw' : (sw + 1) % 5 < 5 := by omega
  refine br_f (show ¬ nI L ≤ nI (2 * i) + 1 by rw [nI_1]; exact nI_ge h1L (by omega)) (br_f (nI_ge (b := 60) h60 (by omega)) ⟨hvL, ?_⟩)
  try dsimp only
  rw [e2i]
  refine nm_r hkd ⟨hvL, by decide, nm_r esw ⟨hvL1, fun x6 _ => ?_⟩⟩
  obtain ⟨a, ha, ea20⟩ := ff_md x6 (d := 20) (by omega) (by omega)
  obtain ⟨b, hb, eb20⟩ := ff_md (x6 >>> ((8 : Int32) &&& 31)) (d := 20) (by omega) (by omega)
  have hta := ff_t_lt ha
  have htb := ff_t_lt hb
  refine ⟨by decide, nm_r ea20 ⟨by decide, nm_r eb20 ?_⟩⟩
  refine pk_le 3 kd0 (fun _ => pk_le 9 kd0 (fun _ => pk_eq kd0 9 (fun z => absurd z (by omega)) (fun _ => pk_eq kd0 10 (fun _ => ?_) (fun z => absurd hc z))) (fun z => absurd z (by omega))) (fun z => absurd z (by omega))
  obtain ⟨q, hq, eq⟩ := pk_andE x6 (m := 3) 2 (by decide)
  obtain ⟨v, hv, ev⟩ := pk_andE (x6 >>> ((2 : Int32) &&& 31)) (m := 3) 2 (by decide)
  rw [eq, ev, ff_m5 sw (by omega)]
  have e0 : rc' ((sw + 1) % 5) = rc sw := by
    have := (hS.2 0 sw (by omega) hsw).1
    rw [show 5 * 0 + (sw + 1) % 5 = (sw + 1) % 5 by omega, show 5 * 0 + sw = sw by omega] at this
    exact this
  refine ff_move hA hsw hq hv (fun z => ⟨by decide, ?_⟩) (fun z z2 a3c a4c a5c hA1 => ⟨by decide, ?_⟩)
  · refine ff_move hA' hsw' hq hv (fun _ => ?_) (fun z' z2' => absurd z (by omega))
    exact ff_470 rfl hb hB hI (fun opl' ohd' fn' fc' kd' dp' gt' st' a11' a12' a13' a14' a15' a16' a17' a18' a19' a20' a21' a22' a23' a24' a25' a26' a27' opld' ohdd' fnd' fcd' kdd' dpd' gtd' std' a11d' a12d' a13d' a14d' a15d' a16d' a17d' a18d' a19d' a20d' a21d' a22d' a23d' a24d' a25d' a26d' a27d' g => K _ _ _ _ _ _ _ _ _ _ _ _ _ _ _ _ _ _ _ _ _ _ _ _ _ _ _ _ _ _ _ _ _ _ _ _ _ _ _ _ _ _ _ _ _ _ _ _ _ _ _ _ _ _ _ _ _ _ _ _ _ _ _ _ _ _ _ _ _ _ _ _ g)
  · refine ff_move hA' hsw' hq hv (fun z' => absurd z' (by omega)) (fun z' z2' a3e a4e a5e hA1' => ?_)
    try dsimp only
    exact ff_470 rfl hb hB ⟨t, lk, rc, _, _, _, lk', rc', _, _, _, sx, px, hx, tx, sx', px', hx', tx', t1, t4, ea, ead, hA1, hA1', ff_Sym_of hS.1 (ff_Rw_move hA.2.2.2 hS.2 hsw z z2), hP, hP', hY, hSt, hSt'⟩ (fun opl' ohd' fn' fc' kd' dp' gt' st' a11' a12' a13' a14' a15' a16' a17' a18' a19' a20' a21' a22' a23' a24' a25' a26' a27' opld' ohdd' fnd' fcd' kdd' dpd' gtd' std' a11d' a12d' a13d' a14d' a15d' a16d' a17d' a18d' a19d' a20d' a21d' a22d' a23d' a24d' a25d' a26d' a27d' g => K _ _ _ _ _ _ _ _ _ _ _ _ _ _ _ _ _ _ _ _ _ _ _ _ _ _ _ _ _ _ _ _ _ _ _ _ _ _ _ _ _ _ _ _ _ _ _ _ _ _ _ _ _ _ _ _ _ _ _ _ _ _ _ _ _ _ _ _ _ _ _ _ g)
theorem ff_k_pub {L : Nat} {xs : Nat → Int32} {i B kc ks n kd0 : Nat} {act opl ohd fn fc kd dp gt st : Int32} {a1 a2 a3 a4 a5 a6 a7 a8 a9 a10 a11 a12 a13 a14 a15 a16 a17 a18 a19 a20 a21 a22 a23 a24 a25 a26 a27 : Nat → Int32} {actd opld ohdd fnd fcd kdd dpd gtd std : Int32} {a1d a2d a3d a4d a5d a6d a7d a8d a9d a10d a11d a12d a13d a14d a15d a16d a17d a18d a19d a20d a21d a22d a23d a24d a25d a26d a27d : Nat → Int32} (hL : L ≤ 260) (hkd : xs (2 * i) &&& 15 = nI kd0) (hk16 : kd0 < 16) (h1L : 2 * i + 1 < L) (h60 : 2 * i < 60) (hB : B + 100380 < 2 ^ 31) (hI : ff_In act st a1 a2 a3 a4 a5 a6 a7 a8 a9 a10 a23 actd std a1d a2d a3d a4d a5d a6d a7d a8d a9d a10d a23d B)
    (K : ∀ (act' opl' ohd' fn' fc' kd' dp' gt' st' : Int32) (a1' a2' a3' a4' a5' a6' a7' a8' a9' a10' a11' a12' a13' a14' a15' a16' a17' a18' a19' a20' a21' a22' a23' a24' a25' a26' a27' : Nat → Int32) (actd' opld' ohdd' fnd' fcd' kdd' dpd' gtd' std' : Int32) (a1d' a2d' a3d' a4d' a5d' a6d' a7d' a8d' a9d' a10d' a11d' a12d' a13d' a14d' a15d' a16d' a17d' a18d' a19d' a20d' a21d' a22d' a23d' a24d' a25d' a26d' a27d' : Nat → Int32), ff_In act' st' a1' a2' a3' a4' a5' a6' a7' a8' a9' a10' a23' actd' std' a1d' a2d' a3d' a4d' a5d' a6d' a7d' a8d' a9d' a10d' a23d' (B + 100380) → wL_law_18 (fun r => r = 1) L xs kc ks n (nI (2 * (i + 1))) act' opl' ohd' fn' fc' kd' dp' gt' st' a1' a2' a3' a4' a5' a6' a7' a8' a9' a10' a11' a12' a13' a14' a15' a16' a17' a18' a19' a20' a21' a22' a23' a24' a25' a26' a27' actd' opld' ohdd' fnd' fcd' kdd' dpd' gtd' std' a1d' a2d' a3d' a4d' a5d' a6d' a7d' a8d' a9d' a10d' a11d' a12d' a13d' a14d' a15d' a16d' a17d' a18d' a19d' a20d' a21d' a22d' a23d' a24d' a25d' a26d' a27d') (hc : kd0 = 11) : wL_law_18 (fun r => r = 1) L xs kc ks (n + 1) (nI (2 * i)) act opl ohd fn fc kd dp gt st a1 a2 a3 a4 a5 a6 a7 a8 a9 a10 a11 a12 a13 a14 a15 a16 a17 a18 a19 a20 a21 a22 a23 a24 a25 a26 a27 actd opld ohdd fnd fcd kdd dpd gtd std a1d a2d a3d a4d a5d a6d a7d a8d a9d a10d a11d a12d a13d a14d a15d a16d a17d a18d a19d a20d a21d a22d a23d a24d a25d a26d a27d := by
  obtain ⟨t, lk, rc, mt, ac, ch, lk', rc', mt', ac', ch', sx, px, hx, tx, sx', px', hx', tx', t1, t4, ea, ead, hA, hA', hS, hP, hP', hY, hSt, hSt'⟩ := id hI
  have e2i : (nI (2 * i)).toNatClampNeg = 2 * i := nI_clamp (by omega)
  have hvL : vp_in (nI (2 * i)) L := pk_in (2 * i) L (by omega)
  have hvL1 : vp_in (nI (2 * i) + 1) L := by rw [nI_1]; exact pk_in _ L h1L
  obtain ⟨sw, hsw, esw⟩ := ff_md (xs (2 * i) >>> ((4 : Int32) &&& 31)) (d := 5) (by omega) (by omega)
  have hsw' : (sw + 1) % 5 < 5 := by omega
  refine br_f (show ¬ nI L ≤ nI (2 * i) + 1 by rw [nI_1]; exact nI_ge h1L (by omega)) (br_f (nI_ge (b := 60) h60 (by omega)) ⟨hvL, ?_⟩)
  try dsimp only
  rw [e2i]
  refine nm_r hkd ⟨hvL, by decide, nm_r esw ⟨hvL1, fun x6 _ => ?_⟩⟩
  obtain ⟨a, ha, ea20⟩ := ff_md x6 (d := 20) (by omega) (by omega)
  obtain ⟨b, hb, eb20⟩ := ff_md (x6 >>> ((8 : Int32) &&& 31)) (d := 20) (by omega) (by omega)
  have hta := ff_t_lt ha
  have htb := ff_t_lt hb
  refine ⟨by decide, nm_r ea20 ⟨by decide, nm_r eb20 ?_⟩⟩
  refine pk_le 3 kd0 (fun _ => pk_le 9 kd0 (fun _ => pk_eq kd0 9 (fun z => absurd z (by omega)) (fun _ => pk_eq kd0 10 (fun z => absurd z (by omega)) (fun _ => pk_eq kd0 11 (fun _ => ?_) (fun z => absurd hc z)))) (fun z => absurd z (by omega))) (fun z => absurd z (by omega))
  have hpb := ff_pb_in (sx := sx) (tx := tx) t1 t4
  subst ea ead
  refine ff_publish hA hP t1 t4 (fun u v => ?_) (fun u a2c a3c a4c a5c hA1 => ?_)
  · refine ff_publish hA' hP' t1 t4 (fun _ _ => ?_) (fun u' => absurd ⟨(ff_us_y hY t).trans u, (ff_kt_y hY t).trans v⟩ u')
    exact ff_470 rfl hb hB hI (fun opl' ohd' fn' fc' kd' dp' gt' st' a11' a12' a13' a14' a15' a16' a17' a18' a19' a20' a21' a22' a23' a24' a25' a26' a27' opld' ohdd' fnd' fcd' kdd' dpd' gtd' std' a11d' a12d' a13d' a14d' a15d' a16d' a17d' a18d' a19d' a20d' a21d' a22d' a23d' a24d' a25d' a26d' a27d' g => K _ _ _ _ _ _ _ _ _ _ _ _ _ _ _ _ _ _ _ _ _ _ _ _ _ _ _ _ _ _ _ _ _ _ _ _ _ _ _ _ _ _ _ _ _ _ _ _ _ _ _ _ _ _ _ _ _ _ _ _ _ _ _ _ _ _ _ _ _ _ _ _ g)
  · refine ff_publish hA' hP' t1 t4 (fun u' v' => absurd ⟨(ff_us_y hY t).symm.trans u', (ff_kt_y hY t).symm.trans v'⟩ u) (fun u' a2e a3e a4e a5e hA1' => ?_)
    try dsimp only
    rw [ff_pb_y hY] at hA1'
    rw [ff_pb_y hY, ff_kt_y hY]
    exact ff_470 rfl hb hB ⟨_, lk, _, _, _, _, lk', _, _, _, _, sx, px, hx, tx, sx', px', hx', tx', hpb.1, hpb.2, rfl, rfl, hA1, hA1', ff_Sym_of hS.1 (ff_Rw_tc hA.2.2.2 hS.2 (by omega)), hP, hP', hY, hSt, hSt'⟩ (fun opl' ohd' fn' fc' kd' dp' gt' st' a11' a12' a13' a14' a15' a16' a17' a18' a19' a20' a21' a22' a23' a24' a25' a26' a27' opld' ohdd' fnd' fcd' kdd' dpd' gtd' std' a11d' a12d' a13d' a14d' a15d' a16d' a17d' a18d' a19d' a20d' a21d' a22d' a23d' a24d' a25d' a26d' a27d' g => K _ _ _ _ _ _ _ _ _ _ _ _ _ _ _ _ _ _ _ _ _ _ _ _ _ _ _ _ _ _ _ _ _ _ _ _ _ _ _ _ _ _ _ _ _ _ _ _ _ _ _ _ _ _ _ _ _ _ _ _ _ _ _ _ _ _ _ _ _ _ _ _ g)
theorem ff_k_send {L : Nat} {xs : Nat → Int32} {i B kc ks n kd0 : Nat} {act opl ohd fn fc kd dp gt st : Int32} {a1 a2 a3 a4 a5 a6 a7 a8 a9 a10 a11 a12 a13 a14 a15 a16 a17 a18 a19 a20 a21 a22 a23 a24 a25 a26 a27 : Nat → Int32} {actd opld ohdd fnd fcd kdd dpd gtd std : Int32} {a1d a2d a3d a4d a5d a6d a7d a8d a9d a10d a11d a12d a13d a14d a15d a16d a17d a18d a19d a20d a21d a22d a23d a24d a25d a26d a27d : Nat → Int32} (hL : L ≤ 260) (hkd : xs (2 * i) &&& 15 = nI kd0) (hk16 : kd0 < 16) (h1L : 2 * i + 1 < L) (h60 : 2 * i < 60) (hB : B + 100380 < 2 ^ 31) (hI : ff_In act st a1 a2 a3 a4 a5 a6 a7 a8 a9 a10 a23 actd std a1d a2d a3d a4d a5d a6d a7d a8d a9d a10d a23d B)
    (K : ∀ (act' opl' ohd' fn' fc' kd' dp' gt' st' : Int32) (a1' a2' a3' a4' a5' a6' a7' a8' a9' a10' a11' a12' a13' a14' a15' a16' a17' a18' a19' a20' a21' a22' a23' a24' a25' a26' a27' : Nat → Int32) (actd' opld' ohdd' fnd' fcd' kdd' dpd' gtd' std' : Int32) (a1d' a2d' a3d' a4d' a5d' a6d' a7d' a8d' a9d' a10d' a11d' a12d' a13d' a14d' a15d' a16d' a17d' a18d' a19d' a20d' a21d' a22d' a23d' a24d' a25d' a26d' a27d' : Nat → Int32), ff_In act' st' a1' a2' a3' a4' a5' a6' a7' a8' a9' a10' a23' actd' std' a1d' a2d' a3d' a4d' a5d' a6d' a7d' a8d' a9d' a10d' a23d' (B + 100380) → wL_law_18 (fun r => r = 1) L xs kc ks n (nI (2 * (i + 1))) act' opl' ohd' fn' fc' kd' dp' gt' st' a1' a2' a3' a4' a5' a6' a7' a8' a9' a10' a11' a12' a13' a14' a15' a16' a17' a18' a19' a20' a21' a22' a23' a24' a25' a26' a27' actd' opld' ohdd' fnd' fcd' kdd' dpd' gtd' std' a1d' a2d' a3d' a4d' a5d' a6d' a7d' a8d' a9d' a10d' a11d' a12d' a13d' a14d' a15d' a16d' a17d' a18d' a19d' a20d' a21d' a22d' a23d' a24d' a25d' a26d' a27d') (hc : 12 ≤ kd0) (hc14 : kd0 < 14) : wL_law_18 (fun r => r = 1) L xs kc ks (n + 1) (nI (2 * i)) act opl ohd fn fc kd dp gt st a1 a2 a3 a4 a5 a6 a7 a8 a9 a10 a11 a12 a13 a14 a15 a16 a17 a18 a19 a20 a21 a22 a23 a24 a25 a26 a27 actd opld ohdd fnd fcd kdd dpd gtd std a1d a2d a3d a4d a5d a6d a7d a8d a9d a10d a11d a12d a13d a14d a15d a16d a17d a18d a19d a20d a21d a22d a23d a24d a25d a26d a27d := by
  obtain ⟨t, lk, rc, mt, ac, ch, lk', rc', mt', ac', ch', sx, px, hx, tx, sx', px', hx', tx', t1, t4, ea, ead, hA, hA', hS, hP, hP', hY, hSt, hSt'⟩ := id hI
  have e2i : (nI (2 * i)).toNatClampNeg = 2 * i := nI_clamp (by omega)
  have hvL : vp_in (nI (2 * i)) L := pk_in (2 * i) L (by omega)
  have hvL1 : vp_in (nI (2 * i) + 1) L := by rw [nI_1]; exact pk_in _ L h1L
  obtain ⟨sw, hsw, esw⟩ := ff_md (xs (2 * i) >>> ((4 : Int32) &&& 31)) (d := 5) (by omega) (by omega)
  have hsw' : (sw + 1) % 5 < 5 := by omega
  refine br_f (show ¬ nI L ≤ nI (2 * i) + 1 by rw [nI_1]; exact nI_ge h1L (by omega)) (br_f (nI_ge (b := 60) h60 (by omega)) ⟨hvL, ?_⟩)
  try dsimp only
  rw [e2i]
  refine nm_r hkd ⟨hvL, by decide, nm_r esw ⟨hvL1, fun x6 _ => ?_⟩⟩
  obtain ⟨a, ha, ea20⟩ := ff_md x6 (d := 20) (by omega) (by omega)
  obtain ⟨b, hb, eb20⟩ := ff_md (x6 >>> ((8 : Int32) &&& 31)) (d := 20) (by omega) (by omega)
  have hta := ff_t_lt ha
  have htb := ff_t_lt hb
  refine ⟨by decide, nm_r ea20 ⟨by decide, nm_r eb20 ?_⟩⟩
  refine pk_le 3 kd0 (fun _ => pk_le 9 kd0 (fun _ => pk_eq kd0 9 (fun z => absurd z (by omega)) (fun _ => pk_eq kd0 10 (fun z => absurd z (by omega)) (fun _ => pk_eq kd0 11 (fun z => absurd z (by omega)) (fun _ => pk_le 14 kd0 (fun z => absurd z (by omega)) (fun _ => ?_))))) (fun z => absurd z (by omega))) (fun z => absurd z (by omega))
  obtain ⟨q, hq, eq⟩ := pk_andE (x6 >>> ((16 : Int32) &&& 31)) (m := 63) 6 (by decide)
  rw [eq, show (63 : Int32) - nI q = nI (63 - q) from pk_sub (show q ≤ 63 by omega)]
  subst ea ead
  have hq' : 63 - q < 64 := by omega
  obtain ⟨l1, l2⟩ := hS.1 a ha
  have sxe : ∀ k, k < 8 → sx' k = sx k := fun k hk => (hY k hk).1
  refine ff_send hA hP t4 ha hq (fun z => ff_turned ha ?_) (fun z v => ff_turned ha ?_) (fun z k a6c a7c a8c a9c hk hne hall hP1 => ff_turned ha ?_)
  · refine ff_send hA' hP' t4 hta hq' (fun _ => ?_) (fun z' _ => ?_) (fun z' _ _ _ _ _ _ _ _ _ => ?_)
    · exact ff_470 rfl hb hB hI (fun opl' ohd' fn' fc' kd' dp' gt' st' a11' a12' a13' a14' a15' a16' a17' a18' a19' a20' a21' a22' a23' a24' a25' a26' a27' opld' ohdd' fnd' fcd' kdd' dpd' gtd' std' a11d' a12d' a13d' a14d' a15d' a16d' a17d' a18d' a19d' a20d' a21d' a22d' a23d' a24d' a25d' a26d' a27d' g => K _ _ _ _ _ _ _ _ _ _ _ _ _ _ _ _ _ _ _ _ _ _ _ _ _ _ _ _ _ _ _ _ _ _ _ _ _ _ _ _ _ _ _ _ _ _ _ _ _ _ _ _ _ _ _ _ _ _ _ _ _ _ _ _ _ _ _ _ _ _ _ _ g)
    · have := l1 z
      have := ff_t_lt z
      omega
    · have := l1 z
      have := ff_t_lt z
      omega
  · refine ff_send hA' hP' t4 hta hq' (fun z' => ?_) (fun _ _ => ?_) (fun z' k' a6e a7e a8e a9e hk' hne' hall' hP1' => ?_)
    · have := l2 z
      omega
    · exact ff_470 rfl hb hB hI (fun opl' ohd' fn' fc' kd' dp' gt' st' a11' a12' a13' a14' a15' a16' a17' a18' a19' a20' a21' a22' a23' a24' a25' a26' a27' opld' ohdd' fnd' fcd' kdd' dpd' gtd' std' a11d' a12d' a13d' a14d' a15d' a16d' a17d' a18d' a19d' a20d' a21d' a22d' a23d' a24d' a25d' a26d' a27d' g => K _ _ _ _ _ _ _ _ _ _ _ _ _ _ _ _ _ _ _ _ _ _ _ _ _ _ _ _ _ _ _ _ _ _ _ _ _ _ _ _ _ _ _ _ _ _ _ _ _ _ _ _ _ _ _ _ _ _ _ _ _ _ _ _ _ _ _ _ _ _ _ _ g)
    · exact absurd ((sxe k' hk').trans (v k' hk')) hne'
  · refine ff_send hA' hP' t4 hta hq' (fun z' => ?_) (fun _ v' => ?_) (fun z' k' a6e a7e a8e a9e hk' hne' hall' hP1' => ?_)
    · have := l2 z
      omega
    · exact absurd ((sxe k hk).symm.trans (v' k hk)) hne
    · have ekk : k' = k := by
        rcases Nat.lt_trichotomy k' k with y | y | y
        · exact absurd ((sxe k' hk').trans (hall k' y)) hne'
        · exact y
        · exact absurd ((sxe k hk).symm.trans (hall' k y)) hne
      subst ekk
      refine ff_470 rfl hb hB ⟨t, lk, rc, mt, ac, ch, lk', rc', mt', ac', ch', _, _, _, _, _, _, _, _, t1, t4, rfl, rfl, hA, hA', hS, hP1, hP1', fun j hj => ?_, hSt, hSt'⟩ (fun opl' ohd' fn' fc' kd' dp' gt' st' a11' a12' a13' a14' a15' a16' a17' a18' a19' a20' a21' a22' a23' a24' a25' a26' a27' opld' ohdd' fnd' fcd' kdd' dpd' gtd' std' a11d' a12d' a13d' a14d' a15d' a16d' a17d' a18d' a19d' a20d' a21d' a22d' a23d' a24d' a25d' a26d' a27d' g => K _ _ _ _ _ _ _ _ _ _ _ _ _ _ _ _ _ _ _ _ _ _ _ _ _ _ _ _ _ _ _ _ _ _ _ _ _ _ _ _ _ _ _ _ _ _ _ _ _ _ _ _ _ _ _ _ _ _ _ _ _ _ _ _ _ _ _ _ _ _ _ _ g)
      unfold ff_up
      by_cases ej : j = k'
      · try dsimp only
        rw [ej, pk_us, pk_us, if_pos rfl, if_pos rfl, if_pos rfl, if_pos rfl, if_pos rfl, if_pos rfl, if_pos rfl, if_pos rfl]
        exact ⟨rfl, fun _ => ⟨rfl, rfl, rfl, rfl⟩⟩
      · try dsimp only
        rw [pk_un ej, pk_un ej, if_neg ej, if_neg ej, if_neg ej, if_neg ej, if_neg ej, if_neg ej, if_neg ej, if_neg ej]
        exact hY j hj
theorem ff_k_tick {L : Nat} {xs : Nat → Int32} {i B kc ks n kd0 : Nat} {act opl ohd fn fc kd dp gt st : Int32} {a1 a2 a3 a4 a5 a6 a7 a8 a9 a10 a11 a12 a13 a14 a15 a16 a17 a18 a19 a20 a21 a22 a23 a24 a25 a26 a27 : Nat → Int32} {actd opld ohdd fnd fcd kdd dpd gtd std : Int32} {a1d a2d a3d a4d a5d a6d a7d a8d a9d a10d a11d a12d a13d a14d a15d a16d a17d a18d a19d a20d a21d a22d a23d a24d a25d a26d a27d : Nat → Int32} (hL : L ≤ 260) (hkd : xs (2 * i) &&& 15 = nI kd0) (hk16 : kd0 < 16) (h1L : 2 * i + 1 < L) (h60 : 2 * i < 60) (hB : B + 100380 < 2 ^ 31) (hI : ff_In act st a1 a2 a3 a4 a5 a6 a7 a8 a9 a10 a23 actd std a1d a2d a3d a4d a5d a6d a7d a8d a9d a10d a23d B)
    (K : ∀ (act' opl' ohd' fn' fc' kd' dp' gt' st' : Int32) (a1' a2' a3' a4' a5' a6' a7' a8' a9' a10' a11' a12' a13' a14' a15' a16' a17' a18' a19' a20' a21' a22' a23' a24' a25' a26' a27' : Nat → Int32) (actd' opld' ohdd' fnd' fcd' kdd' dpd' gtd' std' : Int32) (a1d' a2d' a3d' a4d' a5d' a6d' a7d' a8d' a9d' a10d' a11d' a12d' a13d' a14d' a15d' a16d' a17d' a18d' a19d' a20d' a21d' a22d' a23d' a24d' a25d' a26d' a27d' : Nat → Int32), ff_In act' st' a1' a2' a3' a4' a5' a6' a7' a8' a9' a10' a23' actd' std' a1d' a2d' a3d' a4d' a5d' a6d' a7d' a8d' a9d' a10d' a23d' (B + 100380) → wL_law_18 (fun r => r = 1) L xs kc ks n (nI (2 * (i + 1))) act' opl' ohd' fn' fc' kd' dp' gt' st' a1' a2' a3' a4' a5' a6' a7' a8' a9' a10' a11' a12' a13' a14' a15' a16' a17' a18' a19' a20' a21' a22' a23' a24' a25' a26' a27' actd' opld' ohdd' fnd' fcd' kdd' dpd' gtd' std' a1d' a2d' a3d' a4d' a5d' a6d' a7d' a8d' a9d' a10d' a11d' a12d' a13d' a14d' a15d' a16d' a17d' a18d' a19d' a20d' a21d' a22d' a23d' a24d' a25d' a26d' a27d') (hc : kd0 = 14) : wL_law_18 (fun r => r = 1) L xs kc ks (n + 1) (nI (2 * i)) act opl ohd fn fc kd dp gt st a1 a2 a3 a4 a5 a6 a7 a8 a9 a10 a11 a12 a13 a14 a15 a16 a17 a18 a19 a20 a21 a22 a23 a24 a25 a26 a27 actd opld ohdd fnd fcd kdd dpd gtd std a1d a2d a3d a4d a5d a6d a7d a8d a9d a10d a11d a12d a13d a14d a15d a16d a17d a18d a19d a20d a21d a22d a23d a24d a25d a26d a27d := by
  obtain ⟨t, lk, rc, mt, ac, ch, lk', rc', mt', ac', ch', sx, px, hx, tx, sx', px', hx', tx', t1, t4, ea, ead, hA, hA', hS, hP, hP', hY, hSt, hSt'⟩ := id hI
  have e2i : (nI (2 * i)).toNatClampNeg = 2 * i := nI_clamp (by omega)
  have hvL : vp_in (nI (2 * i)) L := pk_in (2 * i) L (by omega)
  have hvL1 : vp_in (nI (2 * i) + 1) L := by rw [nI_1]; exact pk_in _ L h1L
  obtain ⟨sw, hsw, esw⟩ := ff_md (xs (2 * i) >>> ((4 : Int32) &&& 31)) (d := 5) (by omega) (by omega)
  have hsw' : (sw + 1) % 5 < 5 := by omega
  refine br_f (show ¬ nI L ≤ nI (2 * i) + 1 by rw [nI_1]; exact nI_ge h1L (by omega)) (br_f (nI_ge (b := 60) h60 (by omega)) ⟨hvL, ?_⟩)
  try dsimp only
  rw [e2i]
  refine nm_r hkd ⟨hvL, by decide, nm_r esw ⟨hvL1, fun x6 _ => ?_⟩⟩
  obtain ⟨a, ha, ea20⟩ := ff_md x6 (d := 20) (by omega) (by omega)
  obtain ⟨b, hb, eb20⟩ := ff_md (x6 >>> ((8 : Int32) &&& 31)) (d := 20) (by omega) (by omega)
  have hta := ff_t_lt ha
  have htb := ff_t_lt hb
  refine ⟨by decide, nm_r ea20 ⟨by decide, nm_r eb20 ?_⟩⟩
  refine pk_le 3 kd0 (fun _ => pk_le 9 kd0 (fun _ => pk_eq kd0 9 (fun z => absurd z (by omega)) (fun _ => pk_eq kd0 10 (fun z => absurd z (by omega)) (fun _ => pk_eq kd0 11 (fun z => absurd z (by omega)) (fun _ => pk_le 14 kd0 (fun _ => pk_eq kd0 14 (fun _ => ?_) (fun z => absurd hc z)) (fun z => absurd z (by omega)))))) (fun z => absurd z (by omega))) (fun z => absurd z (by omega))
  have hbd : ∀ k, k < 8 → sx k ≠ 0 → px k < 20 ∧ hx k < 64 ∧ tx k < 4 := fun k hk z => by
    obtain ⟨_, g2, _, g4, _, g6⟩ := (hP k hk).2.2 z
    exact ⟨g2, g4, g6⟩
  have ty := fun k (hk : k < 8) => ff_tk_y hA.2.2.2 hS hY hbd hk
  refine ff_tick hA hP (fun oplc ohdc a6c a7c a8c a10c hP1 h10 => ff_tick hA' hP' (fun ople ohde a6e a7e a8e a10e hP1' h10' => ?_))
  try dsimp only
  refine ff_470 ?_ hb hB ⟨t, lk, rc, mt, ac, ch, lk', rc', mt', ac', ch', _, _, _, tx, _, _, _, tx', t1, t4, ea, ead, hA, hA', hS, hP1, hP1', fun k hk => ⟨(ty k hk).1, fun z => ?_⟩, hSt, hSt'⟩ (fun opl' ohd' fn' fc' kd' dp' gt' st' a11' a12' a13' a14' a15' a16' a17' a18' a19' a20' a21' a22' a23' a24' a25' a26' a27' opld' ohdd' fnd' fcd' kdd' dpd' gtd' std' a11d' a12d' a13d' a14d' a15d' a16d' a17d' a18d' a19d' a20d' a21d' a22d' a23d' a24d' a25d' a26d' a27d' g => K _ _ _ _ _ _ _ _ _ _ _ _ _ _ _ _ _ _ _ _ _ _ _ _ _ _ _ _ _ _ _ _ _ _ _ _ _ _ _ _ _ _ _ _ _ _ _ _ _ _ _ _ _ _ _ _ _ _ _ _ _ _ _ _ _ _ _ _ _ _ _ _ g)
  · congr 1
    unfold ff_nm
    refine List.countP_congr (fun k hk => ?_)
    have hk8 := List.mem_range.mp hk
    rw [(hY k hk8).1, (ty k hk8).1]
  · have z0 : sx k ≠ 0 := by
      intro g
      have : (ff_tk lk rc mt ac ch sx px hx tx a10 k).1 = sx k := by
        unfold ff_tk
        try dsimp only
        rw [if_neg (by omega)]
      exact z (this.trans g)
    obtain ⟨y1, y2, y3⟩ := (ty k hk).2 z0
    refine ⟨y1, y2, ((hY k hk).2 z0).2.2.1, ?_⟩
    try dsimp only
    rw [h10 k hk, h10' k hk, y3]
theorem ff_k_unl {L : Nat} {xs : Nat → Int32} {i B kc ks n kd0 : Nat} {act opl ohd fn fc kd dp gt st : Int32} {a1 a2 a3 a4 a5 a6 a7 a8 a9 a10 a11 a12 a13 a14 a15 a16 a17 a18 a19 a20 a21 a22 a23 a24 a25 a26 a27 : Nat → Int32} {actd opld ohdd fnd fcd kdd dpd gtd std : Int32} {a1d a2d a3d a4d a5d a6d a7d a8d a9d a10d a11d a12d a13d a14d a15d a16d a17d a18d a19d a20d a21d a22d a23d a24d a25d a26d a27d : Nat → Int32} (hL : L ≤ 260) (hkd : xs (2 * i) &&& 15 = nI kd0) (hk16 : kd0 < 16) (h1L : 2 * i + 1 < L) (h60 : 2 * i < 60) (hB : B + 100380 < 2 ^ 31) (hI : ff_In act st a1 a2 a3 a4 a5 a6 a7 a8 a9 a10 a23 actd std a1d a2d a3d a4d a5d a6d a7d a8d a9d a10d a23d B)
    (K : ∀ (act' opl' ohd' fn' fc' kd' dp' gt' st' : Int32) (a1' a2' a3' a4' a5' a6' a7' a8' a9' a10' a11' a12' a13' a14' a15' a16' a17' a18' a19' a20' a21' a22' a23' a24' a25' a26' a27' : Nat → Int32) (actd' opld' ohdd' fnd' fcd' kdd' dpd' gtd' std' : Int32) (a1d' a2d' a3d' a4d' a5d' a6d' a7d' a8d' a9d' a10d' a11d' a12d' a13d' a14d' a15d' a16d' a17d' a18d' a19d' a20d' a21d' a22d' a23d' a24d' a25d' a26d' a27d' : Nat → Int32), ff_In act' st' a1' a2' a3' a4' a5' a6' a7' a8' a9' a10' a23' actd' std' a1d' a2d' a3d' a4d' a5d' a6d' a7d' a8d' a9d' a10d' a23d' (B + 100380) → wL_law_18 (fun r => r = 1) L xs kc ks n (nI (2 * (i + 1))) act' opl' ohd' fn' fc' kd' dp' gt' st' a1' a2' a3' a4' a5' a6' a7' a8' a9' a10' a11' a12' a13' a14' a15' a16' a17' a18' a19' a20' a21' a22' a23' a24' a25' a26' a27' actd' opld' ohdd' fnd' fcd' kdd' dpd' gtd' std' a1d' a2d' a3d' a4d' a5d' a6d' a7d' a8d' a9d' a10d' a11d' a12d' a13d' a14d' a15d' a16d' a17d' a18d' a19d' a20d' a21d' a22d' a23d' a24d' a25d' a26d' a27d') (hc : kd0 = 15) : wL_law_18 (fun r => r = 1) L xs kc ks (n + 1) (nI (2 * i)) act opl ohd fn fc kd dp gt st a1 a2 a3 a4 a5 a6 a7 a8 a9 a10 a11 a12 a13 a14 a15 a16 a17 a18 a19 a20 a21 a22 a23 a24 a25 a26 a27 actd opld ohdd fnd fcd kdd dpd gtd std a1d a2d a3d a4d a5d a6d a7d a8d a9d a10d a11d a12d a13d a14d a15d a16d a17d a18d a19d a20d a21d a22d a23d a24d a25d a26d a27d := by
  obtain ⟨t, lk, rc, mt, ac, ch, lk', rc', mt', ac', ch', sx, px, hx, tx, sx', px', hx', tx', t1, t4, ea, ead, hA, hA', hS, hP, hP', hY, hSt, hSt'⟩ := id hI
  have e2i : (nI (2 * i)).toNatClampNeg = 2 * i := nI_clamp (by omega)
  have hvL : vp_in (nI (2 * i)) L := pk_in (2 * i) L (by omega)
  have hvL1 : vp_in (nI (2 * i) + 1) L := by rw [nI_1]; exact pk_in _ L h1L
  obtain ⟨sw, hsw, esw⟩ := ff_md (xs (2 * i) >>> ((4 : Int32) &&& 31)) (d := 5) (by omega) (by omega)
  have hsw' : (sw + 1) % 5 < 5 := by omega
  refine br_f (show ¬ nI L ≤ nI (2 * i) + 1 by rw [nI_1]; exact nI_ge h1L (by omega)) (br_f (nI_ge (b := 60) h60 (by omega)) ⟨hvL, ?_⟩)
  try dsimp only
  rw [e2i]
  refine nm_r hkd ⟨hvL, by decide, nm_r esw ⟨hvL1, fun x6 _ => ?_⟩⟩
  obtain ⟨a, ha, ea20⟩ := ff_md x6 (d := 20) (by omega) (by omega)
  obtain ⟨b, hb, eb20⟩ := ff_md (x6 >>> ((8 : Int32) &&& 31)) (d := 20) (by omega) (by omega)
  have hta := ff_t_lt ha
  have htb := ff_t_lt hb
  refine ⟨by decide, nm_r ea20 ⟨by decide, nm_r eb20 ?_⟩⟩
  refine pk_le 3 kd0 (fun _ => pk_le 9 kd0 (fun _ => pk_eq kd0 9 (fun z => absurd z (by omega)) (fun _ => pk_eq kd0 10 (fun z => absurd z (by omega)) (fun _ => pk_eq kd0 11 (fun z => absurd z (by omega)) (fun _ => pk_le 14 kd0 (fun _ => pk_eq kd0 14 (fun z => absurd z (by omega)) (fun _ => ?_)) (fun z => absurd z (by omega)))))) (fun z => absurd z (by omega))) (fun z => absurd z (by omega))
  obtain ⟨l1, l2⟩ := hS.1 a ha
  refine br_c (fun c => ?_) (fun c => ?_)
  · refine ff_unlink hA ha (fun z => ?_) (fun z a1c hA1 => ?_)
    · unfold wL_law_422
      try dsimp only
      refine br_t c (ff_turned ha (ff_unlink hA' hta (fun z' => ?_) (fun z' => ?_)))
      · unfold wL_law_448
        try dsimp only
        refine br_t c ?_
        unfold wpL_turned
        try dsimp only
        refine br_f (by decide) ?_
        unfold wL_law_468
        try dsimp only
        exact ff_470 rfl hb hB hI (fun opl' ohd' fn' fc' kd' dp' gt' st' a11' a12' a13' a14' a15' a16' a17' a18' a19' a20' a21' a22' a23' a24' a25' a26' a27' opld' ohdd' fnd' fcd' kdd' dpd' gtd' std' a11d' a12d' a13d' a14d' a15d' a16d' a17d' a18d' a19d' a20d' a21d' a22d' a23d' a24d' a25d' a26d' a27d' g => K _ _ _ _ _ _ _ _ _ _ _ _ _ _ _ _ _ _ _ _ _ _ _ _ _ _ _ _ _ _ _ _ _ _ _ _ _ _ _ _ _ _ _ _ _ _ _ _ _ _ _ _ _ _ _ _ _ _ _ _ _ _ _ _ _ _ _ _ _ _ _ _ g)
      · have := l2 z
        omega
    · unfold wL_law_422
      try dsimp only
      refine br_t c (ff_turned ha (ff_unlink hA' hta (fun z' => ?_) (fun z' a1e hA1' => ?_)))
      · have := l1 z
        have := ff_t_lt z
        omega
      · unfold wL_law_448
        try dsimp only
        refine br_t c (ff_turned z ?_)
        unfold wL_law_468
        try dsimp only
        rw [l1 z] at hA1' ⊢
        exact ff_470 rfl hb hB ⟨t, _, rc, mt, ac, ch, _, rc', mt', ac', ch', sx, px, hx, tx, sx', px', hx', tx', t1, t4, ea, ead, hA1, hA1', ff_Sym_of (ff_Lk_2 hS.1 ha z ⟨fun y => absurd y (by omega), fun _ => by omega⟩ ⟨fun y => absurd y (by omega), fun _ => by omega⟩) hS.2, hP, hP', hY, hSt, hSt'⟩ (fun opl' ohd' fn' fc' kd' dp' gt' st' a11' a12' a13' a14' a15' a16' a17' a18' a19' a20' a21' a22' a23' a24' a25' a26' a27' opld' ohdd' fnd' fcd' kdd' dpd' gtd' std' a11d' a12d' a13d' a14d' a15d' a16d' a17d' a18d' a19d' a20d' a21d' a22d' a23d' a24d' a25d' a26d' a27d' g => K _ _ _ _ _ _ _ _ _ _ _ _ _ _ _ _ _ _ _ _ _ _ _ _ _ _ _ _ _ _ _ _ _ _ _ _ _ _ _ _ _ _ _ _ _ _ _ _ _ _ _ _ _ _ _ _ _ _ _ _ _ _ _ _ _ _ _ _ _ _ _ _ g)
  · subst ea ead
    refine ff_revert hA t4 (by omega) (fun a2c a3c a4c a5c hA1 => ?_)
    unfold wL_law_422
    try dsimp only
    refine br_f c (ff_revert hA' t4 (by omega) (fun a2e a3e a4e a5e hA1' => ?_))
    unfold wL_law_448
    try dsimp only
    refine br_f c ?_
    unfold wL_law_468
    try dsimp only
    refine ff_470 ?_ hb hB ⟨t, lk, _, _, _, _, lk', _, _, _, _, sx, px, hx, tx, sx', px', hx', tx', t1, t4, rfl, rfl, hA1, hA1', ff_Sym_of hS.1 (ff_Rw_tc hA.2.2.2 hS.2 t4), hP, hP', hY, hSt, hSt'⟩ (fun opl' ohd' fn' fc' kd' dp' gt' st' a11' a12' a13' a14' a15' a16' a17' a18' a19' a20' a21' a22' a23' a24' a25' a26' a27' opld' ohdd' fnd' fcd' kdd' dpd' gtd' std' a11d' a12d' a13d' a14d' a15d' a16d' a17d' a18d' a19d' a20d' a21d' a22d' a23d' a24d' a25d' a26d' a27d' g => K _ _ _ _ _ _ _ _ _ _ _ _ _ _ _ _ _ _ _ _ _ _ _ _ _ _ _ _ _ _ _ _ _ _ _ _ _ _ _ _ _ _ _ _ _ _ _ _ _ _ _ _ _ _ _ _ _ _ _ _ _ _ _ _ _ _ _ _ _ _ _ _ g)
    have r0 := (hS.2 t 0 t4 (by omega)).1
    have r1 := (hS.2 t 1 t4 (by omega)).1
    have r2 := (hS.2 t 2 t4 (by omega)).1
    have r3 := (hS.2 t 3 t4 (by omega)).1
    have r4 := (hS.2 t 4 t4 (by omega)).1
    congr 1
    simp only [Nat.reduceAdd, Nat.reduceMod, Nat.add_zero] at r0 r1 r2 r3 r4
    omega
end
section
theorem ff_law_18 {L : Nat} {xs : Nat → Int32} {kc ks : Nat} (hL : L ≤ 260) : ∀ (m i : Nat) (act opl ohd fn fc kd dp gt st : Int32) (a1 a2 a3 a4 a5 a6 a7 a8 a9 a10 a11 a12 a13 a14 a15 a16 a17 a18 a19 a20 a21 a22 a23 a24 a25 a26 a27 : Nat → Int32) (actd opld ohdd fnd fcd kdd dpd gtd std : Int32) (a1d a2d a3d a4d a5d a6d a7d a8d a9d a10d a11d a12d a13d a14d a15d a16d a17d a18d a19d a20d a21d a22d a23d a24d a25d a26d a27d : Nat → Int32), i + m = 30 → ff_In act st a1 a2 a3 a4 a5 a6 a7 a8 a9 a10 a23 actd std a1d a2d a3d a4d a5d a6d a7d a8d a9d a10d a23d (100380 * i) → wL_law_18 (fun r => r = 1) L xs kc ks (m + 1) (nI (2 * i)) act opl ohd fn fc kd dp gt st a1 a2 a3 a4 a5 a6 a7 a8 a9 a10 a11 a12 a13 a14 a15 a16 a17 a18 a19 a20 a21 a22 a23 a24 a25 a26 a27 actd opld ohdd fnd fcd kdd dpd gtd std a1d a2d a3d a4d a5d a6d a7d a8d a9d a10d a11d a12d a13d a14d a15d a16d a17d a18d a19d a20d a21d a22d a23d a24d a25d a26d a27d := by
  intro m
  induction m with
  | zero =>
    intro i act opl ohd fn fc kd dp gt st a1 a2 a3 a4 a5 a6 a7 a8 a9 a10 a11 a12 a13 a14 a15 a16 a17 a18 a19 a20 a21 a22 a23 a24 a25 a26 a27 actd opld ohdd fnd fcd kdd dpd gtd std a1d a2d a3d a4d a5d a6d a7d a8d a9d a10d a11d a12d a13d a14d a15d a16d a17d a18d a19d a20d a21d a22d a23d a24d a25d a26d a27d hi hI
    have e : i = 30 := by omega
    subst e
    exact br_c (fun _ => rfl) (fun _ => br_t (nI_le (a := 60) (b := 2 * 30) (by omega) (by omega)) rfl)
  | succ m ih =>
    intro i act opl ohd fn fc kd dp gt st a1 a2 a3 a4 a5 a6 a7 a8 a9 a10 a11 a12 a13 a14 a15 a16 a17 a18 a19 a20 a21 a22 a23 a24 a25 a26 a27 actd opld ohdd fnd fcd kdd dpd gtd std a1d a2d a3d a4d a5d a6d a7d a8d a9d a10d a11d a12d a13d a14d a15d a16d a17d a18d a19d a20d a21d a22d a23d a24d a25d a26d a27d hi hI
    rcases Nat.lt_or_ge (2 * i + 1) L with h | h
    · obtain ⟨kd0, hk16, hkd⟩ := pk_andE (xs (2 * i)) (m := 15) 4 (by decide)
      have K : ∀ (act' opl' ohd' fn' fc' kd' dp' gt' st' : Int32) (a1' a2' a3' a4' a5' a6' a7' a8' a9' a10' a11' a12' a13' a14' a15' a16' a17' a18' a19' a20' a21' a22' a23' a24' a25' a26' a27' : Nat → Int32) (actd' opld' ohdd' fnd' fcd' kdd' dpd' gtd' std' : Int32) (a1d' a2d' a3d' a4d' a5d' a6d' a7d' a8d' a9d' a10d' a11d' a12d' a13d' a14d' a15d' a16d' a17d' a18d' a19d' a20d' a21d' a22d' a23d' a24d' a25d' a26d' a27d' : Nat → Int32), ff_In act' st' a1' a2' a3' a4' a5' a6' a7' a8' a9' a10' a23' actd' std' a1d' a2d' a3d' a4d' a5d' a6d' a7d' a8d' a9d' a10d' a23d' (100380 * i + 100380) → wL_law_18 (fun r => r = 1) L xs kc ks (m + 1) (nI (2 * (i + 1))) act' opl' ohd' fn' fc' kd' dp' gt' st' a1' a2' a3' a4' a5' a6' a7' a8' a9' a10' a11' a12' a13' a14' a15' a16' a17' a18' a19' a20' a21' a22' a23' a24' a25' a26' a27' actd' opld' ohdd' fnd' fcd' kdd' dpd' gtd' std' a1d' a2d' a3d' a4d' a5d' a6d' a7d' a8d' a9d' a10d' a11d' a12d' a13d' a14d' a15d' a16d' a17d' a18d' a19d' a20d' a21d' a22d' a23d' a24d' a25d' a26d' a27d' := by
        intro act' opl' ohd' fn' fc' kd' dp' gt' st' a1' a2' a3' a4' a5' a6' a7' a8' a9' a10' a11' a12' a13' a14' a15' a16' a17' a18' a19' a20' a21' a22' a23' a24' a25' a26' a27' actd' opld' ohdd' fnd' fcd' kdd' dpd' gtd' std' a1d' a2d' a3d' a4d' a5d' a6d' a7d' a8d' a9d' a10d' a11d' a12d' a13d' a14d' a15d' a16d' a17d' a18d' a19d' a20d' a21d' a22d' a23d' a24d' a25d' a26d' a27d' g
        exact ih (i + 1) act' opl' ohd' fn' fc' kd' dp' gt' st' a1' a2' a3' a4' a5' a6' a7' a8' a9' a10' a11' a12' a13' a14' a15' a16' a17' a18' a19' a20' a21' a22' a23' a24' a25' a26' a27' actd' opld' ohdd' fnd' fcd' kdd' dpd' gtd' std' a1d' a2d' a3d' a4d' a5d' a6d' a7d' a8d' a9d' a10d' a11d' a12d' a13d' a14d' a15d' a16d' a17d' a18d' a19d' a20d' a21d' a22d' a23d' a24d' a25d' a26d' a27d' (by omega) (by rw [show 100380 * (i + 1) = 100380 * i + 100380 by omega]; exact g)
      have hB : 100380 * i + 100380 < 2 ^ 31 := by omega
      have h60 : 2 * i < 60 := by omega
      rcases Nat.lt_or_ge kd0 3 with c | c
      · exact ff_k_link hL hkd hk16 h h60 hB hI K c
      · rcases Nat.lt_or_ge kd0 9 with c9 | c9
        · exact ff_k_add hL hkd hk16 h h60 hB hI K c c9
        · rcases Nat.lt_or_ge kd0 12 with c12 | c12
          · rcases (show kd0 = 9 ∨ kd0 = 10 ∨ kd0 = 11 by omega) with e | e | e
            · exact ff_k_drop hL hkd hk16 h h60 hB hI K e
            · exact ff_k_move hL hkd hk16 h h60 hB hI K e
            · exact ff_k_pub hL hkd hk16 h h60 hB hI K e
          · rcases (show kd0 < 14 ∨ kd0 = 14 ∨ kd0 = 15 by omega) with e | e | e
            · exact ff_k_send hL hkd hk16 h h60 hB hI K c12 e
            · exact ff_k_tick hL hkd hk16 h h60 hB hI K e
            · exact ff_k_unl hL hkd hk16 h h60 hB hI K e
    · refine br_t ?_ rfl
      try dsimp only
      rw [nI_1]
      exact nI_le h (by omega)
theorem ff_init {post : St1 → Prop} (H : ∀ a1' : Nat → Int32, (∀ p, p < 20 → a1' p = -1) → post (1, 0, 0, 0, 0, 0, 0, 0, 0, a1', (fun _ => 0), (fun _ => 0), (fun _ => 0), (fun _ => 0), (fun _ => 0), (fun _ => 0), (fun _ => 0), (fun _ => 0), (fun _ => 0), (fun _ => 0), (fun _ => 0), (fun _ => 0), (fun _ => 0), (fun _ => 0), (fun _ => 0), (fun _ => 0), (fun _ => 0), (fun _ => 0), (fun _ => 0), (fun _ => 0), (fun _ => 0), (fun _ => 0), (fun _ => 0), (fun _ => 0), (fun _ => 0), (fun _ => 0))) : wpX_init post 27 15216 (0, 0, 0, 0, 0, 0, 0, 0, 0) := by
  unfold wpX_init
  try dsimp only
  refine ⟨by decide, by decide, by decide, by decide, by decide, by decide, by decide, by decide, by decide, by decide, by decide, by decide, by decide, by decide, by decide, by decide, by decide, by decide, by decide, by decide, by decide, by decide, by decide, by decide, by decide, by decide, by decide, by decide, by decide, by decide, by decide, by decide, by decide, by decide, by decide, by decide, by decide, by decide, by decide, by decide, by decide, by decide, by decide, by decide, by decide, by decide, by decide, by decide, by decide, by decide, by decide, by decide, by decide, by decide, ?_⟩
  try dsimp only
  refine pk_loop (fun n i s => wX_init_231 post 27 15216 27 15216 0 0 0 0 0 0 0 0 0 n (nI i) s ((fun _ => 0)) ((fun _ => 0)) ((fun _ => 0)) ((fun _ => 0)) ((fun _ => 0)) ((fun _ => 0)) ((fun _ => 0)) ((fun _ => 0)) ((fun _ => 0)) ((fun _ => 0)) ((fun _ => 0)) ((fun _ => 0)) ((fun _ => 0)) ((fun _ => 0)) ((fun _ => 0)) ((fun _ => 0)) ((fun _ => 0)) ((fun _ => 0)) ((fun _ => 0)) ((fun _ => 0)) ((fun _ => 0)) ((fun _ => 0)) ((fun _ => 0)) ((fun _ => 0)) ((fun _ => 0)) ((fun _ => 0))) (fun i s => ∀ p, p < i → s p = -1) 20 0 (fun _ => 0) (by omega) (fun j hj => absurd hj (by omega)) ?_ ?_
  · intro n s h
    exact pk_le 20 20 (fun _ => H s h) (fun z => absurd z (by omega))
  · intro n i s hi h hw
    refine pk_le 20 i (fun z => absurd z (by omega)) (fun _ => ⟨pk_in i 20 hi, nm_e (nm_r (nI_1 i) (hw _ (fun m hm => ?_)))⟩)
    try dsimp only
    rw [nI_clamp (by omega)]
    by_cases e : m = i
    · try dsimp only
      rw [e, pk_us]
    · try dsimp only
      rw [pk_un e]
      exact h m (by omega)
theorem ff_CA_0 {a1 : Nat → Int32} (h : ∀ p, p < 20 → a1 p = -1) : ff_CA a1 (fun _ => 0) (fun _ => 0) (fun _ => 0) (fun _ => 0) (fun _ => 20) (fun _ => 0) (fun _ => 0) (fun _ => 0) (fun _ => 0) :=
  ⟨fun p hp => Or.inr ⟨show 20 ≤ 20 by omega, h p hp⟩, fun _ _ => rfl, fun _ _ => ⟨rfl, rfl, rfl⟩, fun _ _ => show 0 ≤ 6 by omega, fun _ _ => ⟨show 0 < 4096 by omega, show 0 ≤ 5 by omega, show 0 < 4096 by omega⟩⟩
theorem i_vc (xs : Nat → Int32) (L : Nat) (hL : L ≤ 260) : wpL_law (fun r => r = 1) L xs := by
  unfold wpL_law
  try dsimp only
  refine ⟨27, 15216, by decide, by decide, ff_init (fun b1 h1 => ⟨by decide, by decide, 27, 15216, by decide, by decide, ff_init (fun c1 h2 => ⟨31, ?_⟩)⟩)⟩
  try dsimp only
  refine ff_law_18 hL 30 0 _ _ _ _ _ _ _ _ _ _ _ _ _ _ _ _ _ _ _ _ _ _ _ _ _ _ _ _ _ _ _ _ _ _ _ _ _ _ _ _ _ _ _ _ _ _ _ _ _ _ _ _ _ _ _ _ _ _ _ _ _ _ _ _ _ _ _ _ _ _ _ _ (by omega) ⟨1, fun _ => 20, fun _ => 0, fun _ => 0, fun _ => 0, fun _ => 0, fun _ => 20, fun _ => 0, fun _ => 0, fun _ => 0, fun _ => 0, fun _ => 0, fun _ => 0, fun _ => 0, fun _ => 0, fun _ => 0, fun _ => 0, fun _ => 0, fun _ => 0, by omega, by omega, rfl, rfl, ff_CA_0 h1, ff_CA_0 h2, ⟨fun p _ => ⟨fun z => absurd z (show ¬ 20 < 20 by omega), fun _ => show 20 ≤ 20 by omega⟩, fun _ _ _ _ => ⟨rfl, fun i z => absurd z (Nat.not_lt_zero i)⟩⟩, fun k _ => ⟨rfl, show 0 ≤ 4 by omega, fun z => absurd rfl z⟩, fun k _ => ⟨rfl, show 0 ≤ 4 by omega, fun z => absurd rfl z⟩, fun k _ => ⟨rfl, fun z => absurd rfl z⟩, ⟨0, by omega, rfl, fun _ _ => ⟨0, by omega, rfl⟩⟩, ⟨0, by omega, rfl, fun _ _ => ⟨0, by omega, rfl⟩⟩⟩
end
