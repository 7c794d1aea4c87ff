section
/-! numbers: Int32 as the image of Int -/
def zi_I (t : Int) : Int32 := Int32.ofInt t
theorem zi_add (a b : Int) : zi_I a + zi_I b = zi_I (a + b) := (Int32.ofInt_add a b).symm
theorem zi_sub (a b : Int) : zi_I a - zi_I b = zi_I (a - b) := (Int32.ofInt_sub a b).symm
theorem zi_mul (a b : Int) : zi_I a * zi_I b = zi_I (a * b) := (Int32.ofInt_mul a b).symm
theorem zi_neg (a : Int) : -zi_I a = zi_I (-a) := (Int32.ofInt_neg a).symm
theorem zi_n (n : Nat) : nI n = zi_I (n : Int) := Int32.ofInt_eq_ofNat.symm
theorem zi_w (w : Int32) : w = zi_I w.toInt := (Int32.ofInt_toInt w).symm
theorem zi_wl (w : Int32) : -2147483648 ≤ w.toInt := by have h := w.le_toInt; omega
theorem zi_wh (w : Int32) : w.toInt < 2147483648 := by have h := w.toInt_lt; omega
theorem zi_T {t : Int} (h : -2147483648 ≤ t) (h' : t < 2147483648) : (zi_I t).toInt = t := Int32.toInt_ofInt_of_le (by omega) (by omega)
theorem zi_le {a b : Int} (ha : -2147483648 ≤ a) (ha' : a < 2147483648) (hb : -2147483648 ≤ b) (hb' : b < 2147483648) : zi_I a ≤ zi_I b ↔ a ≤ b := by
  rw [Int32.le_iff_toInt_le, zi_T ha ha', zi_T hb hb']
theorem zi_lt {a b : Int} (ha : -2147483648 ≤ a) (ha' : a < 2147483648) (hb : -2147483648 ≤ b) (hb' : b < 2147483648) : zi_I a < zi_I b ↔ a < b := by
  rw [Int32.lt_iff_toInt_lt, zi_T ha ha', zi_T hb hb']
theorem zi_eq {a b : Int} (ha : -2147483648 ≤ a) (ha' : a < 2147483648) (hb : -2147483648 ≤ b) (hb' : b < 2147483648) : zi_I a = zi_I b ↔ a = b := by
  rw [← Int32.toInt_inj, zi_T ha ha', zi_T hb hb']
theorem zi_cl {t : Int} (h : 0 ≤ t) (h' : t < 2147483648) : (zi_I t).toNatClampNeg = t.toNat := by
  rw [← Int32.toNat_toInt, zi_T (by omega) h']
theorem zi_in {t : Int} {N : Nat} (h : 0 ≤ t) (h' : t < N) (hN : N < 2147483648) : vp_in (zi_I t) N := by
  rw [vp_in_iff, zi_T (by omega) (by omega)]; exact ⟨h, h'⟩
theorem zi_nat {t : Int} (h : 0 ≤ t) : zi_I t = nI t.toNat := by rw [zi_n]; congr 1; omega
/-- branches by integers -/
theorem zi_ble {x y : Int32} {A B : Prop} (a b : Int) (f : a ≤ b → A) (g : b < a → B) (hx : x = zi_I a := by rfl) (hy : y = zi_I b := by rfl) (ha : -2147483648 ≤ a := by omega) (ha' : a < 2147483648 := by omega) (hb : -2147483648 ≤ b := by omega) (hb' : b < 2147483648 := by omega) : (x ≤ y → A) ∧ (¬ x ≤ y → B) := by
  subst hx hy
  rw [zi_le ha ha' hb hb']
  exact ⟨f, fun h => g (by omega)⟩
theorem zi_blt {x y : Int32} {A B : Prop} (a b : Int) (f : a < b → A) (g : b ≤ a → B) (hx : x = zi_I a := by rfl) (hy : y = zi_I b := by rfl) (ha : -2147483648 ≤ a := by omega) (ha' : a < 2147483648 := by omega) (hb : -2147483648 ≤ b := by omega) (hb' : b < 2147483648 := by omega) : (x < y → A) ∧ (¬ x < y → B) := by
  subst hx hy
  rw [zi_lt ha ha' hb hb']
  exact ⟨f, fun h => g (by omega)⟩
theorem zi_beq {x y : Int32} {A B : Prop} (a b : Int) (f : a = b → A) (g : a ≠ b → B) (hx : x = zi_I a := by rfl) (hy : y = zi_I b := by rfl) (ha : -2147483648 ≤ a := by omega) (ha' : a < 2147483648 := by omega) (hb : -2147483648 ≤ b := by omega) (hb' : b < 2147483648 := by omega) : (x = y → A) ∧ (¬ x = y → B) := by
  subst hx hy
  rw [zi_eq ha ha' hb hb']
  exact ⟨f, g⟩
/-- naturals: a counter against the cycle -/
theorem zi_bn {A B : Prop} {c j : Nat} (hc : c < 2147483648) (hj : j < 2147483648) (f : c ≤ j → A) (g : j < c → B) : (nI c ≤ nI j → A) ∧ (¬ nI c ≤ nI j → B) := by
  rw [nI_leI hc hj]
  exact ⟨f, fun h => g (by omega)⟩
theorem zi_us {f : Nat → Int32} {k : Nat} {x : Int32} : upd f k x k = x := if_pos rfl
theorem zi_un {f : Nat → Int32} {k j : Nat} {x : Int32} (h : j ≠ k) : upd f k x j = f j := if_neg h
theorem zi_nmul (a b : Nat) : nI a * nI b = nI (a * b) := (Int32.ofNat_mul a b).symm
theorem zi_nsub {a b : Nat} (h : b ≤ a) : nI a - nI b = nI (a - b) := by
  obtain ⟨c, rfl⟩ : ∃ c, a = c + b := ⟨a - b, by omega⟩
  rw [← nI_add, Int32.add_sub_cancel, Nat.add_sub_cancel]
theorem zi_ix (e j : Nat) : nI e * 60 + nI j = nI (e * 60 + j) := by
  rw [show (60 : Int32) = nI 60 from rfl, zi_nmul, nI_add]
theorem zi_240 (j : Nat) : 240 + nI j = nI (240 + j) := by
  rw [show (240 : Int32) = nI 240 from rfl, nI_add]
theorem zi_inN {n N : Nat} (h : n < N) (hN : N < 2147483648) : vp_in (nI n) N := vp_in_nI h (by omega)
theorem zi_clN {n : Nat} (h : n < 2147483648) : (nI n).toNatClampNeg = n := nI_clamp (by omega)
theorem zi_vb {x : Int32} (h : x = 0 ∨ x = 1) : vp_nar .boolean x = x := by rcases h with h | h <;> (rw [h]; rfl)
theorem zi_nb {x : Int32} (h : x = 0 ∨ x = 1) : narrow .boolean (.int x) = .int x := by rcases h with h | h <;> (rw [h]; rfl)
theorem zi_NI : (1000000000 : Int32) = zi_I 1000000000 := by decide +kernel
theorem zi_0 : (0 : Int32) = zi_I 0 := by decide +kernel
theorem zi_1 : (1 : Int32) = zi_I 1 := by decide +kernel
theorem zi_nN {v : Int} (h : -2147483648 ≤ v) (h' : v < 1000000000) : ¬ zi_I v = 1000000000 := by
  rw [zi_NI, zi_eq h (by omega) (by omega) (by omega)]; omega
/-- division -/
theorem zi_td {x m : Int} (hm : 0 < m) : (x.tdiv m = x / m ∧ 0 ≤ x - x.tdiv m * m) ∨ (x.tdiv m = x / m + 1 ∧ x - x.tdiv m * m < 0) := by
  have h := Int.tdiv_eq_ediv (a := x) (b := m)
  have e := Int.emod_add_mul_ediv x m
  have n := Int.emod_nonneg x (b := m) (by omega)
  have l := Int.emod_lt_of_pos x hm
  by_cases hc : 0 ≤ x ∨ m ∣ x
  · left
    rw [if_pos hc, Int.add_zero] at h
    refine ⟨h, ?_⟩
    rw [h, Int.mul_comm]; omega
  · right
    rw [if_neg hc, Int.sign_eq_one_of_pos hm] at h
    refine ⟨h, ?_⟩
    rw [h, Int.add_mul, Int.one_mul, Int.mul_comm]; omega
theorem zi_div {x m : Int} (hx : -2147483648 ≤ x) (hx' : x < 2147483648) (hm : 0 < m) (hm' : m < 2147483648) : zi_I x / zi_I m = zi_I (x.tdiv m) := by
  have a : Int32.minValue.toInt = -2147483648 := by decide
  have b : Int32.maxValue.toInt = 2147483647 := by decide
  exact (Int32.ofInt_tdiv (by omega) (by omega) (by omega) (by omega)).symm
theorem zi_rem {x m : Int} (hx : -2147483648 ≤ x) (hx' : x < 2147483648) (hm : 0 < m) (hm' : m < 2147483648) : zi_I x - zi_I x / zi_I m * zi_I m = zi_I (x - x.tdiv m * m) := by
  rw [zi_div hx hx' hm hm', zi_mul, zi_sub]
theorem zi_remB {x m : Int} (hm : 0 < m) : -m ≤ x - x.tdiv m * m ∧ x - x.tdiv m * m < m := by
  have e := Int.emod_add_mul_ediv x m
  have n := Int.emod_nonneg x (b := m) (by omega)
  have l := Int.emod_lt_of_pos x hm
  rcases zi_td (x := x) hm with ⟨h, -⟩ | ⟨h, -⟩
  · rw [h, Int.mul_comm]; omega
  · rw [h, Int.add_mul, Int.one_mul, Int.mul_comm]; omega
theorem zi_divB {x m : Int} (hm : 0 < m) (hx : -2147483648 ≤ x) (hx' : x < 2147483648) : -2147483648 ≤ x / m ∧ x / m < 2147483648 := by
  constructor
  · apply (Int.le_ediv_iff_mul_le hm).mpr
    have : -2147483648 * m ≤ -2147483648 * 1 := Int.mul_le_mul_of_nonpos_left (by omega) (by omega)
    omega
  · apply (Int.ediv_lt_iff_lt_mul hm).mpr
    have : 2147483648 * 1 ≤ 2147483648 * m := Int.mul_le_mul_of_nonneg_left (by omega) (by omega)
    omega
section
variable {sc sz ls : Int32} {cy : Int32} {L K S ch li le : Nat → Int32}
theorem zx_fmod {post : Int32 → Prop} {x m : Int} (hx : -2147483648 ≤ x) (hx' : x < 2147483648) (hm : 0 < m) (hm' : m < 2147483648) (h : post (zi_I (x % m))) : wpX_floorMod post (cy, sz, sc, ls, L, K, S, ch, li, le) (zi_I x) (zi_I m) := by
  have h1 : (1 : Int32) ≤ zi_I m := by rw [zi_1, zi_le (by omega) (by omega) (by omega) (by omega)]; omega
  have h0 : ¬ zi_I m = 0 := by rw [zi_0, zi_eq (by omega) (by omega) (by omega) (by omega)]; omega
  have hb := zi_remB (x := x) hm
  have e := Int.emod_add_mul_ediv x m
  unfold wpX_floorMod
  refine br_t h1 ⟨h0, nm_r (zi_rem hx hx' hm hm') ?_⟩
  refine zi_ble 0 (x - x.tdiv m * m) (fun k => ?_) (fun k => ?_) zi_0 rfl
  · have : x - x.tdiv m * m = x % m := by
      rcases zi_td (x := x) hm with ⟨q, -⟩ | ⟨q, w⟩
      · rw [q, Int.mul_comm]; omega
      · omega
    rw [this]; exact h
  · have : x - x.tdiv m * m + m = x % m := by
      rcases zi_td (x := x) hm with ⟨q, w⟩ | ⟨q, -⟩
      · omega
      · rw [q, Int.add_mul, Int.one_mul, Int.mul_comm]; omega
    rw [zi_add, this]; exact h
theorem zx_fmod0 {post : Int32 → Prop} {x : Int32} (h : post 0) : wpX_floorMod post (cy, sz, sc, ls, L, K, S, ch, li, le) x (zi_I 0) := by
  unfold wpX_floorMod
  exact br_f (by decide) h
theorem zx_fdiv {post : Int32 → Prop} {x m : Int} (hx : -2147483648 ≤ x) (hx' : x < 2147483648) (hm : 0 < m) (hm' : m < 2147483648) (h : post (zi_I (x / m))) : wpX_floorDiv post (cy, sz, sc, ls, L, K, S, ch, li, le) (zi_I x) (zi_I m) := by
  have h1 : (1 : Int32) ≤ zi_I m := by rw [zi_1, zi_le (by omega) (by omega) (by omega) (by omega)]; omega
  have h0 : ¬ zi_I m = 0 := by rw [zi_0, zi_eq (by omega) (by omega) (by omega) (by omega)]; omega
  have hb := zi_remB (x := x) hm
  unfold wpX_floorDiv
  refine br_t h1 ⟨h0, nm_r (zi_div hx hx' hm hm') ⟨h0, ?_⟩⟩
  rw [zi_rem hx hx' hm hm']
  refine zi_ble 0 (x - x.tdiv m * m) (fun k => ?_) (fun k => ?_) zi_0 rfl
  · rcases zi_td (x := x) hm with ⟨q, -⟩ | ⟨q, w⟩
    · rw [q]; exact h
    · omega
  · rcases zi_td (x := x) hm with ⟨q, w⟩ | ⟨q, -⟩
    · omega
    · rw [q, zi_1, zi_sub, Int.add_sub_cancel]; exact h
end
section
variable {cy dp : Int32} {L K S wk : Nat → Int32}
theorem zy_fdiv {post : Int32 → Prop} {x m : Int} (hx : -2147483648 ≤ x) (hx' : x < 2147483648) (hm : 0 ≤ m) (hm' : m < 2147483648) (h : post (zi_I (x / m))) : wpY_floorDiv post (cy, dp, K, L, S, wk) (zi_I x) (zi_I m) := by
  rcases Int.lt_or_eq_of_le hm with hm | hm
  · have h1 : (1 : Int32) ≤ zi_I m := by rw [zi_1, zi_le (by omega) (by omega) (by omega) (by omega)]; omega
    have h0 : ¬ zi_I m = 0 := by rw [zi_0, zi_eq (by omega) (by omega) (by omega) (by omega)]; omega
    have hb := zi_remB (x := x) hm
    unfold wpY_floorDiv
    refine br_t h1 ⟨h0, ?_⟩
    rw [zi_rem hx hx' hm hm', zi_div hx hx' hm hm']
    refine zi_ble 0 (x - x.tdiv m * m) (fun k => ⟨h0, ?_⟩) (fun k => ⟨h0, ?_⟩) zi_0 rfl
    · rcases zi_td (x := x) hm with ⟨q, -⟩ | ⟨q, w⟩
      · rw [q]; exact h
      · omega
    · rcases zi_td (x := x) hm with ⟨q, w⟩ | ⟨q, -⟩
      · omega
      · rw [q, zi_1, zi_sub, Int.add_sub_cancel]; exact h
  · subst hm
    rw [Int.ediv_zero] at h
    unfold wpY_floorDiv
    exact br_f (by decide) h
end
end
section
/-! the pure picture of a granularity: the label of each tick -/
def mx_per (c s : Int) (F : Int → Option Int) : Prop := ∀ t, F (t + c) = (F t).map (fun v => v + s)
def mx_P (c s : Int) (F : Int → Option Int) : Prop := (1 ≤ c ∧ c ≤ 60) ∧ (0 ≤ s ∧ s ≤ c) ∧ mx_per c s F ∧ (∀ t v, 0 ≤ t → t < c → F t = some v → -9999 ≤ v ∧ v ≤ 9999)
def mx_M (F : Int → Option Int) : Prop := ∀ t t' v v', t ≤ t' → F t = some v → F t' = some v' → v ≤ v'
def mx_G (c s : Int) (F : Int → Option Int) : Prop := mx_P c s F ∧ mx_M F ∧ (s = 0 ↔ ∀ t, F t = none)
theorem mx_s1 {c s : Int} {F : Int → Option Int} (h : mx_per c s F) {t v : Int} (e : F t = some v) : F (t + c) = some (v + s) := by
  rw [h t, e]; rfl
theorem mx_s1' {c s : Int} {F : Int → Option Int} (h : mx_per c s F) {t v : Int} (e : F t = some v) : F (t - c) = some (v - s) := by
  have k := h (t - c)
  rw [Int.sub_add_cancel, e] at k
  cases q : F (t - c) with
  | none => rw [q] at k; cases k
  | some w =>
    rw [q] at k
    have : v = w + s := by injection k
    congr 1; omega
theorem mx_shN {c s : Int} {F : Int → Option Int} (h : mx_per c s F) : ∀ (n : Nat) {t v : Int}, F t = some v → F (t + n * c) = some (v + n * s) ∧ F (t - n * c) = some (v - n * s) := by
  intro n
  induction n with
  | zero => intro t v e; simp [e]
  | succ n ih =>
    intro t v e
    have k := ih e
    have k1 := mx_s1 h k.1
    have k2 := mx_s1' h k.2
    rw [show t + ((n + 1 : Nat) : Int) * c = t + n * c + c by rw [Int.natCast_add, Int.add_mul]; simp; omega,
      show v + ((n + 1 : Nat) : Int) * s = v + n * s + s by rw [Int.natCast_add, Int.add_mul]; simp; omega,
      show t - ((n + 1 : Nat) : Int) * c = t - n * c - c by rw [Int.natCast_add, Int.add_mul]; simp; omega,
      show v - ((n + 1 : Nat) : Int) * s = v - n * s - s by rw [Int.natCast_add, Int.add_mul]; simp; omega]
    exact ⟨k1, k2⟩
theorem mx_sh {c s : Int} {F : Int → Option Int} (h : mx_per c s F) (q : Int) {t v : Int} (e : F t = some v) : F (t + q * c) = some (v + q * s) := by
  rcases Int.le_total 0 q with hq | hq
  · have k := (mx_shN h q.toNat e).1
    rw [Int.toNat_of_nonneg hq] at k
    exact k
  · have k := (mx_shN h (-q).toNat e).2
    rw [Int.toNat_of_nonneg (by omega), Int.neg_mul, Int.neg_mul, Int.sub_neg, Int.sub_neg] at k
    exact k
theorem mx_shn {c s : Int} {F : Int → Option Int} (h : mx_per c s F) (q : Int) {t : Int} (e : F t = none) : F (t + q * c) = none := by
  cases k : F (t + q * c) with
  | none => rfl
  | some w =>
    have := mx_sh h (-q) k
    rw [Int.neg_mul, Int.add_neg_cancel_right, e] at this
    cases this
theorem mx_shm {c s : Int} {F : Int → Option Int} (h : mx_per c s F) (q t : Int) : F (t + q * c) = (F t).map (fun v => v + q * s) := by
  cases e : F t with
  | none => exact mx_shn h q e
  | some v => exact mx_sh h q e
theorem mx_shi {c s : Int} {F : Int → Option Int} (h : mx_per c s F) (q : Int) {t v : Int} : F (t + q * c) = some (v + q * s) ↔ F t = some v := by
  refine ⟨fun e => ?_, mx_sh h q⟩
  have := mx_sh h (-q) e
  rw [Int.neg_mul, Int.neg_mul, Int.add_neg_cancel_right, Int.add_neg_cancel_right] at this
  exact this
theorem mx_em (t c : Int) : t = t % c + t / c * c := by have := Int.emod_add_ediv_mul t c; omega
theorem mx_red {c s : Int} {F : Int → Option Int} (h : mx_per c s F) (t : Int) : F t = (F (t % c)).map (fun v => v + t / c * s) := by
  have k := mx_shm h (t / c) (t % c)
  rw [← mx_em] at k
  exact k
theorem mx_mod {c r q : Int} (h : 0 ≤ r) (h' : r < c) : (r + q * c) % c = r := by
  rw [Int.add_mul_emod_self_right, Int.emod_eq_of_lt h h']
theorem mx_q {q s c : Int} (h : 0 ≤ s) (h' : s ≤ c) : (0 ≤ q → 0 ≤ q * s ∧ q * s ≤ q * c) ∧ (q ≤ 0 → q * s ≤ 0 ∧ q * c ≤ q * s) := by
  refine ⟨fun k => ⟨Int.mul_nonneg k h, Int.mul_le_mul_of_nonneg_left h' k⟩, fun k => ⟨Int.mul_nonpos_of_nonpos_of_nonneg k h, ?_⟩⟩
  exact Int.mul_le_mul_of_nonpos_left k h'
/-- how far a label is from its tick -/
theorem mx_bd {c s : Int} {F : Int → Option Int} (h : mx_P c s F) {t v : Int} (e : F t = some v) : (-9999 ≤ v ∨ t - 10060 ≤ v) ∧ (v ≤ 9999 ∨ v ≤ t + 9999) := by
  obtain ⟨⟨c1, c2⟩, ⟨s1, s2⟩, hp, hb⟩ := h
  have k := mx_red hp t
  rw [e] at k
  have m0 := Int.emod_nonneg t (b := c) (by omega)
  have m1 := Int.emod_lt_of_pos t (b := c) (by omega)
  have em := mx_em t c
  cases f : F (t % c) with
  | none => rw [f] at k; cases k
  | some w =>
    rw [f] at k
    have kv : v = w + t / c * s := by injection k
    have hw := hb _ _ m0 m1 f
    have hq := mx_q (q := t / c) s1 s2
    rcases Int.le_total 0 (t / c) with z | z
    · have := hq.1 z; omega
    · have := hq.2 z; omega
/-- how far a tick is from its label -/
theorem mx_tb {c s : Int} {F : Int → Option Int} (h : mx_G c s F) {t v : Int} (e : F t = some v) (hv : -10000000 ≤ v) (hv' : v ≤ 10000000) : -700000000 ≤ t ∧ t ≤ 700000000 := by
  obtain ⟨⟨⟨c1, c2⟩, ⟨s1, s2⟩, hp, hb⟩, -, hz⟩ := h
  have s0 : s ≠ 0 := by
    intro z
    have := hz.mp z t
    rw [e] at this; cases this
  have k := mx_red hp t
  rw [e] at k
  have m0 := Int.emod_nonneg t (b := c) (by omega)
  have m1 := Int.emod_lt_of_pos t (b := c) (by omega)
  have em := mx_em t c
  cases f : F (t % c) with
  | none => rw [f] at k; cases k
  | some w =>
    rw [f] at k
    have kv : v = w + t / c * s := by injection k
    have hw := hb _ _ m0 m1 f
    have hq := mx_q (q := t / c) (s := 1) (c := s) (by omega) (by omega)
    have hc := mx_q (q := t / c) (s := c) (c := 60) (by omega) (by omega)
    rcases Int.le_total 0 (t / c) with z | z
    · have a := hq.1 z; have b := hc.1 z; omega
    · have a := hq.2 z; have b := hc.2 z; omega
theorem mx_spos {c s : Int} {F : Int → Option Int} (h : mx_G c s F) {t v : Int} (e : F t = some v) : 1 ≤ s := by
  obtain ⟨⟨-, ⟨s1, -⟩, -, -⟩, -, hz⟩ := h
  have : s ≠ 0 := by
    intro z
    have := hz.mp z t
    rw [e] at this; cases this
  omega
/-- the ticks of one granule lie within one cycle -/
theorem mx_near {c s : Int} {F : Int → Option Int} (h : mx_G c s F) {t t' v : Int} (e : F t = some v) (e' : F t' = some v) : t' < t + c := by
  have sp := mx_spos h e
  by_cases k : t' < t + c
  · exact k
  · have := h.2.1 (t + c) t' (v + s) v (by omega) (mx_s1 h.1.2.2.1 e) e'
    omega
/-- two ticks of one granule at the same place are the same -/
theorem mx_same {c s : Int} {F : Int → Option Int} (h : mx_G c s F) {t t' v : Int} (e : F t = some v) (e' : F t' = some v) (m : t % c = t' % c) : t = t' := by
  have h1 := mx_near h e e'
  have h2 := mx_near h e' e
  have c1 := h.1.1.1
  have em := mx_em t c
  have em' := mx_em t' c
  rw [m] at em
  have : t / c = t' / c := by
    rcases Int.lt_trichotomy (t / c) (t' / c) with z | z | z
    · have := Int.mul_le_mul_of_nonneg_right (a := t / c + 1) (b := t' / c) (c := c) (by omega) (by omega)
      rw [Int.add_mul, Int.one_mul] at this; omega
    · exact z
    · have := Int.mul_le_mul_of_nonneg_right (a := t' / c + 1) (b := t / c) (c := c) (by omega) (by omega)
      rw [Int.add_mul, Int.one_mul] at this; omega
  rw [this] at em; omega
/-- the place r of the cycle and label i -/
theorem mx_at {c s : Int} {F : Int → Option Int} (h : mx_per c s F) {r a i : Int} (hr : 0 ≤ r) (hr' : r < c) (e : F r = some a) {t : Int} (m : t % c = r) : F t = some i ↔ i - a = t / c * s := by
  have em := mx_em t c
  rw [m] at em
  have k := mx_sh h (t / c) e
  rw [← em] at k
  rw [k]
  constructor
  · intro z; injection z with z; omega
  · intro z; congr 1; omega
theorem mx_atn {c s : Int} {F : Int → Option Int} (h : mx_per c s F) {r : Int} (e : F r = none) {t : Int} (m : t % c = r) : F t = none := by
  have em := mx_em t c
  rw [m] at em
  have k := mx_shn h (t / c) e
  rw [← em] at k
  exact k
/-- the first (la = false) or last tick of granule i -/
def mx_ed (la : Bool) (F : Int → Option Int) (i x : Int) : Prop := F x = some i ∧ ∀ t, F t = some i → (la = false → x ≤ t) ∧ (la = true → t ≤ x)
/-- granule i of A lies wholly in granule j of B -/
def mx_H (A : Int → Option Int) (i : Int) (B : Int → Option Int) (j : Int) : Prop := (∃ t, A t = some i) ∧ ∀ t, A t = some i → B t = some j
theorem mx_Hu {A B : Int → Option Int} {i j j' : Int} (h : mx_H A i B j) (h' : mx_H A i B j') : j = j' := by
  obtain ⟨⟨t, e⟩, k⟩ := h
  have a := k t e
  have b := h'.2 t e
  rw [a] at b
  injection b
theorem mx_Hs {c s s' : Int} {A B : Int → Option Int} (ha : mx_per c s A) (hb : mx_per c s' B) (q : Int) {i j : Int} (h : mx_H A i B j) : mx_H A (i + q * s) B (j + q * s') := by
  obtain ⟨⟨t, e⟩, k⟩ := h
  refine ⟨⟨t + q * c, mx_sh ha q e⟩, fun u hu => ?_⟩
  have : A (u - q * c) = some i := by
    rw [← mx_shi ha q, Int.sub_add_cancel]; exact hu
  have z := mx_sh hb q (k _ this)
  rw [Int.sub_add_cancel] at z
  exact z
/-- truth as 0 or 1 -/
noncomputable def mx_b (p : Prop) : Int32 := @ite _ p (Classical.propDecidable p) 1 0
theorem mx_bt {p : Prop} (h : p) : mx_b p = 1 := @if_pos p (Classical.propDecidable p) h _ _ _
theorem mx_bf {p : Prop} (h : ¬ p) : mx_b p = 0 := @if_neg p (Classical.propDecidable p) h _ _ _
theorem mx_b0 {p : Prop} : mx_b p = 0 ↔ ¬ p := by
  by_cases h : p
  · rw [mx_bt h]; exact ⟨fun z => absurd z (by decide), fun z => absurd h z⟩
  · rw [mx_bf h]; exact ⟨fun _ => h, fun _ => rfl⟩
theorem mx_b01 (p : Prop) : mx_b p = 0 ∨ mx_b p = 1 := by
  by_cases h : p
  · exact .inr (mx_bt h)
  · exact .inl (mx_bf h)
theorem mx_bc {p q : Prop} (h : p ↔ q) : mx_b p = mx_b q := by rw [propext h]
/-- a branch on such a truth -/
theorem mx_br {p A B : Prop} (f : ¬ p → A) (g : p → B) : (mx_b p = 0 → A) ∧ (¬ mx_b p = 0 → B) := by
  by_cases h : p
  · exact ⟨fun z => f (mx_b0.mp z), fun _ => g h⟩
  · exact ⟨fun _ => f h, fun z => absurd (mx_b0.mpr h) z⟩
def mx_enc (o : Option Int) : Int32 := match o with
  | none => 1000000000
  | some v => zi_I v
def mx_cv (o : Option Int) : Int32 := match o with
  | none => 0
  | some _ => 1
theorem mx_cv01 (o : Option Int) : mx_cv o = 0 ∨ mx_cv o = 1 := by cases o with
  | none => exact .inl rfl
  | some v => exact .inr rfl
end
section
/-! what the arrays of either side say of a slot, and the reading methods of the component -/
def rp_C (k l : Int32) (o : Option Int) : Prop := match o with
  | none => k = 0
  | some v => k = 1 ∧ l = zi_I v
def rp_R (c : Nat) (K L S : Nat → Int32) (e : Nat) (F : Int → Option Int) (s : Int) : Prop := S e = zi_I s ∧ ∀ r : Nat, r < c → rp_C (K (e * 60 + r)) (L (e * 60 + r)) (F (r : Int))
theorem rp_Cn {k l : Int32} {o : Option Int} (h : rp_C k l o) (e : o = none) : k = 0 := by subst e; exact h
theorem rp_Cs {k l : Int32} {o : Option Int} {v : Int} (h : rp_C k l o) (e : o = some v) : k = 1 ∧ l = zi_I v := by subst e; exact h
theorem rp_1 {k : Int32} (h : k = 1) : ¬ k = 0 := by rw [h]; decide
section
variable {sz sc ls : Int32} {c : Nat} {L K S ch li le : Nat → Int32}
theorem xw_labelQ {post : Int32 → Prop} {e : Nat} {F : Int → Option Int} {s t : Int} (hR : rp_R c K L S e F s) (hc : 1 ≤ c ∧ c ≤ 60) (hp : mx_per c s F) (he : e < 5) (ht : -2147483648 ≤ t) (ht' : t < 2147483648) (h : post (mx_enc (F t))) : wpX_labelOf post ((nI c), sz, sc, ls, L, K, S, ch, li, le) (nI e) (zi_I t) := by
  obtain ⟨c1, c2⟩ := hc
  have m0 := Int.emod_nonneg t (b := (c : Int)) (by omega)
  have m1 := Int.emod_lt_of_pos t (b := (c : Int)) (by omega)
  have hr := hR.2 (t % (c : Int)).toNat (by omega)
  rw [Int.toNat_of_nonneg m0] at hr
  have hx := mx_red hp t
  unfold wpX_labelOf
  dsimp only
  rw [zi_n c]
  refine zx_fmod ht ht' (by omega) (by omega) ?_
  refine nm_r (e' := nI (e * 60 + (t % (c : Int)).toNat)) (by rw [zi_nat m0, zi_ix]) ⟨zi_inN (by omega) (by omega), ?_⟩
  rw [zi_clN (by omega)]
  cases f : F (t % (c : Int)) with
  | none =>
    refine br_t (rp_Cn hr f) ?_
    rw [hx, f] at h
    exact h
  | some w =>
    obtain ⟨k1, k2⟩ := rp_Cs hr f
    refine br_f (rp_1 k1) ⟨zi_inN (by omega) (by omega), zx_fdiv ht ht' (by omega) (by omega) ⟨zi_inN he (by omega), ?_⟩⟩
    rw [zi_clN (by omega), hR.1, k2, zi_mul, zi_add]
    rw [hx, f] at h
    exact h
theorem xw_label {post : Int32 → Prop} {e : Nat} {F : Int → Option Int} {s t : Int} (hR : rp_R c K L S e F s) (hP : mx_P c s F) (he : e < 5) (ht : -2147483648 ≤ t) (ht' : t < 2147483648) (h : post (mx_enc (F t))) : wpX_labelOf post ((nI c), sz, sc, ls, L, K, S, ch, li, le) (nI e) (zi_I t) :=
  xw_labelQ hR (by have := hP.1; omega) hP.2.2.1 he ht ht' h
theorem xw_tick {post : Int32 → Prop} {e r : Nat} {F : Int → Option Int} {s i : Int} (hR : rp_R c K L S e F s) (hG : mx_G c s F) (he : e < 5) (hr : r < c) (hi : -10000000 ≤ i) (hi' : i ≤ 10000000) (A : ∀ t : Int, t % (c : Int) = r → F t = some i → post (zi_I t)) (B : (∀ t : Int, t % (c : Int) = r → F t ≠ some i) → post 1000000000) : wpX_tickOf post ((nI c), sz, sc, ls, L, K, S, ch, li, le) (nI e) (zi_I i) (nI r) := by
  obtain ⟨⟨⟨c1, c2⟩, ⟨s1, s2⟩, hp, hb⟩, -, hz⟩ := hG
  have hc := hR.2 r hr
  unfold wpX_tickOf
  refine nm_r (zi_ix e r) ⟨zi_inN he (by omega), nm_r (e' := zi_I s) (by rw [zi_clN (by omega)]; exact hR.1) ?_⟩
  refine zi_blt s 1 (fun z => B ?_) (fun z => ⟨zi_inN (by omega) (by omega), ?_⟩) rfl zi_1
  · intro t _ q
    rw [hz.mp (by omega) t] at q
    cases q
  · rw [zi_clN (by omega)]
    have hs0 : ¬ zi_I s = 0 := by rw [zi_0, zi_eq (by omega) (by omega) (by omega) (by omega)]; omega
    cases f : F (r : Int) with
    | none =>
      refine br_t (rp_Cn hc f) (B ?_)
      intro t m q
      rw [mx_atn hp f m] at q
      cases q
    | some a =>
      obtain ⟨k1, k2⟩ := rp_Cs hc f
      have ha := hb r a (by omega) (by omega) f
      have hrm := zi_remB (x := i - a) (m := s) (by omega)
      refine br_f (rp_1 k1) ⟨zi_inN (by omega) (by omega), nm_r (e' := zi_I (i - a)) (by rw [k2, zi_sub]) ⟨hs0, ?_⟩⟩
      rw [zi_rem (by omega) (by omega) (by omega) (by omega), zi_div (by omega) (by omega) (by omega) (by omega)]
      refine zi_beq (i - a - (i - a).tdiv s * s) 0 (fun z => ⟨hs0, ?_⟩) (fun z => B ?_) rfl zi_0
      · rw [zi_n r, zi_n c, zi_mul, zi_add]
        refine A _ (mx_mod (by omega) (by omega)) ?_
        rw [mx_sh hp _ f]
        congr 1; omega
      · intro t m q
        have w := (mx_at hp (by omega) (by omega) f m).mp q
        apply z
        rw [w, Int.mul_tdiv_cancel _ (by omega), Int.sub_self]
def mx_l (la : Bool) : Int32 := match la with
  | false => 0
  | true => 1
/-- the best tick among the places below j -/
def mx_B (la : Bool) (c : Int) (F : Int → Option Int) (i j : Int) (b : Int32) : Prop := (b = 1000000000 ∧ ∀ t, t % c < j → F t ≠ some i) ∨ ∃ x, b = zi_I x ∧ F x = some i ∧ x % c < j ∧ ∀ t, t % c < j → F t = some i → (la = false → x ≤ t) ∧ (la = true → t ≤ x)
theorem mx_Bn {la : Bool} {c : Int} {F : Int → Option Int} {i j : Int} {b : Int32} (h : mx_B la c F i j b) (k : ∀ t, t % c = j → F t ≠ some i) : mx_B la c F i (j + 1) b := by
  rcases h with ⟨h, g⟩ | ⟨x, h, g, m, w⟩
  · left
    refine ⟨h, fun t ht => ?_⟩
    by_cases z : t % c = j
    · exact k t z
    · exact g t (by omega)
  · right
    refine ⟨x, h, g, by omega, fun t ht e => ?_⟩
    by_cases z : t % c = j
    · exact absurd e (k t z)
    · exact w t (by omega) e
theorem mx_Bs {la : Bool} {c s : Int} {F : Int → Option Int} {i j t : Int} (hG : mx_G c s F) (m : t % c = j) (e : F t = some i) (k : ∀ u, u % c < j → F u = some i → (la = false → t ≤ u) ∧ (la = true → u ≤ t)) : mx_B la c F i (j + 1) (zi_I t) := by
  right
  refine ⟨t, rfl, e, by omega, fun u hu f => ?_⟩
  by_cases z : u % c = j
  · have := mx_same hG e f (by omega)
    subst this
    exact ⟨fun _ => Int.le_refl _, fun _ => Int.le_refl _⟩
  · exact k u (by omega) f
theorem mx_Bk {la : Bool} {c s : Int} {F : Int → Option Int} {i j t x : Int} (hG : mx_G c s F) (m : t % c = j) (e : F t = some i) (g : F x = some i) (w0 : x % c < j) (w : ∀ u, u % c < j → F u = some i → (la = false → x ≤ u) ∧ (la = true → u ≤ x)) (k : (la = false → x ≤ t) ∧ (la = true → t ≤ x)) : mx_B la c F i (j + 1) (zi_I x) := by
  right
  refine ⟨x, rfl, g, by omega, fun u hu f => ?_⟩
  by_cases z : u % c = j
  · have := mx_same hG e f (by omega)
    subst this
    exact k
  · exact w u (by omega) f
theorem xw_edgeL {post : Int32 → Prop} {e : Nat} {F : Int → Option Int} {s i : Int} {la : Bool} (hR : rp_R c K L S e F s) (hG : mx_G c s F) (he : e < 5) (hi : -10000000 ≤ i) (hi' : i ≤ 10000000) (A : ∀ x, mx_ed la F i x → post (zi_I x)) (B : (∀ t, F t ≠ some i) → post 1000000000) : ∀ (d j : Nat) (b : Int32), j + d = c → mx_B la c F i j b → ∀ n, d < n → wX_edgeTick_7 post (nI e) (zi_I i) (mx_l la) (nI c) sz sc ls L K S ch li le n b (nI j) := by
  have c1 := hG.1.1.1
  have c2 := hG.1.1.2
  intro d
  induction d with
  | zero =>
    intro j b hj hb n hn
    obtain ⟨m, rfl⟩ : ∃ m, n = m + 1 := ⟨n - 1, by omega⟩
    have lt : ∀ t : Int, t % (c : Int) < j := fun t => by
      have := Int.emod_lt_of_pos t (b := (c : Int)) (by omega)
      omega
    refine br_t (nI_le (by omega) (by omega)) ?_
    rcases hb with ⟨rfl, g⟩ | ⟨x, rfl, g, w0, w⟩
    · exact B fun t => g t (lt t)
    · exact A x ⟨g, fun t => w t (lt t)⟩
  | succ d ih =>
    intro j b hj hb n hn
    obtain ⟨m, rfl⟩ : ∃ m, n = m + 1 := ⟨n - 1, by omega⟩
    refine br_f (nI_ge (by omega) (by omega)) (xw_tick hR hG he (by omega) hi hi' ?_ ?_)
    · intro t mt ft
      have tb := mx_tb hG ft hi hi'
      refine br_f (zi_nN (by omega) (by omega)) ?_
      rcases hb with ⟨rfl, g⟩ | ⟨x, rfl, g, w0, w⟩
      · refine br_t rfl (nm_r (nI_1 j) (ih (j + 1) _ (by omega) ?_ m (by omega)))
        exact mx_Bs hG mt ft fun u hu f => absurd f (g u hu)
      · have xb := mx_tb hG g hi hi'
        refine br_f (zi_nN (by omega) (by omega)) ?_
        refine zi_ble t x (fun z => ?_) (fun z => ?_)
        · unfold wX_edgeTick_52
          cases la with
          | false =>
            refine br_t rfl (nm_r (nI_1 j) (ih (j + 1) _ (by omega) ?_ m (by omega)))
            refine mx_Bs hG mt ft fun u hu f => ⟨fun _ => ?_, fun q => by cases q⟩
            have := (w u hu f).1 rfl
            omega
          | true =>
            refine br_f (by decide) (nm_r (nI_1 j) (ih (j + 1) _ (by omega) ?_ m (by omega)))
            exact mx_Bk hG mt ft g w0 w ⟨fun q => (by cases q), fun _ => z⟩
        · unfold wX_edgeTick_52
          cases la with
          | false =>
            refine br_f (by decide) (nm_r (nI_1 j) (ih (j + 1) _ (by omega) ?_ m (by omega)))
            exact mx_Bk hG mt ft g w0 w ⟨fun _ => by omega, fun q => by cases q⟩
          | true =>
            refine br_t rfl (nm_r (nI_1 j) (ih (j + 1) _ (by omega) ?_ m (by omega)))
            refine mx_Bs hG mt ft fun u hu f => ⟨fun q => (by cases q), fun _ => ?_⟩
            have := (w u hu f).2 rfl
            omega
    · intro nb
      refine br_t rfl (nm_r (nI_1 j) (ih (j + 1) _ (by omega) ?_ m (by omega)))
      exact mx_Bn hb nb
theorem xw_edge {post : Int32 → Prop} {e : Nat} {F : Int → Option Int} {s i : Int} (la : Bool) (hR : rp_R c K L S e F s) (hG : mx_G c s F) (he : e < 5) (hi : -10000000 ≤ i) (hi' : i ≤ 10000000) (A : ∀ x, mx_ed la F i x → post (zi_I x)) (B : (∀ t, F t ≠ some i) → post 1000000000) : wpX_edgeTick post ((nI c), sz, sc, ls, L, K, S, ch, li, le) (nI e) (zi_I i) (mx_l la) := by
  have c1 := hG.1.1.1
  unfold wpX_edgeTick
  refine ⟨c + 1, xw_edgeL hR hG he hi hi' A B c 0 _ (by omega) (.inl ⟨rfl, fun t ht => ?_⟩) (c + 1) (by omega)⟩
  have := Int.emod_nonneg t (b := (c : Int)) (by omega)
  omega
/-- the common label of B over the places below j of granule i of A -/
def mx_Hb (c : Int) (A : Int → Option Int) (i : Int) (B : Int → Option Int) (j : Int) (b : Int32) : Prop := (b = 1000000000 ∧ ∀ t, t % c < j → A t ≠ some i) ∨ ∃ v, b = zi_I v ∧ (∃ t, t % c < j ∧ A t = some i) ∧ ∀ t, t % c < j → A t = some i → B t = some v
theorem mx_Hbs {c s : Int} {A B : Int → Option Int} {i j t v : Int} (hG : mx_G c s A) (m : t % c = j) (e : A t = some i) (f : B t = some v) (k : ∀ u, u % c < j → A u = some i → B u = some v) : mx_Hb c A i B (j + 1) (zi_I v) := by
  right
  refine ⟨v, rfl, ⟨t, by omega, e⟩, fun u hu g => ?_⟩
  by_cases z : u % c = j
  · have := mx_same hG e g (by omega)
    subst this
    exact f
  · exact k u (by omega) g
theorem xw_holderL {post : Int32 → Prop} {e e' : Nat} {A B : Int → Option Int} {s s' i : Int} (hR : rp_R c K L S e A s) (hG : mx_G c s A) (he : e < 5) (hR' : rp_R c K L S e' B s') (hP' : mx_P c s' B) (he' : e' < 5) (hi : -10000000 ≤ i) (hi' : i ≤ 10000000) (P : ∀ v, mx_H A i B v → post (zi_I v)) (N : (∀ v, ¬ mx_H A i B v) → post 1000000000) : ∀ (d j : Nat) (b : Int32), j + d = c → mx_Hb c A i B j b → ∀ n, d < n → wX_holder_7 post (nI e) (zi_I i) (nI e') (nI c) sz sc ls L K S ch li le n b (nI j) := by
  have c1 := hG.1.1.1
  have c2 := hG.1.1.2
  intro d
  induction d with
  | zero =>
    intro j b hj hb n hn
    obtain ⟨m, rfl⟩ : ∃ m, n = m + 1 := ⟨n - 1, by omega⟩
    have lt : ∀ t : Int, t % (c : Int) < j := fun t => by
      have := Int.emod_lt_of_pos t (b := (c : Int)) (by omega)
      omega
    refine br_t (nI_le (by omega) (by omega)) ?_
    rcases hb with ⟨rfl, g⟩ | ⟨v, rfl, ⟨t, -, et⟩, w⟩
    · exact N fun v ⟨⟨t, et⟩, _⟩ => g t (lt t) et
    · exact P v ⟨⟨t, et⟩, fun t => w t (lt t)⟩
  | succ d ih =>
    intro j b hj hb n hn
    obtain ⟨m, rfl⟩ : ∃ m, n = m + 1 := ⟨n - 1, by omega⟩
    refine br_f (nI_ge (by omega) (by omega)) (xw_tick hR hG he (by omega) hi hi' ?_ ?_)
    · intro t mt ft
      have tb := mx_tb hG ft hi hi'
      refine br_f (zi_nN (by omega) (by omega)) (xw_label hR' hP' he' (by omega) (by omega) ?_)
      cases f : B t with
      | none => exact br_t rfl (N fun v hv => by rw [hv.2 t ft] at f; cases f)
      | some w =>
        have wb := mx_bd hP' f
        refine br_f (zi_nN (by omega) (by omega)) ?_
        rcases hb with ⟨rfl, g⟩ | ⟨v, rfl, ⟨t', mt', et'⟩, k⟩
        · refine br_t rfl (nm_r (nI_1 j) (ih (j + 1) _ (by omega) ?_ m (by omega)))
          exact mx_Hbs hG mt ft f fun u hu q => absurd q (g u hu)
        · have tb' := mx_tb hG et' hi hi'
          have vb := mx_bd hP' (k t' mt' et')
          refine br_f (zi_nN (by omega) (by omega)) (zi_beq v w (fun z => ?_) (fun z => ?_))
          · subst z
            refine nm_r (nI_1 j) (ih (j + 1) _ (by omega) ?_ m (by omega))
            exact mx_Hbs hG mt ft f k
          · refine N fun v' hv => z ?_
            have a := hv.2 t ft
            have b := hv.2 t' et'
            rw [f] at a
            rw [k t' mt' et'] at b
            injection a with a
            injection b with b
            omega
    · intro nb
      refine br_t rfl (nm_r (nI_1 j) (ih (j + 1) _ (by omega) ?_ m (by omega)))
      rcases hb with ⟨rfl, g⟩ | ⟨v, rfl, ⟨t', mt', et'⟩, k⟩
      · refine .inl ⟨rfl, fun t ht => ?_⟩
        by_cases z : t % (c : Int) = j
        · exact nb t z
        · exact g t (by omega)
      · refine .inr ⟨v, rfl, ⟨t', by omega, et'⟩, fun t ht q => ?_⟩
        by_cases z : t % (c : Int) = j
        · exact absurd q (nb t z)
        · exact k t (by omega) q
theorem xw_holder {post : Int32 → Prop} {e e' : Nat} {A B : Int → Option Int} {s s' i : Int} (hR : rp_R c K L S e A s) (hG : mx_G c s A) (he : e < 5) (hR' : rp_R c K L S e' B s') (hP' : mx_P c s' B) (he' : e' < 5) (hi : -10000000 ≤ i) (hi' : i ≤ 10000000) (P : ∀ v, mx_H A i B v → post (zi_I v)) (N : (∀ v, ¬ mx_H A i B v) → post 1000000000) : wpX_holder post ((nI c), sz, sc, ls, L, K, S, ch, li, le) (nI e) (zi_I i) (nI e') := by
  have c1 := hG.1.1.1
  unfold wpX_holder
  refine ⟨c + 1, xw_holderL hR hG he hR' hP' he' hi hi' P N c 0 _ (by omega) (.inl ⟨rfl, fun t ht => ?_⟩) (c + 1) (by omega)⟩
  have := Int.emod_nonneg t (b := (c : Int)) (by omega)
  omega
end
end
section
/-! the reading methods of the reference -/
section
variable {dp : Int32} {c : Nat} {L K S wk : Nat → Int32}
theorem yw_ix {e c : Nat} {t : Int} (hc : 0 < c) : nI e * 60 + zi_I t - zi_I (t / (c : Int)) * nI c = nI (e * 60 + (t % (c : Int)).toNat) := by
  have m0 := Int.emod_nonneg t (b := (c : Int)) (by omega)
  have em := mx_em t c
  rw [zi_n e, zi_n c, show (60 : Int32) = zi_I 60 by decide +kernel, zi_mul, zi_add, zi_mul, zi_sub, zi_nat (by omega)]
  congr 1; omega
theorem yw_covQ {post : Int32 → Prop} {e : Nat} {F : Int → Option Int} {s t : Int} (hR : rp_R c K L S e F s) (hc : 1 ≤ c ∧ c ≤ 60) (hp : mx_per c s F) (he : e < 5) (ht : -2147483648 ≤ t) (ht' : t < 2147483648) (h : post (mx_cv (F t))) : wpY_covers post ((nI c), dp, K, L, S, wk) (nI e) (zi_I t) := by
  obtain ⟨c1, c2⟩ := hc
  have m0 := Int.emod_nonneg t (b := (c : Int)) (by omega)
  have m1 := Int.emod_lt_of_pos t (b := (c : Int)) (by omega)
  have hr := hR.2 (t % (c : Int)).toNat (by omega)
  rw [Int.toNat_of_nonneg m0] at hr
  have hx := mx_red hp t
  have hk : K (e * 60 + (t % (c : Int)).toNat) = mx_cv (F t) := by
    cases f : F (t % (c : Int)) with
    | none => rw [hx, f]; exact rp_Cn hr f
    | some w => rw [hx, f]; exact (rp_Cs hr f).1
  unfold wpY_covers
  dsimp only
  rw [show (nI c) = zi_I (c : Int) from zi_n c]
  refine zy_fdiv ht ht' (by omega) (by omega) ?_
  rw [← zi_n c, yw_ix (by omega), zi_clN (by omega), hk]
  exact ⟨zi_inN (by omega) (by omega), zi_nb (mx_cv01 _), h⟩
theorem yw_cov {post : Int32 → Prop} {e : Nat} {F : Int → Option Int} {s t : Int} (hR : rp_R c K L S e F s) (hP : mx_P c s F) (he : e < 5) (ht : -2147483648 ≤ t) (ht' : t < 2147483648) (h : post (mx_cv (F t))) : wpY_covers post ((nI c), dp, K, L, S, wk) (nI e) (zi_I t) :=
  yw_covQ hR (by have := hP.1; omega) hP.2.2.1 he ht ht' h
theorem yw_labQ {post : Int32 → Prop} {e : Nat} {F : Int → Option Int} {s t : Int} (hR : rp_R c K L S e F s) (hc : 1 ≤ c ∧ c ≤ 60) (hp : mx_per c s F) (he : e < 5) (ht : -2147483648 ≤ t) (ht' : t < 2147483648) (h : ∀ w : Int32, (∀ v, F t = some v → w = zi_I v) → post w) : wpY_labelOf post ((nI c), dp, K, L, S, wk) (nI e) (zi_I t) := by
  obtain ⟨c1, c2⟩ := hc
  have m0 := Int.emod_nonneg t (b := (c : Int)) (by omega)
  have m1 := Int.emod_lt_of_pos t (b := (c : Int)) (by omega)
  have hr := hR.2 (t % (c : Int)).toNat (by omega)
  rw [Int.toNat_of_nonneg m0] at hr
  have hx := mx_red hp t
  unfold wpY_labelOf
  dsimp only
  rw [show (nI c) = zi_I (c : Int) from zi_n c]
  refine zy_fdiv ht ht' (by omega) (by omega) ?_
  rw [← zi_n c, yw_ix (by omega), zi_clN (by omega), zi_clN (by omega)]
  refine ⟨zi_inN (by omega) (by omega), zi_inN he (by omega), h _ fun v fv => ?_⟩
  cases f : F (t % (c : Int)) with
  | none => rw [hx, f] at fv; cases fv
  | some w =>
    rw [hx, f] at fv
    have fv : w + t / (c : Int) * s = v := by injection fv
    rw [(rp_Cs hr f).2, hR.1, zi_mul, zi_add, fv]
theorem yw_lab {post : Int32 → Prop} {e : Nat} {F : Int → Option Int} {s t : Int} (hR : rp_R c K L S e F s) (hP : mx_P c s F) (he : e < 5) (ht : -2147483648 ≤ t) (ht' : t < 2147483648) (h : ∀ w : Int32, (∀ v, F t = some v → w = zi_I v) → post w) : wpY_labelOf post ((nI c), dp, K, L, S, wk) (nI e) (zi_I t) :=
  yw_labQ hR (by have := hP.1; omega) hP.2.2.1 he ht ht' h
theorem yw_has {post : Int32 → Prop} {e : Nat} {F : Int → Option Int} {s t i : Int} (hR : rp_R c K L S e F s) (hP : mx_P c s F) (he : e < 5) (ht : -900000000 ≤ t) (ht' : t ≤ 900000000) (hi : -2147483648 ≤ i) (hi' : i < 2147483648) (h : post (mx_b (F t = some i))) : wpY_has post ((nI c), dp, K, L, S, wk) (nI e) (zi_I t) (zi_I i) := by
  unfold wpY_has
  dsimp only
  refine yw_cov hR hP he (by omega) (by omega) ?_
  cases f : F t with
  | none =>
    refine br_t rfl ?_
    rw [f, mx_bf (by intro z; cases z)] at h
    exact h
  | some v =>
    have vb := mx_bd hP f
    refine br_f (rp_1 rfl) (yw_lab hR hP he (by omega) (by omega) fun w hw => ?_)
    rw [hw v f]
    refine zi_beq v i (fun z => ?_) (fun z => ?_)
    · rw [mx_bt (by rw [f, z])] at h; exact h
    · rw [mx_bf (by rw [f]; intro q; injection q with q; exact z q)] at h; exact h
theorem yw_edgeL {post : Int32 → Prop} {e : Nat} {F : Int → Option Int} {s i : Int} {la : Bool} (hR : rp_R c K L S e F s) (hG : mx_G c s F) (he : e < 5) (hi : -10000000 ≤ i) (hi' : i ≤ 10000000) (A : ∀ x, mx_ed la F i x → post (zi_I x)) (B : (∀ t, F t ≠ some i) → post 1000000000) : ∀ (d j : Nat) (b : Int32), j + d = c → mx_B la c F i j b → ∀ n, d < n → wY_edge_7 post (nI e) (zi_I i) (mx_l la) (nI c) dp K L S wk n b (nI j) := by
  have c1 := hG.1.1.1
  have c2 := hG.1.1.2
  have hp := hG.1.2.2.1
  have s1 := hG.1.2.1.1
  have s2 := hG.1.2.1.2
  intro d
  induction d with
  | zero =>
    intro j b hj hb n hn
    obtain ⟨m, rfl⟩ : ∃ m, n = m + 1 := ⟨n - 1, by omega⟩
    have lt : ∀ t : Int, t % (c : Int) < j := fun t => by
      have := Int.emod_lt_of_pos t (b := (c : Int)) (by omega)
      omega
    refine br_t (nI_le (by omega) (by omega)) ?_
    rcases hb with ⟨rfl, g⟩ | ⟨x, rfl, g, w0, w⟩
    · exact B fun t => g t (lt t)
    · exact A x ⟨g, fun t => w t (lt t)⟩
  | succ d ih =>
    intro j b hj hb n hn
    obtain ⟨m, rfl⟩ : ∃ m, n = m + 1 := ⟨n - 1, by omega⟩
    have hc := hR.2 j (by omega)
    have hn0 : (∀ t, t % (c : Int) = j → F t ≠ some i) → wY_edge_7 post (nI e) (zi_I i) (mx_l la) (nI c) dp K L S wk m b (nI (j + 1)) := fun nb => ih (j + 1) _ (by omega) (mx_Bn hb nb) m (by omega)
    refine br_f (nI_ge (by omega) (by omega)) ?_
    rw [zi_ix, zi_clN (by omega), zi_clN (by omega), hR.1]
    refine ⟨zi_inN (by omega) (by omega), ?_⟩
    cases f : F (j : Int) with
    | none =>
      refine nm_r (zi_w _) ⟨zi_inN he (by omega), zy_fdiv (zi_wl _) (zi_wh _) s1 (by omega) (nm_e ⟨zi_inN (by omega) (by omega), br_t (rp_Cn hc f) ?_⟩)⟩
      unfold wY_edge_91 wY_edge_92
      refine br_t rfl (nm_r (nI_1 j) (hn0 fun t m q => ?_))
      rw [mx_atn hp f m] at q
      cases q
    | some a =>
      obtain ⟨k1, k2⟩ := rp_Cs hc f
      have ha := hG.1.2.2.2 j a (by omega) (by omega) f
      have sp := mx_spos hG f
      have dv := zi_divB (x := i - a) (m := s) (by omega) (by omega) (by omega)
      have qb : -2147483648 ≤ (i - a) / s * s ∧ (i - a) / s * s < 2147483648 := by
        have e1 := Int.emod_add_ediv_mul (i - a) s
        have e2 := Int.emod_nonneg (i - a) (b := s) (by omega)
        have e3 := Int.emod_lt_of_pos (i - a) (b := s) (by omega)
        omega
      refine nm_r (e' := zi_I (i - a)) (by rw [k2, zi_sub]) ⟨zi_inN he (by omega), zy_fdiv (by omega) (by omega) s1 (by omega) (nm_r (e' := zi_I (j + (i - a) / s * c)) (by rw [zi_n j, zi_n c, zi_mul, zi_add]) ⟨zi_inN (by omega) (by omega), br_f (rp_1 k1) ⟨zi_inN he (by omega), ?_⟩⟩)⟩
      refine zi_beq (i - a) ((i - a) / s * s) (fun z => ?_) (fun z => ?_) rfl (zi_mul _ _)
      · have mt : ((j : Int) + (i - a) / s * c) % (c : Int) = j := mx_mod (by omega) (by omega)
        have ft : F ((j : Int) + (i - a) / s * c) = some i := by
          rw [mx_sh hp _ f]
          congr 1; omega
        generalize (j : Int) + (i - a) / s * c = t at mt ft
        have tb := mx_tb hG ft hi hi'
        unfold wY_edge_92
        refine br_f (by decide) ?_
        rcases hb with ⟨rfl, g⟩ | ⟨x, rfl, g, w0, w⟩
        · refine br_t rfl (nm_r (nI_1 j) (ih (j + 1) _ (by omega) ?_ m (by omega)))
          exact mx_Bs hG mt ft fun u hu f => absurd f (g u hu)
        · have xb := mx_tb hG g hi hi'
          refine br_f (zi_nN (by omega) (by omega)) ?_
          cases la with
          | false =>
            refine br_t rfl (zi_ble x t (fun z => ?_) (fun z => ?_))
            · refine nm_r (nI_1 j) (ih (j + 1) _ (by omega) ?_ m (by omega))
              exact mx_Bk hG mt ft g w0 w ⟨fun _ => by omega, fun q => by cases q⟩
            · refine nm_r (nI_1 j) (ih (j + 1) _ (by omega) ?_ m (by omega))
              refine mx_Bs hG mt ft fun u hu f => ⟨fun _ => ?_, fun q => by cases q⟩
              have := (w u hu f).1 rfl
              omega
          | true =>
            refine br_f (by decide) (zi_ble t x (fun z => ?_) (fun z => ?_))
            · refine nm_r (nI_1 j) (ih (j + 1) _ (by omega) ?_ m (by omega))
              exact mx_Bk hG mt ft g w0 w ⟨fun q => (by cases q), fun _ => z⟩
            · refine nm_r (nI_1 j) (ih (j + 1) _ (by omega) ?_ m (by omega))
              refine mx_Bs hG mt ft fun u hu f => ⟨fun q => (by cases q), fun _ => ?_⟩
              have := (w u hu f).2 rfl
              omega
      · unfold wY_edge_91 wY_edge_92
        refine br_t rfl (nm_r (nI_1 j) (hn0 fun t m q => z ?_))
        have w := (mx_at hp (by omega) (by omega) f m).mp q
        rw [w, Int.mul_ediv_cancel _ (by omega)]
theorem yw_edge {post : Int32 → Prop} {e : Nat} {F : Int → Option Int} {s i : Int} (la : Bool) (hR : rp_R c K L S e F s) (hG : mx_G c s F) (he : e < 5) (hi : -10000000 ≤ i) (hi' : i ≤ 10000000) (A : ∀ x, mx_ed la F i x → post (zi_I x)) (B : (∀ t, F t ≠ some i) → post 1000000000) : wpY_edge post ((nI c), dp, K, L, S, wk) (nI e) (zi_I i) (mx_l la) := by
  have c1 := hG.1.1.1
  unfold wpY_edge
  refine ⟨c + 1, yw_edgeL hR hG he hi hi' A B c 0 _ (by omega) (.inl ⟨rfl, fun t ht => ?_⟩) (c + 1) (by omega)⟩
  have := Int.emod_nonneg t (b := (c : Int)) (by omega)
  omega
theorem yw_withinL {post : Int32 → Prop} {e e' : Nat} {A B : Int → Option Int} {s s' i j x : Int} (hR : rp_R c K L S e A s) (hG : mx_G c s A) (he : e < 5) (hR' : rp_R c K L S e' B s') (hP' : mx_P c s' B) (he' : e' < 5) (hi : -10000000 ≤ i) (hi' : i ≤ 10000000) (hj : -2147483648 ≤ j) (hj' : j < 2147483648) (hx : mx_ed false A i x) (h : post (mx_b (mx_H A i B j))) : ∀ (d k : Nat), k + d = c → (∀ u : Nat, u < k → A (x + u) = some i → B (x + u) = some j) → ∀ n, d < n → wY_within_21 post (nI e) (zi_I i) (nI e') (zi_I j) (zi_I x) (nI c) dp K L S wk n (nI k) := by
  have c1 := hG.1.1.1
  have c2 := hG.1.1.2
  have xb := mx_tb hG hx.1 hi hi'
  intro d
  induction d with
  | zero =>
    intro k hk hb n hn
    obtain ⟨m, rfl⟩ : ∃ m, n = m + 1 := ⟨n - 1, by omega⟩
    refine br_t (nI_le (by omega) (by omega)) ?_
    rw [mx_bt] at h
    · exact h
    · refine ⟨⟨x, hx.1⟩, fun t et => ?_⟩
      have l := (hx.2 t et).1 rfl
      have g := mx_near hG hx.1 et
      have := hb (t - x).toNat (by omega)
      rw [show x + ((t - x).toNat : Int) = t by omega] at this
      exact this et
  | succ d ih =>
    intro k hk hb n hn
    obtain ⟨m, rfl⟩ : ∃ m, n = m + 1 := ⟨n - 1, by omega⟩
    have ex : zi_I x + nI k = zi_I (x + k) := by rw [zi_n k, zi_add]
    have nx : (A (x + k) = some i → B (x + k) = some j) → wY_within_21 post (nI e) (zi_I i) (nI e') (zi_I j) (zi_I x) (nI c) dp K L S wk m (nI (k + 1)) := fun q => by
      refine ih (k + 1) (by omega) (fun u hu => ?_) m (by omega)
      by_cases z : u = k
      · rw [z]; exact q
      · exact hb u (by omega)
    refine br_f (nI_ge (by omega) (by omega)) ?_
    rw [ex]
    refine yw_has hR hG.1 he (by omega) (by omega) (by omega) (by omega) ?_
    refine mx_br (fun z => nm_r (nI_1 k) (nx fun q => absurd q z)) (fun z => ?_)
    refine yw_has hR' hP' he' (by omega) (by omega) (by omega) (by omega) ?_
    refine mx_br (fun w => ?_) (fun w => nm_r (nI_1 k) (nx fun _ => w))
    rw [mx_bf] at h
    · exact h
    · exact fun q => w (q.2 _ z)
theorem yw_within {post : Int32 → Prop} {e e' : Nat} {A B : Int → Option Int} {s s' i j : Int} (hR : rp_R c K L S e A s) (hG : mx_G c s A) (he : e < 5) (hR' : rp_R c K L S e' B s') (hP' : mx_P c s' B) (he' : e' < 5) (hi : -10000000 ≤ i) (hi' : i ≤ 10000000) (hj : -2147483648 ≤ j) (hj' : j < 2147483648) (h : post (mx_b (mx_H A i B j))) : wpY_within post ((nI c), dp, K, L, S, wk) (nI e) (zi_I i) (nI e') (zi_I j) := by
  unfold wpY_within
  dsimp only
  refine yw_edge false hR hG he hi hi' (fun x hx => ?_) (fun z => ?_)
  · have xb := mx_tb hG hx.1 hi hi'
    refine br_f (zi_nN (by omega) (by omega)) ⟨c + 1, yw_withinL hR hG he hR' hP' he' hi hi' hj hj' hx h c 0 (by omega) (fun u hu => by omega) (c + 1) (by omega)⟩
  · refine br_t rfl ?_
    rw [mx_bf] at h
    · exact h
    · exact fun ⟨⟨t, et⟩, _⟩ => z t et
/-- both cover t, and the granule of A there lies wholly in the granule of B there -/
def mx_N (A B : Int → Option Int) (t : Int) : Prop := ∃ i j, A t = some i ∧ B t = some j ∧ mx_H A i B j
theorem yw_nested {post : Int32 → Prop} {e e' : Nat} {A B : Int → Option Int} {s s' t : Int} (hR : rp_R c K L S e A s) (hG : mx_G c s A) (he : e < 5) (hR' : rp_R c K L S e' B s') (hP' : mx_P c s' B) (he' : e' < 5) (ht : -900000000 ≤ t) (ht' : t ≤ 900000000) (hi : ∀ i, A t = some i → -10000000 ≤ i ∧ i ≤ 10000000) (h : post (mx_b (mx_N A B t))) : wpY_nested post ((nI c), dp, K, L, S, wk) (nI e) (nI e') (zi_I t) := by
  unfold wpY_nested
  dsimp only
  refine yw_lab hR hG.1 he (by omega) (by omega) fun w hw => yw_lab hR' hP' he' (by omega) (by omega) fun w' hw' => yw_cov hR hG.1 he (by omega) (by omega) ?_
  cases f : A t with
  | none =>
    refine br_t rfl ?_
    rw [mx_bf] at h
    · exact h
    · rintro ⟨i, j, a, -, -⟩
      rw [f] at a; cases a
  | some i =>
    refine br_f (rp_1 rfl) (yw_cov hR' hP' he' (by omega) (by omega) ?_)
    cases f' : B t with
    | none =>
      refine br_t rfl ?_
      rw [mx_bf] at h
      · exact h
      · rintro ⟨i, j, -, a, -⟩
        rw [f'] at a; cases a
    | some j =>
      have jb := mx_bd hP' f'
      have ib := hi i f
      have key : mx_N A B t ↔ mx_H A i B j := by
        constructor
        · rintro ⟨i', j', a, b, k⟩
          rw [f] at a; rw [f'] at b
          injection a with a; injection b with b
          subst a; subst b; exact k
        · exact fun k => ⟨i, j, f, f', k⟩
      rw [mx_bc key] at h
      refine br_f (rp_1 rfl) ?_
      rw [hw i f, hw' j f']
      refine yw_within hR hG he hR' hP' he' ib.1 ib.2 (by omega) (by omega) ?_
      refine mx_br (fun z => ?_) (fun z => ?_)
      · rw [mx_bf z] at h; exact h
      · rw [mx_bt z] at h; exact h
end
end
section
/-! storing: the scratch slot, settle, copySlot, set, store -/
/-- cells of the scratch slot at the places D hold F; the slots of the stack are as they were -/
def sd_D (K0 L0 K L : Nat → Int32) (D : Nat → Prop) (F : Int → Option Int) : Prop := (∀ i, K i = 0 ∨ K i = 1) ∧ (∀ i, i < 240 → K i = K0 i ∧ L i = L0 i) ∧ ∀ r : Nat, D r → rp_C (K (240 + r)) (L (240 + r)) (F (r : Int))
theorem sd_D0 {K L : Nat → Int32} {F : Int → Option Int} (h : ∀ i, K i = 0 ∨ K i = 1) : sd_D K L K L (fun x => x < 0) F := ⟨h, fun _ _ => ⟨rfl, rfl⟩, fun r hr => absurd hr (by omega)⟩
theorem sd_Dm {K0 L0 K L : Nat → Int32} {D D' : Nat → Prop} {F : Int → Option Int} (h : sd_D K0 L0 K L D F) (k : ∀ r, D' r → D r) : sd_D K0 L0 K L D' F := ⟨h.1, h.2.1, fun r hr => h.2.2 r (k r hr)⟩
theorem sd_Dp {K0 L0 K L : Nat → Int32} {D D' : Nat → Prop} {F : Int → Option Int} {r : Nat} {k l : Int32} (h : sd_D K0 L0 K L D F) (hk : k = 0 ∨ k = 1) (hc : rp_C k l (F (r : Int))) (hD : ∀ x, D' x → D x ∨ x = r) : sd_D K0 L0 (upd K (240 + r) k) (upd L (240 + r) l) D' F := by
  refine ⟨fun i => ?_, fun i hi => ?_, fun x hx => ?_⟩
  · by_cases z : i = 240 + r
    · rw [z, zi_us]; exact hk
    · rw [zi_un z]; exact h.1 i
  · rw [zi_un (by omega), zi_un (by omega)]; exact h.2.1 i hi
  · by_cases z : x = r
    · subst z; rw [zi_us, zi_us]; exact hc
    · rw [zi_un (by omega), zi_un (by omega)]
      rcases hD x hx with q | q
      · exact h.2.2 x q
      · exact absurd q z
theorem sd_ls {j : Nat} : ∀ x, x < j + 1 → x < j ∨ x = j := fun x hx => by omega
/-- the stack is as it was -/
def sd_F (c : Nat) (K L S K' L' S' : Nat → Int32) : Prop := (∀ i, K' i = 0 ∨ K' i = 1) ∧ ∀ e, e < 4 → ∀ F s, rp_R c K L S e F s → rp_R c K' L' S' e F s
/-- slot e holds F with step s, the others are as they were -/
def sd_U (c : Nat) (K L S K' L' S' : Nat → Int32) (e : Nat) (G : Int → Option Int) (g : Int) : Prop := (∀ i, K' i = 0 ∨ K' i = 1) ∧ rp_R c K' L' S' e G g ∧ ∀ e', e' < 4 → e' ≠ e → ∀ F s, rp_R c K L S e' F s → rp_R c K' L' S' e' F s
theorem sd_DF {c : Nat} {K0 L0 K L S S' : Nat → Int32} {D : Nat → Prop} {F : Int → Option Int} (hc : c ≤ 60) (h : sd_D K0 L0 K L D F) (hS : ∀ i, i ≠ 4 → S' i = S i) : sd_F c K0 L0 S K L S' := by
  refine ⟨h.1, fun e he G g hR => ⟨?_, fun r hr => ?_⟩⟩
  · rw [hS e (by omega)]; exact hR.1
  · obtain ⟨a, b⟩ := h.2.1 (e * 60 + r) (by omega)
    rw [a, b]; exact hR.2 r hr
theorem sd_FU {c : Nat} {K L S K1 L1 S1 K2 L2 S2 : Nat → Int32} {e : Nat} {G : Int → Option Int} {g : Int} (h : sd_F c K L S K1 L1 S1) (k : sd_U c K1 L1 S1 K2 L2 S2 e G g) : sd_U c K L S K2 L2 S2 e G g :=
  ⟨k.1, k.2.1, fun e' he hn F s hR => k.2.2 e' he hn F s (h.2 e' he F s hR)⟩
theorem sd_FF {c : Nat} {K L S K1 L1 S1 K2 L2 S2 : Nat → Int32} (h : sd_F c K L S K1 L1 S1) (k : sd_F c K1 L1 S1 K2 L2 S2) : sd_F c K L S K2 L2 S2 :=
  ⟨k.1, fun e' he F s hR => k.2 e' he F s (h.2 e' he F s hR)⟩
theorem sd_Fr {c : Nat} {K L S : Nat → Int32} (h : ∀ i, K i = 0 ∨ K i = 1) : sd_F c K L S K L S := ⟨h, fun _ _ _ _ k => k⟩
/-- the step that a result gets -/
def sd_g (c : Nat) (F : Int → Option Int) (s g : Int) : Prop := ((∀ r : Nat, r < c → F (r : Int) = none) → g = 0) ∧ ((∃ r : Nat, r < c ∧ F (r : Int) ≠ none) → g = s)
theorem sd_ge (c : Nat) (F : Int → Option Int) (s : Int) : ∃ g, sd_g c F s g := by
  by_cases h : ∃ r : Nat, r < c ∧ F (r : Int) ≠ none
  · exact ⟨s, fun k => by obtain ⟨r, a, b⟩ := h; exact absurd (k r a) b, fun _ => rfl⟩
  · exact ⟨0, fun _ => rfl, fun k => absurd k h⟩
section
variable {sz sc ls : Int32} {c : Nat} {L K S ch li le : Nat → Int32}
theorem xw_put {post : SX → Prop} {r : Nat} {D D' : Nat → Prop} {K0 L0 : Nat → Int32} {F : Int → Option Int} (hr : r < 60) (hD : sd_D K0 L0 K L D F) (hn : ∀ v, F (r : Int) = some v → -2147483648 ≤ v ∧ v < 1000000000) (hD' : ∀ x, D' x → D x ∨ x = r) (h : ∀ K' L', sd_D K0 L0 K' L' D' F → post ((nI c), sz, sc, ls, L', K', S, ch, li, le)) : wpX_put post ((nI c), sz, sc, ls, L, K, S, ch, li, le) (nI r) (mx_enc (F (r : Int))) := by
  unfold wpX_put
  refine nm_r (zi_240 r) ?_
  cases f : F (r : Int) with
  | none =>
    refine br_t rfl ?_
    unfold wX_put_22
    rw [zi_clN (by omega)]
    refine ⟨zi_inN (by omega) (by omega), nm_r (e' := upd K (240 + r) 0) (by rw [zi_vb (.inl rfl)]) (br_t rfl ⟨zi_inN (by omega) (by omega), nm_e (h _ _ ?_)⟩)⟩
    exact sd_Dp hD (.inl rfl) (by rw [f]; rfl) hD'
  | some v =>
    have vb := hn v f
    have nN : ¬ mx_enc (some v) = 1000000000 := zi_nN vb.1 vb.2
    refine br_f nN ?_
    unfold wX_put_22
    rw [zi_clN (by omega)]
    refine ⟨zi_inN (by omega) (by omega), nm_r (e' := upd K (240 + r) 1) (by rw [zi_vb (.inr rfl)]) (br_f nN ⟨zi_inN (by omega) (by omega), nm_e (h _ _ ?_)⟩)⟩
    exact sd_Dp hD (.inr rfl) (by rw [f]; exact ⟨rfl, rfl⟩) hD'
theorem xw_putv {post : SX → Prop} {r : Nat} {D D' : Nat → Prop} {K0 L0 : Nat → Int32} {F : Int → Option Int} {x : Int32} (hr : r < 60) (hD : sd_D K0 L0 K L D F) (hx : x = mx_enc (F (r : Int))) (hn : ∀ v, F (r : Int) = some v → -2147483648 ≤ v ∧ v < 1000000000) (hD' : ∀ x, D' x → D x ∨ x = r) (h : ∀ K' L', sd_D K0 L0 K' L' D' F → post ((nI c), sz, sc, ls, L', K', S, ch, li, le)) : wpX_put post ((nI c), sz, sc, ls, L, K, S, ch, li, le) (nI r) x := by
  subst hx
  exact xw_put hr hD hn hD' h
theorem xw_settleL {post : SX → Prop} {F : Int → Option Int} {s : Int} {S0 : Nat → Int32} (c60 : c ≤ 60) (hC : ∀ r : Nat, r < c → rp_C (K (240 + r)) (L (240 + r)) (F (r : Int))) (h : ∀ S' : Nat → Int32, ((∀ r : Nat, r < c → F (r : Int) = none) → S' 4 = zi_I 0) → ((∃ r : Nat, r < c ∧ F (r : Int) ≠ none) → S' 4 = zi_I s) → (∀ i, i ≠ 4 → S' i = S0 i) → post ((nI c), sz, sc, ls, L, K, S', ch, li, le)) : ∀ (d j : Nat) (S' : Nat → Int32), j + d = c → ((∀ r : Nat, r < j → F (r : Int) = none) → S' 4 = zi_I 0) → ((∃ r : Nat, r < j ∧ F (r : Int) ≠ none) → S' 4 = zi_I s) → (∀ i, i ≠ 4 → S' i = S0 i) → ∀ n, d < n → wX_settle_9 post (zi_I s) (nI c) sz sc ls n (nI j) L K S' ch li le := by
  intro d
  induction d with
  | zero =>
    intro j S' hj h0 h1 h2 n hn
    obtain ⟨m, rfl⟩ : ∃ m, n = m + 1 := ⟨n - 1, by omega⟩
    have : j = c := by omega
    subst this
    exact br_t (nI_le (by omega) (by omega)) (h S' h0 h1 h2)
  | succ d ih =>
    intro j S' hj h0 h1 h2 n hn
    obtain ⟨m, rfl⟩ : ∃ m, n = m + 1 := ⟨n - 1, by omega⟩
    refine br_f (nI_ge (by omega) (by omega)) ?_
    rw [zi_240, zi_clN (by omega)]
    refine ⟨zi_inN (by omega) (by omega), ?_⟩
    have hc := hC j (by omega)
    cases f : F (j : Int) with
    | none =>
      refine br_t (rp_Cn hc f) (nm_r (nI_1 j) (ih (j + 1) S' (by omega) (fun k => h0 fun r hr => k r (by omega)) (fun ⟨r, hr, k⟩ => h1 ⟨r, ?_, k⟩) h2 m (by omega)))
      by_cases z : r = j
      · subst z; exact absurd f k
      · omega
    | some v =>
      refine br_f (rp_1 (rp_Cs hc f).1) (nm_e (nm_r (nI_1 j) (ih (j + 1) _ (by omega) (fun k => ?_) (fun _ => zi_us) (fun i hi => ?_) m (by omega))))
      · have := k j (by omega)
        rw [f] at this; cases this
      · rw [zi_un hi]; exact h2 i hi
theorem xw_settle {post : SX → Prop} {F : Int → Option Int} {s g : Int} {K0 L0 : Nat → Int32} {D : Nat → Prop} (c60 : c ≤ 60) (hD : sd_D K0 L0 K L D F) (hc : ∀ r, r < c → D r) (hg : sd_g c F s g) (h : ∀ S' : Nat → Int32, rp_R c K L S' 4 F g → sd_F c K0 L0 S K L S' → (∀ i, i ≠ 4 → S' i = S i) → post ((nI c), sz, sc, ls, L, K, S', ch, li, le)) {x : Int32} (hx : x = zi_I s) : wpX_settle post ((nI c), sz, sc, ls, L, K, S, ch, li, le) x := by
  subst hx
  unfold wpX_settle
  refine nm_e ⟨c + 1, xw_settleL (F := F) (S0 := S) c60 (fun r hr => hD.2.2 r (hc r hr)) (fun S' a b e => ?_) c 0 _ (by omega) (fun _ => ?_) (fun ⟨r, hr, _⟩ => by omega) (fun i hi => zi_un hi) (c + 1) (by omega)⟩
  · refine h S' ⟨?_, fun r hr => hD.2.2 r (hc r hr)⟩ (sd_DF c60 hD e) e
    by_cases z : ∃ r : Nat, r < c ∧ F (r : Int) ≠ none
    · rw [hg.2 z, b z]
    · have w : ∀ r : Nat, r < c → F (r : Int) = none := fun r hr => by
        cases f : F (r : Int) with
        | none => rfl
        | some v => exact absurd ⟨r, hr, by rw [f]; intro q; cases q⟩ z
      rw [hg.1 w, a w]
  · exact zi_us
theorem xw_copyL {post : SX → Prop} {a b : Nat} {K0 L0 : Nat → Int32} (c60 : c ≤ 60) (ha : a < 5) (hb : b < 5) (hab : a ≠ b) (h01 : ∀ i, K0 i = 0 ∨ K0 i = 1) (h : ∀ K' L' : Nat → Int32, (∀ i, (i < b * 60 ∨ b * 60 + 60 ≤ i) → K' i = K0 i ∧ L' i = L0 i) → (∀ i, K' i = 0 ∨ K' i = 1) → (∀ r : Nat, r < c → K' (b * 60 + r) = K0 (a * 60 + r) ∧ L' (b * 60 + r) = L0 (a * 60 + r)) → post ((nI c), sz, sc, ls, L', K', (upd S b (S a)), ch, li, le)) : ∀ (d j : Nat) (K L : Nat → Int32), j + d = c → (∀ i, (i < b * 60 ∨ b * 60 + 60 ≤ i) → K i = K0 i ∧ L i = L0 i) → (∀ i, K i = 0 ∨ K i = 1) → (∀ r : Nat, r < j → K (b * 60 + r) = K0 (a * 60 + r) ∧ L (b * 60 + r) = L0 (a * 60 + r)) → ∀ n, d < n → wX_copySlot_2 post (nI a) (nI b) (nI c) sz sc ls n (nI j) L K S ch li le := by
  intro d
  induction d with
  | zero =>
    intro j K L hj h1 h2 h3 n hn
    obtain ⟨m, rfl⟩ : ∃ m, n = m + 1 := ⟨n - 1, by omega⟩
    have : j = c := by omega
    subst this
    exact br_t (nI_le (by omega) (by omega)) ⟨zi_inN ha (by omega), zi_inN hb (by omega), nm_r (by rw [zi_clN (by omega), zi_clN (by omega)]) (h K L h1 h2 h3)⟩
  | succ d ih =>
    intro j K L hj h1 h2 h3 n hn
    obtain ⟨m, rfl⟩ : ∃ m, n = m + 1 := ⟨n - 1, by omega⟩
    refine br_f (nI_ge (by omega) (by omega)) ?_
    rw [zi_ix, zi_ix, zi_clN (by omega), zi_clN (by omega)]
    have ia : vp_in (nI (a * 60 + j)) 300 := zi_inN (by omega) (by omega)
    have ib : vp_in (nI (b * 60 + j)) 300 := zi_inN (by omega) (by omega)
    refine ⟨ia, ib, nm_e ⟨ia, ib, nm_r (e' := upd K (b * 60 + j) (K (a * 60 + j))) (by rw [zi_vb (h2 _)]) (nm_r (nI_1 j) (ih (j + 1) _ _ (by omega) (fun i hi => ?_) (fun i => ?_) (fun r hr => ?_) m (by omega)))⟩⟩
    · rw [zi_un (by omega), zi_un (by omega)]; exact h1 i hi
    · by_cases z : i = b * 60 + j
      · rw [z, zi_us]; exact h2 _
      · rw [zi_un z]; exact h2 i
    · by_cases z : r = j
      · subst z; rw [zi_us, zi_us]; exact h1 _ (by omega)
      · rw [zi_un (by omega), zi_un (by omega)]; exact h3 r (by omega)
theorem xw_copy {post : SX → Prop} {a b : Nat} {F : Int → Option Int} {s : Int} (c60 : c ≤ 60) (ha : a < 5) (hb : b < 5) (hab : a ≠ b) (h01 : ∀ i, K i = 0 ∨ K i = 1) (hR : rp_R c K L S a F s) (h : ∀ K' L' S' : Nat → Int32, sd_U c K L S K' L' S' b F s → (b = 4 → sd_F c K L S K' L' S') → post ((nI c), sz, sc, ls, L', K', S', ch, li, le)) : wpX_copySlot post ((nI c), sz, sc, ls, L, K, S, ch, li, le) (nI a) (nI b) := by
  unfold wpX_copySlot
  refine ⟨c + 1, xw_copyL (K0 := K) (L0 := L) c60 ha hb hab h01 (fun K' L' h1 h2 h3 => ?_) c 0 K L (by omega) (fun _ _ => ⟨rfl, rfl⟩) h01 (fun r hr => by omega) (c + 1) (by omega)⟩
  have key : ∀ e', e' < 5 → e' ≠ b → ∀ F s, rp_R c K L S e' F s → rp_R c K' L' (upd S b (S a)) e' F s := fun e' he' hne G g hG => by
    refine ⟨by rw [zi_un hne]; exact hG.1, fun r hr => ?_⟩
    obtain ⟨p, q⟩ := h1 (e' * 60 + r) (by omega)
    rw [p, q]; exact hG.2 r hr
  refine h K' L' _ ⟨h2, ⟨by rw [zi_us]; exact hR.1, fun r hr => ?_⟩, fun e' he' hne => key e' (by omega) hne⟩ (fun hb4 => ⟨h2, fun e' he' => key e' (by omega) (by omega)⟩)
  obtain ⟨p, q⟩ := h3 r hr
  rw [p, q]; exact hR.2 r hr
end
section
variable {dp : Int32} {c : Nat} {L K S wk : Nat → Int32}
theorem yw_set {post : SY → Prop} {r : Nat} {D D' : Nat → Prop} {K0 L0 : Nat → Int32} {F : Int → Option Int} {k l : Int32} (hr : r < 60) (hD : sd_D K0 L0 K L D F) (hk : k = 0 ∨ k = 1) (hC : rp_C k l (F (r : Int))) (hD' : ∀ x, D' x → D x ∨ x = r) (h : ∀ K' L', sd_D K0 L0 K' L' D' F → post ((nI c), dp, K', L', S, wk)) : wpY_set post ((nI c), dp, K, L, S, wk) (nI r) k l := by
  unfold wpY_set
  dsimp only
  rw [zi_240, zi_clN (by omega), zi_vb hk]
  exact ⟨zi_inN (by omega) (by omega), nm_e ⟨zi_inN (by omega) (by omega), nm_e (h _ _ (sd_Dp hD hk hC hD'))⟩⟩
theorem yw_storeL {post : Int32 → SY → Prop} {e : Nat} {K0 L0 S0 : Nat → Int32} {F : Int → Option Int} {s : Int} (c60 : c ≤ 60) (he : e < 4) (hC : ∀ r : Nat, r < c → rp_C (K0 (240 + r)) (L0 (240 + r)) (F (r : Int))) (h : ∀ K' L' S' : Nat → Int32, (∀ i, (i < e * 60 ∨ e * 60 + 60 ≤ i) → K' i = K0 i ∧ L' i = L0 i) → (∀ i, K' i = 0 ∨ K' i = 1) → (∀ r : Nat, r < c → K' (e * 60 + r) = K0 (240 + r) ∧ L' (e * 60 + r) = L0 (240 + r)) → ((∀ r : Nat, r < c → F (r : Int) = none) → S' e = zi_I 0) → ((∃ r : Nat, r < c ∧ F (r : Int) ≠ none) → S' e = zi_I s) → (∀ i, i ≠ e → S' i = S0 i) → post 0 ((nI c), (nI (e + 1)), K', L', S', wk)) : ∀ (d j : Nat) (K L S : Nat → Int32), j + d = c → (∀ i, (i < e * 60 ∨ e * 60 + 60 ≤ i) → K i = K0 i ∧ L i = L0 i) → (∀ i, K i = 0 ∨ K i = 1) → (∀ r : Nat, r < j → K (e * 60 + r) = K0 (240 + r) ∧ L (e * 60 + r) = L0 (240 + r)) → ((∀ r : Nat, r < j → F (r : Int) = none) → S e = zi_I 0) → ((∃ r : Nat, r < j ∧ F (r : Int) ≠ none) → S e = zi_I s) → (∀ i, i ≠ e → S i = S0 i) → ∀ n, d < n → wY_store_9 post (nI e) (zi_I s) (nI c) dp n (nI j) K L S wk := by
  intro d
  induction d with
  | zero =>
    intro j K L S hj h1 h2 h3 h4 h5 h6 n hn
    obtain ⟨m, rfl⟩ : ∃ m, n = m + 1 := ⟨n - 1, by omega⟩
    have : j = c := by omega
    subst this
    exact br_t (nI_le (by omega) (by omega)) (nm_r (nI_1 e) (h K L S h1 h2 h3 h4 h5 h6))
  | succ d ih =>
    intro j K L S hj h1 h2 h3 h4 h5 h6 n hn
    obtain ⟨m, rfl⟩ : ∃ m, n = m + 1 := ⟨n - 1, by omega⟩
    refine br_f (nI_ge (by omega) (by omega)) ?_
    rw [zi_240, zi_ix, zi_clN (by omega), zi_clN (by omega)]
    have ia : vp_in (nI (240 + j)) 300 := zi_inN (by omega) (by omega)
    have ib : vp_in (nI (e * 60 + j)) 300 := zi_inN (by omega) (by omega)
    have k1 : ∀ i, (i < e * 60 ∨ e * 60 + 60 ≤ i) → upd K (e * 60 + j) (K (240 + j)) i = K0 i ∧ upd L (e * 60 + j) (L (240 + j)) i = L0 i := fun i hi => by
      rw [zi_un (by omega), zi_un (by omega)]; exact h1 i hi
    have k2 : ∀ i, upd K (e * 60 + j) (K (240 + j)) i = 0 ∨ upd K (e * 60 + j) (K (240 + j)) i = 1 := fun i => by
      by_cases z : i = e * 60 + j
      · rw [z, zi_us]; exact h2 _
      · rw [zi_un z]; exact h2 i
    have k3 : ∀ r : Nat, r < j + 1 → upd K (e * 60 + j) (K (240 + j)) (e * 60 + r) = K0 (240 + r) ∧ upd L (e * 60 + j) (L (240 + j)) (e * 60 + r) = L0 (240 + r) := fun r hr => by
      by_cases z : r = j
      · subst z; rw [zi_us, zi_us]; exact h1 _ (by omega)
      · rw [zi_un (by omega), zi_un (by omega)]; exact h3 r (by omega)
    have hc := hC j (by omega)
    rw [← (h1 (240 + j) (by omega)).1, ← (h1 (240 + j) (by omega)).2] at hc
    refine ⟨ia, ib, nm_r (e' := upd K (e * 60 + j) (K (240 + j))) (by rw [zi_vb (h2 _)]) ⟨ia, ib, nm_e ⟨ia, ?_⟩⟩⟩
    rw [zi_un (by omega)]
    cases f : F (j : Int) with
    | none =>
      refine br_t (rp_Cn hc f) (nm_r (nI_1 j) (ih (j + 1) _ _ S (by omega) k1 k2 k3 (fun k => h4 fun r hr => k r (by omega)) (fun ⟨r, hr, k⟩ => h5 ⟨r, ?_, k⟩) h6 m (by omega)))
      by_cases z : r = j
      · subst z; exact absurd f k
      · omega
    | some v =>
      refine br_f (rp_1 (rp_Cs hc f).1) ⟨zi_inN (by omega) (by omega), nm_r (e' := upd S e (zi_I s)) (by rw [zi_clN (by omega)]) (nm_r (nI_1 j) (ih (j + 1) _ _ _ (by omega) k1 k2 k3 (fun k => ?_) (fun _ => zi_us) (fun i hi => ?_) m (by omega)))⟩
      · have := k j (by omega)
        rw [f] at this; cases this
      · rw [zi_un hi]; exact h6 i hi
theorem yw_store {post : Int32 → SY → Prop} {e : Nat} {K0 L0 S0 : Nat → Int32} {D : Nat → Prop} {F : Int → Option Int} {s g : Int} (c60 : c ≤ 60) (he : e < 4) (hD : sd_D K0 L0 K L D F) (hc : ∀ r, r < c → D r) (hS : ∀ i, i ≠ 4 → S i = S0 i) (hg : sd_g c F s g) (h : ∀ K' L' S' : Nat → Int32, sd_U c K0 L0 S0 K' L' S' e F g → post 0 ((nI c), (nI (e + 1)), K', L', S', wk)) {x : Int32} (hx : x = zi_I s) : wpY_store post ((nI c), dp, K, L, S, wk) (nI e) x := by
  subst hx
  unfold wpY_store
  dsimp only
  rw [zi_clN (by omega)]
  refine ⟨zi_inN (by omega) (by omega), nm_e ⟨c + 1, yw_storeL (K0 := K) (L0 := L) (S0 := S) (F := F) c60 he (fun r hr => hD.2.2 r (hc r hr)) (fun K' L' S' h1 h2 h3 h4 h5 h6 => ?_) c 0 K L _ (by omega) (fun _ _ => ⟨rfl, rfl⟩) hD.1 (fun r hr => by omega) (fun _ => zi_us) (fun ⟨r, hr, _⟩ => by omega) (fun i hi => zi_un hi) (c + 1) (by omega)⟩⟩
  refine h K' L' S' (sd_FU (sd_DF c60 hD hS) ⟨h2, ⟨?_, fun r hr => ?_⟩, fun e' he' hne G w hG => ⟨by rw [h6 e' hne]; exact hG.1, fun r hr => ?_⟩⟩)
  · by_cases z : ∃ r : Nat, r < c ∧ F (r : Int) ≠ none
    · rw [hg.2 z, h5 z]
    · have w : ∀ r : Nat, r < c → F (r : Int) = none := fun r hr => by
        cases f : F (r : Int) with
        | none => rfl
        | some v => exact absurd ⟨r, hr, by rw [f]; intro q; cases q⟩ z
      rw [hg.1 w, h4 w]
  · obtain ⟨p, q⟩ := h3 r hr
    rw [p, q]; exact hD.2.2 r (hc r hr)
  · obtain ⟨p, q⟩ := h1 (e' * 60 + r) (by omega)
    rw [p, q]; exact hG.2 r hr
end
end
section
/-! the relation -/
def rl_A (c n : Nat) (K L S Ky Ly Sy : Nat → Int32) : Prop := (1 ≤ c ∧ c ≤ 60) ∧ n ≤ 4 ∧ (∀ i, K i = 0 ∨ K i = 1) ∧ (∀ i, Ky i = 0 ∨ Ky i = 1) ∧ ∀ e, e < n → ∃ F s, mx_G c s F ∧ rp_R c K L S e F s ∧ rp_R c Ky Ly Sy e F s
/-- the relation at the head of a turn: the same cycle and depth, and each slot of the stack means the same granularity on both sides -/
def i_Rel (k : Nat) (u : SX) (v : SY) : Prop := match u, v with
  | (cy, sz, _, _, L, K, S, _, _, _), (cy', dp, Ky, Ly, Sy, _) => ∃ c n : Nat, cy = nI c ∧ sz = nI n ∧ cy' = nI c ∧ dp = nI n ∧ rl_A c n K L S Ky Ly Sy
theorem i_up {k : Nat} {u : SX} {v : SY} (h : i_Rel k u v) : i_Rel (k + 4) u v := h
theorem rl_mk {k c n : Nat} {sc ls : Int32} {K L S ch li le Ky Ly Sy wk : Nat → Int32} (h : rl_A c n K L S Ky Ly Sy) : i_Rel k ((nI c), (nI n), sc, ls, L, K, S, ch, li, le) ((nI c), (nI n), Ky, Ly, Sy, wk) := ⟨c, n, rfl, rfl, rfl, rfl, h⟩
theorem rl_el {P : SX → SY → Prop} {k : Nat} {u : SX} {v : SY} (I : i_Rel k u v) (h : ∀ (c n : Nat) (sc ls : Int32) (K L S ch li le Ky Ly Sy wk : Nat → Int32), rl_A c n K L S Ky Ly Sy → P ((nI c), (nI n), sc, ls, L, K, S, ch, li, le) ((nI c), (nI n), Ky, Ly, Sy, wk)) : P u v := by
  obtain ⟨cy, sz, sc, ls, L, K, S, ch, li, le⟩ := u
  obtain ⟨cy', dp, Ky, Ly, Sy, wk⟩ := v
  obtain ⟨c, n, rfl, rfl, rfl, rfl, hA⟩ := I
  exact h c n sc ls K L S ch li le Ky Ly Sy wk hA
theorem rl_store {c n n' e : Nat} {K L S Ky Ly Sy K1 L1 S1 K2 L2 S2 : Nat → Int32} {F : Int → Option Int} {g : Int} (hA : rl_A c n K L S Ky Ly Sy) (hU : sd_U c K L S K1 L1 S1 e F g) (hV : sd_U c Ky Ly Sy K2 L2 S2 e F g) (hG : mx_G c g F) (hn : n' ≤ 4) (hs : ∀ e', e' < n' → e' ≠ e → e' < n) : rl_A c n' K1 L1 S1 K2 L2 S2 := by
  obtain ⟨hc, hn4, -, -, he⟩ := hA
  refine ⟨hc, hn, hU.1, hV.1, fun e' he' => ?_⟩
  by_cases z : e' = e
  · subst z; exact ⟨F, g, hG, hU.2.1, hV.2.1⟩
  · obtain ⟨F', s', a, b, d⟩ := he e' (hs e' he' z)
    exact ⟨F', s', a, hU.2.2 e' (by omega) z F' s' b, hV.2.2 e' (by omega) z F' s' d⟩
theorem rl_fail {c n : Nat} {K L S Ky Ly Sy K1 L1 S1 K2 L2 S2 : Nat → Int32} (hA : rl_A c n K L S Ky Ly Sy) (hU : sd_F c K L S K1 L1 S1) (hV : sd_F c Ky Ly Sy K2 L2 S2) : rl_A c n K1 L1 S1 K2 L2 S2 := by
  obtain ⟨hc, hn4, -, -, he⟩ := hA
  refine ⟨hc, hn4, hU.1, hV.1, fun e' he' => ?_⟩
  obtain ⟨F', s', a, b, d⟩ := he e' he'
  exact ⟨F', s', a, hU.2 e' (by omega) F' s' b, hV.2 e' (by omega) F' s' d⟩
theorem rl_less {c n n' : Nat} {K L S Ky Ly Sy : Nat → Int32} (hA : rl_A c n K L S Ky Ly Sy) (h : n' ≤ n) : rl_A c n' K L S Ky Ly Sy :=
  ⟨hA.1, Nat.le_trans h hA.2.1, hA.2.2.1, hA.2.2.2.1, fun e he => hA.2.2.2.2 e (by omega)⟩
/-! results -/
theorem mg_all {c : Nat} {F : Int → Option Int} {s : Int} (hc : 1 ≤ c) (hp : mx_per c s F) (h : ∀ r : Nat, r < c → F (r : Int) = none) (t : Int) : F t = none := by
  have m0 := Int.emod_nonneg t (b := (c : Int)) (by omega)
  have m1 := Int.emod_lt_of_pos t (b := (c : Int)) (by omega)
  refine mx_atn hp (r := t % (c : Int)) ?_ rfl
  have := h (t % (c : Int)).toNat (by omega)
  rw [Int.toNat_of_nonneg m0] at this
  exact this
theorem mg_cs {c : Nat} {F : Int → Option Int} {s g : Int} (hc : 1 ≤ c) (hp : mx_per c s F) (hg : sd_g c F s g) : (g = 0 ∧ ∀ t, F t = none) ∨ (g = s ∧ ∃ t, F t ≠ none) := by
  by_cases z : ∃ r : Nat, r < c ∧ F (r : Int) ≠ none
  · right
    obtain ⟨r, -, k⟩ := id z
    exact ⟨hg.2 z, r, k⟩
  · left
    have w : ∀ r : Nat, r < c → F (r : Int) = none := fun r hr => by
      cases f : F (r : Int) with
      | none => rfl
      | some v => exact absurd ⟨r, hr, by rw [f]; intro q; cases q⟩ z
    exact ⟨hg.1 w, mg_all hc hp w⟩
theorem mg_per {c : Nat} {F : Int → Option Int} {s g : Int} (hc : 1 ≤ c) (hp : mx_per c s F) (hg : sd_g c F s g) : mx_per c g F := by
  rcases mg_cs hc hp hg with ⟨-, h⟩ | ⟨h, -⟩
  · intro t; rw [h, h]; rfl
  · rw [h]; exact hp
theorem mg_of {c : Nat} {F : Int → Option Int} {s g : Int} (hc : 1 ≤ c ∧ c ≤ 60) (hp : mx_per c s F) (hs : 0 ≤ s ∧ s ≤ c) (hb : ∀ r : Nat, r < c → ∀ v, F (r : Int) = some v → -9999 ≤ v ∧ v ≤ 9999) (hm : mx_M F) (hz : s = 0 → ∀ t, F t = none) (hg : sd_g c F s g) : mx_G c g F := by
  have hb' : ∀ t v, 0 ≤ t → t < (c : Int) → F t = some v → -9999 ≤ v ∧ v ≤ 9999 := fun t v h0 h1 k => by
    refine hb t.toNat (by omega) v ?_
    rw [Int.toNat_of_nonneg h0]; exact k
  have hq := mg_per hc.1 hp hg
  rcases mg_cs hc.1 hp hg with ⟨h, k⟩ | ⟨h, t, k⟩
  · exact ⟨⟨by omega, by omega, hq, hb'⟩, hm, fun _ => k, fun _ => h⟩
  · subst h
    exact ⟨⟨by omega, hs, hq, hb'⟩, hm, hz, fun w => absurd (w t) k⟩
/-! the constructor, depth, drop -/
theorem i_vc0 (k0 : Int32) : wpX_init (fun u => wpY_init (fun v => i_Rel 1 u v) k0) k0 := by
  have z : ∀ c : Nat, 1 ≤ c ∧ c ≤ 60 → rl_A c 0 (fun _ => 0) (fun _ => 0) (fun _ => 0) (fun _ => 0) (fun _ => 0) (fun _ => 0) := fun c hc => ⟨hc, by omega, fun _ => .inl rfl, fun _ => .inl rfl, fun e he => by omega⟩
  by_cases h1 : (1 : Int32) ≤ k0
  · refine br_t h1 ?_
    unfold wX_init_68
    by_cases h60 : k0 ≤ 60
    · refine br_t h60 (br_t h1 (br_t h60 ?_))
      have a : (1 : Int32).toInt = 1 := by decide
      have b : (60 : Int32).toInt = 60 := by decide
      rw [Int32.le_iff_toInt_le] at h1 h60
      have e : k0 = nI k0.toInt.toNat := by rw [← zi_nat (by omega)]; exact zi_w k0
      exact ⟨k0.toInt.toNat, 0, e, rfl, e, rfl, z _ (by omega)⟩
    · exact br_f h60 (br_t h1 (br_f h60 ⟨60, 0, rfl, rfl, rfl, rfl, z _ (by omega)⟩))
  · refine br_f h1 ?_
    unfold wX_init_68
    exact br_t (by decide) (br_f h1 ⟨1, 0, rfl, rfl, rfl, rfl, z _ (by omega)⟩)
theorem i_vc_depth {k : Nat} {u : SX} {v : SY} (I : i_Rel k u v) (hk : k + 4 ≤ 2049) : wpX_depth (fun r => wpY_depth (fun r' => r' = r ∧ i_Rel (k + 4) u v) v) u := by
  refine rl_el (P := fun u v => wpX_depth (fun r => wpY_depth (fun r' => r' = r ∧ i_Rel (k + 4) u v) v) u) I ?_
  intro c n sc ls K L S ch li le Ky Ly Sy wk hA
  exact ⟨rfl, rl_mk hA⟩
theorem i_vc_drop {k : Nat} {u : SX} {v : SY} (I : i_Rel k u v) (hk : k + 4 ≤ 2049) : wpX_drop (fun r u' => wpY_drop (fun r' v' => r' = r ∧ i_Rel (k + 4) u' v') v) u := by
  refine rl_el (P := fun u v => wpX_drop (fun r u' => wpY_drop (fun r' v' => r' = r ∧ i_Rel (k + 4) u' v') v) u) I ?_
  intro c n sc ls K L S ch li le Ky Ly Sy wk hA
  have n4 := hA.2.1
  by_cases h : 1 ≤ n
  · have h1 : (1 : Int32) ≤ nI n := nI_le (a := 1) h (by omega)
    have e : nI n - 1 = nI (n - 1) := zi_nsub (b := 1) h
    exact br_t h1 (nm_r e (br_t h1 (nm_r e ⟨rfl, rl_mk (rl_less hA (by omega))⟩)))
  · have h1 : ¬ (1 : Int32) ≤ nI n := nI_ge (b := 1) (by omega) (by omega)
    exact br_f h1 (br_f h1 ⟨rfl, rl_mk hA⟩)
end
section
/-! base, copy, group, shift: one cell after another into the scratch slot -/
theorem mg_self {c : Nat} {F : Int → Option Int} {s : Int} (hG : mx_G c s F) : sd_g c F s s := by
  refine ⟨fun k => hG.2.2.mpr (mg_all (by have := hG.1.1; omega) hG.1.2.2.1 k), fun _ => rfl⟩
theorem mg_r {c : Nat} {F : Int → Option Int} {s : Int} (hP : mx_P c s F) {r : Nat} (hr : r < c) {v : Int} (e : F (r : Int) = some v) : -9999 ≤ v ∧ v ≤ 9999 := hP.2.2.2 r v (by omega) (by omega) e
section
variable {sz sc ls : Int32} {c : Nat} {S ch li le K0 L0 : Nat → Int32}
theorem xw_inRangeL {K L : Nat → Int32} {post : Int32 → Prop} {e : Nat} {F : Int → Option Int} {s : Int} (hR : rp_R c K L S e F s) (hc : 1 ≤ c ∧ c ≤ 60) (hp : mx_per c s F) (he : e < 5) (hb : ∀ r : Nat, r < c → ∀ v, F (r : Int) = some v → -2147483648 ≤ v ∧ v < 1000000000) (h : post (mx_b (∀ r : Nat, r < c → ∀ v, F (r : Int) = some v → -9999 ≤ v ∧ v ≤ 9999))) : ∀ (d j : Nat), j + d = c → (∀ r : Nat, r < j → ∀ v, F (r : Int) = some v → -9999 ≤ v ∧ v ≤ 9999) → ∀ n, d < n → wX_inRange_2 post (nI e) (nI c) sz sc ls L K S ch li le n (nI j) := by
  intro d
  induction d with
  | zero =>
    intro j hj k n hn
    obtain ⟨m, rfl⟩ : ∃ m, n = m + 1 := ⟨n - 1, by omega⟩
    have : j = c := by omega
    subst this
    rw [mx_bt k] at h
    exact br_t (nI_le (by omega) (by omega)) h
  | succ d ih =>
    intro j hj k n hn
    obtain ⟨m, rfl⟩ : ∃ m, n = m + 1 := ⟨n - 1, by omega⟩
    refine br_f (nI_ge (by omega) (by omega)) ?_
    rw [zi_n j]
    refine xw_labelQ hR hc hp he (by omega) (by omega) ?_
    rw [← zi_n j]
    cases f : F (j : Int) with
    | none =>
      refine br_t rfl (nm_r (nI_1 j) (ih (j + 1) (by omega) (fun r hr v hv => ?_) m (by omega)))
      by_cases z : r = j
      · subst z; rw [f] at hv; cases hv
      · exact k r (by omega) v hv
    | some v =>
      have vb := hb j (by omega) v f
      refine br_f (zi_nN (by omega) (by omega)) (zi_blt v (-9999) (fun z => ?_) (fun z => zi_ble v 9999 (fun z' => ?_) (fun z' => ?_)))
      · rw [mx_bf] at h
        · exact h
        · intro q; have := q j (by omega) v f; omega
      · refine nm_r (nI_1 j) (ih (j + 1) (by omega) (fun r hr v' hv => ?_) m (by omega))
        by_cases w : r = j
        · subst w; rw [f] at hv; injection hv with hv; omega
        · exact k r (by omega) v' hv
      · rw [mx_bf] at h
        · exact h
        · intro q; have := q j (by omega) v f; omega
theorem xw_inRange {K L : Nat → Int32} {post : Int32 → Prop} {e : Nat} {F : Int → Option Int} {s : Int} (hR : rp_R c K L S e F s) (hc : 1 ≤ c ∧ c ≤ 60) (hp : mx_per c s F) (he : e < 5) (hb : ∀ r : Nat, r < c → ∀ v, F (r : Int) = some v → -2147483648 ≤ v ∧ v < 1000000000) (h : post (mx_b (∀ r : Nat, r < c → ∀ v, F (r : Int) = some v → -9999 ≤ v ∧ v ≤ 9999))) : wpX_inRange post ((nI c), sz, sc, ls, L, K, S, ch, li, le) (nI e) := by
  unfold wpX_inRange
  exact ⟨c + 1, xw_inRangeL hR hc hp he hb h c 0 (by omega) (fun r hr => by omega) (c + 1) (by omega)⟩
theorem xb_base {post : Int32 → SX → Prop} {e : Nat} {g : Int} (hc : 1 ≤ c ∧ c ≤ 60) (he : e < 4) (hg : sd_g c (fun t => some t) c g) (h : ∀ K' L' S' : Nat → Int32, sd_U c K0 L0 S K' L' S' e (fun t => some t) g → post 0 ((nI c), (nI (e + 1)), sc, ls, L', K', S', ch, li, le)) : ∀ (d j : Nat) (K L : Nat → Int32), j + d = c → sd_D K0 L0 K L (fun x => x < j) (fun t => some t) → ∀ n, d < n → wX_base_12 post n (nI j) (nI c) (nI e) sc ls L K S ch li le := by
  intro d
  induction d with
  | zero =>
    intro j K L hj hD n hn
    obtain ⟨m, rfl⟩ : ∃ m, n = m + 1 := ⟨n - 1, by omega⟩
    have : j = c := by omega
    subst this
    refine br_t (nI_le (by omega) (by omega)) (xw_settle hc.2 hD (fun r hr => hr) hg (fun S' hR hF _ => ?_) (zi_n _))
    refine xw_copy (a := 4) hc.2 (by omega) (by omega) (by omega) hD.1 hR (fun K' L' S'' hU _ => ?_)
    exact nm_r (nI_1 e) (h _ _ _ (sd_FU hF hU))
  | succ d ih =>
    intro j K L hj hD n hn
    obtain ⟨m, rfl⟩ : ∃ m, n = m + 1 := ⟨n - 1, by omega⟩
    refine br_f (nI_ge (by omega) (by omega)) (xw_putv (by omega) hD (zi_n j) (fun v hv => ?_) sd_ls (fun K' L' hD' => ?_))
    · injection hv with hv; omega
    · exact nm_r (nI_1 j) (ih (j + 1) _ _ (by omega) hD' m (by omega))
theorem xg_group {post : Int32 → SX → Prop} {e m : Nat} {F : Int → Option Int} {s g : Int} (hR : rp_R c K0 L0 S e F s) (hG : mx_G c s F) (he : e < 4) (hm : 1 ≤ m ∧ m ≤ 60) (hg : sd_g c (fun t => (F t).map (fun v => v / (m : Int))) (s / (m : Int)) g) (h : ∀ K' L' S' : Nat → Int32, sd_U c K0 L0 S K' L' S' e (fun t => (F t).map (fun v => v / (m : Int))) g → post 0 ((nI c), sz, sc, ls, L', K', S', ch, li, le)) : ∀ (d j : Nat) (K L : Nat → Int32), j + d = c → sd_D K0 L0 K L (fun x => x < j) (fun t => (F t).map (fun v => v / (m : Int))) → ∀ n, d < n → wX_group_47 post (nI m) (nI e) n (nI j) (nI c) sz sc ls L K S ch li le := by
  have c1 := hG.1.1.1
  have c2 := hG.1.1.2
  have s1 := hG.1.2.1.1
  have s2 := hG.1.2.1.2
  have c60 : c ≤ 60 := by omega
  intro d
  induction d with
  | zero =>
    intro j K L hj hD n hn
    obtain ⟨q, rfl⟩ : ∃ q, n = q + 1 := ⟨n - 1, by omega⟩
    have : j = c := by omega
    subst this
    refine br_t (nI_le (by omega) (by omega)) ⟨zi_inN (by omega) (by omega), nI_ne0 (by omega) (by omega), xw_settle c60 hD (fun r hr => hr) hg (fun S' hR4 hF _ => ?_) ?_⟩
    · refine xw_copy (a := 4) c60 (by omega) (by omega) (by omega) hD.1 hR4 (fun K' L' S'' hU _ => ?_)
      exact h _ _ _ (sd_FU hF hU)
    · rw [zi_clN (by omega), hR.1, zi_n m, zi_div (by omega) (by omega) (by omega) (by omega), Int.tdiv_eq_ediv_of_nonneg s1]
  | succ d ih =>
    intro j K L hj hD n hn
    obtain ⟨q, rfl⟩ : ∃ q, n = q + 1 := ⟨n - 1, by omega⟩
    have hR' : rp_R c K L S e F s := (sd_DF (S' := S) c60 hD (fun _ _ => rfl)).2 e he F s hR
    refine br_f (nI_ge (by omega) (by omega)) ?_
    have nx : ∀ K' L' : Nat → Int32, sd_D K0 L0 K' L' (fun x => x < j + 1) (fun t => (F t).map (fun v => v / (m : Int))) → wX_group_47 post (nI m) (nI e) q (nI (j + 1)) (nI c) sz sc ls L' K' S ch li le := fun K' L' hD' => ih (j + 1) _ _ (by omega) hD' q (by omega)
    rw [zi_n j]
    refine xw_label hR' hG.1 (by omega) (by omega) (by omega) ?_
    rw [← zi_n j]
    cases f : F (j : Int) with
    | none =>
      refine br_t rfl ?_
      unfold wX_group_79
      refine xw_putv (by omega) hD (by rw [f]; rfl) (fun v hv => ?_) sd_ls (fun K' L' hD' => nm_r (nI_1 j) (nx K' L' hD'))
      rw [f] at hv; cases hv
    | some v =>
      have vb := mg_r hG.1 (by omega) f
      refine br_f (zi_nN (by omega) (by omega)) ?_
      rw [zi_n m]
      refine zx_fdiv (by omega) (by omega) (by omega) (by omega) ?_
      rw [← zi_n m]
      unfold wX_group_79
      refine xw_putv (by omega) hD (by rw [f]; rfl) (fun w hw => ?_) sd_ls (fun K' L' hD' => nm_r (nI_1 j) (nx K' L' hD'))
      rw [f] at hw
      have hw : v / (m : Int) = w := by injection hw
      have a := Int.le_ediv_of_mul_le (a := -9999) (b := v) (c := (m : Int)) (by omega) (by omega)
      have b := Int.ediv_lt_of_lt_mul (a := v) (b := 10000) (c := (m : Int)) (by omega) (by omega)
      omega
/-- shift: the walk to the end of the loop -/
theorem xs_shift {post : Int32 → SX → Prop} {e : Nat} {k : Int} {F : Int → Option Int} {s g : Int} (hR : rp_R c K0 L0 S e F s) (hG : mx_G c s F) (he : e < 4) (hk : -9999 ≤ k ∧ k ≤ 9999) (hg : sd_g c (fun t => (F t).map (fun v => v + k)) s g) (hp : mx_per c g (fun t => (F t).map (fun v => v + k))) (h : (∀ r : Nat, r < c → ∀ v, (F (r : Int)).map (fun v => v + k) = some v → -9999 ≤ v ∧ v ≤ 9999) → ∀ K' L' S' : Nat → Int32, sd_U c K0 L0 S K' L' S' e (fun t => (F t).map (fun v => v + k)) g → post 0 ((nI c), sz, sc, ls, L', K', S', ch, li, le)) (h' : ¬ (∀ r : Nat, r < c → ∀ v, (F (r : Int)).map (fun v => v + k) = some v → -9999 ≤ v ∧ v ≤ 9999) → ∀ K' L' S' : Nat → Int32, sd_F c K0 L0 S K' L' S' → post 5 ((nI c), sz, sc, ls, L', K', S', ch, li, le)) : ∀ (d j : Nat) (K L : Nat → Int32), j + d = c → sd_D K0 L0 K L (fun x => x < j) (fun t => (F t).map (fun v => v + k)) → ∀ n, d < n → wX_shift_35 post (zi_I k) (nI e) n (nI j) (nI c) sz sc ls L K S ch li le := by
  have c1 := hG.1.1.1
  have c2 := hG.1.1.2
  have s1 := hG.1.2.1.1
  have s2 := hG.1.2.1.2
  have c60 : c ≤ 60 := by omega
  have bd : ∀ r : Nat, r < c → ∀ v, (F (r : Int)).map (fun v => v + k) = some v → -2147483648 ≤ v ∧ v < 1000000000 := fun r hr v hv => by
    cases f : F (r : Int) with
    | none => rw [f] at hv; cases hv
    | some w =>
      have wb := mg_r hG.1 hr f
      rw [f] at hv
      have hv : w + k = v := by injection hv
      omega
  intro d
  induction d with
  | zero =>
    intro j K L hj hD n hn
    obtain ⟨q, rfl⟩ : ∃ q, n = q + 1 := ⟨n - 1, by omega⟩
    have : j = c := by omega
    subst this
    refine br_t (nI_le (by omega) (by omega)) ⟨zi_inN (by omega) (by omega), xw_settle c60 hD (fun r hr => hr) hg (fun S' hR4 hF _ => ?_) ?_⟩
    · refine xw_inRange (e := 4) hR4 (by omega) hp (by omega) bd ?_
      refine mx_br (fun z => h' z _ _ _ hF) (fun z => ?_)
      refine xw_copy (a := 4) c60 (by omega) (by omega) (by omega) hD.1 hR4 (fun K' L' S'' hU _ => ?_)
      exact h z _ _ _ (sd_FU hF hU)
    · rw [zi_clN (by omega), hR.1]
  | succ d ih =>
    intro j K L hj hD n hn
    obtain ⟨q, rfl⟩ : ∃ q, n = q + 1 := ⟨n - 1, by omega⟩
    have hR' : rp_R c K L S e F s := (sd_DF (S' := S) c60 hD (fun _ _ => rfl)).2 e he F s hR
    refine br_f (nI_ge (by omega) (by omega)) ?_
    have nx : ∀ K' L' : Nat → Int32, sd_D K0 L0 K' L' (fun x => x < j + 1) (fun t => (F t).map (fun v => v + k)) → wX_shift_35 post (zi_I k) (nI e) q (nI (j + 1)) (nI c) sz sc ls L' K' S ch li le := fun K' L' hD' => ih (j + 1) _ _ (by omega) hD' q (by omega)
    rw [zi_n j]
    refine xw_label hR' hG.1 (by omega) (by omega) (by omega) ?_
    rw [← zi_n j]
    cases f : F (j : Int) with
    | none =>
      refine br_t rfl ?_
      unfold wX_shift_69
      exact xw_putv (by omega) hD (by rw [f]; rfl) (bd j (by omega)) sd_ls (fun K' L' hD' => nm_r (nI_1 j) (nx K' L' hD'))
    | some v =>
      have vb := mg_r hG.1 (by omega) f
      refine br_f (zi_nN (by omega) (by omega)) ?_
      unfold wX_shift_69
      refine xw_putv (by omega) hD ?_ (bd j (by omega)) sd_ls (fun K' L' hD' => nm_r (nI_1 j) (nx K' L' hD'))
      rw [f]; exact zi_add v k
end
section
variable {dp : Int32} {c : Nat} {S wk K0 L0 : Nat → Int32}
theorem yb_base {post : Int32 → SY → Prop} {e : Nat} {g : Int} (hc : 1 ≤ c ∧ c ≤ 60) (he : e < 4) (hg : sd_g c (fun t => some t) c g) (h : ∀ K' L' S' : Nat → Int32, sd_U c K0 L0 S K' L' S' e (fun t => some t) g → post 0 ((nI c), (nI (e + 1)), K', L', S', wk)) : ∀ (d j : Nat) (K L : Nat → Int32), j + d = c → sd_D K0 L0 K L (fun x => x < j) (fun t => some t) → ∀ n, d < n → wY_base_12 post n (nI j) (nI c) (nI e) K L S wk := by
  intro d
  induction d with
  | zero =>
    intro j K L hj hD n hn
    obtain ⟨m, rfl⟩ : ∃ m, n = m + 1 := ⟨n - 1, by omega⟩
    have : j = c := by omega
    subst this
    exact br_t (nI_le (by omega) (by omega)) (yw_store hc.2 he hD (fun r hr => hr) (fun _ _ => rfl) hg (fun K' L' S' hU => h _ _ _ hU) (zi_n _))
  | succ d ih =>
    intro j K L hj hD n hn
    obtain ⟨m, rfl⟩ : ∃ m, n = m + 1 := ⟨n - 1, by omega⟩
    exact br_f (nI_ge (by omega) (by omega)) (yw_set (by omega) hD (.inr rfl) ⟨rfl, zi_n j⟩ sd_ls (fun K' L' hD' => nm_r (nI_1 j) (ih (j + 1) _ _ (by omega) hD' m (by omega))))
theorem yc_copy {post : Int32 → SY → Prop} {e a : Nat} {F : Int → Option Int} {s : Int} (hR : rp_R c K0 L0 S a F s) (hG : mx_G c s F) (ha : a < 4) (he : e < 4) (h : ∀ K' L' S' : Nat → Int32, sd_U c K0 L0 S K' L' S' e F s → post 0 ((nI c), (nI (e + 1)), K', L', S', wk)) : ∀ (d j : Nat) (K L : Nat → Int32), j + d = c → sd_D K0 L0 K L (fun x => x < j) F → ∀ n, d < n → wY_copy_35 post (nI a) n (nI j) (nI c) (nI e) K L S wk := by
  have c1 := hG.1.1.1
  have c2 := hG.1.1.2
  have c60 : c ≤ 60 := by omega
  intro d
  induction d with
  | zero =>
    intro j K L hj hD n hn
    obtain ⟨m, rfl⟩ : ∃ m, n = m + 1 := ⟨n - 1, by omega⟩
    have : j = c := by omega
    subst this
    exact br_t (nI_le (by omega) (by omega)) ⟨zi_inN (by omega) (by omega), yw_store c60 he hD (fun r hr => hr) (fun _ _ => rfl) (mg_self hG) (fun K' L' S' hU => h _ _ _ hU) (by rw [zi_clN (by omega)]; exact hR.1)⟩
  | succ d ih =>
    intro j K L hj hD n hn
    obtain ⟨m, rfl⟩ : ∃ m, n = m + 1 := ⟨n - 1, by omega⟩
    have hR' : rp_R c K L S a F s := (sd_DF (S' := S) c60 hD (fun _ _ => rfl)).2 a ha F s hR
    refine br_f (nI_ge (by omega) (by omega)) ?_
    rw [zi_ix, zi_clN (by omega)]
    exact ⟨zi_inN (by omega) (by omega), zi_inN (by omega) (by omega), yw_set (by omega) hD (hD.1 _) (hR'.2 j (by omega)) sd_ls (fun K' L' hD' => nm_r (nI_1 j) (ih (j + 1) _ _ (by omega) hD' m (by omega)))⟩
theorem yg_group {post : Int32 → SY → Prop} {e m : Nat} {F : Int → Option Int} {s g : Int} (hR : rp_R c K0 L0 S e F s) (hG : mx_G c s F) (he : e < 4) (hm : 1 ≤ m ∧ m ≤ 60) (hg : sd_g c (fun t => (F t).map (fun v => v / (m : Int))) (s / (m : Int)) g) (h : ∀ K' L' S' : Nat → Int32, sd_U c K0 L0 S K' L' S' e (fun t => (F t).map (fun v => v / (m : Int))) g → post 0 ((nI c), (nI (e + 1)), K', L', S', wk)) : ∀ (d j : Nat) (K L : Nat → Int32), j + d = c → sd_D K0 L0 K L (fun x => x < j) (fun t => (F t).map (fun v => v / (m : Int))) → ∀ n, d < n → wY_group_47 post (nI m) (nI e) n (nI j) (nI c) dp K L S wk := by
  have c1 := hG.1.1.1
  have c2 := hG.1.1.2
  have s1 := hG.1.2.1.1
  have s2 := hG.1.2.1.2
  have c60 : c ≤ 60 := by omega
  intro d
  induction d with
  | zero =>
    intro j K L hj hD n hn
    obtain ⟨q, rfl⟩ : ∃ q, n = q + 1 := ⟨n - 1, by omega⟩
    have : j = c := by omega
    subst this
    refine br_t (nI_le (by omega) (by omega)) ⟨zi_inN (by omega) (by omega), nI_ne0 (by omega) (by omega), yw_store c60 he hD (fun r hr => hr) (fun _ _ => rfl) hg (fun K' L' S' hU => h _ _ _ hU) ?_⟩
    rw [zi_clN (by omega), hR.1, zi_n m, zi_div (by omega) (by omega) (by omega) (by omega), Int.tdiv_eq_ediv_of_nonneg s1]
  | succ d ih =>
    intro j K L hj hD n hn
    obtain ⟨q, rfl⟩ : ∃ q, n = q + 1 := ⟨n - 1, by omega⟩
    have hR' : rp_R c K L S e F s := (sd_DF (S' := S) c60 hD (fun _ _ => rfl)).2 e he F s hR
    have hC := hR'.2 j (by omega)
    have nx : ∀ K' L' : Nat → Int32, sd_D K0 L0 K' L' (fun x => x < j + 1) (fun t => (F t).map (fun v => v / (m : Int))) → wY_group_47 post (nI m) (nI e) q (nI (j + 1)) (nI c) dp K' L' S wk := fun K' L' hD' => ih (j + 1) _ _ (by omega) hD' q (by omega)
    refine br_f (nI_ge (by omega) (by omega)) ?_
    rw [zi_ix, zi_clN (by omega)]
    refine ⟨zi_inN (by omega) (by omega), ?_⟩
    have iv : vp_in (nI (e * 60 + j)) 300 := zi_inN (by omega) (by omega)
    cases f : F (j : Int) with
    | none =>
      rw [zi_w (L (e * 60 + j)), zi_n m]
      refine zy_fdiv (zi_wl _) (zi_wh _) (by omega) (by omega) ⟨iv, ?_⟩
      rw [← zi_n m]
      refine yw_set (by omega) hD (hD.1 _) ?_ sd_ls (fun K' L' hD' => nm_r (nI_1 j) (nx K' L' hD'))
      rw [f]; exact rp_Cn hC f
    | some v =>
      have vb := mg_r hG.1 (by omega) f
      obtain ⟨k1, k2⟩ := rp_Cs hC f
      rw [k2, zi_n m]
      refine zy_fdiv (by omega) (by omega) (by omega) (by omega) ⟨iv, ?_⟩
      rw [← zi_n m]
      refine yw_set (by omega) hD (hD.1 _) ?_ sd_ls (fun K' L' hD' => nm_r (nI_1 j) (nx K' L' hD'))
      rw [f]; exact ⟨k1, rfl⟩
theorem ys_shift {post : Int32 → SY → Prop} {e : Nat} {k : Int} {F : Int → Option Int} {s g : Int} (hR : rp_R c K0 L0 S e F s) (hG : mx_G c s F) (he : e < 4) (hk : -9999 ≤ k ∧ k ≤ 9999) (hg : sd_g c (fun t => (F t).map (fun v => v + k)) s g) (h : (∀ r : Nat, r < c → ∀ v, (F (r : Int)).map (fun v => v + k) = some v → -9999 ≤ v ∧ v ≤ 9999) → ∀ K' L' S' : Nat → Int32, sd_U c K0 L0 S K' L' S' e (fun t => (F t).map (fun v => v + k)) g → post 0 ((nI c), (nI (e + 1)), K', L', S', wk)) (h' : ¬ (∀ r : Nat, r < c → ∀ v, (F (r : Int)).map (fun v => v + k) = some v → -9999 ≤ v ∧ v ≤ 9999) → ∀ K' L' S' : Nat → Int32, sd_F c K0 L0 S K' L' S' → post 5 ((nI c), dp, K', L', S', wk)) : ∀ (d j : Nat) (K L : Nat → Int32), j + d = c → sd_D K0 L0 K L (fun x => x < j) (fun t => (F t).map (fun v => v + k)) → (∀ r : Nat, r < j → ∀ v, (F (r : Int)).map (fun v => v + k) = some v → -9999 ≤ v ∧ v ≤ 9999) → ∀ n, d < n → wY_shift_35 post (zi_I k) (nI e) n (nI j) (nI c) dp K L S wk := by
  have c1 := hG.1.1.1
  have c2 := hG.1.1.2
  have c60 : c ≤ 60 := by omega
  intro d
  induction d with
  | zero =>
    intro j K L hj hD hB n hn
    obtain ⟨q, rfl⟩ : ∃ q, n = q + 1 := ⟨n - 1, by omega⟩
    have : j = c := by omega
    subst this
    exact br_t (nI_le (by omega) (by omega)) ⟨zi_inN (by omega) (by omega), yw_store c60 he hD (fun r hr => hr) (fun _ _ => rfl) hg (fun K' L' S' hU => h hB _ _ _ hU) (by rw [zi_clN (by omega)]; exact hR.1)⟩
  | succ d ih =>
    intro j K L hj hD hB n hn
    obtain ⟨q, rfl⟩ : ∃ q, n = q + 1 := ⟨n - 1, by omega⟩
    have hF := sd_DF (S := S) (S' := S) c60 hD (fun _ _ => rfl)
    have hR' : rp_R c K L S e F s := hF.2 e he F s hR
    have hC := hR'.2 j (by omega)
    have nx : (∀ v, (F (j : Int)).map (fun v => v + k) = some v → -9999 ≤ v ∧ v ≤ 9999) → ∀ K' L' : Nat → Int32, sd_D K0 L0 K' L' (fun x => x < j + 1) (fun t => (F t).map (fun v => v + k)) → wY_shift_35 post (zi_I k) (nI e) q (nI (j + 1)) (nI c) dp K' L' S wk := fun hb K' L' hD' => by
      refine ih (j + 1) _ _ (by omega) hD' (fun r hr v hv => ?_) q (by omega)
      by_cases z : r = j
      · subst z; exact hb v hv
      · exact hB r (by omega) v hv
    have iv : vp_in (nI (e * 60 + j)) 300 := zi_inN (by omega) (by omega)
    refine br_f (nI_ge (by omega) (by omega)) ?_
    unfold wY_shift_90
    rw [zi_ix, zi_clN (by omega)]
    refine ⟨iv, ?_⟩
    cases f : F (j : Int) with
    | none =>
      refine nm_e ⟨iv, br_t (rp_Cn hC f) ⟨iv, yw_set (by omega) hD (hD.1 _) ?_ sd_ls (fun K' L' hD' => nm_r (nI_1 j) (nx (fun v hv => ?_) K' L' hD'))⟩⟩
      · rw [f]; exact rp_Cn hC f
      · rw [f] at hv; cases hv
    | some v =>
      have vb := mg_r hG.1 (by omega) f
      obtain ⟨k1, k2⟩ := rp_Cs hC f
      have bad : ¬ (-9999 ≤ v + k ∧ v + k ≤ 9999) → ¬ (∀ r : Nat, r < c → ∀ v, (F (r : Int)).map (fun v => v + k) = some v → -9999 ≤ v ∧ v ≤ 9999) := fun z w => z (w j (by omega) (v + k) (by rw [f]; rfl))
      refine nm_r (e' := zi_I (v + k)) (by rw [k2, zi_add]) ⟨iv, br_f (rp_1 k1) (zi_blt (v + k) (-9999) (fun z => h' (bad (by omega)) _ _ _ hF) (fun z => zi_ble (v + k) 9999 (fun z' => ⟨iv, ?_⟩) (fun z' => h' (bad (by omega)) _ _ _ hF)))⟩
      refine yw_set (by omega) hD (hD.1 _) ?_ sd_ls (fun K' L' hD' => nm_r (nI_1 j) (nx (fun w hw => ?_) K' L' hD'))
      · rw [f]; exact ⟨k1, rfl⟩
      · rw [f] at hw
        have hw : v + k = w := by injection hw
        omega
end
end
section
/-! base, copy, group, shift against the relation -/
theorem ar_nat {x : Int32} {c : Nat} (h : ¬ x < 1) (h' : x ≤ nI c) (hc : c ≤ 60) : ∃ m : Nat, 1 ≤ m ∧ m ≤ c ∧ x = nI m := by
  rw [Int32.lt_iff_toInt_lt, show (1 : Int32).toInt = 1 by decide] at h
  rw [Int32.le_iff_toInt_le, nI_toInt (by omega)] at h'
  refine ⟨x.toInt.toNat, by omega, by omega, ?_⟩
  rw [← zi_nat (by omega)]; exact zi_w x
theorem ar_int {x lo hi : Int32} (h : ¬ x < lo) (h' : x ≤ hi) : lo.toInt ≤ x.toInt ∧ x.toInt ≤ hi.toInt := by
  rw [Int32.lt_iff_toInt_lt] at h
  rw [Int32.le_iff_toInt_le] at h'
  omega
theorem mg_base {c : Nat} {g : Int} (hc : 1 ≤ c ∧ c ≤ 60) (hg : sd_g c (fun t => some t) c g) : mx_G c g (fun t => some t) := by
  refine mg_of hc (fun t => rfl) (by omega) (fun r hr v hv => ?_) (fun t t' v v' h a b => ?_) (fun z => ?_) hg
  · injection hv with hv; omega
  · injection a with a; injection b with b; omega
  · omega
theorem mg_group {c m : Nat} {F : Int → Option Int} {s g : Int} (hG : mx_G c s F) (hm : 1 ≤ m) (hd : s % (m : Int) = 0) (hg : sd_g c (fun t => (F t).map (fun v => v / (m : Int))) (s / (m : Int)) g) : mx_G c g (fun t => (F t).map (fun v => v / (m : Int))) := by
  obtain ⟨⟨⟨c1, c2⟩, ⟨s1, s2⟩, hp, hb⟩, hM, hz⟩ := hG
  have e1 := Int.emod_add_ediv_mul s m
  have dv : ((m : Int)) ∣ s := Int.dvd_of_emod_eq_zero hd
  refine mg_of (by omega) (fun t => ?_) ⟨Int.ediv_nonneg s1 (by omega), Int.le_trans (Int.ediv_le_self _ s1) s2⟩ (fun r hr v hv => ?_) (fun t t' v v' h a b => ?_) (fun z => ?_) hg
  · show (F (t + c)).map (fun v => v / (m : Int)) = ((F t).map (fun v => v / (m : Int))).map (fun v => v + s / (m : Int))
    rw [hp t]
    cases F t with
    | none => rfl
    | some v =>
      show some ((v + s) / (m : Int)) = some (v / (m : Int) + s / (m : Int))
      rw [Int.add_ediv_of_dvd_right dv]
  · cases f : F (r : Int) with
    | none => rw [f] at hv; cases hv
    | some w =>
      have wb := hb r w (by omega) (by omega) f
      rw [f] at hv
      have hv : w / (m : Int) = v := by injection hv
      have a := Int.le_ediv_of_mul_le (a := -9999) (b := w) (c := (m : Int)) (by omega) (by omega)
      have b := Int.ediv_lt_of_lt_mul (a := w) (b := 10000) (c := (m : Int)) (by omega) (by omega)
      omega
  · cases f : F t with
    | none => rw [f] at a; cases a
    | some w =>
      cases f' : F t' with
      | none => rw [f'] at b; cases b
      | some w' =>
        rw [f] at a; rw [f'] at b
        have a : w / (m : Int) = v := by injection a
        have b : w' / (m : Int) = v' := by injection b
        have := Int.ediv_le_ediv (c := (m : Int)) (by omega) (hM t t' w w' h f f')
        omega
  · rw [z, Int.zero_mul] at e1
    have k := hz.mp (by omega)
    intro t
    show (F t).map _ = none
    rw [k t]; rfl
theorem mg_shP {c : Nat} {F : Int → Option Int} {s k : Int} (hp : mx_per c s F) : mx_per c s (fun t => (F t).map (fun v => v + k)) := by
  intro t
  show (F (t + c)).map (fun v => v + k) = ((F t).map (fun v => v + k)).map (fun v => v + s)
  rw [hp t]
  cases F t with
  | none => rfl
  | some v =>
    show some (v + s + k) = some (v + k + s)
    congr 1; omega
theorem mg_shift {c : Nat} {F : Int → Option Int} {s g k : Int} (hG : mx_G c s F) (hb : ∀ r : Nat, r < c → ∀ v, (F (r : Int)).map (fun v => v + k) = some v → -9999 ≤ v ∧ v ≤ 9999) (hg : sd_g c (fun t => (F t).map (fun v => v + k)) s g) : mx_G c g (fun t => (F t).map (fun v => v + k)) := by
  obtain ⟨⟨⟨c1, c2⟩, ⟨s1, s2⟩, hp, -⟩, hM, hz⟩ := hG
  refine mg_of (by omega) (mg_shP hp) ⟨s1, s2⟩ hb (fun t t' v v' h a b => ?_) (fun z t => ?_) hg
  · cases f : F t with
    | none => rw [f] at a; cases a
    | some w =>
      cases f' : F t' with
      | none => rw [f'] at b; cases b
      | some w' =>
        rw [f] at a; rw [f'] at b
        have a : w + k = v := by injection a
        have b : w' + k = v' := by injection b
        have := hM t t' w w' h f f'
        omega
  · show (F t).map _ = none
    rw [hz.mp z t]; rfl
theorem i_vc_base {k : Nat} {u : SX} {v : SY} (I : i_Rel k u v) (hk : k + 4 ≤ 2049) : wpX_base (fun r u' => wpY_base (fun r' v' => r' = r ∧ i_Rel (k + 4) u' v') v) u := by
  refine rl_el (P := fun u v => wpX_base (fun r u' => wpY_base (fun r' v' => r' = r ∧ i_Rel (k + 4) u' v') v) u) I ?_
  intro c n sc ls K L S ch li le Ky Ly Sy wk hA
  obtain ⟨hc, n4, hK, hKy, -⟩ := id hA
  by_cases h : n < 4
  · have h4 : nI n < 4 := nI_lt (b := 4) h (by omega)
    obtain ⟨g, hg⟩ := sd_ge c (fun t => some t) c
    refine br_t h4 ⟨c + 1, xb_base (K0 := K) (L0 := L) hc h hg (fun K' L' S' hU => ?_) c 0 K L (by omega) (sd_D0 hK) (c + 1) (by omega)⟩
    refine br_t h4 ⟨c + 1, yb_base (K0 := Ky) (L0 := Ly) hc h hg (fun K2 L2 S2 hV => ?_) c 0 Ky Ly (by omega) (sd_D0 hKy) (c + 1) (by omega)⟩
    exact ⟨rfl, rl_mk (rl_store hA hU hV (mg_base hc hg) (by omega) (fun e' he' hn => by omega))⟩
  · have h4 : ¬ nI n < 4 := nI_nlt (b := 4) (by omega) (by omega)
    exact br_f h4 (br_f h4 ⟨rfl, rl_mk hA⟩)
theorem i_vc_copy {k : Nat} {u : SX} {v : SY} (I : i_Rel k u v) (hk : k + 4 ≤ 2049) (v1 : Int32) : wpX_copy (fun r u' => wpY_copy (fun r' v' => r' = r ∧ i_Rel (k + 4) u' v') v v1) u v1 := by
  refine rl_el (P := fun u v => wpX_copy (fun r u' => wpY_copy (fun r' v' => r' = r ∧ i_Rel (k + 4) u' v') v v1) u v1) I ?_
  intro c n sc ls K L S ch li le Ky Ly Sy wk hA
  obtain ⟨hc, n4, hK, hKy, hs⟩ := id hA
  by_cases h : n < 4
  · have h4 : nI n < 4 := nI_lt (b := 4) h (by omega)
    by_cases h0 : v1 < 0
    · exact br_t h4 (br_t h0 (br_t h4 (br_t h0 ⟨rfl, rl_mk hA⟩)))
    · by_cases h1 : v1 < nI n
      · obtain ⟨j, hj, rfl⟩ := nI_of h0
        rw [nI_ltI hj (by omega)] at h1
        have h1' : nI j < nI n := nI_lt h1 (by omega)
        have e : nI n - 1 - nI j = nI (n - 1 - j) := by
          rw [show (1 : Int32) = nI 1 from rfl, zi_nsub (by omega), zi_nsub (by omega)]
        obtain ⟨F, s, hG, hRx, hRy⟩ := hs (n - 1 - j) (by omega)
        refine br_t h4 (br_f h0 (br_t h1' ?_))
        rw [e]
        refine xw_copy hc.2 (by omega) (by omega) (by omega) hK hRx (fun K' L' S' hU _ => nm_r (nI_1 n) ?_)
        refine br_t h4 (br_f h0 (br_t h1' (nm_r e ⟨c + 1, yc_copy (K0 := Ky) (L0 := Ly) hRy hG (by omega) h (fun K2 L2 S2 hV => ?_) c 0 Ky Ly (by omega) (sd_D0 hKy) (c + 1) (by omega)⟩)))
        exact ⟨rfl, rl_mk (rl_store hA hU hV hG (by omega) (fun e' he' hn => by omega))⟩
      · exact br_t h4 (br_f h0 (br_f h1 (br_t h4 (br_f h0 (br_f h1 ⟨rfl, rl_mk hA⟩)))))
  · have h4 : ¬ nI n < 4 := nI_nlt (b := 4) (by omega) (by omega)
    exact br_f h4 (br_f h4 ⟨rfl, rl_mk hA⟩)
theorem i_vc_group {k : Nat} {u : SX} {v : SY} (I : i_Rel k u v) (hk : k + 4 ≤ 2049) (v1 : Int32) : wpX_group (fun r u' => wpY_group (fun r' v' => r' = r ∧ i_Rel (k + 4) u' v') v v1) u v1 := by
  refine rl_el (P := fun u v => wpX_group (fun r u' => wpY_group (fun r' v' => r' = r ∧ i_Rel (k + 4) u' v') v v1) u v1) I ?_
  intro c n sc ls K L S ch li le Ky Ly Sy wk hA
  obtain ⟨hc, n4, hK, hKy, hs⟩ := id hA
  by_cases h : 1 ≤ n
  · have h1 : (1 : Int32) ≤ nI n := nI_le (a := 1) h (by omega)
    by_cases h2 : v1 < 1
    · exact br_t h1 (br_t h2 (br_t h1 (br_t h2 ⟨rfl, rl_mk hA⟩)))
    · by_cases h3 : v1 ≤ nI c
      · obtain ⟨m, m1, m2, rfl⟩ := ar_nat h2 h3 hc.2
        have e : nI n - 1 = nI (n - 1) := zi_nsub (b := 1) h
        obtain ⟨F, s, hG, hRx, hRy⟩ := hs (n - 1) (by omega)
        obtain ⟨-, ⟨s1, s2⟩, -, -⟩ := id hG.1
        have iv : vp_in (nI (n - 1)) 5 := zi_inN (by omega) (by omega)
        have m0 : ¬ nI m = 0 := nI_ne0 (by omega) (by omega)
        have em := Int.emod_add_ediv_mul s m
        have ex : S (nI (n - 1)).toNatClampNeg - S (nI (n - 1)).toNatClampNeg / nI m * nI m = zi_I (s % (m : Int)) := by
          rw [zi_clN (by omega), hRx.1, zi_n m, zi_rem (by omega) (by omega) (by omega) (by omega), Int.tdiv_eq_ediv_of_nonneg s1]
          congr 1; omega
        have ey : Sy (nI (n - 1)).toNatClampNeg - Sy (nI (n - 1)).toNatClampNeg / nI m * nI m = zi_I (s % (m : Int)) := by
          rw [zi_clN (by omega), hRy.1, zi_n m, zi_rem (by omega) (by omega) (by omega) (by omega), Int.tdiv_eq_ediv_of_nonneg s1]
          congr 1; omega
        have b0 := Int.emod_nonneg s (b := (m : Int)) (by omega)
        have b1 := Int.emod_lt_of_pos s (b := (m : Int)) (by omega)
        refine br_t h1 (br_f h2 (br_t h3 (nm_r e ⟨iv, m0, ?_⟩)))
        rw [ex]
        by_cases hd : s % (m : Int) = 0
        · have hz : zi_I (s % (m : Int)) = 0 := by rw [hd]; rfl
          obtain ⟨g, hg⟩ := sd_ge c (fun t => (F t).map (fun v => v / (m : Int))) (s / (m : Int))
          refine br_t hz ⟨c + 1, xg_group (K0 := K) (L0 := L) hRx hG (by omega) (by omega) hg (fun K' L' S' hU => ?_) c 0 K L (by omega) (sd_D0 hK) (c + 1) (by omega)⟩
          refine br_t h1 (br_f h2 (br_t h3 (nm_r e ⟨iv, m0, ?_⟩)))
          rw [ey]
          refine br_t hz ⟨c + 1, yg_group (K0 := Ky) (L0 := Ly) hRy hG (by omega) (by omega) hg (fun K2 L2 S2 hV => ?_) c 0 Ky Ly (by omega) (sd_D0 hKy) (c + 1) (by omega)⟩
          rw [show n - 1 + 1 = n by omega]
          exact ⟨rfl, rl_mk (rl_store hA hU hV (mg_group hG m1 hd hg) n4 (fun e' he' hn => by omega))⟩
        · have hz : ¬ zi_I (s % (m : Int)) = 0 := by rw [zi_0, zi_eq (by omega) (by omega) (by omega) (by omega)]; exact hd
          refine br_f hz (br_t h1 (br_f h2 (br_t h3 (nm_r e ⟨iv, m0, ?_⟩))))
          rw [ey]
          exact br_f hz ⟨rfl, rl_mk hA⟩
      · exact br_t h1 (br_f h2 (br_f h3 (br_t h1 (br_f h2 (br_f h3 ⟨rfl, rl_mk hA⟩)))))
  · have h1 : ¬ (1 : Int32) ≤ nI n := nI_ge (b := 1) (by omega) (by omega)
    exact br_f h1 (br_f h1 ⟨rfl, rl_mk hA⟩)
theorem i_vc_shift {k : Nat} {u : SX} {v : SY} (I : i_Rel k u v) (hk : k + 4 ≤ 2049) (v1 : Int32) : wpX_shift (fun r u' => wpY_shift (fun r' v' => r' = r ∧ i_Rel (k + 4) u' v') v v1) u v1 := by
  refine rl_el (P := fun u v => wpX_shift (fun r u' => wpY_shift (fun r' v' => r' = r ∧ i_Rel (k + 4) u' v') v v1) u v1) I ?_
  intro c n sc ls K L S ch li le Ky Ly Sy wk hA
  obtain ⟨hc, n4, hK, hKy, hs⟩ := id hA
  by_cases h : 1 ≤ n
  · have h1 : (1 : Int32) ≤ nI n := nI_le (a := 1) h (by omega)
    by_cases h2 : v1 < (-9999)
    · exact br_t h1 (br_t h2 (br_t h1 (br_t h2 ⟨rfl, rl_mk hA⟩)))
    · by_cases h3 : v1 ≤ 9999
      · have hb := ar_int h2 h3
        rw [show (-9999 : Int32).toInt = -9999 by decide, show (9999 : Int32).toInt = 9999 by decide] at hb
        rw [zi_w v1] at h2 h3 ⊢
        generalize v1.toInt = w at h2 h3 hb ⊢
        have e : nI n - 1 = nI (n - 1) := zi_nsub (b := 1) h
        obtain ⟨F, s, hG, hRx, hRy⟩ := hs (n - 1) (by omega)
        obtain ⟨g, hg⟩ := sd_ge c (fun t => (F t).map (fun v => v + w)) s
        have hp := mg_per hc.1 (mg_shP (k := w) hG.1.2.2.1) hg
        refine br_t h1 (br_f h2 (br_t h3 (nm_r e ⟨c + 1, xs_shift (K0 := K) (L0 := L) hRx hG (by omega) hb hg hp (fun ok K' L' S' hU => ?_) (fun bad K' L' S' hF => ?_) c 0 K L (by omega) (sd_D0 hK) (c + 1) (by omega)⟩)))
        · refine br_t h1 (br_f h2 (br_t h3 (nm_r e ⟨c + 1, ys_shift (K0 := Ky) (L0 := Ly) hRy hG (by omega) hb hg (fun _ K2 L2 S2 hV => ?_) (fun bad => absurd ok bad) c 0 Ky Ly (by omega) (sd_D0 hKy) (fun r hr => by omega) (c + 1) (by omega)⟩)))
          rw [show n - 1 + 1 = n by omega]
          exact ⟨rfl, rl_mk (rl_store hA hU hV (mg_shift hG ok hg) n4 (fun e' he' hn => by omega))⟩
        · refine br_t h1 (br_f h2 (br_t h3 (nm_r e ⟨c + 1, ys_shift (K0 := Ky) (L0 := Ly) hRy hG (by omega) hb hg (fun ok => absurd ok bad) (fun _ K2 L2 S2 hV => ?_) c 0 Ky Ly (by omega) (sd_D0 hKy) (fun r hr => by omega) (c + 1) (by omega)⟩)))
          exact ⟨rfl, rl_mk (rl_fail hA hF hV)⟩
      · exact br_t h1 (br_f h2 (br_f h3 (br_t h1 (br_f h2 (br_f h3 ⟨rfl, rl_mk hA⟩)))))
  · have h1 : ¬ (1 : Int32) ≤ nI n := nI_ge (b := 1) (by omega) (by omega)
    exact br_f h1 (br_f h1 ⟨rfl, rl_mk hA⟩)
end
section
/-! the asking methods: labelAt, firstTick, lastTick, convert -/
theorem mx_edu {la : Bool} {F : Int → Option Int} {i x y : Int} (h : mx_ed la F i x) (k : mx_ed la F i y) : x = y := by
  have a := h.2 y k.1
  have b := k.2 x h.1
  cases la with
  | false =>
    have a := a.1 rfl
    have b := b.1 rfl
    omega
  | true =>
    have a := a.2 rfl
    have b := b.2 rfl
    omega
theorem ar_100 {x : Int32} (h : ¬ x < (-100000)) (h' : x ≤ 100000) : -100000 ≤ x.toInt ∧ x.toInt ≤ 100000 := by
  have hb := ar_int h h'
  rw [show (-100000 : Int32).toInt = -100000 by decide, show (100000 : Int32).toInt = 100000 by decide] at hb
  exact hb
theorem i_vc_labelAt {k : Nat} {u : SX} {v : SY} (I : i_Rel k u v) (hk : k + 4 ≤ 2049) (v1 : Int32) : wpX_labelAt (fun r => wpY_labelAt (fun r' => r' = r ∧ i_Rel (k + 4) u v) v v1) u v1 := by
  refine rl_el (P := fun u v => wpX_labelAt (fun r => wpY_labelAt (fun r' => r' = r ∧ i_Rel (k + 4) u v) v v1) u v1) I ?_
  intro c n sc ls K L S ch li le Ky Ly Sy wk hA
  obtain ⟨hc, n4, hK, hKy, hs⟩ := id hA
  by_cases h : n < 1
  · have h1 : nI n < 1 := nI_lt (b := 1) h (by omega)
    exact br_t h1 (br_t h1 ⟨rfl, rl_mk hA⟩)
  · have h1 : ¬ nI n < 1 := nI_nlt (b := 1) (by omega) (by omega)
    by_cases h2 : v1 < (-100000)
    · exact br_f h1 (br_t h2 (br_f h1 (br_t h2 ⟨rfl, rl_mk hA⟩)))
    · by_cases h3 : v1 ≤ 100000
      · have hb := ar_100 h2 h3
        rw [zi_w v1] at h2 h3 ⊢
        generalize v1.toInt = t at h2 h3 hb ⊢
        have e : nI n - 1 = nI (n - 1) := zi_nsub (b := 1) (by omega)
        obtain ⟨F, s, hG, hRx, hRy⟩ := hs (n - 1) (by omega)
        refine br_f h1 (br_f h2 (br_t h3 ?_))
        rw [e]
        refine xw_label hRx hG.1 (by omega) (by omega) (by omega) ?_
        refine br_f h1 (br_f h2 (br_t h3 ?_))
        rw [e]
        refine yw_cov hRy hG.1 (by omega) (by omega) (by omega) ?_
        cases f : F t with
        | none => exact br_t rfl ⟨rfl, rl_mk hA⟩
        | some w =>
          refine br_f (rp_1 rfl) (yw_lab hRy hG.1 (by omega) (by omega) (by omega) fun x hx => ⟨hx w f, rl_mk hA⟩)
      · exact br_f h1 (br_f h2 (br_f h3 (br_f h1 (br_f h2 (br_f h3 ⟨rfl, rl_mk hA⟩)))))
theorem i_vc_firstTick {k : Nat} {u : SX} {v : SY} (I : i_Rel k u v) (hk : k + 4 ≤ 2049) (v1 : Int32) : wpX_firstTick (fun r => wpY_firstTick (fun r' => r' = r ∧ i_Rel (k + 4) u v) v v1) u v1 := by
  refine rl_el (P := fun u v => wpX_firstTick (fun r => wpY_firstTick (fun r' => r' = r ∧ i_Rel (k + 4) u v) v v1) u v1) I ?_
  intro c n sc ls K L S ch li le Ky Ly Sy wk hA
  obtain ⟨hc, n4, hK, hKy, hs⟩ := id hA
  by_cases h : n < 1
  · have h1 : nI n < 1 := nI_lt (b := 1) h (by omega)
    exact br_t h1 (br_t h1 ⟨rfl, rl_mk hA⟩)
  · have h1 : ¬ nI n < 1 := nI_nlt (b := 1) (by omega) (by omega)
    by_cases h2 : v1 < (-100000)
    · exact br_f h1 (br_t h2 (br_f h1 (br_t h2 ⟨rfl, rl_mk hA⟩)))
    · by_cases h3 : v1 ≤ 100000
      · have hb := ar_100 h2 h3
        rw [zi_w v1] at h2 h3 ⊢
        generalize v1.toInt = t at h2 h3 hb ⊢
        have e : nI n - 1 = nI (n - 1) := zi_nsub (b := 1) (by omega)
        obtain ⟨F, s, hG, hRx, hRy⟩ := hs (n - 1) (by omega)
        refine br_f h1 (br_f h2 (br_t h3 ?_))
        rw [e]
        refine xw_edge false hRx hG (by omega) (by omega) (by omega) (fun x hx => ?_) (fun hx => ?_)
        · refine br_f h1 (br_f h2 (br_t h3 ?_))
          rw [e]
          refine yw_edge false hRy hG (by omega) (by omega) (by omega) (fun y hy => ?_) (fun hy => absurd hx.1 (hy x))
          rw [mx_edu hy hx]
          exact ⟨rfl, rl_mk hA⟩
        · refine br_f h1 (br_f h2 (br_t h3 ?_))
          rw [e]
          exact yw_edge false hRy hG (by omega) (by omega) (by omega) (fun y hy => absurd hy.1 (hx y)) (fun hy => ⟨rfl, rl_mk hA⟩)
      · exact br_f h1 (br_f h2 (br_f h3 (br_f h1 (br_f h2 (br_f h3 ⟨rfl, rl_mk hA⟩)))))
theorem i_vc_lastTick {k : Nat} {u : SX} {v : SY} (I : i_Rel k u v) (hk : k + 4 ≤ 2049) (v1 : Int32) : wpX_lastTick (fun r => wpY_lastTick (fun r' => r' = r ∧ i_Rel (k + 4) u v) v v1) u v1 := by
  refine rl_el (P := fun u v => wpX_lastTick (fun r => wpY_lastTick (fun r' => r' = r ∧ i_Rel (k + 4) u v) v v1) u v1) I ?_
  intro c n sc ls K L S ch li le Ky Ly Sy wk hA
  obtain ⟨hc, n4, hK, hKy, hs⟩ := id hA
  by_cases h : n < 1
  · have h1 : nI n < 1 := nI_lt (b := 1) h (by omega)
    exact br_t h1 (br_t h1 ⟨rfl, rl_mk hA⟩)
  · have h1 : ¬ nI n < 1 := nI_nlt (b := 1) (by omega) (by omega)
    by_cases h2 : v1 < (-100000)
    · exact br_f h1 (br_t h2 (br_f h1 (br_t h2 ⟨rfl, rl_mk hA⟩)))
    · by_cases h3 : v1 ≤ 100000
      · have hb := ar_100 h2 h3
        rw [zi_w v1] at h2 h3 ⊢
        generalize v1.toInt = t at h2 h3 hb ⊢
        have e : nI n - 1 = nI (n - 1) := zi_nsub (b := 1) (by omega)
        obtain ⟨F, s, hG, hRx, hRy⟩ := hs (n - 1) (by omega)
        refine br_f h1 (br_f h2 (br_t h3 ?_))
        rw [e]
        refine xw_edge true hRx hG (by omega) (by omega) (by omega) (fun x hx => ?_) (fun hx => ?_)
        · refine br_f h1 (br_f h2 (br_t h3 ?_))
          rw [e]
          refine yw_edge true hRy hG (by omega) (by omega) (by omega) (fun y hy => ?_) (fun hy => absurd hx.1 (hy x))
          rw [mx_edu hy hx]
          exact ⟨rfl, rl_mk hA⟩
        · refine br_f h1 (br_f h2 (br_t h3 ?_))
          rw [e]
          exact yw_edge true hRy hG (by omega) (by omega) (by omega) (fun y hy => absurd hy.1 (hx y)) (fun hy => ⟨rfl, rl_mk hA⟩)
      · exact br_f h1 (br_f h2 (br_f h3 (br_f h1 (br_f h2 (br_f h3 ⟨rfl, rl_mk hA⟩)))))
theorem i_vc_convert {k : Nat} {u : SX} {v : SY} (I : i_Rel k u v) (hk : k + 4 ≤ 2049) (v1 : Int32) : wpX_convert (fun r => wpY_convert (fun r' => r' = r ∧ i_Rel (k + 4) u v) v v1) u v1 := by
  refine rl_el (P := fun u v => wpX_convert (fun r => wpY_convert (fun r' => r' = r ∧ i_Rel (k + 4) u v) v v1) u v1) I ?_
  intro c n sc ls K L S ch li le Ky Ly Sy wk hA
  obtain ⟨hc, n4, hK, hKy, hs⟩ := id hA
  by_cases h : n < 2
  · have h1 : nI n < 2 := nI_lt (b := 2) h (by omega)
    exact br_t h1 (br_t h1 ⟨rfl, rl_mk hA⟩)
  · have h1 : ¬ nI n < 2 := nI_nlt (b := 2) (by omega) (by omega)
    by_cases h2 : v1 < (-100000)
    · exact br_f h1 (br_t h2 (br_f h1 (br_t h2 ⟨rfl, rl_mk hA⟩)))
    · by_cases h3 : v1 ≤ 100000
      · have hb := ar_100 h2 h3
        rw [zi_w v1] at h2 h3 ⊢
        generalize v1.toInt = i at h2 h3 hb ⊢
        have e : nI n - 1 = nI (n - 1) := zi_nsub (b := 1) (by omega)
        have e2 : nI n - 2 = nI (n - 2) := zi_nsub (b := 2) (by omega)
        obtain ⟨A, s, hG, hRx, hRy⟩ := hs (n - 2) (by omega)
        obtain ⟨B, s', hG', hRx', hRy'⟩ := hs (n - 1) (by omega)
        refine br_f h1 (br_f h2 (br_t h3 ?_))
        rw [e, e2]
        refine xw_holder hRx hG (by omega) hRx' hG'.1 (by omega) (by omega) (by omega) (fun w hw => ?_) (fun hw => ?_)
        · refine br_f h1 (br_f h2 (br_t h3 ?_))
          rw [e, e2]
          refine yw_edge false hRy hG (by omega) (by omega) (by omega) (fun x hx => ?_) (fun hx => absurd hw.1 (fun ⟨t, et⟩ => hx t et))
          have xb := mx_tb hG hx.1 (by omega) (by omega)
          refine br_f (zi_nN (by omega) (by omega)) ?_
          refine yw_nested hRy hG (by omega) hRy' hG'.1 (by omega) (by omega) (by omega) (fun i' hi' => ?_) (mx_br (fun z => ?_) (fun z => ?_))
          · rw [hx.1] at hi'; injection hi' with hi'; omega
          · exact absurd ⟨i, w, hx.1, hw.2 x hx.1, hw⟩ z
          · exact yw_lab hRy' hG'.1 (by omega) (by omega) (by omega) fun y hy => ⟨hy w (hw.2 x hx.1), rl_mk hA⟩
        · refine br_f h1 (br_f h2 (br_t h3 ?_))
          rw [e, e2]
          refine yw_edge false hRy hG (by omega) (by omega) (by omega) (fun x hx => ?_) (fun hx => br_t rfl ⟨rfl, rl_mk hA⟩)
          have xb := mx_tb hG hx.1 (by omega) (by omega)
          refine br_f (zi_nN (by omega) (by omega)) ?_
          refine yw_nested hRy hG (by omega) hRy' hG'.1 (by omega) (by omega) (by omega) (fun i' hi' => ?_) (mx_br (fun z => ⟨rfl, rl_mk hA⟩) (fun z => ?_))
          · rw [hx.1] at hi'; injection hi' with hi'; omega
          · obtain ⟨i', j, a, -, hH⟩ := z
            rw [hx.1] at a
            injection a with a
            subst a
            exact absurd hH (hw j)
      · exact br_f h1 (br_f h2 (br_f h3 (br_f h1 (br_f h2 (br_f h3 ⟨rfl, rl_mk hA⟩)))))
end
section
/-! relation -/
def re_F (A B : Int → Option Int) (j : Nat) : Prop := ∀ r : Nat, r < j → A (r : Int) ≠ none → mx_N A B r
def re_G (A B : Int → Option Int) (j : Nat) : Prop := ∀ r : Nat, r < j → B (r : Int) ≠ none → mx_N A B r
def re_S (A B : Int → Option Int) (j : Nat) : Prop := ∀ r : Nat, r < j → (A (r : Int) = none ↔ B (r : Int) = none)
theorem re_up {P : Nat → Prop} {j : Nat} (h : ∀ r : Nat, r < j → P r) (k : P j) : ∀ r : Nat, r < j + 1 → P r := fun r hr => by
  by_cases z : r = j
  · rw [z]; exact k
  · exact h r (by omega)
theorem mx_NH {A B : Int → Option Int} {t i j : Int} (a : A t = some i) (h : mx_H A i B j) : mx_N A B t := ⟨i, j, a, h.2 t a, h⟩
theorem mx_NN {A B : Int → Option Int} {t i : Int} (a : A t = some i) (h : ∀ j, ¬ mx_H A i B j) : ¬ mx_N A B t := by
  rintro ⟨i', j, a', -, k⟩
  rw [a] at a'
  injection a' with a'
  subst a'
  exact h j k
theorem re_01 (o : Int) : ¬ mx_cv none = mx_cv (some o) := show ¬ (0 : Int32) = 1 by decide
theorem re_10 (o : Int) : ¬ mx_cv (some o) = mx_cv none := show ¬ (1 : Int32) = 0 by decide
section
variable {sz sc ls dp : Int32} {c : Nat} {K L S ch li le wk : Nat → Int32} {a b : Nat} {A B : Int → Option Int} {s s' : Int}
theorem xr_finer {post : Int32 → Prop} (hR : rp_R c K L S a A s) (hG : mx_G c s A) (ha : a < 4) (hR' : rp_R c K L S b B s') (hG' : mx_G c s' B) (hb : b < 4) (h : post (mx_b (re_F A B c))) : ∀ (d j : Nat), j + d = c → re_F A B j → ∀ n, d < n → wX_isFiner_2 post (nI a) (nI b) (nI c) sz sc ls L K S ch li le n (nI j) := by
  have c1 := hG.1.1.1
  have c2 := hG.1.1.2
  intro d
  induction d with
  | zero =>
    intro j hj k n hn
    obtain ⟨m, rfl⟩ : ∃ m, n = m + 1 := ⟨n - 1, by omega⟩
    have : j = c := by omega
    subst this
    rw [mx_bt k] at h
    exact br_t (nI_le (by omega) (by omega)) h
  | succ d ih =>
    intro j hj k n hn
    obtain ⟨m, rfl⟩ : ∃ m, n = m + 1 := ⟨n - 1, by omega⟩
    refine br_f (nI_ge (by omega) (by omega)) ?_
    rw [zi_n j]
    refine xw_label hR hG.1 (by omega) (by omega) (by omega) ?_
    rw [← zi_n j]
    cases f : A (j : Int) with
    | none => exact br_t rfl (nm_r (nI_1 j) (ih (j + 1) (by omega) (re_up k (fun z => absurd f z)) m (by omega)))
    | some i =>
      have vb := mg_r hG.1 (by omega) f
      refine br_f (zi_nN (by omega) (by omega)) (xw_holder hR hG (by omega) hR' hG'.1 (by omega) (by omega) (by omega) (fun w hw => ?_) (fun hw => ?_))
      · have wb := mx_bd hG'.1 (hw.2 _ f)
        exact br_f (zi_nN (by omega) (by omega)) (nm_r (nI_1 j) (ih (j + 1) (by omega) (re_up k (fun _ => mx_NH f hw)) m (by omega)))
      · rw [mx_bf] at h
        · exact br_t rfl h
        · exact fun q => mx_NN f hw (q j (by omega) (by rw [f]; intro z; cases z))
theorem xr_group {post : Int32 → Prop} (hR : rp_R c K L S a A s) (hG : mx_G c s A) (ha : a < 4) (hR' : rp_R c K L S b B s') (hG' : mx_G c s' B) (hb : b < 4) (h : post (mx_b (re_G A B c))) : ∀ (d j : Nat), j + d = c → re_G A B j → ∀ n, d < n → wX_isGrouping_2 post (nI a) (nI b) (nI c) sz sc ls L K S ch li le n (nI j) := by
  have c1 := hG.1.1.1
  have c2 := hG.1.1.2
  intro d
  induction d with
  | zero =>
    intro j hj k n hn
    obtain ⟨m, rfl⟩ : ∃ m, n = m + 1 := ⟨n - 1, by omega⟩
    have : j = c := by omega
    subst this
    rw [mx_bt k] at h
    exact br_t (nI_le (by omega) (by omega)) h
  | succ d ih =>
    intro j hj k n hn
    obtain ⟨m, rfl⟩ : ∃ m, n = m + 1 := ⟨n - 1, by omega⟩
    refine br_f (nI_ge (by omega) (by omega)) ?_
    rw [zi_n j]
    refine xw_label hR' hG'.1 (by omega) (by omega) (by omega) (xw_label hR hG.1 (by omega) (by omega) (by omega) ?_)
    rw [← zi_n j]
    cases f : B (j : Int) with
    | none => exact br_t rfl (nm_r (nI_1 j) (ih (j + 1) (by omega) (re_up k (fun z => absurd f z)) m (by omega)))
    | some o =>
      have ob := mg_r hG'.1 (by omega) f
      have no : B (j : Int) ≠ none := by rw [f]; intro z; cases z
      refine br_f (zi_nN (by omega) (by omega)) ?_
      cases f' : A (j : Int) with
      | none =>
        rw [mx_bf] at h
        · exact br_t rfl h
        · intro q
          obtain ⟨i', _, z, -, -⟩ := q j (by omega) no
          rw [f'] at z; cases z
      | some i =>
        have vb := mg_r hG.1 (by omega) f'
        refine br_f (zi_nN (by omega) (by omega)) (xw_holder hR hG (by omega) hR' hG'.1 (by omega) (by omega) (by omega) (fun w hw => ?_) (fun hw => ?_))
        · have e := hw.2 _ f'
          rw [f] at e
          injection e with e
          subst e
          exact br_t rfl (nm_r (nI_1 j) (ih (j + 1) (by omega) (re_up k (fun _ => mx_NH f' hw)) m (by omega)))
        · rw [mx_bf] at h
          · exact br_f (fun z => zi_nN (v := o) (by omega) (by omega) z.symm) h
          · exact fun q => mx_NN f' hw (q j (by omega) no)
theorem xr_same {post : Int32 → Prop} (hR : rp_R c K L S a A s) (hG : mx_G c s A) (ha : a < 4) (hR' : rp_R c K L S b B s') (hG' : mx_G c s' B) (hb : b < 4) (h : post (mx_b (re_S A B c))) : ∀ (d j : Nat), j + d = c → re_S A B j → ∀ n, d < n → wX_coverSame_2 post (nI a) (nI b) (nI c) sz sc ls L K S ch li le n (nI j) := by
  have c1 := hG.1.1.1
  have c2 := hG.1.1.2
  intro d
  induction d with
  | zero =>
    intro j hj k n hn
    obtain ⟨m, rfl⟩ : ∃ m, n = m + 1 := ⟨n - 1, by omega⟩
    have : j = c := by omega
    subst this
    rw [mx_bt k] at h
    exact br_t (nI_le (by omega) (by omega)) h
  | succ d ih =>
    intro j hj k n hn
    obtain ⟨m, rfl⟩ : ∃ m, n = m + 1 := ⟨n - 1, by omega⟩
    refine br_f (nI_ge (by omega) (by omega)) ?_
    unfold wX_coverSame_26 wX_coverSame_42
    rw [zi_n j]
    refine xw_label hR hG.1 (by omega) (by omega) (by omega) ?_
    cases f : A (j : Int) with
    | none =>
      refine br_t rfl (xw_label hR' hG'.1 (by omega) (by omega) (by omega) ?_)
      rw [← zi_n j]
      cases f' : B (j : Int) with
      | none => exact br_t rfl (br_t rfl (nm_r (nI_1 j) (ih (j + 1) (by omega) (re_up k (by rw [f, f'])) m (by omega))))
      | some o =>
        have ob := mg_r hG'.1 (by omega) f'
        refine br_f (zi_nN (by omega) (by omega)) (br_f (by decide) ?_)
        rw [mx_bf] at h
        · exact h
        · intro q
          have := (q j (by omega)).mp f
          rw [f'] at this; cases this
    | some i =>
      have ib := mg_r hG.1 (by omega) f
      refine br_f (zi_nN (by omega) (by omega)) (xw_label hR' hG'.1 (by omega) (by omega) (by omega) ?_)
      rw [← zi_n j]
      cases f' : B (j : Int) with
      | none =>
        refine br_t rfl (br_f (by decide) ?_)
        rw [mx_bf] at h
        · exact h
        · intro q
          have := (q j (by omega)).mpr f'
          rw [f] at this; cases this
      | some o =>
        have ob := mg_r hG'.1 (by omega) f'
        refine br_f (zi_nN (by omega) (by omega)) (br_t rfl (nm_r (nI_1 j) (ih (j + 1) (by omega) (re_up k ?_) m (by omega))))
        rw [f, f']
        exact ⟨fun z => (by cases z), fun z => (by cases z)⟩
noncomputable def re_v (A B : Int → Option Int) (c : Nat) : Int32 := mx_b (re_F A B c) + (if mx_b (re_G A B c) = 0 then 0 else if mx_b (re_S A B c) = 0 then 2 else 6)
theorem yr_L {post : Int32 → Prop} (hR : rp_R c K L S a A s) (hG : mx_G c s A) (ha : a < 4) (hR' : rp_R c K L S b B s') (hG' : mx_G c s' B) (hb : b < 4) (ea : dp - 2 = nI a) (eb : dp - 1 = nI b) (h : post (re_v A B c)) : ∀ (d j : Nat), j + d = c → ∀ n, d < n → wY_relation_19 post (nI c) dp K L S wk n (mx_b (re_F A B j)) (mx_b (re_G A B j)) (mx_b (re_S A B j)) (nI j) := by
  have c1 := hG.1.1.1
  have c2 := hG.1.1.2
  intro d
  induction d with
  | zero =>
    intro j hj n hn
    obtain ⟨m, rfl⟩ : ∃ m, n = m + 1 := ⟨n - 1, by omega⟩
    have : j = c := by omega
    subst this
    refine br_t (nI_le (by omega) (by omega)) ?_
    unfold wY_relation_124 wY_relation_133
    unfold re_v at h
    by_cases p : re_F A B j <;> by_cases q : re_G A B j <;> by_cases w : re_S A B j <;> simp only [p, q, w, mx_bt, mx_bf, not_false_eq_true] at h ⊢ <;> simpa using h
  | succ d ih =>
    intro j hj n hn
    obtain ⟨m, rfl⟩ : ∃ m, n = m + 1 := ⟨n - 1, by omega⟩
    have key := ih (j + 1) (by omega) m (by omega)
    have f0 : ¬ mx_N A B (j : Int) → A (j : Int) ≠ none → mx_b (re_F A B (j + 1)) = 0 := fun z w => mx_bf fun q => z (q j (by omega) w)
    have f1 : (A (j : Int) ≠ none → mx_N A B (j : Int)) → mx_b (re_F A B (j + 1)) = mx_b (re_F A B j) := fun z => mx_bc ⟨fun q r hr => q r (by omega), fun q => re_up q z⟩
    have g0 : ¬ mx_N A B (j : Int) → B (j : Int) ≠ none → mx_b (re_G A B (j + 1)) = 0 := fun z w => mx_bf fun q => z (q j (by omega) w)
    have g1 : (B (j : Int) ≠ none → mx_N A B (j : Int)) → mx_b (re_G A B (j + 1)) = mx_b (re_G A B j) := fun z => mx_bc ⟨fun q r hr => q r (by omega), fun q => re_up q z⟩
    have s0 : ¬ (A (j : Int) = none ↔ B (j : Int) = none) → mx_b (re_S A B (j + 1)) = 0 := fun z => mx_bf fun q => z (q j (by omega))
    have s1 : (A (j : Int) = none ↔ B (j : Int) = none) → mx_b (re_S A B (j + 1)) = mx_b (re_S A B j) := fun z => mx_bc ⟨fun q r hr => q r (by omega), fun q => re_up q z⟩
    refine br_f (nI_ge (by omega) (by omega)) ?_
    unfold wY_relation_88 wY_relation_100
    rw [ea, eb, zi_n j]
    refine yw_cov hR hG.1 (by omega) (by omega) (by omega) (yw_cov hR' hG'.1 (by omega) (by omega) (by omega) (yw_nested hR hG (by omega) hR' hG'.1 (by omega) (by omega) (by omega) (fun i hi => ?_) ?_))
    · have := mg_r hG.1 (by omega) hi; omega
    rw [← zi_n j]
    cases f : A (j : Int) with
    | none =>
      have nN : ¬ mx_N A B (j : Int) := by
        rintro ⟨i', _, z, -, -⟩
        rw [f] at z; cases z
      rw [f1 (fun z => absurd f z)] at key
      cases f' : B (j : Int) with
      | none =>
        rw [g1 (fun z => absurd f' z), s1 (by rw [f, f'])] at key
        exact br_t rfl (br_t rfl (br_t rfl (nm_r (nI_1 j) key)))
      | some o =>
        rw [g0 nN (by rw [f']; intro z; cases z), s0 (by rw [f, f']; intro z; cases z.mp rfl)] at key
        exact br_t rfl (br_f (rp_1 rfl) (br_t (mx_bf nN) (br_f (re_01 o) (nm_r (nI_1 j) key))))
    | some i =>
      have ni : A (j : Int) ≠ none := by rw [f]; intro z; cases z
      cases f' : B (j : Int) with
      | none =>
        have nN : ¬ mx_N A B (j : Int) := by
          rintro ⟨i', _, -, z, -⟩
          rw [f'] at z; cases z
        rw [f0 nN ni, g1 (fun z => absurd f' z), s0 (by rw [f, f']; intro z; cases z.mpr rfl)] at key
        exact br_f (rp_1 rfl) (br_t (mx_bf nN) (br_t rfl (br_f (re_10 i) (nm_r (nI_1 j) key))))
      | some o =>
        have no : B (j : Int) ≠ none := by rw [f']; intro z; cases z
        rw [s1 (by rw [f, f']; exact ⟨fun z => (by cases z), fun z => (by cases z)⟩)] at key
        by_cases z : mx_N A B (j : Int)
        · rw [f1 (fun _ => z), g1 (fun _ => z)] at key
          exact br_f (rp_1 rfl) (br_f (rp_1 (mx_bt z)) (br_f (rp_1 rfl) (br_f (rp_1 (mx_bt z)) (br_t rfl (nm_r (nI_1 j) key)))))
        · rw [f0 z ni, g0 z no] at key
          exact br_f (rp_1 rfl) (br_t (mx_bf z) (br_f (rp_1 rfl) (br_t (mx_bf z) (br_t rfl (nm_r (nI_1 j) key)))))
theorem xr_rel {post : Int32 → Prop} (hR : rp_R c K L S a A s) (hG : mx_G c s A) (ha : a < 4) (hR' : rp_R c K L S b B s') (hG' : mx_G c s' B) (hb : b < 4) (ea : sz - 2 = nI a) (eb : sz - 1 = nI b) (h2 : 2 ≤ sz) (h : post (re_v A B c)) : wpX_relation post ((nI c), sz, sc, ls, L, K, S, ch, li, le) := by
  unfold wpX_relation wpX_isFiner
  refine br_t h2 (nm_r ea (nm_r eb ⟨c + 1, xr_finer hR hG ha hR' hG' hb ?_ c 0 (by omega) (fun r hr => by omega) (c + 1) (by omega)⟩))
  unfold wX_relation_38 wpX_isGrouping wpX_coverSame
  unfold re_v at h
  refine mx_br (fun p => ?_) (fun p => nm_e ?_)
  · rw [mx_bf p] at h
    refine ⟨c + 1, xr_group hR hG ha hR' hG' hb ?_ c 0 (by omega) (fun r hr => by omega) (c + 1) (by omega)⟩
    refine mx_br (fun q => ?_) (fun q => nm_e ⟨c + 1, xr_same hR hG ha hR' hG' hb (mx_br (fun w => ?_) (fun w => nm_e ?_)) c 0 (by omega) (fun r hr => by omega) (c + 1) (by omega)⟩)
    · rw [mx_bf q] at h; exact h
    · rw [mx_bt q, mx_bf w] at h; exact h
    · rw [mx_bt q, mx_bt w] at h; exact h
  · rw [mx_bt p] at h
    refine ⟨c + 1, xr_group hR hG ha hR' hG' hb ?_ c 0 (by omega) (fun r hr => by omega) (c + 1) (by omega)⟩
    refine mx_br (fun q => ?_) (fun q => nm_e ⟨c + 1, xr_same hR hG ha hR' hG' hb (mx_br (fun w => ?_) (fun w => nm_e ?_)) c 0 (by omega) (fun r hr => by omega) (c + 1) (by omega)⟩)
    · rw [mx_bf q] at h; exact h
    · rw [mx_bt q, mx_bf w] at h; exact h
    · rw [mx_bt q, mx_bt w] at h; exact h
end
theorem i_vc_relation {k : Nat} {u : SX} {v : SY} (I : i_Rel k u v) (hk : k + 4 ≤ 2049) : wpX_relation (fun r => wpY_relation (fun r' => r' = r ∧ i_Rel (k + 4) u v) v) u := by
  refine rl_el (P := fun u v => wpX_relation (fun r => wpY_relation (fun r' => r' = r ∧ i_Rel (k + 4) u v) v) u) I ?_
  intro c n sc ls K L S ch li le Ky Ly Sy wk hA
  obtain ⟨hc, n4, hK, hKy, hs⟩ := id hA
  by_cases h : 2 ≤ n
  · have h2 : (2 : Int32) ≤ nI n := nI_le (a := 2) h (by omega)
    have e : nI n - 1 = nI (n - 1) := zi_nsub (b := 1) (by omega)
    have e2 : nI n - 2 = nI (n - 2) := zi_nsub (b := 2) (by omega)
    obtain ⟨A, s, hG, hRx, hRy⟩ := hs (n - 2) (by omega)
    obtain ⟨B, s', hG', hRx', hRy'⟩ := hs (n - 1) (by omega)
    refine xr_rel hRx hG (by omega) hRx' hG' (by omega) e2 e h2 ?_
    unfold wpY_relation
    have := yr_L (post := fun r' => r' = re_v A B c ∧ i_Rel (k + 4) ((nI c), (nI n), sc, ls, L, K, S, ch, li, le) ((nI c), (nI n), Ky, Ly, Sy, wk)) (wk := wk) hRy hG (by omega) hRy' hG' (by omega) e2 e ⟨rfl, rl_mk hA⟩ c 0 (by omega) (c + 1) (by omega)
    rw [mx_bt (p := re_F A B 0) (fun r hr => by omega), mx_bt (p := re_G A B 0) (fun r hr => by omega), mx_bt (p := re_S A B 0) (fun r hr => by omega)] at this
    exact br_t h2 ⟨c + 1, this⟩
  · have h2 : ¬ (2 : Int32) ≤ nI n := nI_ge (b := 2) (by omega) (by omega)
    exact br_f h2 (br_f h2 ⟨rfl, rl_mk hA⟩)
end
section
/-! tickPeriod, labelDistance -/
/-- what is known of the shift by p after the places below j: nothing covered yet, or the difference -/
def pr_I (F : Int → Option Int) (p : Int) (j : Nat) (o : Option Int) : Prop := match o with
  | none => ∀ r : Nat, r < j → F (r : Int) = none ∧ F (r + p) = none
  | some q => (∃ r : Nat, r < j ∧ F (r : Int) ≠ none) ∧ ∀ r : Nat, r < j → (F (r : Int) = none ∧ F (r + p) = none) ∨ ∃ v, F (r : Int) = some v ∧ F (r + p) = some (v + q)
def pr_R (F : Int → Option Int) (c : Nat) (p : Int) : Prop := ∃ o, pr_I F p c o
theorem pr_nn {F : Int → Option Int} {p : Int} {j : Nat} {o : Option Int} (h : pr_I F p j o) (a : F (j : Int) = none) (b : F (j + p) = none) : pr_I F p (j + 1) o := by
  cases o with
  | none => exact re_up h ⟨a, b⟩
  | some q =>
    obtain ⟨⟨r, hr, k⟩, g⟩ := h
    exact ⟨⟨r, by omega, k⟩, re_up g (.inl ⟨a, b⟩)⟩
theorem pr_s0 {F : Int → Option Int} {p v w : Int} {j : Nat} (h : pr_I F p j none) (a : F (j : Int) = some v) (b : F (j + p) = some w) : pr_I F p (j + 1) (some (w - v)) := by
  refine ⟨⟨j, by omega, by rw [a]; intro z; cases z⟩, re_up (fun r hr => .inl (h r hr)) (.inr ⟨v, a, ?_⟩)⟩
  rw [b]; congr 1; omega
theorem pr_s1 {F : Int → Option Int} {p v w q : Int} {j : Nat} (h : pr_I F p j (some q)) (a : F (j : Int) = some v) (b : F (j + p) = some w) (e : w - v = q) : pr_I F p (j + 1) (some q) := by
  obtain ⟨⟨r, hr, k⟩, g⟩ := h
  refine ⟨⟨r, by omega, k⟩, re_up g (.inr ⟨v, a, ?_⟩)⟩
  rw [b]; congr 1; omega
/-- at every place below c both ticks are covered, or none is -/
theorem pr_cv {F : Int → Option Int} {p : Int} {c : Nat} (h : pr_R F c p) {j : Nat} (hj : j < c) : F (j : Int) = none ↔ F (j + p) = none := by
  obtain ⟨o, h⟩ := h
  cases o with
  | none =>
    have := h j hj
    rw [this.1, this.2]
  | some q =>
    rcases h.2 j hj with ⟨a, b⟩ | ⟨v, a, b⟩
    · rw [a, b]
    · rw [a, b]; exact ⟨fun z => (by cases z), fun z => (by cases z)⟩
theorem pr_no {F : Int → Option Int} {p v w q : Int} {c j : Nat} (hj : j < c) (h : pr_I F p j (some q)) (a : F (j : Int) = some v) (b : F (j + p) = some w) (e : w - v ≠ q) : ¬ pr_R F c p := by
  rintro ⟨o, k⟩
  obtain ⟨⟨r, hr, hn⟩, g⟩ := h
  cases o with
  | none =>
    have := (k j hj).1
    rw [a] at this; cases this
  | some q' =>
    have h1 : w = v + q' := by
      rcases k.2 j hj with ⟨z, -⟩ | ⟨v', z, z'⟩
      · rw [a] at z; cases z
      · rw [a] at z; rw [b] at z'
        injection z with z; injection z' with z'
        omega
    have h2 : q = q' := by
      rcases g r hr with ⟨z, -⟩ | ⟨x, z, z'⟩
      · exact absurd z hn
      · rcases k.2 r (by omega) with ⟨y, -⟩ | ⟨x', y, y'⟩
        · rw [z] at y; cases y
        · rw [z] at y; rw [z'] at y'
          injection y with y; injection y' with y'
          omega
    omega
/-- the least period -/
def pr_T (F : Int → Option Int) (c p : Nat) : Prop := 1 ≤ p ∧ p ≤ c ∧ (∀ q : Nat, 1 ≤ q → q < p → ¬ pr_R F c q) ∧ (p < c → pr_R F c p)
theorem pr_Te (F : Int → Option Int) (c : Nat) : ∀ (d q : Nat), q + d = c → 1 ≤ q → (∀ q' : Nat, 1 ≤ q' → q' < q → ¬ pr_R F c q') → ∃ p, pr_T F c p := by
  intro d
  induction d with
  | zero => exact fun q hq h1 h => ⟨q, h1, by omega, h, fun z => by omega⟩
  | succ d ih =>
    intro q hq h1 h
    by_cases z : pr_R F c q
    · exact ⟨q, h1, by omega, h, fun _ => z⟩
    · refine ih (q + 1) (by omega) (by omega) (fun q' a b => ?_)
      by_cases w : q' = q
      · subst w; exact z
      · exact h q' a (by omega)
theorem pr_Tu {F : Int → Option Int} {c p p' : Nat} (h : pr_T F c p) (h' : pr_T F c p') : p = p' := by
  obtain ⟨a, b, d, e⟩ := h
  obtain ⟨a', b', d', e'⟩ := h'
  rcases Nat.lt_trichotomy p p' with z | z | z
  · exact absurd (e (by omega)) (d' p a z)
  · exact z
  · exact absurd (e' (by omega)) (d p' a' z)
section
variable {sz sc ls dp : Int32} {c : Nat} {K L S ch li le wk : Nat → Int32} {a : Nat} {F : Int → Option Int} {s : Int}
theorem xp_L {post : Int32 → Prop} {p : Nat} (hR : rp_R c K L S a F s) (hG : mx_G c s F) (ha : a < 4) (hp : p < 60) (h : post (mx_b (pr_R F c p))) : ∀ (d j : Nat) (o : Option Int), j + d = c → (∀ q, o = some q → -100000 ≤ q ∧ q ≤ 100000) → pr_I F p j o → ∀ n, d < n → wX_repeats_6 post (nI a) (nI p) (nI c) sz sc ls L K S ch li le n (mx_enc o) (nI j) := by
  have c1 := hG.1.1.1
  have c2 := hG.1.1.2
  intro d
  induction d with
  | zero =>
    intro j o hj ho k n hn
    obtain ⟨m, rfl⟩ : ∃ m, n = m + 1 := ⟨n - 1, by omega⟩
    have : j = c := by omega
    subst this
    rw [mx_bt ⟨o, k⟩] at h
    exact br_t (nI_le (by omega) (by omega)) h
  | succ d ih =>
    intro j o hj ho k n hn
    obtain ⟨m, rfl⟩ : ∃ m, n = m + 1 := ⟨n - 1, by omega⟩
    refine br_f (nI_ge (by omega) (by omega)) ?_
    unfold wX_repeats_47 wX_repeats_59
    rw [zi_n p, zi_n j, zi_add]
    refine xw_label hR hG.1 (by omega) (by omega) (by omega) (xw_label hR hG.1 (by omega) (by omega) (by omega) ?_)
    rw [← zi_n j, ← zi_n p]
    cases f : F (j : Int) with
    | none =>
      refine br_t rfl ?_
      cases f' : F ((j : Int) + p) with
      | none => exact br_t rfl (br_t rfl (br_t rfl (nm_r (nI_1 j) (ih (j + 1) o (by omega) ho (pr_nn k f f') m (by omega)))))
      | some w =>
        have wb := mx_bd hG.1 f'
        refine br_f (zi_nN (by omega) (by omega)) (br_f (by decide) ?_)
        rw [mx_bf] at h
        · exact h
        · intro z
          have := (pr_cv z (by omega)).mp f
          rw [f'] at this; cases this
    | some v =>
      have vb := mx_bd hG.1 f
      refine br_f (zi_nN (by omega) (by omega)) ?_
      cases f' : F ((j : Int) + p) with
      | none =>
        refine br_t rfl (br_f (by decide) ?_)
        rw [mx_bf] at h
        · exact h
        · intro z
          have := (pr_cv z (by omega)).mpr f'
          rw [f] at this; cases this
      | some w =>
        have wb := mx_bd hG.1 f'
        refine br_f (zi_nN (by omega) (by omega)) (br_t rfl (br_f (zi_nN (by omega) (by omega)) ?_))
        cases o with
        | none =>
          refine br_t rfl (nm_r (zi_sub w v) (nm_r (nI_1 j) ?_))
          exact ih (j + 1) (some (w - v)) (by omega) (fun q hq => by injection hq with hq; omega) (pr_s0 k f f') m (by omega)
        | some q =>
          have qb := ho q rfl
          refine br_f (zi_nN (by omega) (by omega)) (zi_beq (w - v) q (fun z => ?_) (fun z => ?_) (zi_sub w v) rfl)
          · subst z
            refine nm_r (zi_sub w v) (nm_r (nI_1 j) ?_)
            exact ih (j + 1) (some (w - v)) (by omega) ho (pr_s1 k f f' rfl) m (by omega)
          · rw [mx_bf (pr_no (by omega) k f f' z)] at h
            exact h
theorem xp_rep {post : Int32 → Prop} {p : Nat} (hR : rp_R c K L S a F s) (hG : mx_G c s F) (ha : a < 4) (hp : p < 60) (h : post (mx_b (pr_R F c p))) : wpX_repeats post ((nI c), sz, sc, ls, L, K, S, ch, li, le) (nI a) (nI p) := by
  unfold wpX_repeats
  exact ⟨c + 1, xp_L hR hG ha hp h c 0 none (by omega) (fun q hq => by cases hq) (fun r hr => by omega) (c + 1) (by omega)⟩
theorem yp_L {post : Int32 → Prop} {p : Nat} (hR : rp_R c K L S a F s) (hG : mx_G c s F) (ha : a < 4) (hp : p < 60) (h : post (mx_b (pr_R F c p))) : ∀ (d j : Nat) (o : Option Int) (x : Int32), j + d = c → (∀ q, o = some q → x = zi_I q ∧ -100000 ≤ q ∧ q ≤ 100000) → pr_I F p j o → ∀ n, d < n → wY_isPeriod_8 post (nI a) (nI p) (nI c) dp K L S wk n (mx_cv o) x (nI j) := by
  have c1 := hG.1.1.1
  have c2 := hG.1.1.2
  intro d
  induction d with
  | zero =>
    intro j o x hj ho k n hn
    obtain ⟨m, rfl⟩ : ∃ m, n = m + 1 := ⟨n - 1, by omega⟩
    have : j = c := by omega
    subst this
    rw [mx_bt ⟨o, k⟩] at h
    exact br_t (nI_le (by omega) (by omega)) h
  | succ d ih =>
    intro j o x hj ho k n hn
    obtain ⟨m, rfl⟩ : ∃ m, n = m + 1 := ⟨n - 1, by omega⟩
    refine br_f (nI_ge (by omega) (by omega)) ?_
    rw [zi_n p, zi_n j, zi_add]
    refine yw_cov hR hG.1 (by omega) (by omega) (by omega) (yw_cov hR hG.1 (by omega) (by omega) (by omega) ?_)
    cases f : F (j : Int) with
    | none =>
      cases f' : F ((j : Int) + p) with
      | none =>
        refine br_t rfl (yw_cov hR hG.1 (by omega) (by omega) (by omega) ?_)
        rw [← zi_n j, ← zi_n p, f]
        exact br_t rfl (nm_r (nI_1 j) (ih (j + 1) o x (by omega) ho (pr_nn k f f') m (by omega)))
      | some w =>
        refine br_f (re_01 w) ?_
        rw [mx_bf] at h
        · exact h
        · intro z
          have := (pr_cv z (by omega)).mp f
          rw [f'] at this; cases this
    | some v =>
      have vb := mx_bd hG.1 f
      cases f' : F ((j : Int) + p) with
      | none =>
        refine br_f (re_10 v) ?_
        rw [mx_bf] at h
        · exact h
        · intro z
          have := (pr_cv z (by omega)).mpr f'
          rw [f] at this; cases this
      | some w =>
        have wb := mx_bd hG.1 f'
        refine br_t rfl (yw_cov hR hG.1 (by omega) (by omega) (by omega) ?_)
        rw [f]
        refine br_f (rp_1 rfl) (yw_lab hR hG.1 (by omega) (by omega) (by omega) fun y hy => yw_lab hR hG.1 (by omega) (by omega) (by omega) fun y' hy' => ?_)
        rw [hy w f', hy' v f, ← zi_n j, ← zi_n p]
        refine nm_r (zi_sub w v) ?_
        cases o with
        | none =>
          refine br_t rfl (nm_r (nI_1 j) ?_)
          exact ih (j + 1) (some (w - v)) _ (by omega) (fun q hq => by injection hq with hq; subst hq; exact ⟨rfl, by omega, by omega⟩) (pr_s0 k f f') m (by omega)
        | some q =>
          obtain ⟨rfl, qb, qb'⟩ := ho q rfl
          refine br_f (rp_1 rfl) (zi_beq (w - v) q (fun z => ?_) (fun z => ?_))
          · subst z
            refine nm_r (nI_1 j) ?_
            exact ih (j + 1) (some (w - v)) _ (by omega) ho (pr_s1 k f f' rfl) m (by omega)
          · rw [mx_bf (pr_no (by omega) k f f' z)] at h
            exact h
theorem yp_per {post : Int32 → Prop} {p : Nat} (hR : rp_R c K L S a F s) (hG : mx_G c s F) (ha : a < 4) (hp : p < 60) (h : post (mx_b (pr_R F c p))) : wpY_isPeriod post ((nI c), dp, K, L, S, wk) (nI a) (nI p) := by
  unfold wpY_isPeriod
  exact ⟨c + 1, yp_L hR hG ha hp h c 0 none 0 (by omega) (fun q hq => by cases hq) (fun r hr => by omega) (c + 1) (by omega)⟩
theorem xp_TL {post : Int32 → Prop} {p : Nat} (hR : rp_R c K L S a F s) (hG : mx_G c s F) (ha : a < 4) (ea : sz - 1 = nI a) (hT : pr_T F c p) (h : post (nI p)) : ∀ (d q : Nat), q + d = c → 1 ≤ q → q ≤ p → ∀ n, d < n → wX_tickPeriod_28 post (nI c) sz sc ls L K S ch li le n (nI q) := by
  have c1 := hG.1.1.1
  have c2 := hG.1.1.2
  intro d
  induction d with
  | zero =>
    intro q hq h1 hle n hn
    obtain ⟨m, rfl⟩ : ∃ m, n = m + 1 := ⟨n - 1, by omega⟩
    have : p = c := by have := hT.2.1; omega
    subst this
    exact br_t (nI_le (by omega) (by omega)) h
  | succ d ih =>
    intro q hq h1 hle n hn
    obtain ⟨m, rfl⟩ : ∃ m, n = m + 1 := ⟨n - 1, by omega⟩
    refine br_f (nI_ge (by omega) (by omega)) ?_
    rw [ea]
    refine xp_rep hR hG ha (by omega) (mx_br (fun z => nm_r (nI_1 q) (ih (q + 1) (by omega) (by omega) ?_ m (by omega))) (fun z => ?_))
    · by_cases w : q = p
      · subst w; exact absurd (hT.2.2.2 (by omega)) z
      · omega
    · by_cases w : q = p
      · subst w; exact h
      · exact absurd z (hT.2.2.1 q h1 (by omega))
theorem xp_T {post : Int32 → Prop} {p : Nat} (hR : rp_R c K L S a F s) (hG : mx_G c s F) (ha : a < 4) (ea : sz - 1 = nI a) (h1 : 1 ≤ sz) (hT : pr_T F c p) (h : post (nI p)) : wpX_tickPeriod post ((nI c), sz, sc, ls, L, K, S, ch, li, le) := by
  have c1 := hG.1.1.1
  have c2 := hG.1.1.2
  have s1 := hG.1.2.1
  unfold wpX_tickPeriod
  refine br_t h1 ?_
  rw [ea, zi_clN (by omega), hR.1]
  refine ⟨zi_inN (by omega) (by omega), zi_beq s 0 (fun z => ?_) (fun z => ⟨c + 1, xp_TL hR hG ha ea hT h (c - 1) 1 (by omega) (by omega) hT.1 (c + 1) (by omega)⟩) rfl zi_0⟩
  have k := hG.2.2.mp z
  have : p = 1 := pr_Tu hT ⟨by omega, by omega, fun q a b => by omega, fun _ => ⟨none, fun r hr => ⟨k _, k _⟩⟩⟩
  subst this
  exact h
theorem yp_TL {post : Int32 → Prop} {p : Nat} (hR : rp_R c K L S a F s) (hG : mx_G c s F) (ha : a < 4) (ea : dp - 1 = nI a) (hT : pr_T F c p) (h : post (nI p)) : ∀ (d q : Nat), q + d = c → 1 ≤ q → q ≤ p → ∀ n, d < n → wY_tickPeriod_12 post (nI c) dp K L S wk n (nI q) := by
  have c1 := hG.1.1.1
  have c2 := hG.1.1.2
  intro d
  induction d with
  | zero =>
    intro q hq h1 hle n hn
    obtain ⟨m, rfl⟩ : ∃ m, n = m + 1 := ⟨n - 1, by omega⟩
    have : p = c := by have := hT.2.1; omega
    subst this
    exact br_t (nI_le (by omega) (by omega)) h
  | succ d ih =>
    intro q hq h1 hle n hn
    obtain ⟨m, rfl⟩ : ∃ m, n = m + 1 := ⟨n - 1, by omega⟩
    refine br_f (nI_ge (by omega) (by omega)) ?_
    rw [ea]
    refine yp_per hR hG ha (by omega) (mx_br (fun z => nm_r (nI_1 q) (ih (q + 1) (by omega) (by omega) ?_ m (by omega))) (fun z => ?_))
    · by_cases w : q = p
      · subst w; exact absurd (hT.2.2.2 (by omega)) z
      · omega
    · by_cases w : q = p
      · subst w; exact h
      · exact absurd z (hT.2.2.1 q h1 (by omega))
theorem yp_T {post : Int32 → Prop} {p : Nat} (hR : rp_R c K L S a F s) (hG : mx_G c s F) (ha : a < 4) (ea : dp - 1 = nI a) (h1 : 1 ≤ dp) (hT : pr_T F c p) (h : post (nI p)) : wpY_tickPeriod post ((nI c), dp, K, L, S, wk) := by
  have c1 := hG.1.1.1
  unfold wpY_tickPeriod
  exact br_t h1 ⟨c + 1, yp_TL hR hG ha ea hT h (c - 1) 1 (by omega) (by omega) hT.1 (c + 1) (by omega)⟩
/-- the answer of labelDistance from place j on, for both sides -/
theorem pd_L {Ky Ly Sy : Nat → Int32} {p : Nat} (hRx : rp_R c K L S a F s) (hRy : rp_R c Ky Ly Sy a F s) (hG : mx_G c s F) (ha : a < 4) (ex : sz - 1 = nI a) (hp : p ≤ c) (hcv : ∀ j : Nat, j < c → (F (j : Int) = none ↔ F (j + p) = none)) : ∀ (d j : Nat), j + d = c → ∃ r : Int32, (∀ post : Int32 → Prop, post r → ∀ n, d < n → wX_labelDistance_17 post (nI p) (nI c) sz sc ls L K S ch li le n (nI j)) ∧ (∀ post : Int32 → Prop, post r → ∀ n, d < n → wY_labelDistance_24 post (nI a) (nI p) (nI c) dp Ky Ly Sy wk n (nI j)) := by
  have c1 := hG.1.1.1
  have c2 := hG.1.1.2
  intro d
  induction d with
  | zero =>
    intro j hj
    refine ⟨0, fun post h n hn => ?_, fun post h n hn => ?_⟩
    · obtain ⟨m, rfl⟩ : ∃ m, n = m + 1 := ⟨n - 1, by omega⟩
      exact br_t (nI_le (by omega) (by omega)) h
    · obtain ⟨m, rfl⟩ : ∃ m, n = m + 1 := ⟨n - 1, by omega⟩
      exact br_t (nI_le (by omega) (by omega)) h
  | succ d ih =>
    intro j hj
    have hv := hcv j (by omega)
    cases f : F (j : Int) with
    | none =>
      obtain ⟨r, hX, hY⟩ := ih (j + 1) (by omega)
      refine ⟨r, fun post h n hn => ?_, fun post h n hn => ?_⟩
      · obtain ⟨m, rfl⟩ : ∃ m, n = m + 1 := ⟨n - 1, by omega⟩
        refine br_f (nI_ge (by omega) (by omega)) ?_
        rw [ex, zi_n j]
        refine xw_label hRx hG.1 (by omega) (by omega) (by omega) ?_
        rw [f, ← zi_n j]
        exact br_t rfl (nm_r (nI_1 j) (hX post h m (by omega)))
      · obtain ⟨m, rfl⟩ : ∃ m, n = m + 1 := ⟨n - 1, by omega⟩
        refine br_f (nI_ge (by omega) (by omega)) ?_
        rw [zi_n j]
        refine yw_cov hRy hG.1 (by omega) (by omega) (by omega) ?_
        rw [f, ← zi_n j]
        exact br_t rfl (nm_r (nI_1 j) (hY post h m (by omega)))
    | some v =>
      cases f' : F ((j : Int) + p) with
      | none => rw [hv.mpr f'] at f; cases f
      | some w =>
        have vb := mx_bd hG.1 f
        have wb := mx_bd hG.1 f'
        refine ⟨zi_I (w - v), fun post h n hn => ?_, fun post h n hn => ?_⟩
        · obtain ⟨m, rfl⟩ : ∃ m, n = m + 1 := ⟨n - 1, by omega⟩
          refine br_f (nI_ge (by omega) (by omega)) ?_
          rw [ex, zi_n j, zi_n p, zi_add]
          refine xw_label hRx hG.1 (by omega) (by omega) (by omega) ?_
          rw [f]
          refine br_f (zi_nN (by omega) (by omega)) (xw_label hRx hG.1 (by omega) (by omega) (by omega) ?_)
          rw [f']
          show post (zi_I w - zi_I v)
          rw [zi_sub]; exact h
        · obtain ⟨m, rfl⟩ : ∃ m, n = m + 1 := ⟨n - 1, by omega⟩
          refine br_f (nI_ge (by omega) (by omega)) ?_
          rw [zi_n j, zi_n p, zi_add]
          refine yw_cov hRy hG.1 (by omega) (by omega) (by omega) ?_
          rw [f]
          refine br_f (rp_1 rfl) (yw_lab hRy hG.1 (by omega) (by omega) (by omega) fun y hy => yw_lab hRy hG.1 (by omega) (by omega) (by omega) fun y' hy' => ?_)
          rw [hy w f', hy' v f, zi_sub]; exact h
end
theorem i_vc_tickPeriod {k : Nat} {u : SX} {v : SY} (I : i_Rel k u v) (hk : k + 4 ≤ 2049) : wpX_tickPeriod (fun r => wpY_tickPeriod (fun r' => r' = r ∧ i_Rel (k + 4) u v) v) u := by
  refine rl_el (P := fun u v => wpX_tickPeriod (fun r => wpY_tickPeriod (fun r' => r' = r ∧ i_Rel (k + 4) u v) v) u) I ?_
  intro c n sc ls K L S ch li le Ky Ly Sy wk hA
  obtain ⟨hc, n4, hK, hKy, hs⟩ := id hA
  by_cases h : 1 ≤ n
  · have h1 : (1 : Int32) ≤ nI n := nI_le (a := 1) h (by omega)
    have e : nI n - 1 = nI (n - 1) := zi_nsub (b := 1) h
    obtain ⟨F, s, hG, hRx, hRy⟩ := hs (n - 1) (by omega)
    obtain ⟨p, hT⟩ := pr_Te F c (c - 1) 1 (by omega) (by omega) (fun q a b => by omega)
    exact xp_T hRx hG (by omega) e h1 hT (yp_T hRy hG (by omega) e h1 hT ⟨rfl, rl_mk hA⟩)
  · have h1 : ¬ (1 : Int32) ≤ nI n := nI_ge (b := 1) (by omega) (by omega)
    exact br_f h1 (br_f h1 ⟨rfl, rl_mk hA⟩)
theorem i_vc_labelDistance {k : Nat} {u : SX} {v : SY} (I : i_Rel k u v) (hk : k + 4 ≤ 2049) : wpX_labelDistance (fun r => wpY_labelDistance (fun r' => r' = r ∧ i_Rel (k + 4) u v) v) u := by
  refine rl_el (P := fun u v => wpX_labelDistance (fun r => wpY_labelDistance (fun r' => r' = r ∧ i_Rel (k + 4) u v) v) u) I ?_
  intro c n sc ls K L S ch li le Ky Ly Sy wk hA
  obtain ⟨hc, n4, hK, hKy, hs⟩ := id hA
  by_cases h : 1 ≤ n
  · have h1 : (1 : Int32) ≤ nI n := nI_le (a := 1) h (by omega)
    have e : nI n - 1 = nI (n - 1) := zi_nsub (b := 1) h
    obtain ⟨F, s, hG, hRx, hRy⟩ := hs (n - 1) (by omega)
    obtain ⟨p, hT⟩ := pr_Te F c (c - 1) 1 (by omega) (by omega) (fun q a b => by omega)
    have hcv : ∀ j : Nat, j < c → (F (j : Int) = none ↔ F (j + p) = none) := fun j hj => by
      by_cases z : p < c
      · exact pr_cv (hT.2.2.2 z) hj
      · have : p = c := by have := hT.2.1; omega
        subst this
        rw [hG.1.2.2.1 j]
        cases F (j : Int) with
        | none => exact ⟨fun _ => rfl, fun _ => rfl⟩
        | some v => exact ⟨fun q => (by cases q), fun q => (by cases q)⟩
    obtain ⟨r, hX, hY⟩ := pd_L (sz := nI n) (sc := sc) (ls := ls) (dp := nI n) (ch := ch) (li := li) (le := le) (wk := wk) hRx hRy hG (by omega) e hT.2.1 hcv c 0 (by omega)
    unfold wpX_labelDistance
    refine br_t h1 (xp_T hRx hG (by omega) e h1 hT ⟨c + 1, hX _ ?_ (c + 1) (by omega)⟩)
    unfold wpY_labelDistance
    exact br_t h1 (nm_r e (yp_T hRy hG (by omega) e h1 hT ⟨c + 1, hY _ ⟨rfl, rl_mk hA⟩ (c + 1) (by omega)⟩))
  · have h1 : ¬ (1 : Int32) ≤ nI n := nI_ge (b := 1) (by omega) (by omega)
    exact br_f h1 (br_f h1 ⟨rfl, rl_mk hA⟩)
end
section
/-! results of join and select, pure -/
/-- A where P holds -/
noncomputable def mx_fl (A : Int → Option Int) (P : Int → Prop) : Int → Option Int := fun t => @ite _ (P t) (Classical.propDecidable (P t)) (A t) none
theorem mx_flt {A : Int → Option Int} {P : Int → Prop} {t : Int} (h : P t) : mx_fl A P t = A t := @if_pos _ (Classical.propDecidable (P t)) h _ _ _
theorem mx_flf {A : Int → Option Int} {P : Int → Prop} {t : Int} (h : ¬ P t) : mx_fl A P t = none := @if_neg _ (Classical.propDecidable (P t)) h _ _ _
theorem mx_fln {A : Int → Option Int} {P : Int → Prop} {t : Int} (h : A t = none) : mx_fl A P t = none := by
  by_cases z : P t
  · rw [mx_flt z, h]
  · exact mx_flf z
theorem mx_fls {A : Int → Option Int} {P : Int → Prop} {t v : Int} (h : mx_fl A P t = some v) : P t ∧ A t = some v := by
  by_cases z : P t
  · rw [mx_flt z] at h; exact ⟨z, h⟩
  · rw [mx_flf z] at h; cases h
theorem mg_flP {c s : Int} {A : Int → Option Int} {P : Int → Prop} (hp : mx_per c s A) (hP : ∀ t, A t ≠ none → (P (t + c) ↔ P t)) : mx_per c s (mx_fl A P) := by
  intro t
  cases f : A t with
  | none => rw [mx_fln f, mx_fln (by rw [hp t, f]; rfl)]; rfl
  | some v =>
    have w := hP t (by rw [f]; intro z; cases z)
    by_cases z : P t
    · rw [mx_flt z, mx_flt (w.mpr z), hp t]
    · rw [mx_flf z, mx_flf (fun q => z (w.mp q))]; rfl
theorem mg_fl {c : Nat} {s g : Int} {A : Int → Option Int} {P : Int → Prop} (hG : mx_G c s A) (hP : ∀ t, A t ≠ none → (P (t + c) ↔ P t)) (hg : sd_g c (mx_fl A P) s g) : mx_G c g (mx_fl A P) := by
  obtain ⟨⟨⟨c1, c2⟩, hs, hp, hb⟩, hM, hz⟩ := hG
  refine mg_of (by omega) (mg_flP hp hP) hs (fun r hr v hv => ?_) (fun t t' v v' h a b => ?_) (fun z t => mx_fln (hz.mp z t)) hg
  · exact hb r v (by omega) (by omega) (mx_fls hv).2
  · exact hM t t' v v' h (mx_fls a).2 (mx_fls b).2
/-- a function out of a relation -/
noncomputable def mx_fn (R : Int → Int → Prop) : Int → Option Int := fun t => @dite _ (∃ v, R t v) (Classical.propDecidable _) (fun h => some h.choose) (fun _ => none)
theorem mx_fnE {R : Int → Int → Prop} (hu : ∀ t v w, R t v → R t w → v = w) {t v : Int} (h : R t v) : mx_fn R t = some v := by
  have k : ∃ v, R t v := ⟨v, h⟩
  have e : mx_fn R t = some k.choose := @dif_pos _ (Classical.propDecidable _) k _ _ _
  rw [e, hu t _ _ k.choose_spec h]
theorem mx_fnN {R : Int → Int → Prop} {t : Int} (h : ∀ v, ¬ R t v) : mx_fn R t = none :=
  @dif_neg _ (Classical.propDecidable _) (fun ⟨v, k⟩ => h v k) _ _ _
theorem mx_fnS {R : Int → Int → Prop} (hu : ∀ t v w, R t v → R t w → v = w) {t v : Int} (h : mx_fn R t = some v) : R t v := by
  by_cases k : ∃ v, R t v
  · obtain ⟨w, hw⟩ := k
    rw [mx_fnE hu hw] at h
    injection h with h
    subst h; exact hw
  · rw [mx_fnN (fun v q => k ⟨v, q⟩)] at h; cases h
/-- nested repeats with the cycle -/
theorem mx_Ns {c s s' : Int} {A B : Int → Option Int} (ha : mx_per c s A) (hb : mx_per c s' B) (q : Int) {t : Int} (h : mx_N A B t) : mx_N A B (t + q * c) := by
  obtain ⟨i, j, a, b, k⟩ := h
  exact ⟨i + q * s, j + q * s', mx_sh ha q a, mx_sh hb q b, mx_Hs ha hb q k⟩
theorem mx_Nsi {c s s' : Int} {A B : Int → Option Int} (ha : mx_per c s A) (hb : mx_per c s' B) {t : Int} : mx_N A B (t + c) ↔ mx_N A B t := by
  constructor
  · intro h
    have := mx_Ns ha hb (-1) h
    rw [Int.neg_mul, Int.one_mul, Int.add_neg_cancel_right] at this
    exact this
  · intro h
    have := mx_Ns ha hb 1 h
    rw [Int.one_mul] at this
    exact this
theorem mx_least (P : Nat → Prop) : (∃ k, P k) → ∃ k, P k ∧ ∀ j, j < k → ¬ P j := by
  rintro ⟨k, hk⟩
  induction k using Nat.strongRecOn with
  | ind k ih =>
    by_cases z : ∃ j, j < k ∧ P j
    · obtain ⟨j, hj, pj⟩ := z
      exact ih j hj pj
    · exact ⟨k, hk, fun j hj pj => z ⟨j, hj, pj⟩⟩
/-- a granule has a first tick -/
theorem mx_edE {c s : Int} {A : Int → Option Int} (hG : mx_G c s A) {t i : Int} (h : A t = some i) : ∃ x, mx_ed false A i x := by
  have c1 := hG.1.1.1
  obtain ⟨k, hk, hl⟩ := mx_least (fun k => A (t - c + k) = some i) ⟨c.toNat, by rw [show t - c + (c.toNat : Int) = t by omega]; exact h⟩
  refine ⟨t - c + k, hk, fun u hu => ⟨fun _ => ?_, fun z => by cases z⟩⟩
  have n := mx_near hG hu h
  by_cases z : t - c + (k : Int) ≤ u
  · exact z
  · exact absurd (show A (t - c + ((u - (t - c)).toNat : Int)) = some i by rw [show t - c + ((u - (t - c)).toNat : Int) = u by omega]; exact hu) (hl (u - (t - c)).toNat (by omega))
theorem mx_edS {c s : Int} {A : Int → Option Int} (hp : mx_per c s A) (q : Int) {i x : Int} (h : mx_ed false A i x) : mx_ed false A (i + q * s) (x + q * c) := by
  refine ⟨mx_sh hp q h.1, fun t ht => ⟨fun _ => ?_, fun z => by cases z⟩⟩
  have : A (t - q * c) = some i := by rw [← mx_shi hp q, Int.sub_add_cancel]; exact ht
  have := (h.2 _ this).1 rfl
  omega
/-- ticks of a granule that meets the first cycle -/
theorem mx_cl {c s : Int} {A : Int → Option Int} (hG : mx_G c s A) {r t i : Int} (h0 : 0 ≤ r) (h1 : r < c) (h : A r = some i) (k : A t = some i) : -60 < t ∧ t < 120 := by
  have a := mx_near hG h k
  have b := mx_near hG k h
  have c2 := hG.1.1.2
  omega
/-- the greatest label of B begun up to x -/
def mx_U (B : Int → Option Int) (x v : Int) : Prop := (∃ t, t ≤ x ∧ B t = some v) ∧ ∀ t w, t ≤ x → B t = some w → w ≤ v
theorem mx_Uu {B : Int → Option Int} {x v w : Int} (h : mx_U B x v) (k : mx_U B x w) : v = w := by
  obtain ⟨⟨t, ht, et⟩, h2⟩ := h
  obtain ⟨⟨u, hu, eu⟩, k2⟩ := k
  have a := h2 u w hu eu
  have b := k2 t v ht et
  omega
theorem mx_Us {c s : Int} {B : Int → Option Int} (hp : mx_per c s B) (q : Int) {x v : Int} (h : mx_U B x v) : mx_U B (x + q * c) (v + q * s) := by
  obtain ⟨⟨t, ht, et⟩, h2⟩ := h
  refine ⟨⟨t + q * c, by omega, mx_sh hp q et⟩, fun u w hu eu => ?_⟩
  have : B (u - q * c) = some (w - q * s) := by rw [← mx_shi hp q, Int.sub_add_cancel, Int.sub_add_cancel]; exact eu
  have := h2 _ _ (by omega) this
  omega
/-- anchoring A on B -/
def mx_An (A B : Int → Option Int) (t v : Int) : Prop := ∃ i x, A t = some i ∧ mx_ed false A i x ∧ mx_U B x v
theorem mx_Anu {A B : Int → Option Int} (t v w : Int) (h : mx_An A B t v) (k : mx_An A B t w) : v = w := by
  obtain ⟨i, x, a, b, d⟩ := h
  obtain ⟨i', x', a', b', d'⟩ := k
  rw [a] at a'
  injection a' with a'
  subst a'
  have := mx_edu b b'
  subst this
  exact mx_Uu d d'
theorem mx_Ans {c s s' : Int} {A B : Int → Option Int} (ha : mx_per c s A) (hb : mx_per c s' B) (q : Int) {t v : Int} (h : mx_An A B t v) : mx_An A B (t + q * c) (v + q * s') := by
  obtain ⟨i, x, a, b, d⟩ := h
  exact ⟨i + q * s, x + q * c, mx_sh ha q a, mx_edS ha q b, mx_Us hb q d⟩
theorem mg_anP {c s s' : Int} {A B : Int → Option Int} (ha : mx_per c s A) (hb : mx_per c s' B) : mx_per c s' (mx_fn (mx_An A B)) := by
  intro t
  by_cases z : ∃ v, mx_An A B t v
  · obtain ⟨v, hv⟩ := z
    have := mx_Ans ha hb 1 hv
    rw [Int.one_mul, Int.one_mul] at this
    rw [mx_fnE mx_Anu hv, mx_fnE mx_Anu this]; rfl
  · rw [mx_fnN (fun v q => z ⟨v, q⟩), mx_fnN (fun v q => z ⟨v - s', ?_⟩)]
    · rfl
    · have := mx_Ans ha hb (-1) q
      rw [Int.neg_mul, Int.neg_mul, Int.one_mul, Int.one_mul, Int.add_neg_cancel_right] at this
      exact this
theorem mg_an {c : Nat} {s s' g : Int} {A B : Int → Option Int} (hG : mx_G c s A) (hG' : mx_G c s' B) (hb : ∀ r : Nat, r < c → ∀ v, mx_fn (mx_An A B) (r : Int) = some v → -9999 ≤ v ∧ v ≤ 9999) (hg : sd_g c (mx_fn (mx_An A B)) s' g) : mx_G c g (mx_fn (mx_An A B)) := by
  have c1 := hG.1.1
  refine mg_of (by omega) (mg_anP hG.1.2.2.1 hG'.1.2.2.1) hG'.1.2.1 hb (fun t t' v v' h a b => ?_) (fun z t => ?_) hg
  · obtain ⟨i, x, e, k, w⟩ := mx_fnS mx_Anu a
    obtain ⟨i', x', e', k', w'⟩ := mx_fnS mx_Anu b
    have ii := hG.2.1 t t' i i' h e e'
    have xx : x ≤ x' := by
      by_cases z : x ≤ x'
      · exact z
      · have := hG.2.1 x' x i' i (by omega) k'.1 k.1
        have : i = i' := by omega
        subst this
        have := mx_edu k k'
        omega
    obtain ⟨⟨u, hu, eu⟩, -⟩ := w
    exact w'.2 u v (by omega) eu
  · refine mx_fnN fun v hv => ?_
    obtain ⟨i, x, -, -, ⟨u, -, eu⟩, -⟩ := hv
    rw [hG'.2.2.mp z u] at eu; cases eu
/-- the two together -/
def mx_or (A B : Int → Option Int) : Int → Option Int := fun t => match A t with
  | some v => some v
  | none => B t
theorem mx_ors {A B : Int → Option Int} {t v : Int} (h : A t = some v) : mx_or A B t = some v := by
  unfold mx_or; rw [h]
theorem mx_orn {A B : Int → Option Int} {t : Int} (h : A t = none) : mx_or A B t = B t := by
  unfold mx_or; rw [h]
theorem mx_orE {A B : Int → Option Int} (h : ∀ t, A t = none) : mx_or A B = B := funext fun t => mx_orn (h t)
theorem mx_orE' {A B : Int → Option Int} (h : ∀ t, B t = none) : mx_or A B = A := funext fun t => by
  cases f : A t with
  | none => rw [mx_orn f, h]
  | some v => rw [mx_ors f]
theorem mg_orP {c s : Int} {A B : Int → Option Int} (ha : mx_per c s A) (hb : mx_per c s B) : mx_per c s (mx_or A B) := by
  intro t
  cases f : A t with
  | none => rw [mx_orn f, mx_orn (by rw [ha t, f]; rfl), hb t]
  | some v => rw [mx_ors f, mx_ors (mx_s1 ha f)]; rfl
/-- the order needs to be looked at within two cycles only -/
theorem mx_Mred {c s : Int} {F : Int → Option Int} (c1 : 1 ≤ c) (s1 : 0 ≤ s) (hp : mx_per c s F) (h : ∀ t d v w, 0 ≤ t → t < c → 0 ≤ d → d < c → F t = some v → F (t + d) = some w → v ≤ w) : mx_M F := by
  intro t t' v v' ht e e'
  have m0 := Int.emod_nonneg t (b := c) (by omega)
  have m1 := Int.emod_lt_of_pos t (b := c) (by omega)
  have em := mx_em t c
  have d0 := Int.emod_nonneg (t' - t) (b := c) (by omega)
  have d1 := Int.emod_lt_of_pos (t' - t) (b := c) (by omega)
  have dm := mx_em (t' - t) c
  have k0 : 0 ≤ (t' - t) / c := Int.ediv_nonneg (by omega) (by omega)
  have a : F (t % c) = some (v - t / c * s) := by
    rw [← mx_shi hp (t / c), ← em, Int.sub_add_cancel]; exact e
  have b : F (t % c + (t' - t) % c) = some (v' - (t / c + (t' - t) / c) * s) := by
    rw [← mx_shi hp (t / c + (t' - t) / c), Int.sub_add_cancel, Int.add_mul]
    rw [show t % c + (t' - t) % c + (t / c * c + (t' - t) / c * c) = t' by omega]
    exact e'
  have := h _ _ _ _ m0 m1 d0 d1 a b
  have p := Int.mul_nonneg k0 s1
  rw [Int.add_mul] at this
  omega
theorem mg_or {c : Nat} {s s' g : Int} {A B : Int → Option Int} (hG : mx_G c s A) (hG' : mx_G c s' B) (n : Int) (hn : mx_per c n (mx_or A B)) (hns : n = s ∨ n = s') (hz : n = 0 → ∀ t, mx_or A B t = none) (hM : mx_M (mx_or A B)) (hg : sd_g c (mx_or A B) n g) : mx_G c g (mx_or A B) := by
  have c1 := hG.1.1
  have s1 := hG.1.2.1
  have s2 := hG'.1.2.1
  refine mg_of (by omega) hn ?_ (fun r hr v hv => ?_) hM hz hg
  · rcases hns with rfl | rfl
    · exact s1
    · exact s2
  · cases f : A (r : Int) with
    | none => rw [mx_orn f] at hv; exact mg_r hG'.1 hr hv
    | some w =>
      rw [mx_ors f] at hv
      injection hv with hv
      subst hv
      exact mg_r hG.1 hr f
end
section
/-! the component's kinds of join; each leaves its result in the scratch slot -/
theorem sd_gu {c : Nat} {F : Int → Option Int} {s g g' : Int} (h : sd_g c F s g) (k : sd_g c F s g') : g = g' := by
  by_cases z : ∃ r : Nat, r < c ∧ F (r : Int) ≠ none
  · rw [h.2 z, k.2 z]
  · have w : ∀ r : Nat, r < c → F (r : Int) = none := fun r hr => by
      cases f : F (r : Int) with
      | none => rfl
      | some v => exact absurd ⟨r, hr, by rw [f]; intro q; cases q⟩ z
    rw [h.1 w, k.1 w]
theorem mx_ss {v : Int} : ¬ (some v = (none : Option Int)) := fun z => by cases z
theorem mx_modq {s i o : Int} (h : (i % s).toNat = (o % s).toNat) (hs : 1 ≤ s) : ∃ q, i = o + q * s := by
  have a := Int.emod_nonneg i (b := s) (by omega)
  have b := Int.emod_nonneg o (b := s) (by omega)
  have e1 := mx_em i s
  have e2 := mx_em o s
  refine ⟨i / s - o / s, ?_⟩
  rw [Int.sub_mul]; omega
section
variable {sz sc ls : Int32} {c : Nat} {K L S ch li le : Nat → Int32} {a b : Nat} {A B : Int → Option Int} {s s' g : Int}
theorem zx_fmodA {cy : Int32} {post : Int32 → Prop} {x : Int32} {m : Int} (hm : 0 ≤ m) (hm' : m < 2147483648) (h : ∀ y, post y) : wpX_floorMod post (cy, sz, sc, ls, L, K, S, ch, li, le) x (zi_I m) := by
  rcases Int.lt_or_eq_of_le hm with z | z
  · rw [zi_w x]; exact zx_fmod (zi_wl _) (zi_wh _) z hm' (h _)
  · subst z; exact zx_fmod0 (h _)
theorem xk_setL {post : SX → Prop} {x : Int32} (hx : x = 0 ∨ x = 1) (h : ∀ ch', (∀ i, i < 60 → ch' i = x) → post ((nI c), sz, sc, ls, L, K, S, ch', li, le)) : ∀ (d j : Nat) (ch : Nat → Int32), j + d = 60 → (∀ i, i < j → ch i = x) → ∀ n, d < n → wX_setChosen_2 post x (nI c) sz sc ls n (nI j) L K S ch li le := by
  intro d
  induction d with
  | zero =>
    intro j ch hj k n hn
    obtain ⟨m, rfl⟩ : ∃ m, n = m + 1 := ⟨n - 1, by omega⟩
    have : j = 60 := by omega
    subst this
    exact br_t (nI_le (a := 60) (by omega) (by omega)) (h ch k)
  | succ d ih =>
    intro j ch hj k n hn
    obtain ⟨m, rfl⟩ : ∃ m, n = m + 1 := ⟨n - 1, by omega⟩
    refine br_f (nI_ge (b := 60) (by omega) (by omega)) ⟨zi_inN (by omega) (by omega), nm_r (e' := upd ch j x) (by rw [zi_clN (by omega), zi_vb hx]) (nm_r (nI_1 j) (ih (j + 1) _ (by omega) (fun i hi => ?_) m (by omega)))⟩
    by_cases z : i = j
    · rw [z, zi_us]
    · rw [zi_un z]; exact k i (by omega)
theorem xk_set {post : SX → Prop} {x : Int32} (hx : x = 0 ∨ x = 1) (h : ∀ ch', (∀ i, i < 60 → ch' i = x) → post ((nI c), sz, sc, ls, L, K, S, ch', li, le)) : wpX_setChosen post ((nI c), sz, sc, ls, L, K, S, ch, li, le) x := by
  unfold wpX_setChosen
  exact ⟨61, xk_setL hx h 60 0 ch (by omega) (fun i hi => by omega) 61 (by omega)⟩
theorem xk_mark {post : SX → Prop} {x : Int32} {i : Int} (hx : x = 0 ∨ x = 1) (ha : a < 5) (hS : S a = zi_I s) (hs : 1 ≤ s) (hs' : s ≤ 60) (hi : -2147483648 ≤ i) (hi' : i < 2147483648) (h : post ((nI c), sz, sc, ls, L, K, S, (upd ch (i % s).toNat x), li, le)) : wpX_mark post ((nI c), sz, sc, ls, L, K, S, ch, li, le) (nI a) (zi_I i) x := by
  have m0 := Int.emod_nonneg i (b := s) (by omega)
  have m1 := Int.emod_lt_of_pos i (b := s) (by omega)
  unfold wpX_mark
  dsimp only
  rw [zi_clN (by omega), hS]
  refine ⟨zi_inN (by omega) (by omega), zx_fmod hi hi' (by omega) (by omega) ⟨zi_in m0 (by omega) (by omega), nm_r (e' := upd ch (i % s).toNat x) (by rw [zi_cl m0 (by omega), zi_vb hx]) h⟩⟩
theorem xk_keepL {post : SX → Prop} {P : Int → Prop} {K0 L0 : Nat → Int32} (hR : rp_R c K0 L0 S a A s) (hG : mx_G c s A) (ha : a < 4) (hP : ∀ r : Nat, r < c → ∀ i, A (r : Int) = some i → (P r ↔ ch (i % s).toNat ≠ 0)) (hg : sd_g c (mx_fl A P) s g) (h : ∀ K' L' S', rp_R c K' L' S' 4 (mx_fl A P) g → sd_F c K0 L0 S K' L' S' → post ((nI c), sz, sc, ls, L', K', S', ch, li, le)) : ∀ (d j : Nat) (K L : Nat → Int32), j + d = c → sd_D K0 L0 K L (fun x => x < j) (mx_fl A P) → ∀ n, d < n → wX_keepChosen_2 post (nI a) n (nI j) (nI c) sz sc ls L K S ch li le := by
  have c1 := hG.1.1.1
  have c2 := hG.1.1.2
  have s1 := hG.1.2.1.1
  have s2 := hG.1.2.1.2
  have c60 : c ≤ 60 := by omega
  intro d
  induction d with
  | zero =>
    intro j K L hj hD n hn
    obtain ⟨q, rfl⟩ : ∃ q, n = q + 1 := ⟨n - 1, by omega⟩
    have : j = c := by omega
    subst this
    exact br_t (nI_le (by omega) (by omega)) ⟨zi_inN (by omega) (by omega), xw_settle c60 hD (fun r hr => hr) hg (fun S' hR4 hF _ => h _ _ _ hR4 hF) (by rw [zi_clN (by omega)]; exact hR.1)⟩
  | succ d ih =>
    intro j K L hj hD n hn
    obtain ⟨q, rfl⟩ : ∃ q, n = q + 1 := ⟨n - 1, by omega⟩
    have hR' : rp_R c K L S a A s := (sd_DF (S' := S) c60 hD (fun _ _ => rfl)).2 a ha A s hR
    have bd : ∀ v, mx_fl A P (j : Int) = some v → -2147483648 ≤ v ∧ v < 1000000000 := fun v hv => by
      have := mg_r hG.1 (by omega) (mx_fls hv).2; omega
    have nx : ∀ x, x = mx_enc (mx_fl A P (j : Int)) → wpX_put (fun u => match u with | (cy, sz, sc, ls, L, K, S, ch, li, le) => ∀ x2, x2 = nI j + 1 → wX_keepChosen_2 post (nI a) q x2 cy sz sc ls L K S ch li le) ((nI c), sz, sc, ls, L, K, S, ch, li, le) (nI j) x := fun x hx => xw_putv (by omega) hD hx bd sd_ls (fun K' L' hD' => nm_r (nI_1 j) (ih (j + 1) _ _ (by omega) hD' q (by omega)))
    refine br_f (nI_ge (by omega) (by omega)) ?_
    rw [zi_n j]
    refine xw_label hR' hG.1 (by omega) (by omega) (by omega) ?_
    rw [← zi_n j]
    refine ⟨zi_inN (by omega) (by omega), ?_⟩
    rw [zi_clN (by omega), hR.1]
    unfold wX_keepChosen_52 wX_keepChosen_54
    cases f : A (j : Int) with
    | none => exact zx_fmodA s1 (by omega) fun y => br_t rfl (nx _ (by rw [mx_fln f]; rfl))
    | some i =>
      have ib := mg_r hG.1 (by omega) f
      have sp := mx_spos hG f
      have m0 := Int.emod_nonneg i (b := s) (by omega)
      have m1 := Int.emod_lt_of_pos i (b := s) (by omega)
      have key := hP j (by omega) i f
      refine zx_fmod (by omega) (by omega) (by omega) (by omega) (br_f (zi_nN (by omega) (by omega)) ⟨zi_in m0 (by omega) (by omega), ?_⟩)
      rw [zi_cl m0 (by omega)]
      by_cases z : ch (i % s).toNat = 0
      · exact br_t z (nx _ (by rw [mx_flf (fun w => key.mp w z)]; rfl))
      · exact br_f z (nx _ (by rw [mx_flt (key.mpr z), f]))
theorem xk_keep {post : SX → Prop} {P : Int → Prop} (hR : rp_R c K L S a A s) (hG : mx_G c s A) (ha : a < 4) (h01 : ∀ i, K i = 0 ∨ K i = 1) (hP : ∀ r : Nat, r < c → ∀ i, A (r : Int) = some i → (P r ↔ ch (i % s).toNat ≠ 0)) (hg : sd_g c (mx_fl A P) s g) (h : ∀ K' L' S', rp_R c K' L' S' 4 (mx_fl A P) g → sd_F c K L S K' L' S' → post ((nI c), sz, sc, ls, L', K', S', ch, li, le)) : wpX_keepChosen post ((nI c), sz, sc, ls, L, K, S, ch, li, le) (nI a) := by
  unfold wpX_keepChosen
  exact ⟨c + 1, xk_keepL hR hG ha hP hg h c 0 K L (by omega) (sd_D0 h01) (c + 1) (by omega)⟩
/-! combine -/
theorem xj_combineL {post : SX → Prop} {K0 L0 : Nat → Int32} (hR : rp_R c K0 L0 S a A s) (hG : mx_G c s A) (ha : a < 4) (hR' : rp_R c K0 L0 S b B s') (hG' : mx_G c s' B) (hb : b < 4) (hg : sd_g c (mx_fl A (mx_N B A)) s g) (h : ∀ K' L' S', rp_R c K' L' S' 4 (mx_fl A (mx_N B A)) g → sd_F c K0 L0 S K' L' S' → post ((nI c), sz, sc, ls, L', K', S', ch, li, le)) : ∀ (d j : Nat) (K L : Nat → Int32), j + d = c → sd_D K0 L0 K L (fun x => x < j) (mx_fl A (mx_N B A)) → ∀ n, d < n → wX_combine_2 post (nI a) (nI b) n (nI j) (nI c) sz sc ls L K S ch li le := by
  have c1 := hG.1.1.1
  have c2 := hG.1.1.2
  have c60 : c ≤ 60 := by omega
  intro d
  induction d with
  | zero =>
    intro j K L hj hD n hn
    obtain ⟨q, rfl⟩ : ∃ q, n = q + 1 := ⟨n - 1, by omega⟩
    have : j = c := by omega
    subst this
    exact br_t (nI_le (by omega) (by omega)) ⟨zi_inN (by omega) (by omega), xw_settle c60 hD (fun r hr => hr) hg (fun S' hR4 hF _ => h _ _ _ hR4 hF) (by rw [zi_clN (by omega)]; exact hR.1)⟩
  | succ d ih =>
    intro j K L hj hD n hn
    obtain ⟨q, rfl⟩ : ∃ q, n = q + 1 := ⟨n - 1, by omega⟩
    have hF := sd_DF (S := S) (S' := S) c60 hD (fun _ _ => rfl)
    have hRa : rp_R c K L S a A s := hF.2 a ha A s hR
    have hRb : rp_R c K L S b B s' := hF.2 b hb B s' hR'
    have bd : ∀ v, mx_fl A (mx_N B A) (j : Int) = some v → -2147483648 ≤ v ∧ v < 1000000000 := fun v hv => by
      have := mg_r hG.1 (by omega) (mx_fls hv).2; omega
    have nx : ∀ x, x = mx_enc (mx_fl A (mx_N B A) (j : Int)) → wpX_put (fun u => match u with | (cy, sz, sc, ls, L, K, S, ch, li, le) => ∀ x2, x2 = nI j + 1 → wX_combine_2 post (nI a) (nI b) q x2 cy sz sc ls L K S ch li le) ((nI c), sz, sc, ls, L, K, S, ch, li, le) (nI j) x := fun x hx => xw_putv (by omega) hD hx bd sd_ls (fun K' L' hD' => nm_r (nI_1 j) (ih (j + 1) _ _ (by omega) hD' q (by omega)))
    refine br_f (nI_ge (by omega) (by omega)) ?_
    unfold wX_combine_39
    rw [zi_n j]
    refine xw_label hRb hG'.1 (by omega) (by omega) (by omega) ?_
    rw [← zi_n j]
    cases f : B (j : Int) with
    | none =>
      refine br_t rfl (nx _ ?_)
      rw [mx_flf]
      · rfl
      · rintro ⟨i, _, z, -, -⟩
        rw [f] at z; cases z
    | some i =>
      have ib := mg_r hG'.1 (by omega) f
      refine br_f (zi_nN (by omega) (by omega)) (xw_holder hRb hG' (by omega) hRa hG.1 (by omega) (by omega) (by omega) (fun w hw => nx _ ?_) (fun hw => nx _ ?_))
      · rw [mx_flt (mx_NH f hw), hw.2 _ f]; rfl
      · rw [mx_flf (mx_NN f hw)]; rfl
/-! selectUp -/
def up_P (A B : Int → Option Int) (t : Int) : Prop := ∃ i, A t = some i ∧ ∃ t', A t' = some i ∧ mx_N B A t'
theorem up_PP {c s s' : Int} (ha : mx_per c s A) (hb : mx_per c s' B) (t : Int) : up_P A B (t + c) ↔ up_P A B t := by
  constructor
  · rintro ⟨i, e, t', e', k⟩
    refine ⟨i - s, ?_, t' - c, mx_s1' ha e', ?_⟩
    · have := mx_s1' ha e
      rw [Int.add_sub_cancel] at this
      exact this
    · rw [← mx_Nsi hb ha, Int.sub_add_cancel]; exact k
  · rintro ⟨i, e, t', e', k⟩
    exact ⟨i + s, mx_s1 ha e, t' + c, mx_s1 ha e', (mx_Nsi hb ha).mpr k⟩
theorem xj_upL {post : SX → Prop} (hR : rp_R c K L S a A s) (hG : mx_G c s A) (ha : a < 4) (hR' : rp_R c K L S b B s') (hG' : mx_G c s' B) (hb : b < 4) (h01 : ∀ i, K i = 0 ∨ K i = 1) (hg : sd_g c (mx_fl A (up_P A B)) s g) (h : ∀ ch K' L' S', rp_R c K' L' S' 4 (mx_fl A (up_P A B)) g → sd_F c K L S K' L' S' → post ((nI c), sz, sc, ls, L', K', S', ch, li, le)) : ∀ (d j : Nat) (ch : Nat → Int32), j + d = c → (∀ p, p < 60 → (ch p ≠ 0 ↔ ∃ r : Nat, r < j ∧ ∃ i o, B (r : Int) = some i ∧ mx_H B i A o ∧ (o % s).toNat = p)) → ∀ n, d < n → wX_selectUp_7 post (nI a) (nI b) n (nI j) (nI c) sz sc ls L K S ch li le := by
  have c1 := hG.1.1.1
  have c2 := hG.1.1.2
  have s1 := hG.1.2.1.1
  have s2 := hG.1.2.1.2
  have c60 : c ≤ 60 := by omega
  intro d
  induction d with
  | zero =>
    intro j ch hj hch n hn
    obtain ⟨q, rfl⟩ : ∃ q, n = q + 1 := ⟨n - 1, by omega⟩
    have : j = c := by omega
    subst this
    refine br_t (nI_le (by omega) (by omega)) (xk_keep hR hG ha h01 (fun r hr i f => ?_) hg (h ch))
    have sp := mx_spos hG f
    have m0 := Int.emod_nonneg i (b := s) (by omega)
    have m1 := Int.emod_lt_of_pos i (b := s) (by omega)
    rw [hch (i % s).toNat (by omega)]
    constructor
    · rintro ⟨i', e, t', e', k⟩
      rw [f] at e
      injection e with e
      subst e
      obtain ⟨b', o, eb, eo, hH⟩ := k
      rw [e'] at eo
      injection eo with eo
      subst eo
      have n0 := Int.emod_nonneg t' (b := (j : Int)) (by omega)
      have n1 := Int.emod_lt_of_pos t' (b := (j : Int)) (by omega)
      have em := mx_em t' j
      refine ⟨(t' % (j : Int)).toNat, by omega, b' + -(t' / j) * s', i + -(t' / j) * s, ?_, mx_Hs hG'.1.2.2.1 hG.1.2.2.1 _ hH, ?_⟩
      · rw [Int.toNat_of_nonneg n0]
        have := mx_sh hG'.1.2.2.1 (-(t' / j)) eb
        rw [show t' + -(t' / (j : Int)) * j = t' % j by rw [Int.neg_mul]; omega] at this
        exact this
      · rw [Int.add_mul_emod_self_right]
    · rintro ⟨r', hr', b', o, eb, hH, eo⟩
      obtain ⟨q, rfl⟩ := mx_modq eo.symm sp
      have h1 := mx_Hs hG'.1.2.2.1 hG.1.2.2.1 q hH
      have h2 := mx_sh hG'.1.2.2.1 q eb
      exact ⟨_, f, _, h1.2 _ h2, mx_NH h2 h1⟩
  | succ d ih =>
    intro j ch hj hch n hn
    obtain ⟨q, rfl⟩ : ∃ q, n = q + 1 := ⟨n - 1, by omega⟩
    have skip : (∀ i o, B (j : Int) = some i → ¬ mx_H B i A o) → wX_selectUp_7 post (nI a) (nI b) q (nI (j + 1)) (nI c) sz sc ls L K S ch li le := fun z => by
      refine ih (j + 1) ch (by omega) (fun p hp => ?_) q (by omega)
      rw [hch p hp]
      constructor
      · rintro ⟨r, hr, k⟩; exact ⟨r, by omega, k⟩
      · rintro ⟨r, hr, i, o, e, hH, k⟩
        by_cases w : r = j
        · subst w; exact absurd hH (z i o e)
        · exact ⟨r, by omega, i, o, e, hH, k⟩
    refine br_f (nI_ge (by omega) (by omega)) ?_
    rw [zi_n j]
    refine xw_label hR' hG'.1 (by omega) (by omega) (by omega) ?_
    rw [← zi_n j]
    cases f : B (j : Int) with
    | none => exact br_t rfl (nm_r (nI_1 j) (skip fun i o e => by rw [f] at e; cases e))
    | some i =>
      have ib := mg_r hG'.1 (by omega) f
      refine br_f (zi_nN (by omega) (by omega)) (xw_holder hR' hG' (by omega) hR hG.1 (by omega) (by omega) (by omega) (fun w hw => ?_) (fun hw => ?_))
      · have ew := hw.2 _ f
        have wb := mg_r hG.1 (by omega) ew
        have sp := mx_spos hG ew
        have m0 := Int.emod_nonneg w (b := s) (by omega)
        have m1 := Int.emod_lt_of_pos w (b := s) (by omega)
        refine br_f (zi_nN (by omega) (by omega)) (xk_mark (.inr rfl) (by omega) hR.1 sp (by omega) (by omega) (by omega) (nm_r (nI_1 j) (ih (j + 1) _ (by omega) (fun p hp => ?_) q (by omega))))
        by_cases z : p = (w % s).toNat
        · subst z
          rw [zi_us]
          exact ⟨fun _ => ⟨j, by omega, i, w, f, hw, rfl⟩, fun _ => by decide⟩
        · rw [zi_un z, hch p hp]
          constructor
          · rintro ⟨r, hr, k⟩; exact ⟨r, by omega, k⟩
          · rintro ⟨r, hr, i', o, e, hH, k⟩
            by_cases y : r = j
            · subst y
              rw [f] at e
              injection e with e
              subst e
              have := mx_Hu hH hw
              subst this
              exact absurd k.symm z
            · exact ⟨r, by omega, i', o, e, hH, k⟩
      · refine br_t rfl (nm_r (nI_1 j) (skip fun i' o e => ?_))
        rw [f] at e
        injection e with e
        subst e
        exact hw o
/-! minus -/
def mi_P (A B : Int → Option Int) (t : Int) : Prop := ∀ i, A t = some i → ∀ t', B t' ≠ some i
theorem mi_PP {c s : Int} (ha : mx_per c s A) (hb : mx_per c s B) (t : Int) : mi_P A B (t + c) ↔ mi_P A B t := by
  constructor
  · intro h i e t' e'
    exact h _ (mx_s1 ha e) _ (mx_s1 hb e')
  · intro h i e t' e'
    have := mx_s1' ha e
    rw [Int.add_sub_cancel] at this
    exact h _ this _ (mx_s1' hb e')
theorem xj_miL {post : Int32 → SX → Prop} (hR : rp_R c K L S a A s) (hG : mx_G c s A) (ha : a < 4) (hR' : rp_R c K L S b B s) (hG' : mx_G c s B) (hb : b < 4) (h01 : ∀ i, K i = 0 ∨ K i = 1) (hg : sd_g c (mx_fl A (mi_P A B)) s g) (h : ∀ ch K' L' S', rp_R c K' L' S' 4 (mx_fl A (mi_P A B)) g → sd_F c K L S K' L' S' → post 0 ((nI c), sz, sc, ls, L', K', S', ch, li, le)) : ∀ (d j : Nat) (ch : Nat → Int32), j + d = c → (∀ p, p < 60 → (ch p ≠ 0 ↔ ¬ ∃ r : Nat, r < j ∧ ∃ i, B (r : Int) = some i ∧ (i % s).toNat = p)) → ∀ n, d < n → wX_minus_50 post (nI a) (nI b) n (nI j) (nI c) sz sc ls L K S ch li le := by
  have c1 := hG.1.1.1
  have c2 := hG.1.1.2
  have s1 := hG.1.2.1.1
  have s2 := hG.1.2.1.2
  have c60 : c ≤ 60 := by omega
  intro d
  induction d with
  | zero =>
    intro j ch hj hch n hn
    obtain ⟨q, rfl⟩ : ∃ q, n = q + 1 := ⟨n - 1, by omega⟩
    have : j = c := by omega
    subst this
    refine br_t (nI_le (by omega) (by omega)) (xk_keep hR hG ha h01 (fun r hr i f => ?_) hg (h ch))
    have sp := mx_spos hG f
    have m0 := Int.emod_nonneg i (b := s) (by omega)
    have m1 := Int.emod_lt_of_pos i (b := s) (by omega)
    rw [hch (i % s).toNat (by omega)]
    constructor
    · rintro k ⟨r', hr', i', e, w⟩
      obtain ⟨q, rfl⟩ := mx_modq w.symm sp
      exact k _ f _ (mx_sh hG'.1.2.2.1 q e)
    · intro k i' e t' e'
      rw [f] at e
      injection e with e
      subst e
      have n0 := Int.emod_nonneg t' (b := (j : Int)) (by omega)
      have n1 := Int.emod_lt_of_pos t' (b := (j : Int)) (by omega)
      have em := mx_em t' j
      refine k ⟨(t' % (j : Int)).toNat, by omega, i + -(t' / j) * s, ?_, ?_⟩
      · rw [Int.toNat_of_nonneg n0]
        have := mx_sh hG'.1.2.2.1 (-(t' / j)) e'
        rw [show t' + -(t' / (j : Int)) * j = t' % j by rw [Int.neg_mul]; omega] at this
        exact this
      · rw [Int.add_mul_emod_self_right]
  | succ d ih =>
    intro j ch hj hch n hn
    obtain ⟨q, rfl⟩ : ∃ q, n = q + 1 := ⟨n - 1, by omega⟩
    refine br_f (nI_ge (by omega) (by omega)) ?_
    rw [zi_n j]
    refine xw_label hR' hG'.1 (by omega) (by omega) (by omega) ?_
    rw [← zi_n j]
    cases f : B (j : Int) with
    | none =>
      refine br_t rfl (nm_r (nI_1 j) (ih (j + 1) ch (by omega) (fun p hp => ?_) q (by omega)))
      rw [hch p hp]
      constructor
      · rintro k ⟨r, hr, i, e, w⟩
        by_cases y : r = j
        · subst y; rw [f] at e; cases e
        · exact k ⟨r, by omega, i, e, w⟩
      · rintro k ⟨r, hr, z⟩
        exact k ⟨r, by omega, z⟩
    | some i =>
      have ib := mg_r hG'.1 (by omega) f
      have sp := mx_spos hG' f
      have m0 := Int.emod_nonneg i (b := s) (by omega)
      have m1 := Int.emod_lt_of_pos i (b := s) (by omega)
      refine br_f (zi_nN (by omega) (by omega)) (xk_mark (.inl rfl) (by omega) hR.1 sp (by omega) (by omega) (by omega) (nm_r (nI_1 j) (ih (j + 1) _ (by omega) (fun p hp => ?_) q (by omega))))
      by_cases z : p = (i % s).toNat
      · subst z
        rw [zi_us]
        exact ⟨fun w => absurd rfl w, fun w => absurd ⟨j, by omega, i, f, rfl⟩ w⟩
      · rw [zi_un z, hch p hp]
        constructor
        · rintro k ⟨r, hr, i', e, w⟩
          by_cases y : r = j
          · subst y
            rw [f] at e
            injection e with e
            subst e
            exact z w.symm
          · exact k ⟨r, by omega, i', e, w⟩
        · rintro k ⟨r, hr, w⟩
          exact k ⟨r, by omega, w⟩
end
end
section
/-! the component's anchor and union -/
def un_ok (c : Nat) (s s' : Int) (A B : Int → Option Int) : Prop := (s = 0 ∨ s' = 0 ∨ s = s') ∧ (∀ r : Nat, r < c → ∀ v w, A (r : Int) = some v → B (r : Int) = some w → v = w) ∧ mx_M (mx_or A B)
def mx_rg (c : Nat) (F : Int → Option Int) : Prop := ∀ r : Nat, r < c → ∀ v, F (r : Int) = some v → -9999 ≤ v ∧ v ≤ 9999
/-- the order as far as the ticks below j show it, and the last label -/
def xo_I (F : Int → Option Int) (j : Nat) (x : Int32) : Prop := ((x = 1000000000 ∧ ∀ t : Nat, t < j → F (t : Int) = none) ∨ ∃ (t0 : Nat) (v : Int), x = zi_I v ∧ t0 < j ∧ F (t0 : Int) = some v ∧ ∀ t : Nat, t0 < t → t < j → F (t : Int) = none) ∧ ∀ (t t' : Nat) (v w : Int), t ≤ t' → t' < j → F (t : Int) = some v → F (t' : Int) = some w → v ≤ w
section
variable {sz sc ls : Int32} {c : Nat} {K L S ch li le : Nat → Int32} {a b : Nat} {A B F : Int → Option Int} {s s' g : Int}
theorem xa_last {post : Int32 → Prop} {x : Int} (hR : rp_R c K L S b B s) (hG : mx_G c s B) (hb : b < 4) (hx : -700000000 ≤ x) (hx' : x ≤ 700000000) (P : ∀ v, mx_U B x v → post (zi_I v)) (N : (∀ t, B t = none) → post 1000000000) : ∀ (d j : Nat), j + d = c → (∀ u : Nat, u < j → B (x - u) = none) → ∀ n, d < n → wX_lastLabelUpTo_2 post (nI b) (zi_I x) (nI c) sz sc ls L K S ch li le n (nI j) := by
  have c1 := hG.1.1.1
  have c2 := hG.1.1.2
  intro d
  induction d with
  | zero =>
    intro j hj k n hn
    obtain ⟨q, rfl⟩ : ∃ q, n = q + 1 := ⟨n - 1, by omega⟩
    refine br_t (nI_le (by omega) (by omega)) (N fun t => ?_)
    have m0 := Int.emod_nonneg (x - t) (b := (c : Int)) (by omega)
    have m1 := Int.emod_lt_of_pos (x - t) (b := (c : Int)) (by omega)
    have em := mx_em (x - t) c
    have := mx_shn hG.1.2.2.1 (-((x - t) / (c : Int))) (k ((x - t) % (c : Int)).toNat (by omega))
    rw [Int.toNat_of_nonneg m0, Int.neg_mul, show x - (x - t) % (c : Int) + -((x - t) / (c : Int) * c) = t by omega] at this
    exact this
  | succ d ih =>
    intro j hj k n hn
    obtain ⟨q, rfl⟩ : ∃ q, n = q + 1 := ⟨n - 1, by omega⟩
    refine br_f (nI_ge (by omega) (by omega)) ?_
    have ex : zi_I x - nI j = zi_I (x - j) := by rw [zi_n j, zi_sub]
    rw [ex]
    refine xw_label hR hG.1 (by omega) (by omega) (by omega) ?_
    cases f : B (x - (j : Int)) with
    | none => exact br_t rfl (nm_r (nI_1 j) (ih (j + 1) (by omega) (re_up k f) q (by omega)))
    | some v =>
      have vb := mx_bd hG.1 f
      refine br_f (zi_nN (by omega) (by omega)) (P v ⟨⟨x - j, by omega, f⟩, fun t w ht e => ?_⟩)
      by_cases z : t ≤ x - j
      · exact hG.2.1 _ _ _ _ z e f
      · have := k (x - t).toNat (by omega)
        rw [show x - ((x - t).toNat : Int) = t by omega, e] at this
        cases this
theorem xj_anL {post : Int32 → SX → Prop} {K0 L0 : Nat → Int32} (hR : rp_R c K0 L0 S a A s) (hG : mx_G c s A) (ha : a < 4) (hR' : rp_R c K0 L0 S b B s') (hG' : mx_G c s' B) (hb : b < 4) (hg : sd_g c (mx_fn (mx_An A B)) s' g) (h : mx_rg c (mx_fn (mx_An A B)) → ∀ K' L' S', rp_R c K' L' S' 4 (mx_fn (mx_An A B)) g → sd_F c K0 L0 S K' L' S' → post 0 ((nI c), sz, sc, ls, L', K', S', ch, li, le)) (h' : ¬ mx_rg c (mx_fn (mx_An A B)) → ∀ K' L' S', sd_F c K0 L0 S K' L' S' → post 5 ((nI c), sz, sc, ls, L', K', S', ch, li, le)) : ∀ (d j : Nat) (K L : Nat → Int32), j + d = c → sd_D K0 L0 K L (fun x => x < j) (mx_fn (mx_An A B)) → ∀ n, d < n → wX_anchor_2 post (nI a) (nI b) n (nI j) (nI c) sz sc ls L K S ch li le := by
  have c1 := hG.1.1.1
  have c2 := hG.1.1.2
  have c60 : c ≤ 60 := by omega
  have bd : ∀ r : Nat, r < c → ∀ v, mx_fn (mx_An A B) (r : Int) = some v → -2147483648 ≤ v ∧ v < 1000000000 := fun r hr v hv => by
    obtain ⟨i, x, e, hx, ⟨u, hu, eu⟩, hU⟩ := mx_fnS mx_Anu hv
    have xb := mx_cl hG (by omega) (by omega) e hx.1
    have vb := mx_bd hG'.1 eu
    have lo : -9999 - 200 ≤ v := by
      have m0 := Int.emod_nonneg (x - u) (b := (c : Int)) (by omega)
      have m1 := Int.emod_lt_of_pos (x - u) (b := (c : Int)) (by omega)
      have em := mx_em (x - u) c
      have q0 : 0 ≤ (x - u) / (c : Int) := Int.ediv_nonneg (by omega) (by omega)
      have e1 := mx_sh hG'.1.2.2.1 ((x - u) / (c : Int)) eu
      have l1 := hU _ _ (by omega) e1
      have vb1 := mx_bd hG'.1 e1
      omega
    omega
  have hp := mg_per (by omega) (mg_anP hG.1.2.2.1 hG'.1.2.2.1) hg
  intro d
  induction d with
  | zero =>
    intro j K L hj hD n hn
    obtain ⟨q, rfl⟩ : ∃ q, n = q + 1 := ⟨n - 1, by omega⟩
    have : j = c := by omega
    subst this
    refine br_t (nI_le (by omega) (by omega)) ⟨zi_inN (by omega) (by omega), xw_settle c60 hD (fun r hr => hr) hg (fun S' hR4 hF _ => ?_) (by rw [zi_clN (by omega)]; exact hR'.1)⟩
    refine xw_inRange (e := 4) hR4 (by omega) hp (by omega) bd ?_
    exact mx_br (fun z => h' z _ _ _ hF) (fun z => h z _ _ _ hR4 hF)
  | succ d ih =>
    intro j K L hj hD n hn
    obtain ⟨q, rfl⟩ : ∃ q, n = q + 1 := ⟨n - 1, by omega⟩
    have hF := sd_DF (S := S) (S' := S) c60 hD (fun _ _ => rfl)
    have hRa : rp_R c K L S a A s := hF.2 a ha A s hR
    have hRb : rp_R c K L S b B s' := hF.2 b hb B s' hR'
    have nx : ∀ x, x = mx_enc (mx_fn (mx_An A B) (j : Int)) → wpX_put (fun u => match u with | (cy, sz, sc, ls, L, K, S, ch, li, le) => ∀ x2, x2 = nI j + 1 → wX_anchor_2 post (nI a) (nI b) q x2 cy sz sc ls L K S ch li le) ((nI c), sz, sc, ls, L, K, S, ch, li, le) (nI j) x := fun x hx => xw_putv (by omega) hD hx (bd j (by omega)) sd_ls (fun K' L' hD' => nm_r (nI_1 j) (ih (j + 1) _ _ (by omega) hD' q (by omega)))
    refine br_f (nI_ge (by omega) (by omega)) ?_
    unfold wX_anchor_48
    rw [zi_n j]
    refine xw_label hRa hG.1 (by omega) (by omega) (by omega) ?_
    rw [← zi_n j]
    cases f : A (j : Int) with
    | none =>
      refine br_t rfl (nx _ ?_)
      rw [mx_fnN]
      · rfl
      · rintro v ⟨i, _, z, -, -⟩
        rw [f] at z; cases z
    | some i =>
      have ib := mg_r hG.1 (by omega) f
      refine br_f (zi_nN (by omega) (by omega)) (xw_edge false hRa hG (by omega) (by omega) (by omega) (fun x hx => ?_) (fun hx => absurd f (hx _)))
      have xb := mx_tb hG hx.1 (by omega) (by omega)
      unfold wpX_lastLabelUpTo
      refine ⟨c + 1, xa_last hRb hG' hb xb.1 xb.2 (fun v hv => nx _ ?_) (fun hv => nx _ ?_) c 0 (by omega) (fun u hu => by omega) (c + 1) (by omega)⟩
      · rw [mx_fnE mx_Anu ⟨i, x, f, hx, hv⟩]; rfl
      · rw [mx_fnN]
        · rfl
        · rintro v ⟨_, _, -, -, ⟨u, -, eu⟩, -⟩
          rw [hv u] at eu; cases eu
theorem xo_L {post : Int32 → Prop} (hR : rp_R c K L S a F s) (hc : 1 ≤ c ∧ c ≤ 60) (hs : 0 ≤ s) (hp : mx_per c s F) (ha : a < 5) (hb : ∀ t : Nat, t < 2 * c → ∀ v, F (t : Int) = some v → -100000 ≤ v ∧ v ≤ 100000) (h : post (mx_b (mx_M F))) : ∀ (d j : Nat) (x : Int32), j + d = 2 * c → xo_I F j x → ∀ n, d < n → wX_isOrdered_5 post (nI a) (nI c) sz sc ls L K S ch li le n x (nI j) := by
  have e2 : 2 * nI c = nI (2 * c) := by rw [show (2 : Int32) = nI 2 from rfl, zi_nmul]
  intro d
  induction d with
  | zero =>
    intro j x hj k n hn
    obtain ⟨q, rfl⟩ : ∃ q, n = q + 1 := ⟨n - 1, by omega⟩
    refine br_t (by rw [e2]; exact nI_le (by omega) (by omega)) ?_
    rw [mx_bt] at h
    · exact h
    · refine mx_Mred (by omega) hs hp fun t d v w t0 t1 d0 d1 e e' => ?_
      refine k.2 t.toNat (t + d).toNat v w (by omega) (by omega) ?_ ?_
      · rw [Int.toNat_of_nonneg t0]; exact e
      · rw [Int.toNat_of_nonneg (by omega)]; exact e'
  | succ d ih =>
    intro j x hj k n hn
    obtain ⟨q, rfl⟩ : ∃ q, n = q + 1 := ⟨n - 1, by omega⟩
    refine br_f (by rw [e2]; exact nI_ge (by omega) (by omega)) ?_
    rw [zi_n j]
    refine xw_labelQ hR hc hp ha (by omega) (by omega) ?_
    rw [← zi_n j]
    cases f : F (j : Int) with
    | none =>
      refine br_t rfl (nm_r (nI_1 j) (ih (j + 1) x (by omega) ⟨?_, fun t t' v w h1 h2 e e' => ?_⟩ q (by omega)))
      · rcases k.1 with ⟨rfl, g⟩ | ⟨t0, v, rfl, h0, e0, g⟩
        · exact .inl ⟨rfl, re_up g f⟩
        · refine .inr ⟨t0, v, rfl, by omega, e0, fun t h1 h2 => ?_⟩
          by_cases z : t = j
          · rw [z]; exact f
          · exact g t h1 (by omega)
      · by_cases z : t' = j
        · subst z; rw [f] at e'; cases e'
        · exact k.2 t t' v w h1 (by omega) e e'
    | some w =>
      have wb := hb j (by omega) w f
      refine br_f (zi_nN (by omega) (by omega)) ?_
      have new : (∀ (t : Nat) (v : Int), t < j → F (t : Int) = some v → v ≤ w) → xo_I F (j + 1) (zi_I w) := fun z => by
        refine ⟨.inr ⟨j, w, rfl, by omega, f, fun t h1 h2 => by omega⟩, fun t t' v v' h1 h2 e e' => ?_⟩
        by_cases y : t' = j
        · subst y
          rw [f] at e'
          injection e' with e'
          subst e'
          by_cases y' : t = t'
          · subst y'
            rw [f] at e
            injection e with e
            omega
          · exact z t v (by omega) e
        · exact k.2 t t' v v' h1 (by omega) e e'
      rcases k.1 with ⟨rfl, g⟩ | ⟨t0, v, rfl, h0, e0, g⟩
      · refine br_t rfl (nm_r (nI_1 j) (ih (j + 1) _ (by omega) (new fun t v ht e => ?_) q (by omega)))
        rw [g t ht] at e; cases e
      · have vb := hb t0 (by omega) v e0
        refine br_f (zi_nN (by omega) (by omega)) (zi_ble v w (fun z => ?_) (fun z => ?_))
        · refine nm_r (nI_1 j) (ih (j + 1) _ (by omega) (new fun t y ht e => ?_) q (by omega))
          by_cases y' : t ≤ t0
          · have := k.2 t t0 y v y' h0 e e0
            omega
          · rw [g t (by omega) ht] at e; cases e
        · rw [mx_bf] at h
          · exact h
          · intro m
            have := m (t0 : Int) (j : Int) v w (by omega) e0 f
            omega
theorem xj_unL {post : Int32 → SX → Prop} {K0 L0 : Nat → Int32} (hR : rp_R c K0 L0 S a A s) (hG : mx_G c s A) (ha : a < 4) (hR' : rp_R c K0 L0 S b B s) (hG' : mx_G c s B) (hb : b < 4) (hg : sd_g c (mx_or A B) s g) (h : un_ok c s s A B → ∀ K' L' S', rp_R c K' L' S' 4 (mx_or A B) g → sd_F c K0 L0 S K' L' S' → post 0 ((nI c), sz, sc, ls, L', K', S', ch, li, le)) (h' : ¬ un_ok c s s A B → ∀ K' L' S', sd_F c K0 L0 S K' L' S' → post 4 ((nI c), sz, sc, ls, L', K', S', ch, li, le)) : ∀ (d j : Nat) (K L : Nat → Int32), j + d = c → sd_D K0 L0 K L (fun x => x < j) (mx_or A B) → (∀ r : Nat, r < j → ∀ v w, A (r : Int) = some v → B (r : Int) = some w → v = w) → ∀ n, d < n → wX_union_58 post (nI a) (nI b) n (nI j) (nI c) sz sc ls L K S ch li le := by
  have c1 := hG.1.1.1
  have c2 := hG.1.1.2
  have s1 := hG.1.2.1.1
  have c60 : c ≤ 60 := by omega
  have bo : ∀ t v, mx_or A B t = some v → A t = some v ∨ B t = some v := fun t v e => by
    cases f : A t with
    | none => rw [mx_orn f] at e; exact .inr e
    | some w => rw [mx_ors f] at e; exact .inl e
  have hp := mg_orP hG.1.2.2.1 hG'.1.2.2.1
  have hpg := mg_per (by omega) hp hg
  have g0 : 0 ≤ g := by
    rcases mg_cs (by omega) hp hg with ⟨z, -⟩ | ⟨z, -⟩ <;> omega
  intro d
  induction d with
  | zero =>
    intro j K L hj hD hC n hn
    obtain ⟨q, rfl⟩ : ∃ q, n = q + 1 := ⟨n - 1, by omega⟩
    have : j = c := by omega
    subst this
    refine br_t (nI_le (by omega) (by omega)) ⟨zi_inN (by omega) (by omega), xw_settle c60 hD (fun r hr => hr) hg (fun S' hR4 hF _ => ?_) (by rw [zi_clN (by omega)]; exact hR.1)⟩
    unfold wpX_isOrdered
    refine ⟨2 * j + 1, xo_L (a := 4) hR4 (by omega) g0 hpg (by omega) (fun t ht v e => ?_) ?_ (2 * j) 0 _ (by omega) ⟨.inl ⟨rfl, fun t ht => by omega⟩, fun t t' v w h1 h2 => by omega⟩ (2 * j + 1) (by omega)⟩
    · rcases bo _ _ e with e | e
      · have := mx_bd hG.1 e; omega
      · have := mx_bd hG'.1 e; omega
    · exact mx_br (fun z => h' (fun w => z w.2.2) _ _ _ hF) (fun z => h ⟨.inr (.inr rfl), hC, z⟩ _ _ _ hR4 hF)
  | succ d ih =>
    intro j K L hj hD hC n hn
    obtain ⟨q, rfl⟩ : ∃ q, n = q + 1 := ⟨n - 1, by omega⟩
    have hF := sd_DF (S := S) (S' := S) c60 hD (fun _ _ => rfl)
    have hRa : rp_R c K L S a A s := hF.2 a ha A s hR
    have hRb : rp_R c K L S b B s := hF.2 b hb B s hR'
    have nx : (∀ v w, A (j : Int) = some v → B (j : Int) = some w → v = w) → ∀ x, x = mx_enc (mx_or A B (j : Int)) → wpX_put (fun u => match u with | (cy, sz, sc, ls, L, K, S, ch, li, le) => ∀ x2, x2 = nI j + 1 → wX_union_58 post (nI a) (nI b) q x2 cy sz sc ls L K S ch li le) ((nI c), sz, sc, ls, L, K, S, ch, li, le) (nI j) x := fun hc x hx => xw_putv (by omega) hD hx (fun v e => by
      rcases bo _ _ e with e | e
      · have := mx_bd hG.1 e; omega
      · have := mx_bd hG'.1 e; omega) sd_ls (fun K' L' hD' => nm_r (nI_1 j) (ih (j + 1) _ _ (by omega) hD' (re_up hC hc) q (by omega)))
    refine br_f (nI_ge (by omega) (by omega)) ?_
    unfold wX_union_105 wX_union_121
    rw [zi_n j]
    refine xw_label hRa hG.1 (by omega) (by omega) (by omega) (xw_label hRb hG'.1 (by omega) (by omega) (by omega) ?_)
    rw [← zi_n j]
    cases f : A (j : Int) with
    | none =>
      refine br_t rfl (br_t rfl (nx (fun v w e => ?_) _ ?_))
      · rw [f] at e; cases e
      · rw [mx_orn f]
    | some v =>
      have vb := mg_r hG.1 (by omega) f
      have nv : ¬ mx_enc (some v) = 1000000000 := zi_nN (by omega) (by omega)
      cases f' : B (j : Int) with
      | none =>
        refine br_f nv (br_t rfl (br_f nv (nx (fun v w _ e => ?_) _ ?_)))
        · rw [f'] at e; cases e
        · rw [mx_ors f]
      | some w =>
        have wb := mg_r hG'.1 (by omega) f'
        refine br_f nv (br_f (zi_nN (by omega) (by omega)) (zi_beq v w (fun z => br_f nv (nx (fun v' w' e e' => ?_) _ ?_)) (fun z => h' (fun y => z (y.2.1 j (by omega) v w f f')) _ _ _ hF)))
        · rw [f] at e; rw [f'] at e'
          injection e with e; injection e' with e'
          omega
        · rw [mx_ors f]
/-! the whole kinds -/
theorem xj_union {post : Int32 → SX → Prop} {n : Int} (hR : rp_R c K L S a A s) (hG : mx_G c s A) (ha : a < 4) (hR' : rp_R c K L S b B s') (hG' : mx_G c s' B) (hb : b < 4) (h01 : ∀ i, K i = 0 ∨ K i = 1) (hn : (s = 0 → n = s') ∧ (s ≠ 0 → n = s)) (hg : sd_g c (mx_or A B) n g) (h : un_ok c s s' A B → ∀ K' L' S', rp_R c K' L' S' 4 (mx_or A B) g → sd_F c K L S K' L' S' → post 0 ((nI c), sz, sc, ls, L', K', S', ch, li, le)) (h' : ¬ un_ok c s s' A B → ∀ K' L' S', sd_F c K L S K' L' S' → post 4 ((nI c), sz, sc, ls, L', K', S', ch, li, le)) : wpX_union post ((nI c), sz, sc, ls, L, K, S, ch, li, le) (nI a) (nI b) := by
  have c1 := hG.1.1.1
  have c2 := hG.1.1.2
  have s1 := hG.1.2.1
  have s2 := hG'.1.2.1
  have c60 : c ≤ 60 := by omega
  have ia : vp_in (nI a) 5 := zi_inN (by omega) (by omega)
  have ib : vp_in (nI b) 5 := zi_inN (by omega) (by omega)
  unfold wpX_union
  dsimp only
  unfold wX_union_18 wX_union_33
  rw [zi_clN (by omega), zi_clN (by omega), hR.1, hR'.1]
  refine ⟨ia, zi_beq s 0 (fun z => ?_) (fun z => ⟨ib, zi_beq s' 0 (fun z' => ?_) (fun z' => ⟨ia, ib, zi_beq s s' (fun w => ?_) (fun w => ?_)⟩) rfl zi_0⟩) rfl zi_0⟩
  · have e := mx_orE (B := B) (hG.2.2.mp z)
    have ok : un_ok c s s' A B := ⟨.inl z, fun r hr v w k => (by rw [hG.2.2.mp z] at k; cases k), by rw [e]; exact hG'.2.1⟩
    have h := h ok
    rw [hn.1 z] at hg
    rw [e] at hg h
    rw [sd_gu hg (mg_self hG')] at h
    refine ⟨ia, br_t (by rw [z]; rfl) (xw_copy (b := 4) c60 (by omega) (by omega) (by omega) h01 hR' (fun K' L' S' hU hF => h _ _ _ hU.2.1 (hF rfl)))⟩
  · have e := mx_orE' (A := A) (hG'.2.2.mp z')
    have ok : un_ok c s s' A B := ⟨.inr (.inl z'), fun r hr v w _ k => (by rw [hG'.2.2.mp z'] at k; cases k), by rw [e]; exact hG.2.1⟩
    have h := h ok
    rw [hn.2 z] at hg
    rw [e] at hg h
    rw [sd_gu hg (mg_self hG)] at h
    refine ⟨ia, br_f (by rw [zi_0, zi_eq (by omega) (by omega) (by omega) (by omega)]; exact z) (xw_copy (b := 4) c60 (by omega) (by omega) (by omega) h01 hR (fun K' L' S' hU hF => h _ _ _ hU.2.1 (hF rfl)))⟩
  · subst w
    rw [hn.2 z] at hg
    exact ⟨c + 1, xj_unL hR hG ha hR' hG' hb hg h h' c 0 K L (by omega) (sd_D0 h01) (fun r hr => by omega) (c + 1) (by omega)⟩
  · exact h' (fun k => by rcases k.1 with k | k | k <;> contradiction) _ _ _ (sd_Fr h01)
theorem mi_triv (h : (∀ t, A t = none) ∨ ∀ t, B t = none) : mx_fl A (mi_P A B) = A := funext fun t => by
  rcases h with h | h
  · rw [mx_fln (h t), h t]
  · exact mx_flt fun i _ t' e => by rw [h t'] at e; cases e
theorem xj_minus {post : Int32 → SX → Prop} (hR : rp_R c K L S a A s) (hG : mx_G c s A) (ha : a < 4) (hR' : rp_R c K L S b B s') (hG' : mx_G c s' B) (hb : b < 4) (h01 : ∀ i, K i = 0 ∨ K i = 1) (hg : sd_g c (mx_fl A (mi_P A B)) s g) (h : (s = 0 ∨ s' = 0 ∨ s = s') → ∀ ch K' L' S', rp_R c K' L' S' 4 (mx_fl A (mi_P A B)) g → sd_F c K L S K' L' S' → post 0 ((nI c), sz, sc, ls, L', K', S', ch, li, le)) (h' : ¬ (s = 0 ∨ s' = 0 ∨ s = s') → post 4 ((nI c), sz, sc, ls, L, K, S, ch, li, le)) : wpX_minus post ((nI c), sz, sc, ls, L, K, S, ch, li, le) (nI a) (nI b) := by
  have c1 := hG.1.1.1
  have c2 := hG.1.1.2
  have s1 := hG.1.2.1
  have s2 := hG'.1.2.1
  have c60 : c ≤ 60 := by omega
  have ia : vp_in (nI a) 5 := zi_inN (by omega) (by omega)
  have ib : vp_in (nI b) 5 := zi_inN (by omega) (by omega)
  unfold wpX_minus
  dsimp only
  unfold wX_minus_18
  rw [zi_clN (by omega), zi_clN (by omega), hR.1, hR'.1]
  have triv : ((∀ t, A t = none) ∨ ∀ t, B t = none) → (s = 0 ∨ s' = 0 ∨ s = s') → ∀ K' L' S', (rp_R c K' L' S' 4 A s ∧ sd_F c K L S K' L' S') → post 0 ((nI c), sz, sc, ls, L', K', S', ch, li, le) := fun q w K' L' S' hh => by
    have h := h w
    rw [mi_triv q] at hg h
    rw [sd_gu hg (mg_self hG)] at h
    exact h ch K' L' S' hh.1 hh.2
  refine ⟨ia, zi_beq s 0 (fun z => ?_) (fun z => ⟨ib, zi_beq s' 0 (fun z' => ?_) (fun z' => ⟨ia, ib, zi_beq s s' (fun w => ?_) (fun w => ?_)⟩) rfl zi_0⟩) rfl zi_0⟩
  · exact xw_copy (b := 4) c60 (by omega) (by omega) (by omega) h01 hR (fun K' L' S' hU hF => triv (.inl (hG.2.2.mp z)) (.inl z) _ _ _ ⟨hU.2.1, hF rfl⟩)
  · exact xw_copy (b := 4) c60 (by omega) (by omega) (by omega) h01 hR (fun K' L' S' hU hF => triv (.inr (hG'.2.2.mp z')) (.inr (.inl z')) _ _ _ ⟨hU.2.1, hF rfl⟩)
  · subst w
    refine xk_set (.inr rfl) (fun ch' hch => ⟨c + 1, xj_miL hR hG ha hR' hG' hb h01 hg (h (.inr (.inr rfl))) c 0 ch' (by omega) (fun p hp => ?_) (c + 1) (by omega)⟩)
    rw [hch p hp]
    exact ⟨fun _ ⟨r, hr, _⟩ => by omega, fun _ => by decide⟩
  · exact h' (fun k => by rcases k with k | k | k <;> contradiction)
end
end
section
/-! the reference's join -/
section
variable {dp : Int32} {c : Nat} {K L S wk : Nat → Int32} {a b : Nat} {A B F : Int → Option Int} {s s' g : Int}
theorem ya_L {post : Int32 → Prop} {x : Int} (hR : rp_R c K L S b B s) (hG : mx_G c s B) (hb : b < 4) (hx : -700000000 ≤ x) (hx' : x ≤ 700000000) (P : ∀ v, mx_U B x v → post (zi_I v)) (N : (∀ t, B t = none) → post 1000000000) : ∀ (d j : Nat) (y : Int32), j + d = c → ((y = 1000000000 ∧ ∀ u : Nat, u < j → B (x - u) = none) ∨ ∃ v, y = zi_I v ∧ (∃ u : Nat, u < j ∧ B (x - u) = some v) ∧ ∀ u : Nat, u < j → ∀ w, B (x - u) = some w → w ≤ v) → ∀ n, d < n → wY_anchor_6 post (nI b) (zi_I x) (nI c) dp K L S wk n y (nI j) := by
  have c1 := hG.1.1.1
  have c2 := hG.1.1.2
  have s1 := hG.1.2.1.1
  intro d
  induction d with
  | zero =>
    intro j y hj k n hn
    obtain ⟨q, rfl⟩ : ∃ q, n = q + 1 := ⟨n - 1, by omega⟩
    refine br_t (nI_le (by omega) (by omega)) ?_
    rcases k with ⟨rfl, k⟩ | ⟨v, rfl, ⟨u, hu, eu⟩, k⟩
    · refine N fun t => ?_
      have m0 := Int.emod_nonneg (x - t) (b := (c : Int)) (by omega)
      have m1 := Int.emod_lt_of_pos (x - t) (b := (c : Int)) (by omega)
      have em := mx_em (x - t) c
      have := mx_shn hG.1.2.2.1 (-((x - t) / (c : Int))) (k ((x - t) % (c : Int)).toNat (by omega))
      rw [Int.toNat_of_nonneg m0, Int.neg_mul, show x - (x - t) % (c : Int) + -((x - t) / (c : Int) * c) = t by omega] at this
      exact this
    · refine P v ⟨⟨x - u, by omega, eu⟩, fun t w ht e => ?_⟩
      have m0 := Int.emod_nonneg (x - t) (b := (c : Int)) (by omega)
      have m1 := Int.emod_lt_of_pos (x - t) (b := (c : Int)) (by omega)
      have em := mx_em (x - t) c
      have q0 : 0 ≤ (x - t) / (c : Int) := Int.ediv_nonneg (by omega) (by omega)
      have e1 := mx_sh hG.1.2.2.1 ((x - t) / (c : Int)) e
      have := k ((x - t) % (c : Int)).toNat (by omega) _ (by rw [Int.toNat_of_nonneg m0, show x - (x - t) % (c : Int) = t + (x - t) / (c : Int) * c by omega]; exact e1)
      have := Int.mul_nonneg q0 s1
      omega
  | succ d ih =>
    intro j y hj k n hn
    obtain ⟨q, rfl⟩ : ∃ q, n = q + 1 := ⟨n - 1, by omega⟩
    refine br_f (nI_ge (by omega) (by omega)) ?_
    have ex : zi_I x - nI j = zi_I (x - j) := by rw [zi_n j, zi_sub]
    rw [ex]
    refine yw_lab hR hG.1 (by omega) (by omega) (by omega) fun z hz => yw_cov hR hG.1 (by omega) (by omega) (by omega) ?_
    cases f : B (x - (j : Int)) with
    | none =>
      refine br_t rfl (nm_r (nI_1 j) (ih (j + 1) y (by omega) ?_ q (by omega)))
      rcases k with ⟨rfl, k⟩ | ⟨v, rfl, ⟨u, hu, eu⟩, k⟩
      · exact .inl ⟨rfl, re_up k f⟩
      · exact .inr ⟨v, rfl, ⟨u, by omega, eu⟩, re_up k (fun w e => by rw [f] at e; cases e)⟩
    | some w =>
      have wb := mx_bd hG.1 f
      rw [hz w f]
      refine br_f (rp_1 rfl) ?_
      rcases k with ⟨rfl, k⟩ | ⟨v, rfl, ⟨u, hu, eu⟩, k⟩
      · refine br_t rfl (nm_r (nI_1 j) (ih (j + 1) _ (by omega) (.inr ⟨w, rfl, ⟨j, by omega, f⟩, re_up (fun u hu w' e => ?_) (fun w' e => ?_)⟩) q (by omega)))
        · rw [k u hu] at e; cases e
        · rw [f] at e; injection e with e; omega
      · have vb := mx_bd hG.1 eu
        refine br_f (zi_nN (by omega) (by omega)) (zi_ble w v (fun z => ?_) (fun z => ?_))
        · refine nm_r (nI_1 j) (ih (j + 1) _ (by omega) (.inr ⟨v, rfl, ⟨u, by omega, eu⟩, re_up k (fun w' e => ?_)⟩) q (by omega))
          rw [f] at e; injection e with e; omega
        · refine nm_r (nI_1 j) (ih (j + 1) _ (by omega) (.inr ⟨w, rfl, ⟨j, by omega, f⟩, re_up (fun u hu w' e => ?_) (fun w' e => ?_)⟩) q (by omega))
          · have := k u hu w' e; omega
          · rw [f] at e; injection e with e; omega
theorem ya_anchor {post : Int32 → Prop} {x : Int} (hR : rp_R c K L S b B s) (hG : mx_G c s B) (hb : b < 4) (hx : -700000000 ≤ x) (hx' : x ≤ 700000000) (P : ∀ v, mx_U B x v → post (zi_I v)) (N : (∀ t, B t = none) → post 1000000000) : wpY_anchor post ((nI c), dp, K, L, S, wk) (nI b) (zi_I x) := by
  unfold wpY_anchor
  exact ⟨c + 1, ya_L hR hG hb hx hx' P N c 0 _ (by omega) (.inl ⟨rfl, fun u hu => by omega⟩) (c + 1) (by omega)⟩
theorem yh_L {post : Int32 → Prop} {i x : Int} (hR : rp_R c K L S a A s) (hG : mx_G c s A) (ha : a < 4) (hR' : rp_R c K L S b B s') (hG' : mx_G c s' B) (hb : b < 4) (hi : -10000 ≤ i) (hi' : i ≤ 10000) (hx : mx_ed false A i x) (xb : -60 < x) (xb' : x < 120) (h : post (mx_b (∃ t, A t = some i ∧ mx_N B A t))) : ∀ (d j : Nat), j + d = c → (∀ u : Nat, u < j → ¬ (A (x + u) = some i ∧ mx_N B A (x + u))) → ∀ n, d < n → wY_holdsOne_12 post (nI a) (zi_I i) (nI b) (zi_I x) (nI c) dp K L S wk n (nI j) := by
  have c1 := hG.1.1.1
  have c2 := hG.1.1.2
  intro d
  induction d with
  | zero =>
    intro j hj k n hn
    obtain ⟨q, rfl⟩ : ∃ q, n = q + 1 := ⟨n - 1, by omega⟩
    refine br_t (nI_le (by omega) (by omega)) ?_
    rw [mx_bf] at h
    · exact h
    · rintro ⟨t, e, z⟩
      have l := (hx.2 t e).1 rfl
      have m := mx_near hG hx.1 e
      refine k (t - x).toNat (by omega) ?_
      rw [show x + ((t - x).toNat : Int) = t by omega]
      exact ⟨e, z⟩
  | succ d ih =>
    intro j hj k n hn
    obtain ⟨q, rfl⟩ : ∃ q, n = q + 1 := ⟨n - 1, by omega⟩
    refine br_f (nI_ge (by omega) (by omega)) ?_
    have ex : zi_I x + nI j = zi_I (x + j) := by rw [zi_n j, zi_add]
    rw [ex]
    refine yw_has hR hG.1 (by omega) (by omega) (by omega) (by omega) (by omega) (mx_br (fun z => ?_) (fun z => ?_))
    · exact nm_r (nI_1 j) (ih (j + 1) (by omega) (re_up k (fun w => z w.1)) q (by omega))
    · refine yw_nested hR' hG' (by omega) hR hG.1 (by omega) (by omega) (by omega) (fun i' e => ?_) (mx_br (fun w => ?_) (fun w => ?_))
      · have := mx_bd hG'.1 e; omega
      · exact nm_r (nI_1 j) (ih (j + 1) (by omega) (re_up k (fun y => w y.2)) q (by omega))
      · rw [mx_bt ⟨_, z, w⟩] at h; exact h
theorem yh_holds {post : Int32 → Prop} {i : Int} {r : Nat} (hR : rp_R c K L S a A s) (hG : mx_G c s A) (ha : a < 4) (hR' : rp_R c K L S b B s') (hG' : mx_G c s' B) (hb : b < 4) (hr : r < c) (f : A (r : Int) = some i) (h : post (mx_b (∃ t, A t = some i ∧ mx_N B A t))) : wpY_holdsOne post ((nI c), dp, K, L, S, wk) (nI a) (zi_I i) (nI b) := by
  have ib := mg_r hG.1 hr f
  unfold wpY_holdsOne
  refine yw_edge false hR hG (by omega) (by omega) (by omega) (fun x hx => ?_) (fun hx => absurd f (hx _))
  have xb := mx_cl hG (by omega) (by omega) f hx.1
  exact ⟨c + 1, yh_L hR hG ha hR' hG' hb (by omega) (by omega) hx xb.1 xb.2 h c 0 (by omega) (fun u hu => by omega) (c + 1) (by omega)⟩
theorem yo_in {post : Int32 → Prop} {J : Int32 → Prop} {j : Nat} (hR : rp_R c K L S 4 F s) (hc : 1 ≤ c ∧ c ≤ 60) (hp : mx_per c s F) (hj : j < c) (hb : ∀ t : Nat, t < 2 * c → ∀ v, F (t : Int) = some v → -100000 ≤ v ∧ v ≤ 100000) (h' : ¬ mx_M F → post 0) (hJ : (∀ d : Nat, d ≤ c → ∀ v w, F (j : Int) = some v → F (j + d) = some w → v ≤ w) → J (nI (j + 1))) : ∀ (e i : Nat), i + e = c + 1 → (∀ d : Nat, d < i → ∀ v w, F (j : Int) = some v → F (j + d) = some w → v ≤ w) → ∀ n, e < n → wY_ordered_12 post J (nI j) (nI c) dp K L S wk n (nI i) := by
  intro e
  induction e with
  | zero =>
    intro i hi k n hn
    obtain ⟨q, rfl⟩ : ∃ q, n = q + 1 := ⟨n - 1, by omega⟩
    exact br_t (nI_lt (by omega) (by omega)) (nm_r (nI_1 j) (hJ fun d hd => k d (by omega)))
  | succ e ih =>
    intro i hi k n hn
    obtain ⟨q, rfl⟩ : ∃ q, n = q + 1 := ⟨n - 1, by omega⟩
    refine br_f (nI_nlt (by omega) (by omega)) ?_
    have ex : nI j + nI i = zi_I ((j : Int) + i) := by rw [zi_n j, zi_n i, zi_add]
    rw [ex, zi_n j]
    have nx : (∀ v w, F (j : Int) = some v → F ((j : Int) + i) = some w → v ≤ w) → wY_ordered_12 post J (zi_I j) (nI c) dp K L S wk q (nI (i + 1)) := fun z => by
      rw [← zi_n j]
      exact ih (i + 1) (by omega) (re_up k z) q (by omega)
    refine yw_covQ (e := 4) hR hc hp (by omega) (by omega) (by omega) ?_
    cases f : F (j : Int) with
    | none => exact br_t rfl (nm_r (nI_1 i) (nx fun v w e => by rw [f] at e; cases e))
    | some v =>
      refine br_f (rp_1 rfl) (yw_covQ (e := 4) hR hc hp (by omega) (by omega) (by omega) ?_)
      cases f' : F ((j : Int) + i) with
      | none => exact br_t rfl (nm_r (nI_1 i) (nx fun v w _ e => by rw [f'] at e; cases e))
      | some w =>
        have vb := hb j (by omega) v f
        have wb := hb (j + i) (by omega) w (by rw [Int.natCast_add]; exact f')
        refine br_f (rp_1 rfl) (yw_labQ (e := 4) hR hc hp (by omega) (by omega) (by omega) fun y hy => yw_labQ (e := 4) hR hc hp (by omega) (by omega) (by omega) fun y' hy' => ?_)
        rw [hy v f, hy' w f']
        refine zi_ble v w (fun z => nm_r (nI_1 i) (nx fun v' w' e e' => ?_)) (fun z => h' fun m => ?_)
        · rw [f] at e; rw [f'] at e'
          injection e with e; injection e' with e'
          omega
        · have := m _ _ _ _ (by omega) f f'; omega
theorem yo_ordered {post : Int32 → Prop} (hR : rp_R c K L S 4 F s) (hc : 1 ≤ c ∧ c ≤ 60) (hs : 0 ≤ s) (hp : mx_per c s F) (hb : ∀ t : Nat, t < 2 * c → ∀ v, F (t : Int) = some v → -100000 ≤ v ∧ v ≤ 100000) (h : post (mx_b (mx_M F))) : wpY_ordered post ((nI c), dp, K, L, S, wk) := by
  have main : ∀ (d j : Nat), j + d = c → (∀ t : Nat, t < j → ∀ d : Nat, d ≤ c → ∀ v w, F (t : Int) = some v → F (t + d) = some w → v ≤ w) → ∀ n, d < n → wY_ordered_2 post (nI c) dp K L S wk n (nI j) := by
    intro d
    induction d with
    | zero =>
      intro j hj k n hn
      obtain ⟨q, rfl⟩ : ∃ q, n = q + 1 := ⟨n - 1, by omega⟩
      refine br_t (nI_le (by omega) (by omega)) ?_
      rw [mx_bt] at h
      · exact h
      · refine mx_Mred (by omega) hs hp fun t d v w t0 t1 d0 d1 e e' => ?_
        refine k t.toNat (by omega) d.toNat (by omega) v w ?_ ?_
        · rw [Int.toNat_of_nonneg t0]; exact e
        · rw [Int.toNat_of_nonneg t0, Int.toNat_of_nonneg d0]; exact e'
    | succ d ih =>
      intro j hj k n hn
      obtain ⟨q, rfl⟩ : ∃ q, n = q + 1 := ⟨n - 1, by omega⟩
      refine br_f (nI_ge (by omega) (by omega)) ⟨c + 1, yo_in hR hc hp (by omega) hb (fun z => by rw [mx_bf z] at h; exact h) (fun z => ih (j + 1) (by omega) (re_up k z) q (by omega)) c 1 (by omega) (fun d hd v w e e' => ?_) (c + 1) (by omega)⟩
      have : d = 0 := by omega
      subst this
      rw [Int.natCast_zero, Int.add_zero, e] at e'
      injection e' with e'
      omega
  unfold wpY_ordered
  exact ⟨c + 1, main c 0 (by omega) (fun t ht => by omega) (c + 1) (by omega)⟩
/-! passing the tests on the kind -/
section
variable {post : Int32 → SY → Prop} {J : Int32 → Int32 → Int32 → (Nat → Int32) → (Nat → Int32) → (Nat → Int32) → (Nat → Int32) → Prop} {x1 x2 x3 x4 x5 x6 x7 x8 x9 x10 : Int32}
theorem yj_p1 (h : ¬ x1 = 1) (k : wY_join_249 post J x1 x2 x3 x4 x5 x6 x7 x8 x9 x10 (nI c) dp K L S wk) : wY_join_180 post J x1 x2 x3 x4 x5 x6 x7 x8 x9 x10 (nI c) dp K L S wk := by
  unfold wY_join_180 wY_join_202
  exact br_f h (br_f h k)
theorem yj_p2 (h : ¬ x1 = 2) (k : wY_join_277 post J x1 x2 x3 x4 x5 x6 x7 x8 x9 x10 (nI c) dp K L S wk) : wY_join_249 post J x1 x2 x3 x4 x5 x6 x7 x8 x9 x10 (nI c) dp K L S wk := by
  unfold wY_join_249
  exact br_f h k
theorem yj_p3 (h : ¬ x1 = 3) (k : wY_join_337 post J x1 x2 x3 x4 x5 x6 x7 x9 x10 (nI c) dp K L S wk) : wY_join_277 post J x1 x2 x3 x4 x5 x6 x7 x8 x9 x10 (nI c) dp K L S wk := by
  unfold wY_join_277
  exact br_f h k
theorem yj_p4 (h : ¬ x1 = 4) (k : wY_join_367 post J x1 x2 x3 x4 x5 x6 x9 x10 (nI c) dp K L S wk) : wY_join_337 post J x1 x2 x3 x4 x5 x6 x7 x9 x10 (nI c) dp K L S wk := by
  unfold wY_join_337
  exact br_f h k
theorem yj_set {K0 L0 : Nat → Int32} {j : Nat} {k l : Int32} (hj : j < 60) (hD : sd_D K0 L0 K L (fun x => x < j) F) (hk : k = 0 ∨ k = 1) (hC : rp_C k l (F (j : Int))) (nx : ∀ K' L', sd_D K0 L0 K' L' (fun x => x < j + 1) F → J (nI (j + 1)) (nI c) dp K' L' S wk) : wY_join_367 post J x1 x2 x3 x4 x5 (nI j) l k (nI c) dp K L S wk := by
  unfold wY_join_367
  exact yw_set hj hD hk hC sd_ls (fun K' L' hD' => nm_r (nI_1 j) (nx K' L' hD'))
theorem yj_LQ {K0 L0 : Nat → Int32} (Q : Nat → Prop) (hR : rp_R c K0 L0 S a A s) (hG : mx_G c s A) (ha : a < 4) (hR' : rp_R c K0 L0 S b B s') (hG' : mx_G c s' B) (hb : b < 4) (hs : ∀ (j : Nat) (K L : Nat → Int32) (w : Int32) (J : Int32 → Int32 → Int32 → (Nat → Int32) → (Nat → Int32) → (Nat → Int32) → (Nat → Int32) → Prop), j < c → sd_D K0 L0 K L (fun x => x < j) F → rp_R c K L S a A s → rp_R c K L S b B s' → (∀ v, A (j : Int) = some v → w = zi_I v) → Q j → (∀ K' L', sd_D K0 L0 K' L' (fun x => x < j + 1) F → Q (j + 1) → J (nI (j + 1)) (nI c) dp K' L' S wk) → ((x1 = 0 → wpY_nested (fun r => wY_join_180 post J x1 (nI a) (nI b) x4 x5 (nI j) (mx_cv (A (j : Int))) (mx_cv (B (j : Int))) w r (nI c) dp K L S wk) ((nI c), dp, K, L, S, wk) (nI b) (nI a) (nI j)) ∧ (¬ x1 = 0 → wY_join_180 post J x1 (nI a) (nI b) x4 x5 (nI j) (mx_cv (A (j : Int))) (mx_cv (B (j : Int))) w (mx_cv (A (j : Int))) (nI c) dp K L S wk))) (he : ∀ (K L : Nat → Int32), sd_D K0 L0 K L (fun x => x < c) F → Q c → ∀ S', S' = upd S 4 x5 → ((x1 = 3 → wpY_ordered (fun r => ((r = 0 → post 4 ((nI c), dp, K, L, S', wk)) ∧ (¬ r = 0 → wY_join_405 post (nI a) x5 (nI c) dp K L S' wk))) ((nI c), dp, K, L, S', wk)) ∧ (¬ x1 = 3 → wY_join_405 post (nI a) x5 (nI c) dp K L S' wk))) : ∀ (d j : Nat) (K L : Nat → Int32), j + d = c → sd_D K0 L0 K L (fun x => x < j) F → Q j → ∀ n, d < n → wY_join_126 post x1 (nI a) (nI b) x4 x5 n (nI j) (nI c) dp K L S wk := by
  have c1 := hG.1.1.1
  have c2 := hG.1.1.2
  have c60 : c ≤ 60 := by omega
  intro d
  induction d with
  | zero =>
    intro j K L hj hD hQ n hn
    obtain ⟨q, rfl⟩ : ∃ q, n = q + 1 := ⟨n - 1, by omega⟩
    have : j = c := by omega
    subst this
    exact br_t (nI_le (by omega) (by omega)) (he K L hD hQ)
  | succ d ih =>
    intro j K L hj hD hQ n hn
    obtain ⟨q, rfl⟩ : ∃ q, n = q + 1 := ⟨n - 1, by omega⟩
    have hF := sd_DF (S := S) (S' := S) c60 hD (fun _ _ => rfl)
    have hRa : rp_R c K L S a A s := hF.2 a ha A s hR
    have hRb : rp_R c K L S b B s' := hF.2 b hb B s' hR'
    refine br_f (nI_ge (by omega) (by omega)) ?_
    rw [zi_n j]
    refine yw_cov hRa hG.1 (by omega) (by omega) (by omega) (yw_cov hRb hG'.1 (by omega) (by omega) (by omega) (yw_lab hRa hG.1 (by omega) (by omega) (by omega) fun w hw => ?_))
    rw [← zi_n j]
    exact hs j K L w _ (by omega) hD hRa hRb hw hQ (fun K' L' hD' hQ' => ih (j + 1) K' L' (by omega) hD' hQ' q (by omega))
theorem yj_L {K0 L0 : Nat → Int32} (hR : rp_R c K0 L0 S a A s) (hG : mx_G c s A) (ha : a < 4) (hR' : rp_R c K0 L0 S b B s') (hG' : mx_G c s' B) (hb : b < 4) (hs : ∀ (j : Nat) (K L : Nat → Int32) (w : Int32) (J : Int32 → Int32 → Int32 → (Nat → Int32) → (Nat → Int32) → (Nat → Int32) → (Nat → Int32) → Prop), j < c → sd_D K0 L0 K L (fun x => x < j) F → rp_R c K L S a A s → rp_R c K L S b B s' → (∀ v, A (j : Int) = some v → w = zi_I v) → (∀ K' L', sd_D K0 L0 K' L' (fun x => x < j + 1) F → J (nI (j + 1)) (nI c) dp K' L' S wk) → ((x1 = 0 → wpY_nested (fun r => wY_join_180 post J x1 (nI a) (nI b) x4 x5 (nI j) (mx_cv (A (j : Int))) (mx_cv (B (j : Int))) w r (nI c) dp K L S wk) ((nI c), dp, K, L, S, wk) (nI b) (nI a) (nI j)) ∧ (¬ x1 = 0 → wY_join_180 post J x1 (nI a) (nI b) x4 x5 (nI j) (mx_cv (A (j : Int))) (mx_cv (B (j : Int))) w (mx_cv (A (j : Int))) (nI c) dp K L S wk))) (he : ∀ (K L : Nat → Int32), sd_D K0 L0 K L (fun x => x < c) F → ∀ S', S' = upd S 4 x5 → ((x1 = 3 → wpY_ordered (fun r => ((r = 0 → post 4 ((nI c), dp, K, L, S', wk)) ∧ (¬ r = 0 → wY_join_405 post (nI a) x5 (nI c) dp K L S' wk))) ((nI c), dp, K, L, S', wk)) ∧ (¬ x1 = 3 → wY_join_405 post (nI a) x5 (nI c) dp K L S' wk))) : ∀ (d j : Nat) (K L : Nat → Int32), j + d = c → sd_D K0 L0 K L (fun x => x < j) F → ∀ n, d < n → wY_join_126 post x1 (nI a) (nI b) x4 x5 n (nI j) (nI c) dp K L S wk := fun d j K L hj hD n hn =>
  yj_LQ (fun _ => True) hR hG ha hR' hG' hb (fun j K L w J h1 h2 h3 h4 h5 _ h6 => hs j K L w J h1 h2 h3 h4 h5 (fun K' L' h => h6 K' L' h trivial)) (fun K L h _ => he K L h) d j K L hj hD trivial n hn
theorem yj_end {K0 L0 : Nat → Int32} {n : Int} (c60 : c ≤ 60) (ha : a < 4) (hg : sd_g c F n g) (hx : x5 = zi_I n) (h : ∀ K' L' S', sd_U c K0 L0 S K' L' S' a F g → post 0 ((nI c), (nI (a + 1)), K', L', S', wk)) (K L : Nat → Int32) (hD : sd_D K0 L0 K L (fun x => x < c) F) (S' : Nat → Int32) (hS : S' = upd S 4 x5) : wY_join_405 post (nI a) x5 (nI c) dp K L S' wk := by
  subst hS
  unfold wY_join_405
  exact yw_store c60 ha hD (fun r hr => hr) (fun i hi => zi_un hi) hg (fun K' L' S' hU => h _ _ _ hU) hx
end
end
end
section
/-! the kinds of the reference's join, and join -/
section
variable {dp : Int32} {c : Nat} {K L S wk : Nat → Int32} {a b : Nat} {A B F : Int → Option Int} {s s' g : Int} {post : Int32 → SY → Prop} {x4 : Int32}
theorem yk_92 {x1 x5 : Int32} (ha : a < 4) (hS : S a = x5) (h1 : ¬ x1 = 1) (h3 : ¬ x1 = 3) (h : ∃ n, wY_join_126 post x1 (nI a) (nI b) x4 x5 n (nI 0) (nI c) dp K L S wk) : wY_join_92 post x1 (nI a) (nI b) x4 (nI c) dp K L S wk := by
  unfold wY_join_92
  rw [zi_clN (by omega), hS]
  exact ⟨zi_inN (by omega) (by omega), nm_e (br_f h1 (br_f h3 h))⟩
theorem yk_comb (hR : rp_R c K L S a A s) (hG : mx_G c s A) (ha : a < 4) (hR' : rp_R c K L S b B s') (hG' : mx_G c s' B) (hb : b < 4) (h01 : ∀ i, K i = 0 ∨ K i = 1) (hg : sd_g c (mx_fl A (mx_N B A)) s g) (h : ∀ K' L' S', sd_U c K L S K' L' S' a (mx_fl A (mx_N B A)) g → post 0 ((nI c), (nI (a + 1)), K', L', S', wk)) : wY_join_58 post 0 (nI a) (nI b) x4 (nI c) dp K L S wk := by
  have c2 := hG.1.1.2
  unfold wY_join_58
  refine br_f (by decide) (br_f (by decide) (yk_92 ha hR.1 (by decide) (by decide) ⟨c + 1, yj_L (F := mx_fl A (mx_N B A)) hR hG ha hR' hG' hb (fun j K' L' w J hj hD hRa hRb hw nx => ?_) (fun K' L' hD S' hS => br_f (by decide) (yj_end (by omega) ha hg rfl h K' L' hD S' hS)) c 0 K L (by omega) (sd_D0 h01) (c + 1) (by omega)⟩))
  refine br_t rfl ?_
  rw [zi_n j]
  refine yw_nested hRb hG' (by omega) hRa hG.1 (by omega) (by omega) (by omega) (fun i e => ?_) ?_
  · have := mg_r hG'.1 hj e; omega
  rw [← zi_n j]
  refine yj_p1 (by decide) (yj_p2 (by decide) (yj_p3 (by decide) (yj_p4 (by decide) (yj_set (by omega) hD (mx_b01 _) ?_ nx))))
  by_cases z : mx_N B A (j : Int)
  · obtain ⟨i, v, -, e, -⟩ := id z
    rw [mx_bt z, mx_flt z, e]
    exact ⟨rfl, hw v e⟩
  · rw [mx_bf z, mx_flf z]; exact rfl
theorem yk_up (hR : rp_R c K L S a A s) (hG : mx_G c s A) (ha : a < 4) (hR' : rp_R c K L S b B s') (hG' : mx_G c s' B) (hb : b < 4) (h01 : ∀ i, K i = 0 ∨ K i = 1) (hg : sd_g c (mx_fl A (up_P A B)) s g) (h : ∀ K' L' S', sd_U c K L S K' L' S' a (mx_fl A (up_P A B)) g → post 0 ((nI c), (nI (a + 1)), K', L', S', wk)) : wY_join_58 post 2 (nI a) (nI b) x4 (nI c) dp K L S wk := by
  have c2 := hG.1.1.2
  unfold wY_join_58
  refine br_f (by decide) (br_f (by decide) (yk_92 ha hR.1 (by decide) (by decide) ⟨c + 1, yj_L (F := mx_fl A (up_P A B)) hR hG ha hR' hG' hb (fun j K' L' w J hj hD hRa hRb hw nx => ?_) (fun K' L' hD S' hS => br_f (by decide) (yj_end (by omega) ha hg rfl h K' L' hD S' hS)) c 0 K L (by omega) (sd_D0 h01) (c + 1) (by omega)⟩))
  refine br_f (by decide) (yj_p1 (by decide) ?_)
  unfold wY_join_249 wY_join_274 wY_join_275
  refine br_t rfl ?_
  have fin : ∀ k, k = 0 ∨ k = 1 → rp_C k w (mx_fl A (up_P A B) (j : Int)) → wY_join_277 post J 2 (nI a) (nI b) x4 (S a) (nI j) (mx_cv (A (j : Int))) (mx_cv (B (j : Int))) w k (nI c) dp K' L' S wk := fun k hk hC => yj_p3 (by decide) (yj_p4 (by decide) (yj_set (by omega) hD hk hC nx))
  cases f : A (j : Int) with
  | none =>
    rw [f] at fin
    exact br_t rfl (fin 0 (.inl rfl) (by rw [mx_fln f]; exact rfl))
  | some i =>
    rw [f] at fin
    rw [hw i f] at fin ⊢
    refine br_f (rp_1 rfl) (yh_holds hRa hG ha hRb hG' hb hj f (mx_br (fun z => fin 0 (.inl rfl) ?_) (fun z => fin 1 (.inr rfl) ?_)))
    · rw [mx_flf]
      · exact rfl
      · rintro ⟨i', e, k⟩
        rw [f] at e
        injection e with e
        subst e
        exact z k
    · rw [mx_flt ⟨i, f, z⟩, f]; exact ⟨rfl, rfl⟩
theorem yk_mi (hR : rp_R c K L S a A s) (hG : mx_G c s A) (ha : a < 4) (hR' : rp_R c K L S b B s') (hG' : mx_G c s' B) (hb : b < 4) (h01 : ∀ i, K i = 0 ∨ K i = 1) (hx4 : x4 = mx_b (s ≠ 0 ∧ s' ≠ 0)) (hg : sd_g c (mx_fl A (mi_P A B)) s g) (h : (s = 0 ∨ s' = 0 ∨ s = s') → ∀ K' L' S', sd_U c K L S K' L' S' a (mx_fl A (mi_P A B)) g → post 0 ((nI c), (nI (a + 1)), K', L', S', wk)) (h' : ¬ (s = 0 ∨ s' = 0 ∨ s = s') → post 4 ((nI c), dp, K, L, S, wk)) : wY_join_58 post 4 (nI a) (nI b) x4 (nI c) dp K L S wk := by
  have c2 := hG.1.1.2
  have s1 := hG.1.2.1
  have s2 := hG'.1.2.1
  have main : (s = 0 ∨ s' = 0 ∨ s = s') → wY_join_92 post 4 (nI a) (nI b) x4 (nI c) dp K L S wk := fun ok => by
    refine yk_92 ha hR.1 (by decide) (by decide) ⟨c + 1, yj_L (F := mx_fl A (mi_P A B)) hR hG ha hR' hG' hb (fun j K' L' w J hj hD hRa hRb hw nx => ?_) (fun K' L' hD S' hS => br_f (by decide) (yj_end (by omega) ha hg rfl (h ok) K' L' hD S' hS)) c 0 K L (by omega) (sd_D0 h01) (c + 1) (by omega)⟩
    refine br_f (by decide) (yj_p1 (by decide) (yj_p2 (by decide) (yj_p3 (by decide) ?_)))
    unfold wY_join_337 wY_join_364 wY_join_365
    refine br_t rfl ?_
    have fin : ∀ k, k = 0 ∨ k = 1 → rp_C k w (mx_fl A (mi_P A B) (j : Int)) → wY_join_367 post J 4 (nI a) (nI b) x4 (S a) (nI j) w k (nI c) dp K' L' S wk := fun k hk hC => yj_set (by omega) hD hk hC nx
    cases f : A (j : Int) with
    | none => exact br_t rfl (fin 0 (.inl rfl) (by rw [mx_fln f]; exact rfl))
    | some i =>
      have ib := mg_r hG.1 hj f
      rw [hw i f] at fin ⊢
      refine br_f (rp_1 rfl) (yw_edge false hRb hG' (by omega) (by omega) (by omega) (fun x hx => ?_) (fun hx => ?_))
      · have xb := mx_tb hG' hx.1 (by omega) (by omega)
        refine br_f (zi_nN (by omega) (by omega)) (fin 0 (.inl rfl) ?_)
        rw [mx_flf (fun z => z i f x hx.1)]; exact rfl
      · refine br_t rfl (fin 1 (.inr rfl) ?_)
        rw [mx_flt, f]
        · exact ⟨rfl, rfl⟩
        · intro i' e t' e'
          rw [f] at e
          injection e with e
          subst e
          exact hx t' e'
  unfold wY_join_58 wY_join_70
  rw [zi_clN (by omega), zi_clN (by omega), hR.1, hR'.1]
  subst hx4
  refine br_f (by decide) (br_t rfl (mx_br (fun z => main ?_) (fun z => ⟨zi_inN (by omega) (by omega), zi_inN (by omega) (by omega), zi_beq s s' (fun w => main (.inr (.inr w))) (fun w => h' ?_)⟩)))
  · by_cases y : s = 0
    · exact .inl y
    · by_cases y' : s' = 0
      · exact .inr (.inl y')
      · exact absurd ⟨y, y'⟩ z
  · rintro (y | y | y)
    · exact z.1 y
    · exact z.2 y
    · exact w y
theorem yk_un {n : Int} (hR : rp_R c K L S a A s) (hG : mx_G c s A) (ha : a < 4) (hR' : rp_R c K L S b B s') (hG' : mx_G c s' B) (hb : b < 4) (h01 : ∀ i, K i = 0 ∨ K i = 1) (hx4 : x4 = mx_b (s ≠ 0 ∧ s' ≠ 0)) (hn : (s = 0 → n = s') ∧ (s ≠ 0 → n = s)) (hg : sd_g c (mx_or A B) n g) (h : un_ok c s s' A B → ∀ K' L' S', sd_U c K L S K' L' S' a (mx_or A B) g → post 0 ((nI c), (nI (a + 1)), K', L', S', wk)) (h' : ¬ un_ok c s s' A B → ∀ K' L' S', sd_F c K L S K' L' S' → post 4 ((nI c), dp, K', L', S', wk)) : wY_join_58 post 3 (nI a) (nI b) x4 (nI c) dp K L S wk := by
  have c1 := hG.1.1.1
  have c2 := hG.1.1.2
  have s1 := hG.1.2.1
  have s2 := hG'.1.2.1
  have ia : vp_in (nI a) 5 := zi_inN (by omega) (by omega)
  have ib : vp_in (nI b) 5 := zi_inN (by omega) (by omega)
  have bo : ∀ t v, mx_or A B t = some v → A t = some v ∨ B t = some v := fun t v e => by
    cases f : A t with
    | none => rw [mx_orn f] at e; exact .inr e
    | some w => rw [mx_ors f] at e; exact .inl e
  have main : (s = 0 ∨ s' = 0 ∨ s = s') → ∃ m, wY_join_126 post 3 (nI a) (nI b) x4 (zi_I n) m (nI 0) (nI c) dp K L S wk := fun ok => by
    have hp : mx_per c n (mx_or A B) := by
      by_cases y : s = 0
      · rw [hn.1 y, mx_orE (hG.2.2.mp y)]; exact hG'.1.2.2.1
      · rw [hn.2 y]
        rcases ok with ok | ok | ok
        · exact absurd ok y
        · rw [mx_orE' (hG'.2.2.mp ok)]; exact hG.1.2.2.1
        · rw [← ok] at hG'
          exact mg_orP hG.1.2.2.1 hG'.1.2.2.1
    have n0 : 0 ≤ n := by
      by_cases y : s = 0
      · rw [hn.1 y]; exact s2.1
      · rw [hn.2 y]; exact s1.1
    refine ⟨c + 1, yj_LQ (F := mx_or A B) (fun j => ∀ r : Nat, r < j → ∀ v w, A (r : Int) = some v → B (r : Int) = some w → v = w) hR hG ha hR' hG' hb (fun j K' L' w J hj hD hRa hRb hw hQ nx => ?_) (fun K' L' hD hC S' hS => br_t rfl ?_) c 0 K L (by omega) (sd_D0 h01) (fun r hr => by omega) (c + 1) (by omega)⟩
    · refine br_f (by decide) (yj_p1 (by decide) (yj_p2 (by decide) ?_))
      unfold wY_join_277 wY_join_306 wY_join_316 wY_join_321
      refine br_t rfl ?_
      have fin : ∀ k l, k = 0 ∨ k = 1 → rp_C k l (mx_or A B (j : Int)) → (∀ v w, A (j : Int) = some v → B (j : Int) = some w → v = w) → wY_join_337 post J 3 (nI a) (nI b) x4 (zi_I n) (nI j) (mx_cv (A (j : Int))) l k (nI c) dp K' L' S wk := fun k l hk hC hq => yj_p4 (by decide) (yj_set (by omega) hD hk hC (fun K2 L2 h2 => nx K2 L2 h2 (re_up hQ hq)))
      cases f : A (j : Int) with
      | none =>
        rw [f] at fin
        refine br_t rfl (br_t rfl ?_)
        rw [zi_n j]
        cases f' : B (j : Int) with
        | none =>
          refine br_t rfl (br_t rfl (yw_lab hRb hG'.1 (by omega) (by omega) (by omega) fun y hy => ?_))
          rw [← zi_n j]
          exact fin 0 y (.inl rfl) (by rw [mx_orn f, f']; exact rfl) (fun v w e => by cases e)
        | some v =>
          refine br_f (rp_1 rfl) (br_t rfl (yw_lab hRb hG'.1 (by omega) (by omega) (by omega) fun y hy => ?_))
          rw [← zi_n j]
          exact fin 1 y (.inr rfl) (by rw [mx_orn f, f']; exact ⟨rfl, hy v f'⟩) (fun v w e => by cases e)
      | some v =>
        rw [f] at fin
        have fin := fin 1 w (.inr rfl) (by rw [mx_ors f]; exact ⟨rfl, hw v f⟩)
        refine br_f (rp_1 rfl) ?_
        cases f' : B (j : Int) with
        | none =>
          rw [f'] at fin
          exact br_t rfl (br_f (rp_1 rfl) (br_f (rp_1 rfl) (fin (fun v w _ e => by cases e))))
        | some v' =>
          have vb := mg_r hG.1 hj f
          have vb' := mg_r hG'.1 hj f'
          rw [f'] at fin
          refine br_f (rp_1 rfl) ?_
          rw [zi_n j]
          refine yw_lab hRb hG'.1 (by omega) (by omega) (by omega) fun y hy => ?_
          rw [← zi_n j]
          refine zi_beq v v' (fun z => br_f (rp_1 rfl) (br_f (rp_1 rfl) (fin (fun x x' e e' => ?_)))) (fun z => h' (fun k => z (k.2.1 j hj v v' f f')) _ _ _ (sd_DF (by omega) hD (fun _ _ => rfl))) (hw v f) (hy v' f')
          injection e with e; injection e' with e'
          omega
    · have hF4 : rp_R c K' L' S' 4 (mx_or A B) n := by
        subst hS
        exact ⟨zi_us, fun r hr => hD.2.2 r hr⟩
      refine yo_ordered hF4 (by omega) n0 hp (fun t ht v e => ?_) (mx_br (fun z => h' (fun w => z w.2.2) _ _ _ (sd_DF (by omega) hD (fun i hi => by subst hS; exact zi_un hi))) (fun z => yj_end (by omega) ha hg rfl (h ⟨ok, hC, z⟩) K' L' hD S' hS))
      rcases bo _ _ e with e | e
      · have := mx_bd hG.1 e; omega
      · have := mx_bd hG'.1 e; omega
  unfold wY_join_58 wY_join_70
  rw [zi_clN (by omega), zi_clN (by omega), hR.1, hR'.1]
  have go : (s = 0 ∨ s' = 0 ∨ s = s') → wY_join_92 post 3 (nI a) (nI b) x4 (nI c) dp K L S wk := fun ok => by
    unfold wY_join_92
    rw [zi_clN (by omega), zi_clN (by omega), hR.1, hR'.1]
    refine ⟨ia, nm_e (br_f (by decide) (br_t rfl (zi_beq s 0 (fun z => ⟨ib, nm_e ?_⟩) (fun z => ?_) rfl zi_0)))⟩
    · rw [← hn.1 z]; exact main ok
    · rw [← hn.2 z]; exact main ok
  subst hx4
  refine br_t rfl (mx_br (fun z => go ?_) (fun z => ⟨ia, ib, zi_beq s s' (fun w => go (.inr (.inr w))) (fun w => h' (fun k => ?_) _ _ _ (sd_Fr h01))⟩))
  · by_cases y : s = 0
    · exact .inl y
    · by_cases y' : s' = 0
      · exact .inr (.inl y')
      · exact absurd ⟨y, y'⟩ z
  · rcases k.1 with y | y | y
    · exact z.1 y
    · exact z.2 y
    · exact w y
end
end
section
/-! anchor of the reference; join -/
section
variable {dp : Int32} {c : Nat} {K L S wk : Nat → Int32} {a b : Nat} {A B F : Int → Option Int} {s s' g : Int} {post : Int32 → SY → Prop} {x4 : Int32}
theorem yk_an (hR : rp_R c K L S a A s) (hG : mx_G c s A) (ha : a < 4) (hR' : rp_R c K L S b B s') (hG' : mx_G c s' B) (hb : b < 4) (h01 : ∀ i, K i = 0 ∨ K i = 1) (hx4 : x4 = mx_b (s ≠ 0 ∧ s' ≠ 0)) (hg : sd_g c (mx_fn (mx_An A B)) s' g) (h : mx_rg c (mx_fn (mx_An A B)) → ∀ K' L' S', sd_U c K L S K' L' S' a (mx_fn (mx_An A B)) g → post 0 ((nI c), (nI (a + 1)), K', L', S', wk)) (h' : ¬ mx_rg c (mx_fn (mx_An A B)) → ∀ K' L' S', sd_F c K L S K' L' S' → post 5 ((nI c), dp, K', L', S', wk)) : wY_join_58 post 1 (nI a) (nI b) x4 (nI c) dp K L S wk := by
  have c1 := hG.1.1.1
  have c2 := hG.1.1.2
  have s1 := hG.1.2.1
  have s2 := hG'.1.2.1
  have ia : vp_in (nI a) 5 := zi_inN (by omega) (by omega)
  have ib : vp_in (nI b) 5 := zi_inN (by omega) (by omega)
  unfold wY_join_58 wY_join_92
  rw [zi_clN (by omega), zi_clN (by omega), hR'.1]
  refine br_f (by decide) (br_f (by decide) ⟨ia, nm_e (br_t rfl ⟨ib, nm_e ⟨c + 1, yj_LQ (F := mx_fn (mx_An A B)) (fun j => ∀ r : Nat, r < j → ∀ v, mx_fn (mx_An A B) (r : Int) = some v → -9999 ≤ v ∧ v ≤ 9999) hR hG ha hR' hG' hb (fun j K' L' w J hj hD hRa hRb hw hQ nx => ?_) (fun K' L' hD hC S' hS => br_f (by decide) (yj_end (by omega) ha hg rfl (h hC) K' L' hD S' hS)) c 0 K L (by omega) (sd_D0 h01) (fun r hr => by omega) (c + 1) (by omega)⟩⟩)⟩)
  have hF := sd_DF (c := c) (S := S) (S' := S) (by omega) hD (fun _ _ => rfl)
  refine br_f (by decide) ?_
  unfold wY_join_180 wY_join_199 wY_join_200 wY_join_202
  refine br_t rfl ?_
  have fin : ∀ k l, k = 0 ∨ k = 1 → rp_C k l (mx_fn (mx_An A B) (j : Int)) → (∀ v, mx_fn (mx_An A B) (j : Int) = some v → -9999 ≤ v ∧ v ≤ 9999) → wY_join_249 post J 1 (nI a) (nI b) x4 (zi_I s') (nI j) (mx_cv (A (j : Int))) (mx_cv (B (j : Int))) l k (nI c) dp K' L' S wk := fun k l hk hC hq => yj_p2 (by decide) (yj_p3 (by decide) (yj_p4 (by decide) (yj_set (by omega) hD hk hC (fun K2 L2 h2 => nx K2 L2 h2 (re_up hQ hq)))))
  have none0 : mx_fn (mx_An A B) (j : Int) = none → wY_join_249 post J 1 (nI a) (nI b) x4 (zi_I s') (nI j) (mx_cv (A (j : Int))) (mx_cv (B (j : Int))) w 0 (nI c) dp K' L' S wk := fun e => fin 0 w (.inl rfl) (by rw [e]; exact rfl) (fun v k => by rw [e] at k; cases k)
  cases f : A (j : Int) with
  | none =>
    rw [f] at none0
    refine br_t rfl (br_t rfl (br_t rfl (none0 (mx_fnN ?_))))
    rintro v ⟨i, _, z, -, -⟩
    rw [f] at z; cases z
  | some i =>
    rw [f] at none0 fin
    have ib := mg_r hG.1 hj f
    have sp := mx_spos hG f
    refine br_f (rp_1 rfl) ?_
    subst hx4
    refine mx_br (fun z => br_t rfl (br_t rfl (none0 (mx_fnN ?_)))) (fun z => br_t rfl (br_f (by decide) ?_))
    · have z' : s' = 0 := Classical.byContradiction fun y => z ⟨by omega, y⟩
      rintro v ⟨_, _, -, -, ⟨u, -, eu⟩, -⟩
      rw [hG'.2.2.mp z' u] at eu; cases eu
    · rw [hw i f]
      refine yw_edge false hRa hG (by omega) (by omega) (by omega) (fun x hx => ?_) (fun hx => absurd f (hx _))
      have xb := mx_cl hG (by omega) (by omega) f hx.1
      refine ya_anchor hRb hG' hb (by omega) (by omega) (fun v hv => ?_) (fun hv => absurd (hG'.2.2.mpr hv) z.2)
      have e : mx_fn (mx_An A B) (j : Int) = some v := mx_fnE mx_Anu ⟨i, x, f, hx, hv⟩
      have vb : -2147483648 ≤ v ∧ v < 2147483648 := by
        obtain ⟨⟨u, hu, eu⟩, hU⟩ := hv
        have vb := mx_bd hG'.1 eu
        have m0 := Int.emod_nonneg (x - u) (b := (c : Int)) (by omega)
        have m1 := Int.emod_lt_of_pos (x - u) (b := (c : Int)) (by omega)
        have em := mx_em (x - u) c
        have q0 : 0 ≤ (x - u) / (c : Int) := Int.ediv_nonneg (by omega) (by omega)
        have e1 := mx_sh hG'.1.2.2.1 ((x - u) / (c : Int)) eu
        have l1 := hU _ _ (by omega) e1
        have vb1 := mx_bd hG'.1 e1
        omega
      have bad : ¬ (-9999 ≤ v ∧ v ≤ 9999) → ¬ mx_rg c (mx_fn (mx_An A B)) := fun y k => y (k j hj v e)
      refine zi_blt v (-9999) (fun y => h' (bad (by omega)) _ _ _ hF) (fun y => zi_ble v 9999 (fun y' => ?_) (fun y' => h' (bad (by omega)) _ _ _ hF) (hb := by omega)) (hb := by omega)
      refine fin 1 (zi_I v) (.inr rfl) (by rw [e]; exact ⟨rfl, rfl⟩) (fun v' k => ?_)
      rw [e] at k
      injection k with k
      omega
theorem yj_pre {x1 : Int32} {n : Nat} (hR : rp_R c K L S (n - 2) A s) (hG : mx_G c s A) (hR' : rp_R c K L S (n - 1) B s') (hG' : mx_G c s' B) (hn : 2 ≤ n) (n4 : n ≤ 4) (h0 : ¬ x1 < 0) (h4 : x1 ≤ 4) (h : wY_join_58 post x1 (nI (n - 2)) (nI (n - 1)) (mx_b (s ≠ 0 ∧ s' ≠ 0)) (nI c) (nI n) K L S wk) : wpY_join post ((nI c), (nI n), K, L, S, wk) x1 := by
  have c2 := hG.1.1.2
  have s1 := hG.1.2.1
  have s2 := hG'.1.2.1
  have h2 : (2 : Int32) ≤ nI n := nI_le (a := 2) hn (by omega)
  have e : nI n - 1 = nI (n - 1) := zi_nsub (b := 1) (by omega)
  have e2 : nI n - 2 = nI (n - 2) := zi_nsub (b := 2) (by omega)
  unfold wpY_join
  refine br_t h2 (br_f h0 (br_t h4 (nm_r e2 (nm_r e ?_))))
  unfold wY_join_57
  rw [zi_clN (by omega), zi_clN (by omega), hR.1, hR'.1]
  refine ⟨zi_inN (by omega) (by omega), zi_beq s 0 (fun z => ?_) (fun z => ⟨zi_inN (by omega) (by omega), zi_beq s' 0 (fun z' => ?_) (fun z' => ?_) rfl zi_0⟩) rfl zi_0⟩
  · rw [mx_bf (fun k => k.1 z)] at h; exact h
  · rw [mx_bf (fun k => k.2 z')] at h; exact h
  · rw [mx_bt ⟨z, z'⟩] at h; exact h
end
section
variable {sc ls : Int32} {c n a : Nat} {K L S ch li le K0 L0 S0 : Nat → Int32} {F : Int → Option Int} {g : Int}
theorem xj_end {post : Int32 → SX → Prop} (c60 : c ≤ 60) (hn : 1 ≤ n) (ha : a < 4) (hR : rp_R c K L S 4 F g) (hF : sd_F c K0 L0 S0 K L S) (h : ∀ K' L' S', sd_U c K0 L0 S0 K' L' S' a F g → post 0 ((nI c), (nI (n - 1)), sc, ls, L', K', S', ch, li, le)) : wX_join_105 post (nI a) 0 (nI c) (nI n) sc ls L K S ch li le := by
  have e : nI n - 1 = nI (n - 1) := zi_nsub (b := 1) (by omega)
  unfold wX_join_105
  exact br_t rfl (xw_copy (a := 4) c60 (by omega) (by omega) (by omega) hF.1 hR (fun K' L' S' hU _ => nm_r e (h _ _ _ (sd_FU hF hU))))
theorem xj_bad {post : Int32 → SX → Prop} {r : Int32} (hr : ¬ r = 0) (h : post r ((nI c), (nI n), sc, ls, L, K, S, ch, li, le)) : wX_join_105 post (nI a) r (nI c) (nI n) sc ls L K S ch li le := by
  unfold wX_join_105
  exact br_f hr h
end
theorem i_vc_join {k : Nat} {u : SX} {v : SY} (I : i_Rel k u v) (hk : k + 4 ≤ 2049) (v1 : Int32) : wpX_join (fun r u' => wpY_join (fun r' v' => r' = r ∧ i_Rel (k + 4) u' v') v v1) u v1 := by
  refine rl_el (P := fun u v => wpX_join (fun r u' => wpY_join (fun r' v' => r' = r ∧ i_Rel (k + 4) u' v') v v1) u v1) I ?_
  intro c n sc ls K L S ch li le Ky Ly Sy wk hA
  obtain ⟨hc, n4, hK, hKy, hs⟩ := id hA
  by_cases h : 2 ≤ n
  · have h2 : (2 : Int32) ≤ nI n := nI_le (a := 2) h (by omega)
    by_cases h0 : v1 < 0
    · exact br_t h2 (br_t h0 (br_t h2 (br_t h0 ⟨rfl, rl_mk hA⟩)))
    · by_cases h4 : v1 ≤ 4
      · have e : nI n - 1 = nI (n - 1) := zi_nsub (b := 1) (by omega)
        have e2 : nI n - 2 = nI (n - 2) := zi_nsub (b := 2) (by omega)
        obtain ⟨A, s, hG, hRx, hRy⟩ := hs (n - 2) (by omega)
        obtain ⟨B, s', hG', hRx', hRy'⟩ := hs (n - 1) (by omega)
        have pA := hG.1.2.2.1
        have pB := hG'.1.2.2.1
        have en : n - 2 + 1 = n - 1 := by omega
        have hv : v1 = 0 ∨ v1 = 1 ∨ v1 = 2 ∨ v1 = 3 ∨ v1 = 4 := by
          obtain ⟨j, hj, rfl⟩ := nI_of2 (M := 4) (n := 4) (by decide) h0 h4
          have : j = 0 ∨ j = 1 ∨ j = 2 ∨ j = 3 ∨ j = 4 := by omega
          rcases this with rfl | rfl | rfl | rfl | rfl
          · exact .inl rfl
          · exact .inr (.inl rfl)
          · exact .inr (.inr (.inl rfl))
          · exact .inr (.inr (.inr (.inl rfl)))
          · exact .inr (.inr (.inr (.inr rfl)))
        have st : ∀ {F : Int → Option Int} {g : Int} {K1 L1 S1 K2 L2 S2 : Nat → Int32}, sd_U c K L S K1 L1 S1 (n - 2) F g → sd_U c Ky Ly Sy K2 L2 S2 (n - 2) F g → mx_G c g F → rl_A c (n - 1) K1 L1 S1 K2 L2 S2 := fun hU hV hg => rl_store hA hU hV hg (by omega) (fun e' he' hn => by omega)
        unfold wpX_join
        refine br_t h2 (br_f h0 (br_t h4 (nm_r e2 (nm_r e ?_))))
        rcases hv with rfl | rfl | rfl | rfl | rfl
        · obtain ⟨g, hg⟩ := sd_ge c (mx_fl A (mx_N B A)) s
          have hR := mg_fl hG (fun t _ => mx_Nsi pB pA) hg
          refine br_t rfl ?_
          unfold wpX_combine
          refine ⟨c + 1, xj_combineL (K0 := K) (L0 := L) hRx hG (by omega) hRx' hG' (by omega) hg (fun K1 L1 S1 hR4 hF => xj_end hc.2 (by omega) (by omega) hR4 hF (fun K' L' S' hU => ?_)) c 0 K L (by omega) (sd_D0 hK) (c + 1) (by omega)⟩
          refine yj_pre hRy hG hRy' hG' h n4 h0 h4 (yk_comb hRy hG (by omega) hRy' hG' (by omega) hKy hg (fun K2 L2 S2 hV => ?_))
          rw [en]
          exact ⟨rfl, rl_mk (st hU hV hR)⟩
        · obtain ⟨g, hg⟩ := sd_ge c (mx_fn (mx_An A B)) s'
          refine br_f (by decide) (br_t rfl ?_)
          unfold wpX_anchor
          refine ⟨c + 1, xj_anL (K0 := K) (L0 := L) hRx hG (by omega) hRx' hG' (by omega) hg (fun ok K1 L1 S1 hR4 hF => xj_end hc.2 (by omega) (by omega) hR4 hF (fun K' L' S' hU => ?_)) (fun bad K1 L1 S1 hF => xj_bad (by decide) ?_) c 0 K L (by omega) (sd_D0 hK) (c + 1) (by omega)⟩
          · refine yj_pre hRy hG hRy' hG' h n4 h0 h4 (yk_an hRy hG (by omega) hRy' hG' (by omega) hKy rfl hg (fun _ K2 L2 S2 hV => ?_) (fun bad => absurd ok bad))
            rw [en]
            exact ⟨rfl, rl_mk (st hU hV (mg_an hG hG' ok hg))⟩
          · refine yj_pre hRy hG hRy' hG' h n4 h0 h4 (yk_an hRy hG (by omega) hRy' hG' (by omega) hKy rfl hg (fun ok => absurd ok bad) (fun _ K2 L2 S2 hV => ?_))
            exact ⟨rfl, rl_mk (rl_fail hA hF hV)⟩
        · obtain ⟨g, hg⟩ := sd_ge c (mx_fl A (up_P A B)) s
          have hR := mg_fl hG (fun t _ => up_PP pA pB t) hg
          refine br_f (by decide) (br_f (by decide) (br_t rfl ?_))
          unfold wpX_selectUp
          refine xk_set (.inl rfl) (fun ch' hch => ⟨c + 1, xj_upL hRx hG (by omega) hRx' hG' (by omega) hK hg (fun ch2 K1 L1 S1 hR4 hF => xj_end hc.2 (by omega) (by omega) hR4 hF (fun K' L' S' hU => ?_)) c 0 ch' (by omega) (fun p hp => ?_) (c + 1) (by omega)⟩)
          · refine yj_pre hRy hG hRy' hG' h n4 h0 h4 (yk_up hRy hG (by omega) hRy' hG' (by omega) hKy hg (fun K2 L2 S2 hV => ?_))
            rw [en]
            exact ⟨rfl, rl_mk (st hU hV hR)⟩
          · rw [hch p hp]
            exact ⟨fun z => absurd rfl z, fun ⟨r, hr, _⟩ => by omega⟩
        · have hn : ∃ m, (s = 0 → m = s') ∧ (s ≠ 0 → m = s) := by
            by_cases z : s = 0
            · exact ⟨s', fun _ => rfl, fun w => absurd z w⟩
            · exact ⟨s, fun w => absurd w z, fun _ => rfl⟩
          obtain ⟨m, hm⟩ := hn
          obtain ⟨g, hg⟩ := sd_ge c (mx_or A B) m
          refine br_f (by decide) (br_f (by decide) (br_f (by decide) (br_t rfl ?_)))
          refine xj_union hRx hG (by omega) hRx' hG' (by omega) hK hm hg (fun ok K1 L1 S1 hR4 hF => xj_end hc.2 (by omega) (by omega) hR4 hF (fun K' L' S' hU => ?_)) (fun bad K1 L1 S1 hF => xj_bad (by decide) ?_)
          · refine yj_pre hRy hG hRy' hG' h n4 h0 h4 (yk_un hRy hG (by omega) hRy' hG' (by omega) hKy rfl hm hg (fun _ K2 L2 S2 hV => ?_) (fun bad => absurd ok bad))
            rw [en]
            refine ⟨rfl, rl_mk (st hU hV (mg_or hG hG' m ?_ ?_ (fun z t => ?_) ok.2.2 hg))⟩
            · by_cases y : s = 0
              · rw [hm.1 y, mx_orE (hG.2.2.mp y)]; exact pB
              · rw [hm.2 y]
                rcases ok.1 with ok | ok | ok
                · exact absurd ok y
                · rw [mx_orE' (hG'.2.2.mp ok)]; exact pA
                · rw [← ok] at pB; exact mg_orP pA pB
            · by_cases y : s = 0
              · exact .inr (hm.1 y)
              · exact .inl (hm.2 y)
            · by_cases y : s = 0
              · rw [mx_orE (hG.2.2.mp y)]
                exact hG'.2.2.mp (by rw [← hm.1 y]; exact z) t
              · exact absurd (by rw [← hm.2 y]; exact z) y
          · refine yj_pre hRy hG hRy' hG' h n4 h0 h4 (yk_un hRy hG (by omega) hRy' hG' (by omega) hKy rfl hm hg (fun ok => absurd ok bad) (fun _ K2 L2 S2 hV => ?_))
            exact ⟨rfl, rl_mk (rl_fail hA hF hV)⟩
        · obtain ⟨g, hg⟩ := sd_ge c (mx_fl A (mi_P A B)) s
          refine br_f (by decide) (br_f (by decide) (br_f (by decide) (br_f (by decide) ?_)))
          refine xj_minus hRx hG (by omega) hRx' hG' (by omega) hK hg (fun ok ch' K1 L1 S1 hR4 hF => xj_end hc.2 (by omega) (by omega) hR4 hF (fun K' L' S' hU => ?_)) (fun bad => xj_bad (by decide) ?_)
          · refine yj_pre hRy hG hRy' hG' h n4 h0 h4 (yk_mi hRy hG (by omega) hRy' hG' (by omega) hKy rfl hg (fun _ K2 L2 S2 hV => ?_) (fun bad => absurd ok bad))
            rw [en]
            refine ⟨rfl, rl_mk (st hU hV ?_)⟩
            rcases ok with ok | ok | ok
            · rw [mi_triv (.inl (hG.2.2.mp ok))] at hg ⊢
              rw [sd_gu hg (mg_self hG)]; exact hG
            · rw [mi_triv (.inr (hG'.2.2.mp ok))] at hg ⊢
              rw [sd_gu hg (mg_self hG)]; exact hG
            · rw [← ok] at pB
              exact mg_fl hG (fun t _ => mi_PP pA pB t) hg
          · refine yj_pre hRy hG hRy' hG' h n4 h0 h4 (yk_mi hRy hG (by omega) hRy' hG' (by omega) hKy rfl hg (fun ok => absurd ok bad) (fun _ => ?_))
            exact ⟨rfl, rl_mk hA⟩
      · exact br_t h2 (br_f h0 (br_f h4 (br_t h2 (br_f h0 (br_f h4 ⟨rfl, rl_mk hA⟩)))))
  · have h2 : ¬ (2 : Int32) ≤ nI n := nI_ge (b := 2) (by omega) (by omega)
    exact br_f h2 (br_f h2 ⟨rfl, rl_mk hA⟩)
end
section
/-! select, pure: the list of a granule of B, places in it -/
def se_Q (A B : Int → Option Int) (kd : Prop) (o g : Int) : Prop := (∃ t, B t = some o ∧ A t = some g) ∧ (kd ∨ mx_H A g B o)
def se_LL (A B : Int → Option Int) (kd : Prop) (o : Int) (l : List Int) : Prop := l.Pairwise (fun x y => x < y) ∧ ∀ g, g ∈ l ↔ se_Q A B kd o g
theorem se_un : ∀ (l m : List Int), l.Pairwise (fun x y => x < y) → m.Pairwise (fun x y => x < y) → (∀ g, g ∈ l ↔ g ∈ m) → l = m := by
  intro l
  induction l with
  | nil =>
    intro m _ _ h
    cases m with
    | nil => rfl
    | cons b m => exact absurd ((h b).mpr (List.mem_cons_self ..)) (by simp)
  | cons a l ih =>
    intro m hl hm h
    cases m with
    | nil => exact absurd ((h a).mp (List.mem_cons_self ..)) (by simp)
    | cons b m =>
      rw [List.pairwise_cons] at hl hm
      have e : a = b := by
        have h1 := List.mem_cons.mp ((h a).mp (List.mem_cons_self ..))
        have h2 := List.mem_cons.mp ((h b).mpr (List.mem_cons_self ..))
        rcases h1 with h1 | h1
        · exact h1
        · rcases h2 with h2 | h2
          · exact h2.symm
          · have := hm.1 a h1
            have := hl.1 b h2
            omega
      subst e
      refine congrArg _ (ih m hl.2 hm.2 fun g => ⟨fun hg => ?_, fun hg => ?_⟩)
      · have := hl.1 g hg
        rcases List.mem_cons.mp ((h g).mp (List.mem_cons_of_mem _ hg)) with z | z
        · omega
        · exact z
      · have := hm.1 g hg
        rcases List.mem_cons.mp ((h g).mpr (List.mem_cons_of_mem _ hg)) with z | z
        · omega
        · exact z
theorem se_LLu {A B : Int → Option Int} {kd : Prop} {o : Int} {l m : List Int} (h : se_LL A B kd o l) (k : se_LL A B kd o m) : l = m :=
  se_un l m h.1 k.1 fun g => (h.2 g).trans (k.2 g).symm
theorem se_cnt : ∀ (l : List Int) (idx : Nat) (v : Int), l.Pairwise (fun x y => x < y) → l[idx]? = some v → l.countP (fun g => decide (g ≤ v)) = idx + 1 ∧ l.countP (fun g => decide (v ≤ g)) + idx = l.length := by
  intro l
  induction l with
  | nil => intro idx v _ h; simp at h
  | cons a l ih =>
    intro idx v hp h
    rw [List.pairwise_cons] at hp
    cases idx with
    | zero =>
      have e : a = v := by simpa using h
      subst e
      rw [List.countP_cons, List.countP_cons]
      have h1 : l.countP (fun g => decide (g ≤ a)) = 0 := by
        rw [List.countP_eq_zero]
        intro g hg
        have := hp.1 g hg
        simp; omega
      have h2 : l.countP (fun g => decide (a ≤ g)) = l.length := by
        rw [List.countP_eq_length]
        intro g hg
        have := hp.1 g hg
        simp; omega
      rw [h1, h2]
      simp
    | succ idx =>
      have e : l[idx]? = some v := by simpa using h
      obtain ⟨i1, i2⟩ := ih idx v hp.2 e
      have lt := hp.1 v (List.mem_iff_getElem?.mpr ⟨idx, e⟩)
      rw [List.countP_cons, List.countP_cons, i1]
      have d1 : decide (a ≤ v) = true := by simp; omega
      have d2 : decide (v ≤ a) = false := by simp; omega
      rw [d1, d2, List.length_cons]
      simp
      omega
/-- the last label met -/
def se_b (A B : Int → Option Int) (o x : Int) (j : Nat) (b : Option Int) : Prop := match b with
  | none => ∀ d : Nat, d < j → B (x + d) = some o → A (x + d) = none
  | some v => (∃ d : Nat, d < j ∧ B (x + d) = some o ∧ A (x + d) = some v) ∧ ∀ d : Nat, d < j → B (x + d) = some o → ∀ g, A (x + d) = some g → g ≤ v
/-- the list after j ticks -/
def se_I (A B : Int → Option Int) (kd : Prop) (o x : Int) (j : Nat) (b : Option Int) (l : List Int) : Prop := se_b A B o x j b ∧ l.length ≤ j ∧ l.Pairwise (fun x y => x < y) ∧ ∀ g, g ∈ l ↔ (∃ d : Nat, d < j ∧ B (x + d) = some o ∧ A (x + d) = some g) ∧ (kd ∨ mx_H A g B o)
theorem se_I0 {A B : Int → Option Int} {kd : Prop} {o x : Int} : se_I A B kd o x 0 none [] := by
  refine ⟨fun d hd => by omega, by simp, List.Pairwise.nil, fun g => ⟨fun h => by simp at h, fun ⟨⟨d, hd, _⟩, _⟩ => by omega⟩⟩
theorem se_skip {A B : Int → Option Int} {kd : Prop} {o x : Int} {j : Nat} {b : Option Int} {l : List Int} (h : se_I A B kd o x j b l) (k : B (x + j) = some o → A (x + j) = none) : se_I A B kd o x (j + 1) b l := by
  obtain ⟨h1, h2, h3, h4⟩ := h
  refine ⟨?_, by omega, h3, fun g => ?_⟩
  · cases b with
    | none => exact re_up h1 k
    | some v =>
      obtain ⟨⟨d, hd, e⟩, w⟩ := h1
      exact ⟨⟨d, by omega, e⟩, re_up w (fun z g y => by rw [k z] at y; cases y)⟩
  · rw [h4 g]
    refine ⟨fun ⟨⟨d, hd, e⟩, q⟩ => ⟨⟨d, by omega, e⟩, q⟩, fun ⟨⟨d, hd, e, e'⟩, q⟩ => ⟨⟨d, ?_, e, e'⟩, q⟩⟩
    by_cases z : d = j
    · subst z; rw [k e] at e'; cases e'
    · omega
theorem se_same {A B : Int → Option Int} {kd : Prop} {o x g : Int} {j : Nat} {l : List Int} (h : se_I A B kd o x j (some g) l) (k : A (x + j) = some g) : se_I A B kd o x (j + 1) (some g) l := by
  obtain ⟨⟨⟨d, hd, e, e'⟩, w⟩, h2, h3, h4⟩ := h
  refine ⟨⟨⟨d, by omega, e, e'⟩, re_up w (fun _ g' y => ?_)⟩, by omega, h3, fun g' => ?_⟩
  · rw [k] at y; injection y with y; omega
  · rw [h4 g']
    refine ⟨fun ⟨⟨d, hd, e⟩, q⟩ => ⟨⟨d, by omega, e⟩, q⟩, fun ⟨⟨d', hd', y, y'⟩, q⟩ => ⟨?_, q⟩⟩
    by_cases z : d' = j
    · subst z
      rw [k] at y'
      injection y' with y'
      subst y'
      exact ⟨d, hd, e, e'⟩
    · exact ⟨d', by omega, y, y'⟩
theorem se_lt {A B : Int → Option Int} {o x g : Int} {j : Nat} {b : Option Int} (hM : mx_M A) (h : se_b A B o x j b) (k : A (x + j) = some g) (nb : b ≠ some g) {d : Nat} {e : Int} (hd : d < j) (e1 : B (x + d) = some o) (e2 : A (x + d) = some e) : e < g := by
  cases b with
  | none => rw [h d hd e1] at e2; cases e2
  | some v =>
    obtain ⟨⟨d0, hd0, y, y'⟩, w⟩ := h
    have a := w d hd e1 e e2
    have b := hM _ _ _ _ (by omega) y' k
    have : v ≠ g := fun z => nb (by rw [z])
    omega
theorem se_bn {A B : Int → Option Int} {o x g : Int} {j : Nat} {b : Option Int} (hM : mx_M A) (h : se_b A B o x j b) (k0 : B (x + j) = some o) (k : A (x + j) = some g) : se_b A B o x (j + 1) (some g) := by
  refine ⟨⟨j, by omega, k0, k⟩, fun d hd e1 g' e2 => ?_⟩
  exact hM _ _ _ _ (by omega) e2 k
theorem se_new {A B : Int → Option Int} {kd : Prop} {o x g : Int} {j : Nat} {b : Option Int} {l : List Int} (hM : mx_M A) (h : se_I A B kd o x j b l) (k0 : B (x + j) = some o) (k : A (x + j) = some g) (nb : b ≠ some g) (hq : kd ∨ mx_H A g B o) : se_I A B kd o x (j + 1) (some g) (l ++ [g]) := by
  obtain ⟨h1, h2, h3, h4⟩ := h
  refine ⟨se_bn hM h1 k0 k, by rw [List.length_append, List.length_singleton]; omega, ?_, fun g' => ?_⟩
  · rw [List.pairwise_append]
    refine ⟨h3, List.pairwise_singleton _ _, fun e he g' hg' => ?_⟩
    rw [List.mem_singleton] at hg'
    subst hg'
    obtain ⟨⟨d, hd, e1, e2⟩, -⟩ := (h4 e).mp he
    exact se_lt hM h1 k nb hd e1 e2
  · rw [List.mem_append, List.mem_singleton, h4 g']
    constructor
    · rintro (⟨⟨d, hd, e⟩, q⟩ | rfl)
      · exact ⟨⟨d, by omega, e⟩, q⟩
      · exact ⟨⟨j, by omega, k0, k⟩, hq⟩
    · rintro ⟨⟨d, hd, e, e'⟩, q⟩
      by_cases z : d = j
      · subst z
        rw [k] at e'
        injection e' with e'
        exact .inr e'.symm
      · exact .inl ⟨⟨d, by omega, e, e'⟩, q⟩
theorem se_newn {A B : Int → Option Int} {kd : Prop} {o x g : Int} {j : Nat} {b : Option Int} {l : List Int} (hM : mx_M A) (h : se_I A B kd o x j b l) (k0 : B (x + j) = some o) (k : A (x + j) = some g) (hq : ¬ (kd ∨ mx_H A g B o)) : se_I A B kd o x (j + 1) (some g) l := by
  obtain ⟨h1, h2, h3, h4⟩ := h
  refine ⟨se_bn hM h1 k0 k, by omega, h3, fun g' => ?_⟩
  rw [h4 g']
  refine ⟨fun ⟨⟨d, hd, e⟩, q⟩ => ⟨⟨d, by omega, e⟩, q⟩, fun ⟨⟨d, hd, e, e'⟩, q⟩ => ⟨⟨d, ?_, e, e'⟩, q⟩⟩
  by_cases z : d = j
  · subst z
    rw [k] at e'
    injection e' with e'
    subst e'
    exact absurd q hq
  · omega
theorem se_end {A B : Int → Option Int} {kd : Prop} {o x : Int} {c : Nat} {s : Int} {b : Option Int} {l : List Int} (hG : mx_G c s B) (hx : mx_ed false B o x) (h : se_I A B kd o x c b l) : se_LL A B kd o l := by
  refine ⟨h.2.2.1, fun g => ?_⟩
  rw [h.2.2.2 g]
  constructor
  · rintro ⟨⟨d, hd, e⟩, q⟩
    exact ⟨⟨_, e⟩, q⟩
  · rintro ⟨⟨t, e, e'⟩, q⟩
    have l := (hx.2 t e).1 rfl
    have m := mx_near hG hx.1 e
    refine ⟨⟨(t - x).toNat, by omega, ?_⟩, q⟩
    rw [show x + ((t - x).toNat : Int) = t by omega]
    exact ⟨e, e'⟩
theorem se_Qs {c s s' : Int} {A B : Int → Option Int} {kd : Prop} (ha : mx_per c s A) (hb : mx_per c s' B) (q : Int) {o g : Int} (h : se_Q A B kd o g) : se_Q A B kd (o + q * s') (g + q * s) := by
  obtain ⟨⟨t, e, e'⟩, k⟩ := h
  refine ⟨⟨t + q * c, mx_sh hb q e, mx_sh ha q e'⟩, ?_⟩
  rcases k with k | k
  · exact .inl k
  · exact .inr (mx_Hs ha hb q k)
theorem se_sh {c s s' : Int} {A B : Int → Option Int} {kd : Prop} (ha : mx_per c s A) (hb : mx_per c s' B) (q : Int) {o : Int} {l : List Int} (h : se_LL A B kd o l) : se_LL A B kd (o + q * s') (l.map (fun g => g + q * s)) := by
  refine ⟨?_, fun g => ?_⟩
  · rw [List.pairwise_map]
    exact h.1.imp fun {x y} (z : x < y) => by omega
  · rw [List.mem_map]
    constructor
    · rintro ⟨g', hg', rfl⟩
      exact se_Qs ha hb q ((h.2 g').mp hg')
    · intro z
      have := se_Qs ha hb (-q) z
      rw [Int.neg_mul, Int.neg_mul, Int.add_neg_cancel_right] at this
      exact ⟨g + -(q * s), (h.2 _).mpr this, by omega⟩
/-- the place of i, from the front or the end -/
def se_p (k : Int) (l : List Int) (i : Int) : Nat := if k < 0 then l.countP (fun g => decide (i ≤ g)) else l.countP (fun g => decide (g ≤ i))
def se_w (k n : Int) (l : List Int) (i : Int) : Prop := (k.natAbs : Int) ≤ se_p k l i ∧ (se_p k l i : Int) < k.natAbs + n
theorem se_ps (k d : Int) (l : List Int) (i : Int) : se_p k (l.map (fun g => g + d)) (i + d) = se_p k l i := by
  unfold se_p
  rw [List.countP_map, List.countP_map]
  have e1 : ((fun g => decide (i + d ≤ g)) ∘ fun g => g + d) = fun g => decide (i ≤ g) := by
    funext g
    show decide (i + d ≤ g + d) = decide (i ≤ g)
    congr 1
    exact propext ⟨fun h => by omega, fun h => by omega⟩
  have e2 : ((fun g => decide (g ≤ i + d)) ∘ fun g => g + d) = fun g => decide (g ≤ i) := by
    funext g
    show decide (g + d ≤ i + d) = decide (g ≤ i)
    congr 1
    exact propext ⟨fun h => by omega, fun h => by omega⟩
  rw [e1, e2]
theorem se_ws (k n d : Int) (l : List Int) (i : Int) : se_w k n (l.map (fun g => g + d)) (i + d) ↔ se_w k n l i := by
  unfold se_w
  rw [se_ps]
/-- granule i of A is chosen -/
def se_Ch (A B : Int → Option Int) (kd : Prop) (k n i : Int) : Prop := ∃ o l, se_LL A B kd o l ∧ i ∈ l ∧ se_w k n l i
theorem se_Chs {c s s' : Int} {A B : Int → Option Int} {kd : Prop} (ha : mx_per c s A) (hb : mx_per c s' B) (q : Int) {k n i : Int} (h : se_Ch A B kd k n i) : se_Ch A B kd k n (i + q * s) := by
  obtain ⟨o, l, h1, h2, h3⟩ := h
  exact ⟨_, _, se_sh ha hb q h1, List.mem_map.mpr ⟨i, h2, rfl⟩, (se_ws k n _ l i).mpr h3⟩
def se_P (A B : Int → Option Int) (kd : Prop) (k n t : Int) : Prop := ∃ i, A t = some i ∧ se_Ch A B kd k n i
theorem se_PP {c s s' : Int} {A B : Int → Option Int} {kd : Prop} (ha : mx_per c s A) (hb : mx_per c s' B) {k n : Int} (t : Int) : se_P A B kd k n (t + c) ↔ se_P A B kd k n t := by
  constructor
  · rintro ⟨i, e, h⟩
    have a := mx_s1' ha e
    rw [Int.add_sub_cancel] at a
    have := se_Chs ha hb (-1) h
    rw [Int.neg_mul, Int.one_mul] at this
    exact ⟨_, a, this⟩
  · rintro ⟨i, e, h⟩
    have := se_Chs ha hb 1 h
    rw [Int.one_mul] at this
    exact ⟨_, mx_s1 ha e, this⟩
/-- the places that the component marks -/
def se_W (k n : Int) (len idx : Nat) : Prop := ∃ j : Nat, (j : Int) < n ∧ (0 < k → (idx : Int) = k - 1 + j) ∧ (¬ 0 < k → (idx : Int) = len + k - j)
theorem se_Ww {k n : Int} (hk : k ≠ 0) {l : List Int} {idx : Nat} {v : Int} (hp : l.Pairwise (fun x y => x < y)) (h : l[idx]? = some v) : se_W k n l.length idx ↔ se_w k n l v := by
  obtain ⟨c1, c2⟩ := se_cnt l idx v hp h
  unfold se_w se_p
  by_cases z : k < 0
  · rw [if_pos z]
    constructor
    · rintro ⟨j, hj, -, e⟩
      have := e (by omega)
      omega
    · intro w
      refine ⟨((l.length : Int) + k - idx).toNat, by omega, fun y => by omega, fun _ => by omega⟩
  · rw [if_neg z, c1]
    constructor
    · rintro ⟨j, hj, e, -⟩
      have := e (by omega)
      omega
    · intro w
      refine ⟨((idx : Int) + 1 - k).toNat, by omega, fun _ => by omega, fun y => by omega⟩
end
section
/-! the component's select -/
theorem se_bnd {A B : Int → Option Int} {kd : Prop} {o x : Int} {c : Nat} {s : Int} {b : Option Int} {l : List Int} (hP : mx_P c s A) (hx : -1000 < x) (hx' : x < 1000) (h : se_I A B kd o x c b l) : ∀ v, v ∈ l → -1000000 ≤ v ∧ v ≤ 1000000 := by
  intro v hv
  obtain ⟨⟨d, hd, -, e⟩, -⟩ := (h.2.2.2 v).mp hv
  have := mx_bd hP e
  have := hP.1
  omega
theorem se_Ws {k j : Int} {len idx : Nat} {z : Int} (j0 : 0 ≤ j) (hz : (0 < k → z = k - 1 + j) ∧ (¬ 0 < k → z = len + k - j)) : se_W k (j + 1) len idx ↔ se_W k j len idx ∨ (idx : Int) = z := by
  constructor
  · rintro ⟨i, hi, a, b⟩
    by_cases w : (i : Int) = j
    · right
      by_cases y : 0 < k
      · have := a y; have := hz.1 y; omega
      · have := b y; have := hz.2 y; omega
    · exact .inl ⟨i, by omega, a, b⟩
  · rintro (⟨i, hi, a, b⟩ | e)
    · exact ⟨i, by omega, a, b⟩
    · refine ⟨j.toNat, by omega, fun y => ?_, fun y => ?_⟩
      · have := hz.1 y; omega
      · have := hz.2 y; omega
section
variable {sz sc ls : Int32} {c : Nat} {K L S ch li le : Nat → Int32} {a b : Nat} {A B : Int → Option Int} {s s' g : Int} {x4 : Int32}
theorem xl_L {post : SX → Prop} {o x : Int} (hR : rp_R c K L S a A s) (hG : mx_G c s A) (ha : a < 4) (hR' : rp_R c K L S b B s') (hG' : mx_G c s' B) (hb : b < 4) (hx : mx_ed false B o x) (xb : -1000 < x) (xb' : x < 1000) (ob : -1000000 ≤ o) (ob' : o ≤ 1000000) (h : ∀ (l : List Int) (li : Nat → Int32), se_LL A B (x4 = 1) o l → l.length ≤ 60 → (∀ v, v ∈ l → -1000000 ≤ v ∧ v ≤ 1000000) → (∀ (i : Nat) v, l[i]? = some v → li i = zi_I v) → post ((nI c), sz, sc, (nI l.length), L, K, S, ch, li, le)) : ∀ (d j : Nat) (p : Option Int) (l : List Int) (li : Nat → Int32), j + d = c → se_I A B (x4 = 1) o x j p l → (∀ v, p = some v → -1000000 ≤ v ∧ v ≤ 1000000) → (∀ (i : Nat) v, l[i]? = some v → li i = zi_I v) → ∀ n, d < n → wX_listWithin_21 post (nI a) (nI b) (zi_I o) x4 (zi_I x) (nI c) sz sc n (mx_enc p) (nI j) (nI l.length) L K S ch li le := by
  have c1 := hG.1.1.1
  have c2 := hG.1.1.2
  intro d
  induction d with
  | zero =>
    intro j p l li hj hI hp hl n hn
    obtain ⟨q, rfl⟩ : ∃ q, n = q + 1 := ⟨n - 1, by omega⟩
    have : j = c := by omega
    subst this
    exact br_t (nI_le (by omega) (by omega)) (h l li (se_end hG' hx hI) (by have := hI.2.1; omega) (se_bnd hG.1 xb xb' hI) hl)
  | succ d ih =>
    intro j p l li hj hI hp hl n hn
    obtain ⟨q, rfl⟩ : ∃ q, n = q + 1 := ⟨n - 1, by omega⟩
    have ll := hI.2.1
    have nx : ∀ (p : Option Int) (l : List Int) (li : Nat → Int32), se_I A B (x4 = 1) o x (j + 1) p l → (∀ v, p = some v → -1000000 ≤ v ∧ v ≤ 1000000) → (∀ (i : Nat) v, l[i]? = some v → li i = zi_I v) → wX_listWithin_21 post (nI a) (nI b) (zi_I o) x4 (zi_I x) (nI c) sz sc q (mx_enc p) (nI (j + 1)) (nI l.length) L K S ch li le := fun p l li h1 h2 h3 => ih (j + 1) p l li (by omega) h1 h2 h3 q (by omega)
    have ex : zi_I x + nI j = zi_I (x + j) := by rw [zi_n j, zi_add]
    refine br_f (nI_ge (by omega) (by omega)) ?_
    unfold wX_listWithin_60
    rw [ex]
    refine xw_label hR' hG'.1 (by omega) (by omega) (by omega) ?_
    cases f : B (x + (j : Int)) with
    | none =>
      refine br_f (fun z => zi_nN (v := o) (by omega) (by omega) z.symm) (br_t rfl (nm_r (nI_1 j) (nx p l li (se_skip hI fun z => ?_) hp hl)))
      rw [f] at z; cases z
    | some o' =>
      have wb := mx_bd hG'.1 f
      refine zi_beq o' o (fun z => ?_) (fun z => br_t rfl (nm_r (nI_1 j) (nx p l li (se_skip hI fun y => ?_) hp hl)))
      · subst z
        refine xw_label hR hG.1 (by omega) (by omega) (by omega) ?_
        cases f' : A (x + (j : Int)) with
        | none => exact br_t rfl (nm_r (nI_1 j) (nx p l li (se_skip hI fun _ => f') hp hl))
        | some g =>
          have gb := mx_bd hG.1 f'
          have gp : ∀ v, some g = some v → -1000000 ≤ v ∧ v ≤ 1000000 := fun v e => by injection e with e; omega
          refine br_f (zi_nN (by omega) (by omega)) ?_
          have fresh : p ≠ some g → ((x4 = 1 → wX_listWithin_96 post (wX_listWithin_21 post (nI a) (nI b) (zi_I o') x4 (zi_I x) (nI c) sz sc q) (nI a) (nI b) (zi_I o') x4 (zi_I x) (zi_I g) (nI j) (zi_I g) (nI c) sz sc (nI l.length) L K S ch li le) ∧ (¬ x4 = 1 → wpX_holder (fun r => ((r = zi_I o' → wX_listWithin_96 post (wX_listWithin_21 post (nI a) (nI b) (zi_I o') x4 (zi_I x) (nI c) sz sc q) (nI a) (nI b) (zi_I o') x4 (zi_I x) (zi_I g) (nI j) (zi_I g) (nI c) sz sc (nI l.length) L K S ch li le) ∧ (¬ r = zi_I o' → ∀ x7, x7 = nI j + 1 → wX_listWithin_21 post (nI a) (nI b) (zi_I o') x4 (zi_I x) (nI c) sz sc q (zi_I g) x7 (nI l.length) L K S ch li le))) ((nI c), sz, sc, (nI l.length), L, K, S, ch, li, le) (nI a) (zi_I g) (nI b))) := fun np => by
            have add : (x4 = 1 ∨ mx_H A g B o') → wX_listWithin_96 post (wX_listWithin_21 post (nI a) (nI b) (zi_I o') x4 (zi_I x) (nI c) sz sc q) (nI a) (nI b) (zi_I o') x4 (zi_I x) (zi_I g) (nI j) (zi_I g) (nI c) sz sc (nI l.length) L K S ch li le := fun hq => by
              unfold wX_listWithin_96
              have nn := nx (some g) (l ++ [g]) (upd li l.length (zi_I g)) (se_new hG.2.1 hI f f' np hq) gp (fun i v hv => ?_)
              · rw [List.length_append, List.length_singleton] at nn
                exact ⟨zi_inN (by omega) (by omega), nm_r (e' := upd li l.length (zi_I g)) (by rw [zi_clN (by omega)]) (nm_r (nI_1 _) (nm_r (nI_1 j) nn))⟩
              · by_cases y : i = l.length
                · subst y
                  rw [List.getElem?_concat_length] at hv
                  injection hv with hv
                  rw [zi_us, hv]
                · rw [zi_un y]
                  refine hl i v ?_
                  by_cases y' : i < l.length
                  · rw [List.getElem?_append_left y'] at hv; exact hv
                  · rw [List.getElem?_eq_none (by rw [List.length_append, List.length_singleton]; omega)] at hv
                    cases hv
            refine br_c (fun z => add (.inl z)) (fun z => ?_)
            refine xw_holder hR hG (by omega) hR' hG'.1 (by omega) (by omega) (by omega) (fun w hw => ?_) (fun hw => ?_)
            · have e := hw.2 _ f'
              rw [f] at e
              injection e with e
              subst e
              exact br_t rfl (add (.inr hw))
            · refine br_f (fun y => zi_nN (v := o') (by omega) (by omega) y.symm) (nm_r (nI_1 j) (nx (some g) l li (se_newn hG.2.1 hI f f' ?_) gp hl))
              rintro (y | y)
              · exact z y
              · exact hw _ y
          cases p with
          | none => exact br_f (zi_nN (by omega) (by omega)) (fresh (fun z => by cases z))
          | some v =>
            have vb := hp v rfl
            refine zi_beq g v (fun z => ?_) (fun z => fresh (fun y => ?_))
            · subst z
              exact nm_r (nI_1 j) (nx (some g) l li (se_same hI f') hp hl)
            · injection y with y; exact z y.symm
      · rw [f] at y
        injection y with y
        exact absurd y z
theorem xl_list {post : SX → Prop} {o : Int} {r : Nat} (hR : rp_R c K L S a A s) (hG : mx_G c s A) (ha : a < 4) (hR' : rp_R c K L S b B s') (hG' : mx_G c s' B) (hb : b < 4) (hr : r < c) (f : B (r : Int) = some o) (h : ∀ (l : List Int) (li : Nat → Int32), se_LL A B (x4 = 1) o l → l.length ≤ 60 → (∀ v, v ∈ l → -1000000 ≤ v ∧ v ≤ 1000000) → (∀ (i : Nat) v, l[i]? = some v → li i = zi_I v) → post ((nI c), sz, sc, (nI l.length), L, K, S, ch, li, le)) : wpX_listWithin post ((nI c), sz, sc, ls, L, K, S, ch, li, le) (nI a) (nI b) (zi_I o) x4 := by
  have ob := mg_r hG'.1 hr f
  unfold wpX_listWithin
  refine xw_edge false hR' hG' (by omega) (by omega) (by omega) (fun x hx => ?_) (fun hx => absurd f (hx _))
  have xb := mx_cl hG' (by omega) (by omega) f hx.1
  exact ⟨c + 1, xl_L hR hG ha hR' hG' hb hx (by omega) (by omega) (by omega) (by omega) h c 0 none [] li (by omega) se_I0 (fun v e => by cases e) (fun i v e => by simp at e) (c + 1) (by omega)⟩
theorem xc_L {post : SX → Prop} {k : Int} {m : Nat} {l : List Int} {ch0 : Nat → Int32} (hS : S a = zi_I s) (ha : a < 4) (hs : s ≤ 60) (hl1 : l ≠ [] → 1 ≤ s) (kb : -60 ≤ k) (kb' : k ≤ 60) (mb : m ≤ 60) (hlen : l.length ≤ 60) (hv : ∀ v, v ∈ l → -1000000 ≤ v ∧ v ≤ 1000000) (hli : ∀ (i : Nat) v, l[i]? = some v → li i = zi_I v) (h : ∀ ch, (∀ p, p < 60 → (ch p ≠ 0 ↔ ch0 p ≠ 0 ∨ ∃ (idx : Nat) (v : Int), l[idx]? = some v ∧ se_W k m l.length idx ∧ (v % s).toNat = p)) → post ((nI c), sz, sc, (nI l.length), L, K, S, ch, li, le)) : ∀ (d j : Nat) (ch : Nat → Int32), j + d = m → (∀ p, p < 60 → (ch p ≠ 0 ↔ ch0 p ≠ 0 ∨ ∃ (idx : Nat) (v : Int), l[idx]? = some v ∧ se_W k j l.length idx ∧ (v % s).toNat = p)) → ∀ n, d < n → wX_choosePlaces_3 post (nI a) (zi_I k) (nI m) n (nI j) (nI c) sz sc (nI l.length) L K S ch li le := by
  intro d
  induction d with
  | zero =>
    intro j ch hj hch n hn
    obtain ⟨q, rfl⟩ : ∃ q, n = q + 1 := ⟨n - 1, by omega⟩
    have : j = m := by omega
    subst this
    exact br_t (nI_le (by omega) (by omega)) (h ch hch)
  | succ d ih =>
    intro j ch hj hch n hn
    obtain ⟨q, rfl⟩ : ∃ q, n = q + 1 := ⟨n - 1, by omega⟩
    refine br_f (nI_ge (by omega) (by omega)) ?_
    have key : ∀ z : Int, ((0 < k → z = k - 1 + j) ∧ (¬ 0 < k → z = l.length + k - j)) → ∀ x, x = zi_I z → wX_choosePlaces_31 post (wX_choosePlaces_3 post (nI a) (zi_I k) (nI m) q) (nI a) (zi_I k) (nI m) (nI j) x (nI c) sz sc (nI l.length) L K S ch li le := fun z hz x hx => by
      have zb : -200 ≤ z ∧ z ≤ 200 := by
        by_cases y : 0 < k
        · have := hz.1 y; omega
        · have := hz.2 y; omega
      subst hx
      unfold wX_choosePlaces_31
      have out : (∀ idx : Nat, idx < l.length → (idx : Int) ≠ z) → wX_choosePlaces_3 post (nI a) (zi_I k) (nI m) q (nI (j + 1)) (nI c) sz sc (nI l.length) L K S ch li le := fun w => by
        refine ih (j + 1) ch (by omega) (fun p hp => ?_) q (by omega)
        rw [hch p hp]
        constructor
        · rintro (y | ⟨idx, v, e, y, y'⟩)
          · exact .inl y
          · exact .inr ⟨idx, v, e, (se_Ws (by omega) hz).mpr (.inl y), y'⟩
        · rintro (y | ⟨idx, v, e, y, y'⟩)
          · exact .inl y
          · rcases (se_Ws (by omega) hz).mp y with y | y
            · exact .inr ⟨idx, v, e, y, y'⟩
            · exact absurd y (w idx (List.getElem?_eq_some_iff.mp e).1)
      refine zi_blt z 0 (fun w => nm_r (nI_1 j) (out fun idx _ => by omega)) (fun w => zi_ble (l.length : Int) z (fun w' => nm_r (nI_1 j) (out fun idx _ => by omega)) (fun w' => ⟨zi_in w (by omega) (by omega), ?_⟩) (zi_n _)) rfl zi_0
      rw [zi_cl w (by omega)]
      have e : l[z.toNat]? = some l[z.toNat] := List.getElem?_eq_getElem (by omega)
      generalize l[z.toNat] = v at e
      have mem := List.mem_iff_getElem?.mpr ⟨_, e⟩
      have vb := hv v mem
      have sp := hl1 (List.ne_nil_of_mem mem)
      rw [hli _ _ e]
      refine xk_mark (.inr rfl) (by omega) hS sp hs (by omega) (by omega) (nm_r (nI_1 j) (ih (j + 1) _ (by omega) (fun p hp => ?_) q (by omega)))
      by_cases y : p = (v % s).toNat
      · subst y
        rw [zi_us]
        exact ⟨fun _ => .inr ⟨_, v, e, (se_Ws (by omega) hz).mpr (.inr (by omega)), rfl⟩, fun _ => by decide⟩
      · rw [zi_un y, hch p hp]
        constructor
        · rintro (y | ⟨idx, v', e', y, y'⟩)
          · exact .inl y
          · exact .inr ⟨idx, v', e', (se_Ws (by omega) hz).mpr (.inl y), y'⟩
        · rintro (y | ⟨idx, v', e', y1, y'⟩)
          · exact .inl y
          · rcases (se_Ws (by omega) hz).mp y1 with y1 | y1
            · exact .inr ⟨idx, v', e', y1, y'⟩
            · have : idx = z.toNat := by omega
              subst this
              rw [e] at e'
              injection e' with e'
              subst e'
              exact absurd y'.symm y
    refine zi_ble k 0 (fun w => key ((l.length : Int) + k - j) ⟨fun y => by omega, fun _ => rfl⟩ _ ?_) (fun w => key (k - 1 + j) ⟨fun _ => rfl, fun y => by omega⟩ _ ?_) rfl zi_0
    · rw [zi_n l.length, zi_n j, zi_add, zi_sub]
    · rw [zi_1, zi_n j, zi_sub, zi_add]
theorem xe_L {post : Int32 → SX → Prop} {k : Int} {m nn : Nat} (hR : rp_R c K L S a A s) (hG : mx_G c s A) (ha : a < 4) (hR' : rp_R c K L S b B s') (hG' : mx_G c s' B) (hb : b < 4) (h01 : ∀ i, K i = 0 ∨ K i = 1) (k0 : k ≠ 0) (kb : -60 ≤ k) (kb' : k ≤ 60) (mb : m ≤ 60) (hnn : 1 ≤ nn) (hg : sd_g c (mx_fl A (se_P A B (x4 = 1) k m)) s g) (h : ∀ ls ch li K' L' S', sd_U c K L S K' L' S' a (mx_fl A (se_P A B (x4 = 1) k m)) g → post 0 ((nI c), (nI (nn - 1)), sc, ls, L', K', S', ch, li, le)) : ∀ (d j : Nat) (ls : Int32) (ch li : Nat → Int32), j + d = c → (∀ p, p < 60 → (ch p ≠ 0 ↔ ∃ r : Nat, r < j ∧ ∃ o, B (r : Int) = some o ∧ ∃ l, se_LL A B (x4 = 1) o l ∧ ∃ (idx : Nat) (v : Int), l[idx]? = some v ∧ se_W k m l.length idx ∧ (v % s).toNat = p)) → ∀ n, d < n → wX_select_79 post x4 (zi_I k) (nI m) (nI a) (nI b) n (nI j) (nI c) (nI nn) sc ls L K S ch li le := by
  have c1 := hG.1.1.1
  have c2 := hG.1.1.2
  have s2 := hG.1.2.1.2
  have pA := hG.1.2.2.1
  have pB := hG'.1.2.2.1
  intro d
  induction d with
  | zero =>
    intro j ls ch li hj hch n hn
    obtain ⟨q, rfl⟩ : ∃ q, n = q + 1 := ⟨n - 1, by omega⟩
    have : j = c := by omega
    subst this
    have e : nI nn - 1 = nI (nn - 1) := zi_nsub (b := 1) (by omega)
    refine br_t (nI_le (by omega) (by omega)) (xk_keep hR hG ha h01 (fun r hr i f => ?_) hg (fun K' L' S' hR4 hF => xw_copy (a := 4) (by omega) (by omega) (by omega) (by omega) hF.1 hR4 (fun K2 L2 S2 hU _ => nm_r e (h _ _ _ _ _ _ (sd_FU hF hU)))))
    have sp := mx_spos hG f
    have m0 := Int.emod_nonneg i (b := s) (by omega)
    have m1 := Int.emod_lt_of_pos i (b := s) (by omega)
    rw [hch (i % s).toNat (by omega)]
    constructor
    · rintro ⟨i', e, o, l, hLL, hi, hw⟩
      rw [f] at e
      injection e with e
      subst e
      obtain ⟨⟨t, eB, eA⟩, -⟩ := (hLL.2 i).mp hi
      have n0 := Int.emod_nonneg t (b := (j : Int)) (by omega)
      have n1 := Int.emod_lt_of_pos t (b := (j : Int)) (by omega)
      have em := mx_em t j
      have hL' := se_sh pA pB (-(t / (j : Int))) hLL
      obtain ⟨idx, hidx⟩ := List.mem_iff_getElem?.mp (List.mem_map.mpr ⟨i, hi, rfl⟩ : i + -(t / (j : Int)) * s ∈ l.map (fun g => g + -(t / (j : Int)) * s))
      refine ⟨(t % (j : Int)).toNat, by omega, o + -(t / (j : Int)) * s', ?_, _, hL', idx, _, hidx, (se_Ww k0 hL'.1 hidx).mpr ((se_ws k m _ l i).mpr hw), ?_⟩
      · rw [Int.toNat_of_nonneg n0]
        have := mx_sh pB (-(t / (j : Int))) eB
        rw [show t + -(t / (j : Int)) * j = t % j by rw [Int.neg_mul]; omega] at this
        exact this
      · rw [Int.add_mul_emod_self_right]
    · rintro ⟨r', hr', o, eB, l, hLL, idx, v, hidx, hW, ev⟩
      obtain ⟨q, rfl⟩ := mx_modq ev.symm sp
      exact ⟨_, f, o + q * s', _, se_sh pA pB q hLL, List.mem_map.mpr ⟨v, List.mem_iff_getElem?.mpr ⟨_, hidx⟩, rfl⟩, (se_ws k m _ l v).mpr ((se_Ww k0 hLL.1 hidx).mp hW)⟩
  | succ d ih =>
    intro j ls ch li hj hch n hn
    obtain ⟨q, rfl⟩ : ∃ q, n = q + 1 := ⟨n - 1, by omega⟩
    refine br_f (nI_ge (by omega) (by omega)) ?_
    rw [zi_n j]
    refine xw_label hR' hG'.1 (by omega) (by omega) (by omega) ?_
    rw [← zi_n j]
    cases f : B (j : Int) with
    | none =>
      refine br_t rfl (nm_r (nI_1 j) (ih (j + 1) ls ch li (by omega) (fun p hp => ?_) q (by omega)))
      rw [hch p hp]
      constructor
      · rintro ⟨r, hr, z⟩; exact ⟨r, by omega, z⟩
      · rintro ⟨r, hr, o, e, z⟩
        by_cases y : r = j
        · subst y; rw [f] at e; cases e
        · exact ⟨r, by omega, o, e, z⟩
    | some o =>
      have ob := mg_r hG'.1 (by omega) f
      refine br_f (zi_nN (by omega) (by omega)) (xl_list hR hG ha hR' hG' hb (by omega) f (fun l li' hLL hlen hv hli => ?_))
      unfold wpX_choosePlaces
      refine ⟨m + 1, xc_L (ch0 := ch) hR.1 ha (by omega) (fun hne => ?_) kb kb' mb hlen hv hli (fun ch' hch' => nm_r (nI_1 j) (ih (j + 1) _ ch' li' (by omega) (fun p hp => ?_) q (by omega))) m 0 ch (by omega) (fun p hp => ?_) (m + 1) (by omega)⟩
      · obtain ⟨v, hv⟩ := List.exists_mem_of_ne_nil l hne
        obtain ⟨⟨t, -, eA⟩, -⟩ := (hLL.2 v).mp hv
        exact mx_spos hG eA
      · rw [hch' p hp, hch p hp]
        constructor
        · rintro (⟨r, hr, z⟩ | z)
          · exact ⟨r, by omega, z⟩
          · exact ⟨j, by omega, o, f, l, hLL, z⟩
        · rintro ⟨r, hr, o', e, l', hLL', z⟩
          by_cases y : r = j
          · subst y
            rw [f] at e
            injection e with e
            subst e
            rw [se_LLu hLL' hLL] at z
            exact .inr z
          · exact .inl ⟨r, by omega, o', e, l', hLL', z⟩
      · constructor
        · exact .inl
        · rintro (z | ⟨idx, v, -, ⟨i, hi, -, -⟩, -⟩)
          · exact z
          · omega
end
end
section
/-! the reference's select -/
theorem se_pa (k : Int) (l : List Int) (i g : Int) : ((k < 0 ∧ i ≤ g) ∨ (¬ k < 0 ∧ g ≤ i) → se_p k (l ++ [g]) i = se_p k l i + 1) ∧ (¬ ((k < 0 ∧ i ≤ g) ∨ (¬ k < 0 ∧ g ≤ i)) → se_p k (l ++ [g]) i = se_p k l i) := by
  unfold se_p
  by_cases z : k < 0
  · rw [if_pos z, if_pos z, List.countP_append, List.countP_singleton]
    refine ⟨fun h => ?_, fun h => ?_⟩
    · rw [if_pos (by simp; omega)]
    · rw [if_neg (by simp; omega)]; omega
  · rw [if_neg z, if_neg z, List.countP_append, List.countP_singleton]
    refine ⟨fun h => ?_, fun h => ?_⟩
    · rw [if_pos (by simp; omega)]
    · rw [if_neg (by simp; omega)]; omega
theorem se_ple (k : Int) (l : List Int) (i : Int) : se_p k l i ≤ l.length := by
  unfold se_p
  by_cases z : k < 0
  · rw [if_pos z]; exact List.countP_le_length
  · rw [if_neg z]; exact List.countP_le_length
section
variable {dp : Int32} {c : Nat} {K L S wk : Nat → Int32} {a b : Nat} {A B : Int → Option Int} {s s' g : Int} {x1 x4 : Int32} {k : Int}
theorem yq_L {post : Int32 → Prop} {i o x : Int} (hR : rp_R c K L S a A s) (hG : mx_G c s A) (ha : a < 4) (hR' : rp_R c K L S b B s') (hG' : mx_G c s' B) (hb : b < 4) (hx : mx_ed false B o x) (xb : -1000 < x) (xb' : x < 1000) (ob : -1000000 ≤ o) (ob' : o ≤ 1000000) (ib : -1000000 ≤ i) (ib' : i ≤ 1000000) (hx4 : x4 = 0 ↔ ¬ k < 0) (h : ∀ (l : List Int), se_LL A B (x1 = 1) o l → l.length ≤ 60 → post (nI (se_p k l i))) : ∀ (d j : Nat) (p : Option Int) (l : List Int), j + d = c → se_I A B (x1 = 1) o x j p l → (∀ v, p = some v → -1000000 ≤ v ∧ v ≤ 1000000) → ∀ n, d < n → wY_place_36 post x1 (zi_I i) (zi_I o) x4 (nI a) (nI b) (zi_I x) (nI c) dp K L S wk n (nI (se_p k l i)) (mx_enc p) (nI j) := by
  have c1 := hG.1.1.1
  have c2 := hG.1.1.2
  intro d
  induction d with
  | zero =>
    intro j p l hj hI hp n hn
    obtain ⟨q, rfl⟩ : ∃ q, n = q + 1 := ⟨n - 1, by omega⟩
    have : j = c := by omega
    subst this
    exact br_t (nI_le (by omega) (by omega)) (h l (se_end hG' hx hI) (by have := hI.2.1; omega))
  | succ d ih =>
    intro j p l hj hI hp n hn
    obtain ⟨q, rfl⟩ : ∃ q, n = q + 1 := ⟨n - 1, by omega⟩
    have nx : ∀ (p : Option Int) (l : List Int), se_I A B (x1 = 1) o x (j + 1) p l → (∀ v, p = some v → -1000000 ≤ v ∧ v ≤ 1000000) → wY_place_36 post x1 (zi_I i) (zi_I o) x4 (nI a) (nI b) (zi_I x) (nI c) dp K L S wk q (nI (se_p k l i)) (mx_enc p) (nI (j + 1)) := fun p l h1 h2 => ih (j + 1) p l (by omega) h1 h2 q (by omega)
    have ex : zi_I x + nI j = zi_I (x + j) := by rw [zi_n j, zi_add]
    refine br_f (nI_ge (by omega) (by omega)) ?_
    rw [ex]
    refine yw_lab hR hG.1 (by omega) (by omega) (by omega) fun w hw => yw_has hR' hG'.1 (by omega) (by omega) (by omega) (by omega) (by omega) (mx_br (fun z => ?_) (fun f => ?_))
    · exact nm_r (nI_1 j) (nx p l (se_skip hI fun y => absurd y z) hp)
    · refine yw_cov hR hG.1 (by omega) (by omega) (by omega) ?_
      cases f' : A (x + (j : Int)) with
      | none => exact br_t rfl (nm_r (nI_1 j) (nx p l (se_skip hI fun _ => f') hp))
      | some g =>
        have gb := mx_bd hG.1 f'
        have gp : ∀ v, some g = some v → -1000000 ≤ v ∧ v ≤ 1000000 := fun v e => by injection e with e; omega
        rw [hw g f']
        refine br_f (rp_1 rfl) ?_
        have no : p ≠ some g → ¬ ((k < 0 ∧ i ≤ g) ∨ (¬ k < 0 ∧ g ≤ i)) → wY_place_128 post (wY_place_36 post x1 (zi_I i) (zi_I o) x4 (nI a) (nI b) (zi_I x) (nI c) dp K L S wk q) x1 (zi_I i) (zi_I o) x4 (nI a) (nI b) (zi_I x) (nI (se_p k l i)) (zi_I g) (nI j) (zi_I g) 0 (nI c) dp K L S wk := fun np hs => by
          unfold wY_place_128
          refine br_t rfl (nm_r (nI_1 j) ?_)
          by_cases hq : x1 = 1 ∨ mx_H A g B o
          · have := nx (some g) (l ++ [g]) (se_new hG.2.1 hI f f' np hq) gp
            rw [(se_pa k l i g).2 hs] at this
            exact this
          · exact nx (some g) l (se_newn hG.2.1 hI f f' hq) gp
        have yes : p ≠ some g → ((k < 0 ∧ i ≤ g) ∨ (¬ k < 0 ∧ g ≤ i)) → wY_place_128 post (wY_place_36 post x1 (zi_I i) (zi_I o) x4 (nI a) (nI b) (zi_I x) (nI c) dp K L S wk q) x1 (zi_I i) (zi_I o) x4 (nI a) (nI b) (zi_I x) (nI (se_p k l i)) (zi_I g) (nI j) (zi_I g) 1 (nI c) dp K L S wk := fun np hs => by
          unfold wY_place_128
          refine br_f (by decide) ?_
          have add : (x1 = 1 ∨ mx_H A g B o) → wY_place_36 post x1 (zi_I i) (zi_I o) x4 (nI a) (nI b) (zi_I x) (nI c) dp K L S wk q (nI (se_p k l i + 1)) (zi_I g) (nI (j + 1)) := fun hq => by
            have := nx (some g) (l ++ [g]) (se_new hG.2.1 hI f f' np hq) gp
            rw [(se_pa k l i g).1 hs] at this
            exact this
          refine br_c (fun z => nm_r (nI_1 _) (nm_r (nI_1 j) (add (.inl z)))) (fun z => ?_)
          refine yw_within hR hG (by omega) hR' hG'.1 (by omega) (by omega) (by omega) (by omega) (by omega) (mx_br (fun y => ?_) (fun y => nm_r (nI_1 _) (nm_r (nI_1 j) (add (.inr y)))))
          refine nm_r (nI_1 j) (nx (some g) l (se_newn hG.2.1 hI f f' ?_) gp)
          rintro (y' | y')
          · exact z y'
          · exact y y'
        have fresh : p ≠ some g → ((x4 = 0 → ((zi_I i < zi_I g → wY_place_128 post (wY_place_36 post x1 (zi_I i) (zi_I o) x4 (nI a) (nI b) (zi_I x) (nI c) dp K L S wk q) x1 (zi_I i) (zi_I o) x4 (nI a) (nI b) (zi_I x) (nI (se_p k l i)) (zi_I g) (nI j) (zi_I g) 0 (nI c) dp K L S wk) ∧ (¬ zi_I i < zi_I g → wY_place_128 post (wY_place_36 post x1 (zi_I i) (zi_I o) x4 (nI a) (nI b) (zi_I x) (nI c) dp K L S wk q) x1 (zi_I i) (zi_I o) x4 (nI a) (nI b) (zi_I x) (nI (se_p k l i)) (zi_I g) (nI j) (zi_I g) 1 (nI c) dp K L S wk))) ∧ (¬ x4 = 0 → ((zi_I g < zi_I i → wY_place_128 post (wY_place_36 post x1 (zi_I i) (zi_I o) x4 (nI a) (nI b) (zi_I x) (nI c) dp K L S wk q) x1 (zi_I i) (zi_I o) x4 (nI a) (nI b) (zi_I x) (nI (se_p k l i)) (zi_I g) (nI j) (zi_I g) 0 (nI c) dp K L S wk) ∧ (¬ zi_I g < zi_I i → wY_place_128 post (wY_place_36 post x1 (zi_I i) (zi_I o) x4 (nI a) (nI b) (zi_I x) (nI c) dp K L S wk q) x1 (zi_I i) (zi_I o) x4 (nI a) (nI b) (zi_I x) (nI (se_p k l i)) (zi_I g) (nI j) (zi_I g) 1 (nI c) dp K L S wk)))) := fun np => by
          refine br_c (fun z => ?_) (fun z => ?_)
          · have nk := hx4.mp z
            exact zi_blt i g (fun y => no np (by omega)) (fun y => yes np (by omega))
          · have pk : k < 0 := Classical.byContradiction fun y => z (hx4.mpr y)
            exact zi_blt g i (fun y => no np (by omega)) (fun y => yes np (by omega))
        cases p with
        | none => exact br_f (zi_nN (by omega) (by omega)) (fresh (fun z => by cases z))
        | some v =>
          have vb := hp v rfl
          refine zi_beq g v (fun z => ?_) (fun z => fresh (fun y => ?_))
          · subst z
            exact nm_r (nI_1 j) (nx (some g) l (se_same hI f') hp)
          · injection y with y; exact z y.symm
theorem yq_place {post : Int32 → Prop} {i o t : Int} (ea : dp - 2 = nI a) (eb : dp - 1 = nI b) (hR : rp_R c K L S a A s) (hG : mx_G c s A) (ha : a < 4) (hR' : rp_R c K L S b B s') (hG' : mx_G c s' B) (hb : b < 4) (f : B t = some o) (tb : -500 < t) (tb' : t < 500) (ib : -1000000 ≤ i) (ib' : i ≤ 1000000) (hx4 : x4 = 0 ↔ ¬ k < 0) (h : ∀ (l : List Int), se_LL A B (x1 = 1) o l → l.length ≤ 60 → post (nI (se_p k l i))) : wpY_place post ((nI c), dp, K, L, S, wk) x1 (zi_I i) (zi_I o) x4 := by
  have ob := mx_bd hG'.1 f
  have c2 := hG.1.1.2
  unfold wpY_place
  refine nm_r ea (nm_r eb (yw_edge false hR' hG' (by omega) (by omega) (by omega) (fun x hx => ?_) (fun hx => absurd f (hx _))))
  have n1 := mx_near hG' f hx.1
  have n2 := mx_near hG' hx.1 f
  have := yq_L (wk := wk) (dp := dp) hR hG ha hR' hG' hb hx (by omega) (by omega) (by omega) (by omega) ib ib' hx4 h c 0 none [] (by omega) se_I0 (fun v e => by cases e) (c + 1) (by omega)
  have e0 : se_p k [] i = 0 := by unfold se_p; split <;> rfl
  rw [e0] at this
  exact ⟨c + 1, this⟩
theorem yc_chL {post : Int32 → Prop} {i x : Int} {m : Nat} (ea : dp - 2 = nI a) (eb : dp - 1 = nI b) (hR : rp_R c K L S a A s) (hG : mx_G c s A) (ha : a < 4) (hR' : rp_R c K L S b B s') (hG' : mx_G c s' B) (hb : b < 4) (hx : mx_ed false A i x) (xb : -60 < x) (xb' : x < 120) (ib : -1000000 ≤ i) (ib' : i ≤ 1000000) (kb : -60 ≤ k) (kb' : k ≤ 60) (mb : m ≤ 60) (h : post (mx_b (se_Ch A B (x1 = 1) k m i))) : ∀ (d j : Nat), j + d = c → (∀ u : Nat, u < j → A (x + u) = some i → ∀ o, B (x + u) = some o → (x1 = 1 ∨ mx_H A i B o) → ∀ l, se_LL A B (x1 = 1) o l → ¬ se_w k m l i) → ∀ n, d < n → wY_chosen_41 post x1 (zi_I i) (zi_I k) (nI m) (nI a) (nI b) (zi_I x) (zi_I k.natAbs) (nI c) dp K L S wk n (nI j) := by
  have c1 := hG.1.1.1
  have c2 := hG.1.1.2
  intro d
  induction d with
  | zero =>
    intro j hj hI n hn
    obtain ⟨q, rfl⟩ : ∃ q, n = q + 1 := ⟨n - 1, by omega⟩
    refine br_t (nI_le (by omega) (by omega)) ?_
    rw [mx_bf] at h
    · exact h
    · rintro ⟨o, l, hLL, hi, hw⟩
      obtain ⟨⟨t, e, e'⟩, hq⟩ := (hLL.2 i).mp hi
      have l1 := (hx.2 t e').1 rfl
      have l2 := mx_near hG hx.1 e'
      have et : x + ((t - x).toNat : Int) = t := by omega
      exact hI (t - x).toNat (by omega) (by rw [et]; exact e') o (by rw [et]; exact e) hq l hLL hw
  | succ d ih =>
    intro j hj hI n hn
    obtain ⟨q, rfl⟩ : ∃ q, n = q + 1 := ⟨n - 1, by omega⟩
    have ex : zi_I x + nI j = zi_I (x + j) := by rw [zi_n j, zi_add]
    have nx : (A (x + j) = some i → ∀ o, B (x + j) = some o → (x1 = 1 ∨ mx_H A i B o) → ∀ l, se_LL A B (x1 = 1) o l → ¬ se_w k m l i) → wY_chosen_41 post x1 (zi_I i) (zi_I k) (nI m) (nI a) (nI b) (zi_I x) (zi_I k.natAbs) (nI c) dp K L S wk q (nI (j + 1)) := fun z => ih (j + 1) (by omega) (re_up hI z) q (by omega)
    refine br_f (nI_ge (by omega) (by omega)) ?_
    rw [ex]
    refine yw_lab hR' hG'.1 (by omega) (by omega) (by omega) fun w hw => yw_has hR hG.1 (by omega) (by omega) (by omega) (by omega) (by omega) (mx_br (fun z => ?_) (fun f => ?_))
    · exact nm_r (nI_1 j) (nx fun y => absurd y z)
    · refine yw_cov hR' hG'.1 (by omega) (by omega) (by omega) ?_
      cases f' : B (x + (j : Int)) with
      | none => exact br_t rfl (nm_r (nI_1 j) (nx fun _ o e => by rw [f'] at e; cases e))
      | some o =>
        have ob := mx_bd hG'.1 f'
        rw [hw o f']
        have fin : ∀ fe : Int32, (fe = 0 ↔ ¬ k < 0) → (x1 = 1 ∨ mx_H A i B o) → wY_chosen_125 post (wY_chosen_41 post x1 (zi_I i) (zi_I k) (nI m) (nI a) (nI b) (zi_I x) (zi_I k.natAbs) (nI c) dp K L S wk q) x1 (zi_I i) (zi_I k) (nI m) (nI a) (nI b) (zi_I x) (zi_I k.natAbs) (nI j) fe (zi_I o) (zi_I i) x1 (nI c) dp K L S wk := fun fe hfe hq => by
          unfold wY_chosen_125
          refine yq_place (k := k) ea eb hR hG ha hR' hG' hb f' (by omega) (by omega) ib ib' hfe (fun l hLL hlen => ?_)
          have pl := se_ple k l i
          have bad : ¬ se_w k m l i → wY_chosen_41 post x1 (zi_I i) (zi_I k) (nI m) (nI a) (nI b) (zi_I x) (zi_I k.natAbs) (nI c) dp K L S wk q (nI (j + 1)) := fun z => nx fun _ o' e _ l' hLL' => by
            rw [f'] at e
            injection e with e
            subst e
            rw [se_LLu hLL' hLL]; exact z
          refine zi_blt (se_p k l i : Int) (k.natAbs : Int) (fun z => nm_r (nI_1 j) (bad (fun y => ?_))) (fun z => zi_ble ((k.natAbs : Int) + m) (se_p k l i : Int) (fun z' => nm_r (nI_1 j) (bad (fun y => ?_))) (fun z' => ?_) (by rw [zi_n m, zi_add]) (zi_n _)) (zi_n _)
          · have := y.1; omega
          · have := y.2; omega
          · rw [mx_bt ⟨o, l, hLL, (hLL.2 i).mpr ⟨⟨_, f', f⟩, hq⟩, z, z'⟩] at h
            exact h
        have go : (x1 = 1 ∨ mx_H A i B o) → wY_chosen_111 post (wY_chosen_41 post x1 (zi_I i) (zi_I k) (nI m) (nI a) (nI b) (zi_I x) (zi_I k.natAbs) (nI c) dp K L S wk q) x1 (zi_I i) (zi_I k) (nI m) (nI a) (nI b) (zi_I x) (zi_I k.natAbs) (nI j) (zi_I o) (nI c) dp K L S wk := fun hq => by
          unfold wY_chosen_111
          refine zi_ble 0 k (fun z => fin 0 ⟨fun _ => by omega, fun _ => rfl⟩ hq) (fun z => fin 1 ⟨fun y => absurd y (by decide), fun y => by omega⟩ hq) zi_0 rfl
        refine br_f (rp_1 rfl) (br_c (fun z => go (.inl z)) (fun z => ?_))
        refine yw_within hR hG (by omega) hR' hG'.1 (by omega) (by omega) (by omega) (by omega) (by omega) (mx_br (fun y => nm_r (nI_1 j) (nx fun _ o' e hq => ?_)) (fun y => go (.inr y)))
        rw [f'] at e
        injection e with e
        subst e
        rcases hq with hq | hq
        · exact absurd hq z
        · exact absurd hq y
theorem yc_chosen {post : Int32 → Prop} {i : Int} {r m : Nat} (ea : dp - 2 = nI a) (eb : dp - 1 = nI b) (hR : rp_R c K L S a A s) (hG : mx_G c s A) (ha : a < 4) (hR' : rp_R c K L S b B s') (hG' : mx_G c s' B) (hb : b < 4) (hr : r < c) (f : A (r : Int) = some i) (kb : -60 ≤ k) (kb' : k ≤ 60) (mb : m ≤ 60) (h : post (mx_b (se_Ch A B (x1 = 1) k m i))) : wpY_chosen post ((nI c), dp, K, L, S, wk) x1 (zi_I i) (zi_I k) (nI m) := by
  have ib := mg_r hG.1 hr f
  unfold wpY_chosen
  refine nm_r ea (nm_r eb (yw_edge false hR hG (by omega) (by omega) (by omega) (fun x hx => ?_) (fun hx => absurd f (hx _))))
  have xb := mx_cl hG (by omega) (by omega) f hx.1
  have main := yc_chL (wk := wk) (dp := dp) ea eb hR hG ha hR' hG' hb hx xb.1 xb.2 (by omega) (by omega) kb kb' mb h c 0 (by omega) (fun u hu => by omega) (c + 1) (by omega)
  refine zi_ble 0 k (fun z => ?_) (fun z => nm_r (e' := zi_I k.natAbs) ?_ ⟨c + 1, main⟩) zi_0 rfl
  · rw [show (k.natAbs : Int) = k by omega] at main
    exact ⟨c + 1, main⟩
  · rw [zi_neg]; congr 1; omega
theorem ye_L {post : Int32 → SY → Prop} {m : Nat} {K0 L0 : Nat → Int32} (ea : dp - 2 = nI a) (eb : dp - 1 = nI b) (hR : rp_R c K0 L0 S a A s) (hG : mx_G c s A) (ha : a < 4) (hR' : rp_R c K0 L0 S b B s') (hG' : mx_G c s' B) (hb : b < 4) (kb : -60 ≤ k) (kb' : k ≤ 60) (mb : m ≤ 60) (hg : sd_g c (mx_fl A (se_P A B (x1 = 1) k m)) s g) (h : ∀ K' L' S', sd_U c K0 L0 S K' L' S' a (mx_fl A (se_P A B (x1 = 1) k m)) g → post 0 ((nI c), (nI (a + 1)), K', L', S', wk)) : ∀ (d j : Nat) (K L : Nat → Int32), j + d = c → sd_D K0 L0 K L (fun x => x < j) (mx_fl A (se_P A B (x1 = 1) k m)) → ∀ n, d < n → wY_select_66 post x1 (zi_I k) (nI m) (nI a) n (nI j) (nI c) dp K L S wk := by
  have c1 := hG.1.1.1
  have c2 := hG.1.1.2
  have c60 : c ≤ 60 := by omega
  intro d
  induction d with
  | zero =>
    intro j K L hj hD n hn
    obtain ⟨q, rfl⟩ : ∃ q, n = q + 1 := ⟨n - 1, by omega⟩
    have : j = c := by omega
    subst this
    exact br_t (nI_le (by omega) (by omega)) ⟨zi_inN (by omega) (by omega), yw_store c60 ha hD (fun r hr => hr) (fun _ _ => rfl) hg (fun K' L' S' hU => h _ _ _ hU) (by rw [zi_clN (by omega)]; exact hR.1)⟩
  | succ d ih =>
    intro j K L hj hD n hn
    obtain ⟨q, rfl⟩ : ∃ q, n = q + 1 := ⟨n - 1, by omega⟩
    have hF := sd_DF (S := S) (S' := S) c60 hD (fun _ _ => rfl)
    have hRa : rp_R c K L S a A s := hF.2 a ha A s hR
    have hRb : rp_R c K L S b B s' := hF.2 b hb B s' hR'
    have fin : ∀ (k' l : Int32), k' = 0 ∨ k' = 1 → rp_C k' l (mx_fl A (se_P A B (x1 = 1) k m) (j : Int)) → wY_select_113 post (wY_select_66 post x1 (zi_I k) (nI m) (nI a) q) x1 (zi_I k) (nI m) (nI a) (nI j) l k' (nI c) dp K L S wk := fun k' l hk hC => by
      unfold wY_select_113
      exact yw_set (by omega) hD hk hC sd_ls (fun K' L' hD' => nm_r (nI_1 j) (ih (j + 1) _ _ (by omega) hD' q (by omega)))
    refine br_f (nI_ge (by omega) (by omega)) ?_
    unfold wY_select_112
    rw [zi_n j]
    refine yw_lab hRa hG.1 (by omega) (by omega) (by omega) fun w hw => yw_cov hRa hG.1 (by omega) (by omega) (by omega) ?_
    rw [← zi_n j]
    cases f : A (j : Int) with
    | none => exact br_t rfl (fin 0 w (.inl rfl) (by rw [mx_fln f]; exact rfl))
    | some i =>
      rw [hw i f]
      refine br_f (rp_1 rfl) (yc_chosen ea eb hRa hG ha hRb hG' hb (by omega) f kb kb' mb (mx_br (fun z => fin 0 _ (.inl rfl) ?_) (fun z => fin 1 _ (.inr rfl) ?_)))
      · rw [mx_flf]
        · exact rfl
        · rintro ⟨i', e, y⟩
          rw [f] at e
          injection e with e
          subst e
          exact z y
      · rw [mx_flt ⟨i, f, z⟩, f]; exact ⟨rfl, rfl⟩
end
theorem i_vc_select {k : Nat} {u : SX} {v : SY} (I : i_Rel k u v) (hk : k + 4 ≤ 2049) (v1 : Int32) (v2 : Int32) (v3 : Int32) : wpX_select (fun r u' => wpY_select (fun r' v' => r' = r ∧ i_Rel (k + 4) u' v') v v1 v2 v3) u v1 v2 v3 := by
  refine rl_el (P := fun u v => wpX_select (fun r u' => wpY_select (fun r' v' => r' = r ∧ i_Rel (k + 4) u' v') v v1 v2 v3) u v1 v2 v3) I ?_
  intro c n sc ls K L S ch li le Ky Ly Sy wk hA
  obtain ⟨hc, n4, hK, hKy, hs⟩ := id hA
  have ng : -nI c = zi_I (-(c : Int)) := by rw [zi_n c, zi_neg]
  unfold wpX_select wpY_select
  by_cases h : 2 ≤ n
  · have h2 : (2 : Int32) ≤ nI n := nI_le (a := 2) h (by omega)
    refine br_t h2 ?_
    by_cases a1 : v1 < 0
    · exact br_t a1 (br_t h2 (br_t a1 ⟨rfl, rl_mk hA⟩))
    · refine br_f a1 ?_
      by_cases a2 : 1 < v1
      · exact br_t a2 (br_t h2 (br_f a1 (br_t a2 ⟨rfl, rl_mk hA⟩)))
      · refine br_f a2 ?_
        by_cases a3 : v2 = 0
        · exact br_t a3 (br_t h2 (br_f a1 (br_f a2 (br_t a3 ⟨rfl, rl_mk hA⟩))))
        · refine br_f a3 ?_
          by_cases a4 : v2 < -nI c
          · exact br_t a4 (br_t h2 (br_f a1 (br_f a2 (br_f a3 (br_t a4 ⟨rfl, rl_mk hA⟩)))))
          · refine br_f a4 ?_
            by_cases a5 : nI c < v2
            · exact br_t a5 (br_t h2 (br_f a1 (br_f a2 (br_f a3 (br_f a4 (br_t a5 ⟨rfl, rl_mk hA⟩))))))
            · refine br_f a5 ?_
              by_cases a6 : v3 < 1
              · exact br_t a6 (br_t h2 (br_f a1 (br_f a2 (br_f a3 (br_f a4 (br_f a5 (br_t a6 ⟨rfl, rl_mk hA⟩)))))))
              · refine br_f a6 ?_
                by_cases a7 : v3 ≤ nI c
                · have e : nI n - 1 = nI (n - 1) := zi_nsub (b := 1) (by omega)
                  have e2 : nI n - 2 = nI (n - 2) := zi_nsub (b := 2) (by omega)
                  obtain ⟨A, s, hG, hRx, hRy⟩ := hs (n - 2) (by omega)
                  obtain ⟨B, s', hG', hRx', hRy'⟩ := hs (n - 1) (by omega)
                  obtain ⟨m, m1, m2, rfl⟩ := ar_nat a6 a7 hc.2
                  have kb := ar_int a4 (Int32.not_lt.mp a5)
                  rw [ng, zi_T (by omega) (by omega), nI_toInt (by omega)] at kb
                  have k0 : v2.toInt ≠ 0 := fun z => a3 (by rw [zi_w v2, z]; rfl)
                  rw [zi_w v2] at a3 a4 a5 ⊢
                  generalize v2.toInt = kk at a3 a4 a5 kb k0 ⊢
                  obtain ⟨g, hg⟩ := sd_ge c (mx_fl A (se_P A B (v1 = 1) kk m)) s
                  refine br_t a7 (nm_r e2 (nm_r e (xk_set (.inl rfl) (fun ch' hch => ⟨c + 1, xe_L hRx hG (by omega) hRx' hG' (by omega) hK k0 (by omega) (by omega) (by omega) (by omega) hg (fun ls2 ch2 li2 K' L' S' hU => ?_) c 0 ls ch' li (by omega) (fun p hp => ?_) (c + 1) (by omega)⟩))))
                  · refine br_t h2 (br_f a1 (br_f a2 (br_f a3 (br_f a4 (br_f a5 (br_f a6 (br_t a7 (nm_r e2 ⟨c + 1, ye_L (K0 := Ky) (L0 := Ly) e2 e hRy hG (by omega) hRy' hG' (by omega) (by omega) (by omega) (by omega) hg (fun K2 L2 S2 hV => ?_) c 0 Ky Ly (by omega) (sd_D0 hKy) (c + 1) (by omega)⟩))))))))
                    rw [show n - 2 + 1 = n - 1 by omega]
                    exact ⟨rfl, rl_mk (rl_store hA hU hV (mg_fl hG (fun t _ => se_PP hG.1.2.2.1 hG'.1.2.2.1 t) hg) (by omega) (fun e' he' hn => by omega))⟩
                  · rw [hch p hp]
                    exact ⟨fun z => absurd rfl z, fun ⟨r, hr, _⟩ => by omega⟩
                · exact br_f a7 (br_t h2 (br_f a1 (br_f a2 (br_f a3 (br_f a4 (br_f a5 (br_f a6 (br_f a7 ⟨rfl, rl_mk hA⟩))))))))
  · have h2 : ¬ (2 : Int32) ≤ nI n := nI_ge (b := 2) (by omega) (by omega)
    exact br_f h2 (br_f h2 ⟨rfl, rl_mk hA⟩)
end
section
/-! alter, pure -/
def al_ng (c : Nat) (F : Int → Option Int) : Prop := ∀ r : Nat, r < c → ∃ v w, F (r : Int) = some v ∧ F ((r : Int) + 1) = some w ∧ w - v ≤ 1
/-- f: the first tick of each label; a granularity without gaps -/
def al_H (c : Nat) (s : Int) (F : Int → Option Int) (f : Int → Int) : Prop := (∀ t i, F t = some i ↔ f i ≤ t ∧ t < f (i + 1)) ∧ (∀ i, f (i + s) = f i + c) ∧ (∀ i, f i < f (i + 1)) ∧ 1 ≤ s
theorem al_step {c : Nat} {s : Int} {F : Int → Option Int} (hG : mx_G c s F) (h : al_ng c F) (t : Int) : ∃ v w, F t = some v ∧ F (t + 1) = some w ∧ v ≤ w ∧ w ≤ v + 1 := by
  have c1 := hG.1.1.1
  have hp := hG.1.2.2.1
  have m0 := Int.emod_nonneg t (b := (c : Int)) (by omega)
  have m1 := Int.emod_lt_of_pos t (b := (c : Int)) (by omega)
  have em := mx_em t c
  obtain ⟨v, w, e, e', d⟩ := h (t % (c : Int)).toNat (by omega)
  rw [Int.toNat_of_nonneg m0] at e e'
  have k := mx_sh hp (t / (c : Int)) e
  have k' := mx_sh hp (t / (c : Int)) e'
  rw [← em] at k
  rw [show t % (c : Int) + 1 + t / (c : Int) * c = t + 1 by omega] at k'
  have := hG.2.1 _ _ _ _ (by omega) k k'
  exact ⟨_, _, k, k', this, by omega⟩
theorem al_ivt {c : Nat} {s : Int} {F : Int → Option Int} (hG : mx_G c s F) (h : al_ng c F) {t0 v0 i : Int} (e : F t0 = some v0) (hv : v0 ≤ i) : ∀ n : Nat, (∃ v, F (t0 + n) = some v ∧ v ≤ i) ∨ ∃ t, F t = some i := by
  intro n
  induction n with
  | zero => exact .inl ⟨v0, by simpa using e, hv⟩
  | succ n ih =>
    rcases ih with ⟨v, e1, hv1⟩ | ih
    · obtain ⟨v', w, a, b, d1, d2⟩ := al_step hG h (t0 + n)
      rw [e1] at a
      injection a with a
      by_cases z : w ≤ i
      · refine .inl ⟨w, ?_, z⟩
        rw [Int.natCast_add, ← Int.add_assoc]; exact b
      · have : v = i := by omega
        subst this
        exact .inr ⟨_, e1⟩
    · exact .inr ih
theorem al_sur {c : Nat} {s : Int} {F : Int → Option Int} (hG : mx_G c s F) (h : al_ng c F) (i : Int) : ∃ t, F t = some i := by
  have hp := hG.1.2.2.1
  obtain ⟨v, -, e, -⟩ := al_step hG h 0
  have sp := mx_spos hG e
  have em := mx_em (i - v) s
  have m0 := Int.emod_nonneg (i - v) (b := s) (by omega)
  have m1 := Int.emod_lt_of_pos (i - v) (b := s) (by omega)
  have e1 := mx_sh hp ((i - v) / s) e
  rcases al_ivt (i := i) hG h e1 (by omega) c with ⟨w, e2, hw⟩ | k
  · have := mx_s1 hp e1
    rw [e2] at this
    injection this with this
    omega
  · exact k
theorem al_ex {c : Nat} {s : Int} {F : Int → Option Int} (hG : mx_G c s F) (h : al_ng c F) : ∃ f, al_H c s F f := by
  have hp := hG.1.2.2.1
  have hx : ∀ i, ∃ x, mx_ed false F i x := fun i => by
    obtain ⟨t, e⟩ := al_sur hG h i
    exact mx_edE hG e
  obtain ⟨f, hf⟩ : ∃ f : Int → Int, ∀ i, mx_ed false F i (f i) := ⟨fun i => (hx i).choose, fun i => (hx i).choose_spec⟩
  have lt : ∀ i, f i < f (i + 1) := fun i => by
    by_cases z : f i < f (i + 1)
    · exact z
    · have := hG.2.1 _ _ _ _ (by omega) (hf (i + 1)).1 (hf i).1
      omega
  refine ⟨f, fun t i => ⟨fun e => ⟨((hf i).2 t e).1 rfl, ?_⟩, fun ⟨h1, h2⟩ => ?_⟩, fun i => ?_, lt, mx_spos hG (hf 0).1⟩
  · by_cases z : t < f (i + 1)
    · exact z
    · have := hG.2.1 _ _ _ _ (by omega) (hf (i + 1)).1 e
      omega
  · obtain ⟨v, -, e, -⟩ := al_step hG h t
    have a := hG.2.1 _ _ _ _ h1 (hf i).1 e
    have b := hG.2.1 _ _ _ _ (by omega) e (hf (i + 1)).1
    by_cases z : v = i
    · rw [z] at e; exact e
    · have : v = i + 1 := by omega
      subst this
      have := ((hf (i + 1)).2 t e).1 rfl
      omega
  · have := mx_edS hp 1 (hf i)
    rw [Int.one_mul, Int.one_mul] at this
    exact mx_edu (hf (i + s)) this
section
variable {c : Nat} {s : Int} {F : Int → Option Int} {f : Int → Int}
theorem al_ed0 (h : al_H c s F f) (i : Int) : mx_ed false F i (f i) := by
  refine ⟨(h.1 _ _).mpr ⟨Int.le_refl _, h.2.2.1 i⟩, fun t e => ⟨fun _ => ((h.1 t i).mp e).1, fun z => by cases z⟩⟩
theorem al_ed1 (h : al_H c s F f) (i : Int) : mx_ed true F i (f (i + 1) - 1) := by
  have := h.2.2.1 i
  refine ⟨(h.1 _ _).mpr ⟨by omega, by omega⟩, fun t e => ⟨fun z => (by cases z), fun _ => ?_⟩⟩
  have := ((h.1 t i).mp e).2
  omega
theorem al_mono (h : al_H c s F f) (n : Nat) : ∀ i : Int, f i + n ≤ f (i + n) := by
  induction n with
  | zero => intro i; simp
  | succ n ih =>
    intro i
    have a := ih i
    have b := h.2.2.1 (i + n)
    rw [show i + ((n + 1 : Nat) : Int) = i + n + 1 by omega]
    omega
theorem al_mul (h : al_H c s F f) (n : Nat) : ∀ i : Int, f (i + n * s) = f i + n * c := by
  induction n with
  | zero => intro i; simp
  | succ n ih =>
    intro i
    rw [Int.natCast_add, Int.add_mul, Int.add_mul, ← Int.add_assoc, ← Int.add_assoc]
    show f (i + n * s + 1 * s) = f i + n * c + 1 * c
    rw [Int.one_mul, Int.one_mul, h.2.1, ih i]
/-- ticks of a granule number at most the cycle -/
theorem al_le (h : al_H c s F f) (i : Int) : f (i + 1) ≤ f i + c := by
  have a := h.2.1 i
  have sp := h.2.2.2
  have := al_mono h (s - 1).toNat (i + 1)
  rw [show i + 1 + ((s - 1).toNat : Int) = i + s by omega] at this
  omega
/-! counting -/
def al_cn (P : Int → Bool) (t : Int) : Nat → Int
  | 0 => 0
  | n + 1 => al_cn P t n + (if P (t + n) then 1 else 0)
theorem al_cn1 (P : Int → Bool) (t : Int) : ∀ n : Nat, al_cn P t (n + 1) = (if P t then 1 else 0) + al_cn P (t + 1) n := by
  intro n
  induction n with
  | zero => simp [al_cn]
  | succ n ih =>
    rw [al_cn, ih, al_cn, show t + ((n + 1 : Nat) : Int) = t + 1 + n by rw [Int.natCast_add]; omega]
    omega
theorem al_cnS {P : Int → Bool} {c : Nat} (hP : ∀ t, P (t + c) = P t) (t : Int) : al_cn P (t + 1) c = al_cn P t c := by
  have a := al_cn1 P t c
  rw [al_cn, hP t] at a
  omega
theorem al_cnZ {P : Int → Bool} {c : Nat} (hP : ∀ t, P (t + c) = P t) : ∀ (n : Nat) (t : Int), al_cn P (t + n) c = al_cn P t c := by
  intro n
  induction n with
  | zero => intro t; simp
  | succ n ih =>
    intro t
    rw [Int.natCast_add, ← Int.add_assoc]
    show al_cn P (t + n + 1) c = _
    rw [al_cnS hP, ih t]
theorem al_cnA {P : Int → Bool} {c : Nat} (hP : ∀ t, P (t + c) = P t) (t u : Int) : al_cn P t c = al_cn P u c := by
  rcases Int.le_total t u with z | z
  · have := al_cnZ hP (u - t).toNat t
    rw [show t + ((u - t).toNat : Int) = u by omega] at this
    exact this.symm
  · have := al_cnZ hP (t - u).toNat u
    rw [show u + ((t - u).toNat : Int) = t by omega] at this
    exact this
theorem al_cnK {P : Int → Bool} {t : Int} {k : Nat} : ∀ n : Nat, (∀ u : Nat, u < n → (P (t + u) = true ↔ u < k)) → al_cn P t n = if n ≤ k then (n : Int) else k := by
  intro n
  induction n with
  | zero => intro _; simp [al_cn]
  | succ n ih =>
    intro h
    rw [al_cn, ih (fun u hu => h u (by omega))]
    have := h n (by omega)
    by_cases z : n < k
    · rw [if_pos (this.mpr z), if_pos (by omega), if_pos (by omega)]; omega
    · rw [if_neg (fun y => z (this.mp y)), if_neg (c := n + 1 ≤ k) (by omega)]
      split <;> omega
/-- the ticks of granule i, counted within the first cycle -/
theorem al_count (h : al_H c s F f) (hc : 1 ≤ c) (i : Int) {P : Int → Bool} (hP : ∀ t v, F t = some v → (P t = true ↔ (v - i) % s = 0)) (ht : ∀ t, ∃ v, F t = some v) (hp : mx_per c s F) : al_cn P 0 c = f (i + 1) - f i := by
  have sp := h.2.2.2
  have per : ∀ t, P (t + c) = P t := fun t => by
    obtain ⟨v, e⟩ := ht t
    have a := hP t v e
    have b := hP _ _ (mx_s1 hp e)
    rw [show v + s - i = v - i + s by omega, Int.add_emod_right] at b
    exact Bool.eq_iff_iff.mpr (b.trans a.symm)
  have l1 := h.2.2.1 i
  have l2 := al_le h i
  rw [al_cnA per 0 (f i), al_cnK (k := (f (i + 1) - f i).toNat) c (fun u hu => ?_)]
  · split <;> omega
  · obtain ⟨v, e⟩ := ht (f i + u)
    rw [hP _ v e]
    obtain ⟨a, b⟩ := (h.1 _ _).mp e
    have vi : i ≤ v := by
      by_cases z : i ≤ v
      · exact z
      · have := al_mono h (i - (v + 1)).toNat (v + 1)
        rw [show v + 1 + ((i - (v + 1)).toNat : Int) = i by omega] at this
        omega
    have vs : v < i + s := by
      by_cases z : v < i + s
      · exact z
      · have := al_mono h (v - (i + s)).toNat (i + s)
        rw [show i + s + ((v - (i + s)).toNat : Int) = v by omega, h.2.1] at this
        omega
    rw [Int.emod_eq_of_lt (by omega) (by omega)]
    constructor
    · intro z
      have : v = i := by omega
      subst this
      omega
    · intro z
      by_cases y : v = i
      · omega
      · have := al_mono h (v - (i + 1)).toNat (i + 1)
        rw [show i + 1 + ((v - (i + 1)).toNat : Int) = v by omega] at this
        omega
end
end
section
/-! alter, pure: lengths, their sums, the walk over them -/
def al_L (f : Int → Int) (m l : Nat) (k : Int) (i : Nat) : Int := f (i + 1) - f i + (if i % m = l then k else 0)
def al_T (Q : Nat → Int) : Nat → Int
  | 0 => 0
  | n + 1 => al_T Q n + Q n
theorem al_Lp {c m l : Nat} {s k : Int} {F : Int → Option Int} {f : Int → Int} (h : al_H c s F f) (i : Nat) : al_L f m l k (i + s.toNat * m) = al_L f m l k i := by
  have sp := h.2.2.2
  have e : ∀ i : Int, f (i + ((s.toNat * m : Nat) : Int)) = f i + m * c := fun i => by
    rw [Int.natCast_mul, Int.toNat_of_nonneg (by omega), Int.mul_comm]
    exact al_mul h m i
  unfold al_L
  rw [Nat.add_mul_mod_self_right, Int.natCast_add, e, show (i : Int) + ((s.toNat * m : Nat) : Int) + 1 = (i : Int) + 1 + ((s.toNat * m : Nat) : Int) by omega, e]
  omega
section
variable {Q : Nat → Int} {p c : Nat}
theorem al_Tm (hQ : ∀ i, 1 ≤ Q i) (i : Nat) : ∀ n : Nat, al_T Q i + n ≤ al_T Q (i + n) := by
  intro n
  induction n with
  | zero => simp
  | succ n ih =>
    have := hQ (i + n)
    show al_T Q i + ((n + 1 : Nat) : Int) ≤ al_T Q (i + n) + Q (i + n)
    omega
theorem al_Tlt (hQ : ∀ i, 1 ≤ Q i) {i j : Nat} (h : i < j) : al_T Q i < al_T Q j := by
  have := al_Tm hQ i (j - i)
  rw [show i + (j - i) = j by omega] at this
  omega
theorem al_Tle (hQ : ∀ i, 1 ≤ Q i) {i j : Nat} (h : i ≤ j) : al_T Q i ≤ al_T Q j := by
  have := al_Tm hQ i (j - i)
  rw [show i + (j - i) = j by omega] at this
  omega
theorem al_T0 (hQ : ∀ i, 1 ≤ Q i) (i : Nat) : (i : Int) ≤ al_T Q i := by
  have := al_Tm hQ 0 i
  rw [Nat.zero_add] at this
  show (i : Int) ≤ al_T Q i
  have z : al_T Q 0 = 0 := rfl
  omega
theorem al_Tp (hp : ∀ i, Q (i + p) = Q i) : ∀ i : Nat, al_T Q (i + p) = al_T Q i + al_T Q p := by
  intro i
  induction i with
  | zero => rw [Nat.zero_add]; show _ = 0 + _; omega
  | succ i ih =>
    rw [show i + 1 + p = (i + p) + 1 by omega]
    show al_T Q (i + p) + Q (i + p) = al_T Q i + Q i + al_T Q p
    rw [ih, hp]; omega
def al_W (Q : Nat → Int) (j : Int) (w : Nat) : Prop := al_T Q w ≤ j ∧ j < al_T Q (w + 1)
theorem al_Wm (hQ : ∀ i, 1 ≤ Q i) {j j' : Int} {w w' : Nat} (h : al_W Q j w) (h' : al_W Q j' w') (hj : j ≤ j') : w ≤ w' := by
  by_cases z : w ≤ w'
  · exact z
  · have := al_Tle hQ (i := w' + 1) (j := w) (by omega)
    have := h.1
    have := h'.2
    omega
theorem al_Wu (hQ : ∀ i, 1 ≤ Q i) {j : Int} {w w' : Nat} (h : al_W Q j w) (h' : al_W Q j w') : w = w' := by
  have a := al_Wm hQ h h' (Int.le_refl _)
  have b := al_Wm hQ h' h (Int.le_refl _)
  omega
theorem al_We (hQ : ∀ i, 1 ≤ Q i) {j : Int} (hj : 0 ≤ j) : ∃ w, al_W Q j w := by
  obtain ⟨w, h1, h2⟩ := mx_least (fun w => j < al_T Q (w + 1)) ⟨j.toNat, by have := al_T0 hQ (j.toNat + 1); omega⟩
  refine ⟨w, ?_, h1⟩
  cases w with
  | zero => exact hj
  | succ w =>
    have := h2 w (by omega)
    omega
def al_ok (Q : Nat → Int) (c d : Nat) : Prop := al_T Q d = c ∧ ∀ i, Q (i + d) = Q i
theorem al_okT {d : Nat} (h : al_ok Q c d) (w : Nat) : al_T Q (w + d) = al_T Q w + c := by
  rw [al_Tp h.2, h.1]
theorem al_okW {d : Nat} (h : al_ok Q c d) {j : Int} {w : Nat} (k : al_W Q j w) : al_W Q (j + c) (w + d) := by
  have a := al_okT h w
  have b := al_okT h (w + 1)
  obtain ⟨k1, k2⟩ := k
  refine ⟨by omega, ?_⟩
  rw [show w + d + 1 = w + 1 + d by omega]
  omega
theorem al_okU (hQ : ∀ i, 1 ≤ Q i) {d d' : Nat} (h : al_ok Q c d) (h' : al_ok Q c d') : d = d' := by
  rcases Nat.lt_trichotomy d d' with z | z | z
  · have := al_Tlt hQ z; have := h.1; have := h'.1; omega
  · exact z
  · have := al_Tlt hQ z; have := h.1; have := h'.1; omega
theorem al_okB (hQ : ∀ i, 1 ≤ Q i) (hc : 1 ≤ c) {d : Nat} (h : al_ok Q c d) : 1 ≤ d ∧ d ≤ c := by
  have a := al_T0 hQ d
  have b := h.1
  refine ⟨?_, by omega⟩
  cases d with
  | zero => rw [show al_T Q 0 = 0 from rfl] at b; omega
  | succ d => omega
/-- what the reference looks at is enough -/
theorem al_okR (hQ : ∀ i, 1 ≤ Q i) (hp : ∀ i, Q (i + p) = Q i) (hp1 : 1 ≤ p) {n : Nat} (h : ∀ (j : Nat) (w w' : Nat), (j : Int) < al_T Q p → al_W Q j w → al_W Q (j + c) w' → w' = w + n) : al_ok Q c n := by
  have A : ∀ i, 1 ≤ i → i ≤ p → al_T Q i + c ≤ al_T Q (i + n) := fun i h1 h2 => by
    have t0 := al_T0 hQ i
    have l1 := al_Tlt hQ (i := i - 1) (j := i) (by omega)
    have l2 := al_Tle hQ h2
    obtain ⟨w', hw'⟩ := al_We hQ (j := al_T Q i - 1 + c) (by omega)
    have := h (al_T Q i - 1).toNat (i - 1) w' (by omega) ⟨by omega, by rw [show i - 1 + 1 = i by omega]; omega⟩ (by rw [show ((al_T Q i - 1).toNat : Int) = al_T Q i - 1 by omega]; exact hw')
    subst this
    have := hw'.2
    rw [show i - 1 + n + 1 = i + n by omega] at this
    omega
  have B : ∀ i, i < p → al_T Q (i + n) ≤ al_T Q i + c := fun i h2 => by
    have t0 := al_T0 hQ i
    have l1 := al_Tlt hQ (i := i) (j := i + 1) (by omega)
    have l2 := al_Tlt hQ h2
    obtain ⟨w', hw'⟩ := al_We hQ (j := al_T Q i + c) (by omega)
    have := h (al_T Q i).toNat i w' (by omega) ⟨by omega, by omega⟩ (by rw [show ((al_T Q i).toNat : Int) = al_T Q i by omega]; exact hw')
    subst this
    exact hw'.1
  have z0 : al_T Q 0 = 0 := rfl
  have Tn : al_T Q n = c := by
    have b := B 0 (by omega)
    have a := A p hp1 (Nat.le_refl _)
    rw [Nat.zero_add] at b
    rw [show p + n = n + p by omega, al_Tp hp] at a
    omega
  have E : ∀ i, i ≤ p → al_T Q (i + n) = al_T Q i + c := fun i hi => by
    by_cases y : i = 0
    · subst y; rw [Nat.zero_add]; omega
    · by_cases y' : i = p
      · subst y'
        rw [show i + n = n + i by omega, al_Tp hp]; omega
      · have := A i (by omega) hi
        have := B i (by omega)
        omega
  have small : ∀ i, i < p → Q (i + n) = Q i := fun i hi => by
    have a := E i (by omega)
    have b := E (i + 1) (by omega)
    rw [show i + 1 + n = i + n + 1 by omega] at b
    have e1 : al_T Q (i + n + 1) = al_T Q (i + n) + Q (i + n) := rfl
    have e2 : al_T Q (i + 1) = al_T Q i + Q i := rfl
    omega
  refine ⟨Tn, fun i => ?_⟩
  have per : ∀ q i, Q (i + q * p) = Q i := fun q => by
    induction q with
    | zero => intro i; simp
    | succ q ih => intro i; rw [Nat.succ_mul, ← Nat.add_assoc, hp, ih]
  have em := Nat.mod_add_div i p
  rw [show i + n = (i % p + n) + (i / p) * p by rw [Nat.mul_comm]; omega, per, small _ (Nat.mod_lt _ (by omega))]
  have := per (i / p) (i % p)
  rw [show i % p + i / p * p = i by rw [Nat.mul_comm]; omega] at this
  exact this.symm
/-- the walk -/
noncomputable def al_w (Q : Nat → Int) (j : Nat) : Nat := Classical.epsilon (fun w => al_W Q j w)
theorem al_ws (hQ : ∀ i, 1 ≤ Q i) (j : Nat) : al_W Q j (al_w Q j) := Classical.epsilon_spec (al_We hQ (j := (j : Int)) (by omega))
theorem al_wE (hQ : ∀ i, 1 ≤ Q i) {j w : Nat} (h : al_W Q j w) : al_w Q j = w := al_Wu hQ (al_ws hQ j) h
noncomputable def al_F (Q : Nat → Int) (c d : Nat) (x : Int) : Int → Option Int := fun t => some ((al_w Q ((t - x) % (c : Int)).toNat : Int) + (t - x) / (c : Int) * d)
theorem al_FP {d : Nat} {x : Int} (hc : 1 ≤ c) : mx_per c d (al_F Q c d x) := by
  intro t
  show some _ = some _
  rw [show t + (c : Int) - x = t - x + c by omega, Int.add_emod_right, Int.add_ediv_of_dvd_right (Int.dvd_refl _), Int.ediv_self (by omega), Int.add_mul, Int.one_mul]
  exact congrArg some (Int.add_assoc _ _ _).symm
theorem al_FG {d : Nat} {x g : Int} (hQ : ∀ i, 1 ≤ Q i) (hc : 1 ≤ c ∧ c ≤ 60) (hd : al_ok Q c d) (hb : mx_rg c (al_F Q c d x)) (hg : sd_g c (al_F Q c d x) d g) : mx_G c g (al_F Q c d x) := by
  have db := al_okB hQ hc.1 hd
  refine mg_of hc (al_FP hc.1) (by omega) hb (fun t t' v v' h a b => ?_) (fun z => by omega) hg
  have a : (al_w Q ((t - x) % (c : Int)).toNat : Int) + (t - x) / (c : Int) * d = v := by injection a
  have b : (al_w Q ((t' - x) % (c : Int)).toNat : Int) + (t' - x) / (c : Int) * d = v' := by injection b
  have m0 := Int.emod_nonneg (t - x) (b := (c : Int)) (by omega)
  have m1 := Int.emod_lt_of_pos (t - x) (b := (c : Int)) (by omega)
  have em := mx_em (t - x) c
  have n0 := Int.emod_nonneg (t' - x) (b := (c : Int)) (by omega)
  have n1 := Int.emod_lt_of_pos (t' - x) (b := (c : Int)) (by omega)
  have en := mx_em (t' - x) c
  have qq : (t - x) / (c : Int) ≤ (t' - x) / (c : Int) := Int.ediv_le_ediv (by omega) (by omega)
  rcases Int.lt_or_eq_of_le qq with z | z
  · have w0 : al_W Q 0 0 := ⟨Int.le_refl _, by have := al_T0 hQ (0 + 1); omega⟩
    have wc := al_okW hd w0
    have le := al_Wm hQ (al_ws hQ ((t - x) % (c : Int)).toNat) wc (by omega)
    have mul := Int.mul_le_mul_of_nonneg_right (a := (t - x) / (c : Int) + 1) (b := (t' - x) / (c : Int)) (c := (d : Int)) (by omega) (by omega)
    rw [Int.add_mul, Int.one_mul] at mul
    omega
  · rw [z] at a em
    have le := al_Wm hQ (al_ws hQ ((t - x) % (c : Int)).toNat) (al_ws hQ ((t' - x) % (c : Int)).toNat) (by omega)
    omega
theorem al_Fv {d : Nat} {x : Int} (hQ : ∀ i, 1 ≤ Q i) (hc : 1 ≤ c ∧ c ≤ 60) (hd : al_ok Q c d) (xb : -700000000 ≤ x) (xb' : x ≤ 700000000) {r : Nat} (hr : r < c) {v : Int} (e : al_F Q c d x (r : Int) = some v) : -800000000 ≤ v ∧ v ≤ 800000000 := by
  have db := al_okB hQ hc.1 hd
  have e : (al_w Q ((r - x) % (c : Int)).toNat : Int) + (r - x) / (c : Int) * d = v := by injection e
  have m0 := Int.emod_nonneg (r - x) (b := (c : Int)) (by omega)
  have m1 := Int.emod_lt_of_pos (r - x) (b := (c : Int)) (by omega)
  have em := mx_em (r - x) c
  have w0 : al_W Q 0 0 := ⟨Int.le_refl _, by have := al_T0 hQ (0 + 1); omega⟩
  have wc := al_okW hd w0
  have le := al_Wm hQ (al_ws hQ ((r - x) % (c : Int)).toNat) wc (by omega)
  have q := mx_q (q := (r - x) / (c : Int)) (s := (d : Int)) (c := (c : Int)) (by omega) (by omega)
  rcases Int.le_total 0 ((r - x) / (c : Int)) with z | z
  · have := q.1 z; omega
  · have := q.2 z; omega
end
end
section
/-! the component's alter -/
def al_ad (m l : Nat) (k : Int) (i : Nat) : Int := if i % m = l then k else 0
theorem al_adB {m l : Nat} {k : Int} (kb : -60 ≤ k) (kb' : k ≤ 60) (i : Nat) : -60 ≤ al_ad m l k i ∧ al_ad m l k i ≤ 60 := by
  unfold al_ad; split <;> omega
theorem al_perM {Q : Nat → Int} {p : Nat} (hp : ∀ i, Q (i + p) = Q i) (i : Nat) : Q (i % p) = Q i := by
  have per : ∀ q i, Q (i + q * p) = Q i := fun q => by
    induction q with
    | zero => intro i; simp
    | succ q ih => intro i; rw [Nat.succ_mul, ← Nat.add_assoc, hp, ih]
  have em := Nat.mod_add_div i p
  have := per (i / p) (i % p)
  rw [show i % p + i / p * p = i by rw [Nat.mul_comm]; omega] at this
  exact this.symm
theorem zi_fmN {a b : Nat} : ((a : Int)) % (b : Int) = ((a % b : Nat) : Int) := by omega
section
variable {sz sc ls : Int32} {c : Nat} {K L S ch li le : Nat → Int32} {e : Nat} {F : Int → Option Int} {s g : Int}
theorem zx_fmN {cy : Int32} {post : Int32 → Prop} {x m : Nat} (hx : x < 2147483648) (hm : 0 < m) (hm' : m < 2147483648) (h : post (nI (x % m))) : wpX_floorMod post (cy, sz, sc, ls, L, K, S, ch, li, le) (nI x) (nI m) := by
  rw [zi_n x, zi_n m]
  refine zx_fmod (by omega) (by omega) (by omega) (by omega) ?_
  rw [show ((x : Int)) % (m : Int) = ((x % m : Nat) : Int) from (Int.natCast_emod x m).symm, ← zi_n]
  exact h
theorem xh_gaps {post : Int32 → Prop} (hR : rp_R c K L S e F s) (hG : mx_G c s F) (he : e < 4) (h : post (mx_b (¬ al_ng c F))) : wpX_hasGaps post ((nI c), sz, sc, ls, L, K, S, ch, li, le) (nI e) := by
  have c1 := hG.1.1.1
  have c2 := hG.1.1.2
  have main : ∀ (d j : Nat), j + d = c → (∀ r : Nat, r < j → ∃ v w, F (r : Int) = some v ∧ F ((r : Int) + 1) = some w ∧ w - v ≤ 1) → ∀ n, d < n → wX_hasGaps_2 post (nI e) (nI c) sz sc ls L K S ch li le n (nI j) := by
    intro d
    induction d with
    | zero =>
      intro j hj k n hn
      obtain ⟨q, rfl⟩ : ∃ q, n = q + 1 := ⟨n - 1, by omega⟩
      have : j = c := by omega
      subst this
      rw [mx_bf (fun z => z k)] at h
      exact br_t (nI_le (by omega) (by omega)) h
    | succ d ih =>
      intro j hj k n hn
      obtain ⟨q, rfl⟩ : ∃ q, n = q + 1 := ⟨n - 1, by omega⟩
      have bad : (¬ ∃ v w, F (j : Int) = some v ∧ F ((j : Int) + 1) = some w ∧ w - v ≤ 1) → post 1 := fun z => by
        rw [mx_bt (fun y => z (y j (by omega)))] at h
        exact h
      refine br_f (nI_ge (by omega) (by omega)) ?_
      have ex : nI j + 1 = zi_I ((j : Int) + 1) := by rw [zi_n j, zi_1, zi_add]
      rw [ex, zi_n j]
      refine xw_label hR hG.1 (by omega) (by omega) (by omega) (xw_label hR hG.1 (by omega) (by omega) (by omega) ?_)
      cases f : F (j : Int) with
      | none =>
        refine br_t rfl (bad ?_)
        rintro ⟨v, w, z, -⟩
        rw [f] at z; cases z
      | some v =>
        have vb := mx_bd hG.1 f
        refine br_f (zi_nN (by omega) (by omega)) ?_
        cases f' : F ((j : Int) + 1) with
        | none =>
          refine br_t rfl (bad ?_)
          rintro ⟨v, w, -, z, -⟩
          rw [f'] at z; cases z
        | some w =>
          have wb := mx_bd hG.1 f'
          refine br_f (zi_nN (by omega) (by omega)) (zi_ble (w - v) 1 (fun z => ?_) (fun z => bad ?_) (zi_sub w v) zi_1)
          · refine nm_r ?_ (ih (j + 1) (by omega) (re_up k ⟨v, w, f, f', z⟩) q (by omega))
            rw [zi_n (j + 1), Int.natCast_add]; rfl
          · rintro ⟨v', w', y, y', y''⟩
            rw [f] at y; rw [f'] at y'
            injection y with y; injection y' with y'
            omega
  unfold wpX_hasGaps
  exact ⟨c + 1, main c 0 (by omega) (fun r hr => by omega) (c + 1) (by omega)⟩
/-! lengths -/
theorem xf_84 {post : SX → Prop} {J : Int32 → (Nat → Int32) → (Nat → Int32) → (Nat → Int32) → (Nat → Int32) → (Nat → Int32) → (Nat → Int32) → Prop} {sn m pl r : Nat} {x1 : Int32} {base : Nat → Int} (sp : 1 ≤ sn) (hpl : pl < sn) (sm : sn * m ≤ 3600) (hJ : ∀ le, (∀ i, i < sn * m → le i = zi_I (base i + if i % sn = pl then 1 else 0)) → J (nI (r + 1)) L K S ch li le) : ∀ (d j : Nat) (le : Nat → Int32), j + d = m → (∀ i, i < sn * m → le i = zi_I (base i + if i % sn = pl ∧ i / sn < j then 1 else 0)) → ∀ n, d < n → wX_fillLengths_84 post J x1 (nI m) (nI sn) (nI r) (nI pl) (nI c) sz sc ls n (nI j) L K S ch li le := by
  have mle : m ≤ 3600 := Nat.le_trans (Nat.le_mul_of_pos_left m (by omega)) sm
  intro d
  induction d with
  | zero =>
    intro j le hj k n hn
    obtain ⟨q, rfl⟩ : ∃ q, n = q + 1 := ⟨n - 1, by omega⟩
    have : j = m := by omega
    subst this
    refine br_t (nI_le (by omega) (by omega)) (nm_r (nI_1 r) (hJ le fun i hi => ?_))
    rw [k i hi]
    have : i / sn < j := Nat.div_lt_of_lt_mul hi
    congr 2
    simp only [this, and_true]
  | succ d ih =>
    intro j le hj k n hn
    obtain ⟨q, rfl⟩ : ∃ q, n = q + 1 := ⟨n - 1, by omega⟩
    have mul : (j + 1) * sn ≤ sn * m := by rw [Nat.mul_comm]; exact Nat.mul_le_mul_left sn (by omega)
    rw [Nat.succ_mul] at mul
    have ex : nI pl + nI j * nI sn = nI (pl + j * sn) := by rw [zi_nmul, nI_add]
    have iv : vp_in (nI (pl + j * sn)) 3600 := zi_inN (by omega) (by omega)
    have e1 : (pl + j * sn) % sn = pl := by rw [Nat.add_mul_mod_self_right, Nat.mod_eq_of_lt hpl]
    have e2 : (pl + j * sn) / sn = j := by rw [Nat.add_mul_div_right _ _ (by omega), Nat.div_eq_of_lt hpl, Nat.zero_add]
    refine br_f (nI_ge (by omega) (by omega)) ?_
    rw [ex, zi_clN (by omega)]
    refine ⟨iv, iv, nm_e (nm_r (nI_1 j) (ih (j + 1) _ (by omega) (fun i hi => ?_) q (by omega)))⟩
    by_cases z : i = pl + j * sn
    · subst z
      rw [zi_us, k _ hi, e1, e2, if_neg (by omega), if_pos (by omega), zi_1, zi_add, Int.add_zero]
    · rw [zi_un z, k i hi]
      congr 2
      have : (i % sn = pl ∧ i / sn < j) ↔ (i % sn = pl ∧ i / sn < j + 1) := by
        refine ⟨fun y => ⟨y.1, by omega⟩, fun y => ⟨y.1, ?_⟩⟩
        by_cases w : i / sn = j
        · have em := Nat.mod_add_div i sn
          rw [y.1, w, Nat.mul_comm] at em
          exact absurd em.symm z
        · omega
      simp only [this]
theorem xf_53 {post : SX → Prop} {m : Nat} {ad : Nat → Int} (hR : rp_R c K L S e F s) (hG : mx_G c s F) (he : e < 4) (hn : al_ng c F) (m1 : 1 ≤ m) (m2 : m ≤ 60) (h : ∀ le, (∀ i, i < s.toNat * m → le i = zi_I (ad i + al_cn (fun t => decide (((F t).getD 0 - i) % s = 0)) 0 c)) → post ((nI c), sz, sc, ls, L, K, S, ch, li, le)) : ∀ (d j : Nat) (le : Nat → Int32), j + d = c → (∀ i, i < s.toNat * m → le i = zi_I (ad i + al_cn (fun t => decide (((F t).getD 0 - i) % s = 0)) 0 j)) → ∀ n, d < n → wX_fillLengths_53 post (nI e) (nI m) (nI s.toNat) (nI c) sz sc ls n (nI j) L K S ch li le := by
  have c1 := hG.1.1.1
  have c2 := hG.1.1.2
  have s2 := hG.1.2.1.2
  intro d
  induction d with
  | zero =>
    intro j le hj k n hn
    obtain ⟨q, rfl⟩ : ∃ q, n = q + 1 := ⟨n - 1, by omega⟩
    have : j = c := by omega
    subst this
    exact br_t (nI_le (by omega) (by omega)) (h le k)
  | succ d ih =>
    intro j le hj k n hnn
    obtain ⟨q, rfl⟩ : ∃ q, n = q + 1 := ⟨n - 1, by omega⟩
    obtain ⟨v, -, f, -⟩ := hn j (by omega)
    have vb := mg_r hG.1 (by omega) f
    have sp := mx_spos hG f
    have m0 := Int.emod_nonneg v (b := s) (by omega)
    have m1' := Int.emod_lt_of_pos v (b := s) (by omega)
    have sm : s.toNat * m ≤ 3600 := Nat.mul_le_mul (show s.toNat ≤ 60 by omega) m2
    refine br_f (nI_ge (by omega) (by omega)) ?_
    rw [zi_n j]
    refine xw_label hR hG.1 (by omega) (by omega) (by omega) ?_
    rw [f, ← zi_n j, show nI s.toNat = zi_I s from (zi_nat (by omega)).symm]
    refine zx_fmod (by omega) (by omega) (by omega) (by omega) ?_
    rw [zi_nat m0, zi_nat (t := s) (by omega)]
    refine ⟨m + 1, xf_84 (base := fun i => ad i + al_cn (fun t => decide (((F t).getD 0 - i) % s = 0)) 0 j) (by omega) (by omega) sm (fun le' k' => ih (j + 1) le' (by omega) (fun i hi => ?_) q (by omega)) m 0 le (by omega) (fun i hi => ?_) (m + 1) (by omega)⟩
    · rw [k' i hi, al_cn, Int.zero_add, f]
      show zi_I (ad i + al_cn _ 0 j + _) = zi_I (ad i + (al_cn _ 0 j + _))
      rw [Int.add_assoc]
      congr 2
      have : i % s.toNat = (v % s).toNat ↔ decide (((some v).getD 0 - (i : Int)) % s = 0) = true := by
        have e1 : ((i % s.toNat : Nat) : Int) = (i : Int) % s := by rw [Int.natCast_emod, Int.toNat_of_nonneg (by omega)]
        have i0 := Int.emod_nonneg (i : Int) (b := s) (by omega)
        rw [decide_eq_true_iff]
        show _ ↔ (v - (i : Int)) % s = 0
        rw [show (v - (i : Int)) % s = 0 ↔ v % s = i % s from Int.emod_eq_emod_iff_emod_sub_eq_zero.symm]
        omega
      simp only [this]
    · rw [k i hi, if_neg (fun y => absurd y.2 (Nat.not_lt_zero _)), Int.add_zero]
theorem xf_11 {post : SX → Prop} {m l : Nat} {k : Int} (hR : rp_R c K L S e F s) (hG : mx_G c s F) (he : e < 4) (hn : al_ng c F) (m1 : 1 ≤ m) (m2 : m ≤ 60) (hl : l < m) (h : ∀ le, (∀ i, i < s.toNat * m → le i = zi_I (al_ad m l k i + al_cn (fun t => decide (((F t).getD 0 - i) % s = 0)) 0 c)) → post ((nI c), sz, sc, ls, L, K, S, ch, li, le)) : ∀ (d j : Nat) (le : Nat → Int32), j + d = s.toNat * m → (∀ i, i < j → le i = zi_I (al_ad m l k i)) → ∀ n, d < n → wX_fillLengths_11 post (nI e) (nI m) (nI l) (zi_I k) (nI s.toNat) (nI c) sz sc ls n (nI j) L K S ch li le := by
  have c1 := hG.1.1.1
  have c2 := hG.1.1.2
  have s2 := hG.1.2.1.2
  have sm : s.toNat * m ≤ 3600 := Nat.mul_le_mul (show s.toNat ≤ 60 by omega) m2
  have ex : nI s.toNat * nI m = nI (s.toNat * m) := zi_nmul _ _
  intro d
  induction d with
  | zero =>
    intro j le hj kk n hnn
    obtain ⟨q, rfl⟩ : ∃ q, n = q + 1 := ⟨n - 1, by omega⟩
    refine br_t (by rw [ex]; exact nI_le (by omega) (by omega)) ⟨c + 1, xf_53 (ad := al_ad m l k) hR hG he hn m1 m2 h c 0 le (by omega) (fun i hi => ?_) (c + 1) (by omega)⟩
    rw [kk i (by omega)]
    show _ = zi_I (al_ad m l k i + 0)
    rw [Int.add_zero]
  | succ d ih =>
    intro j le hj kk n hnn
    obtain ⟨q, rfl⟩ : ∃ q, n = q + 1 := ⟨n - 1, by omega⟩
    have ml := Nat.mod_lt j (y := m) (by omega)
    refine br_f (by rw [ex]; exact nI_ge (by omega) (by omega)) (zx_fmN (by omega) (by omega) (by omega) ?_)
    have nx : ∀ x, x = zi_I (al_ad m l k j) → wX_fillLengths_11 post (nI e) (nI m) (nI l) (zi_I k) (nI s.toNat) (nI c) sz sc ls q (nI (j + 1)) L K S ch li (upd le j x) := fun x hx => by
      refine ih (j + 1) _ (by omega) (fun i hi => ?_) q (by omega)
      by_cases z : i = j
      · rw [z, zi_us, hx]
      · rw [zi_un z]; exact kk i (by omega)
    rw [zi_clN (by omega)]
    by_cases z : j % m = l
    · refine br_t (by rw [z]) ⟨zi_inN (by omega) (by omega), nm_e (nm_r (nI_1 j) (nx _ ?_))⟩
      unfold al_ad; rw [if_pos z]
    · refine br_f (by rw [nI_eq (by omega) (by omega)]; exact z) ⟨zi_inN (by omega) (by omega), nm_e (nm_r (nI_1 j) (nx _ ?_))⟩
      unfold al_ad; rw [if_neg z]; rfl
theorem xf_fill {post : SX → Prop} {m l : Nat} {k : Int} {f : Int → Int} (hR : rp_R c K L S e F s) (hG : mx_G c s F) (he : e < 4) (hn : al_ng c F) (hf : al_H c s F f) (m1 : 1 ≤ m) (m2 : m ≤ 60) (hl : l < m) (h : ∀ le, (∀ i, i < s.toNat * m → le i = zi_I (al_L f m l k i)) → post ((nI c), sz, sc, ls, L, K, S, ch, li, le)) : wpX_fillLengths post ((nI c), sz, sc, ls, L, K, S, ch, li, le) (nI e) (nI m) (nI l) (zi_I k) := by
  have c1 := hG.1.1.1
  have sp := hf.2.2.2
  have tot : ∀ t, ∃ v, F t = some v := fun t => by
    obtain ⟨v, -, e, -⟩ := al_step hG hn t
    exact ⟨v, e⟩
  unfold wpX_fillLengths
  refine ⟨zi_inN (by omega) (by omega), nm_r (e' := nI s.toNat) (by rw [zi_clN (by omega), hR.1]; exact zi_nat (by omega)) ⟨s.toNat * m + 1, xf_11 hR hG he hn m1 m2 hl (fun le' hle => h le' fun i hi => ?_) (s.toNat * m) 0 le (by omega) (fun i hi => by omega) (s.toNat * m + 1) (by omega)⟩⟩
  rw [hle i hi, al_count hf (by omega) (i : Int) (fun t v e => ?_) tot hG.1.2.2.1]
  · unfold al_L al_ad
    rw [Int.add_comm]
  · rw [e]; exact decide_eq_true_iff
end
end
section
/-! the component's alter: too short, the new step, the layout -/
section
variable {sz sc ls : Int32} {c : Nat} {K L S ch li le : Nat → Int32} {e : Nat} {F : Int → Option Int} {s g : Int} {Q : Nat → Int} {p : Nat}
theorem xt_short {post : Int32 → Prop} (hp : p ≤ 3600) (hb : ∀ i, i < p → -200 ≤ Q i ∧ Q i ≤ 200) (hle : ∀ i, i < p → le i = zi_I (Q i)) (h : post (mx_b (∃ i, i < p ∧ Q i < 1))) : wpX_isTooShort post ((nI c), sz, sc, ls, L, K, S, ch, li, le) (nI p) := by
  have main : ∀ (d j : Nat), j + d = p → (∀ i, i < j → ¬ Q i < 1) → ∀ n, d < n → wX_isTooShort_2 post (nI p) (nI c) sz sc ls L K S ch li le n (nI j) := by
    intro d
    induction d with
    | zero =>
      intro j hj k n hn
      obtain ⟨q, rfl⟩ : ∃ q, n = q + 1 := ⟨n - 1, by omega⟩
      have : j = p := by omega
      subst this
      rw [mx_bf (fun ⟨i, hi, z⟩ => k i hi z)] at h
      exact br_t (nI_le (by omega) (by omega)) h
    | succ d ih =>
      intro j hj k n hn
      obtain ⟨q, rfl⟩ : ∃ q, n = q + 1 := ⟨n - 1, by omega⟩
      have b := hb j (by omega)
      refine br_f (nI_ge (by omega) (by omega)) ?_
      rw [zi_clN (by omega), hle j (by omega)]
      refine ⟨zi_inN (by omega) (by omega), zi_ble 1 (Q j) (fun z => ?_) (fun z => ?_) zi_1 rfl⟩
      · exact nm_r (nI_1 j) (ih (j + 1) (by omega) (re_up k (by omega)) q (by omega))
      · rw [mx_bt ⟨j, by omega, z⟩] at h; exact h
  unfold wpX_isTooShort
  exact ⟨p + 1, main p 0 (by omega) (fun i hi => by omega) (p + 1) (by omega)⟩
theorem xd_57 {post : Int32 → Prop} {d0 : Nat} (hp1 : 1 ≤ p) (hp : p ≤ 3600) (hd : d0 ≤ 60) (hb : ∀ i, -200 ≤ Q i ∧ Q i ≤ 200) (hper : ∀ i, Q (i + p) = Q i) (hle : ∀ i, i < p → le i = zi_I (Q i)) (A : (∀ i, Q (i + d0) = Q i) → post (nI d0)) (B : (∃ i, Q (i + d0) ≠ Q i) → post 0) : ∀ (d j : Nat), j + d = p → (∀ i, i < j → Q (i + d0) = Q i) → ∀ n, d < n → wX_alteredStep_57 post (nI p) (nI d0) (nI c) sz sc ls L K S ch li le n (nI j) := by
  intro d
  induction d with
  | zero =>
    intro j hj k n hn
    obtain ⟨q, rfl⟩ : ∃ q, n = q + 1 := ⟨n - 1, by omega⟩
    have : j = p := by omega
    subst this
    refine br_t (nI_le (by omega) (by omega)) (A fun i => ?_)
    have a := k (i % j) (Nat.mod_lt _ (by omega))
    rw [al_perM hper i] at a
    rw [← a, ← al_perM hper (i + d0), ← al_perM hper (i % j + d0), Nat.mod_add_mod]
  | succ d ih =>
    intro j hj k n hn
    obtain ⟨q, rfl⟩ : ∃ q, n = q + 1 := ⟨n - 1, by omega⟩
    have b1 := hb j
    have b2 := hb (j + d0)
    have ml := Nat.mod_lt (j + d0) (y := p) (by omega)
    refine br_f (nI_ge (by omega) (by omega)) ?_
    rw [nI_add]
    refine zx_fmN (by omega) (by omega) (by omega) ⟨zi_inN (by omega) (by omega), zi_inN (by omega) (by omega), ?_⟩
    rw [zi_clN (by omega), zi_clN (by omega), hle j (by omega), hle _ ml, al_perM hper]
    exact zi_beq (Q j) (Q (j + d0)) (fun z => nm_r (nI_1 j) (ih (j + 1) (by omega) (re_up k z.symm) q (by omega))) (fun z => B ⟨j, fun y => z y.symm⟩)
theorem xd_4 {post : Int32 → Prop} (hc : 1 ≤ c ∧ c ≤ 60) (hp1 : 1 ≤ p) (hp : p ≤ 3600) (hQ : ∀ i, 1 ≤ Q i) (hb : ∀ i, -200 ≤ Q i ∧ Q i ≤ 200) (hper : ∀ i, Q (i + p) = Q i) (hle : ∀ i, i < p → le i = zi_I (Q i)) (A : ∀ d, al_ok Q c d → post (nI d)) (B : (∀ d, ¬ al_ok Q c d) → post 0) : ∀ (n d : Nat), d ≤ c → c < n + d → (∀ d', d' < d → al_T Q d' < c) → wX_alteredStep_4 post (nI p) (nI c) sz sc ls L K S ch li le n (zi_I (al_T Q d)) (nI d) := by
  intro n
  induction n with
  | zero => intro d h1 h2; omega
  | succ n ih =>
    intro d h1 h2 k
    have t0 := al_T0 hQ d
    have tb : al_T Q d ≤ 300 := by
      cases d with
      | zero => show (0 : Int) ≤ 300; omega
      | succ d =>
        have := k d (by omega)
        have := hb d
        show al_T Q d + Q d ≤ 300
        omega
    have fin : (c : Int) ≤ al_T Q d → wX_alteredStep_44 post (nI p) (zi_I (al_T Q d)) (nI d) (nI c) sz sc ls L K S ch li le := fun hd => by
      unfold wX_alteredStep_44
      have only : ∀ d', al_ok Q c d' → d' = d ∧ al_T Q d = c := fun d' h' => by
        have e := h'.1
        rcases Nat.lt_trichotomy d' d with z | z | z
        · have := k d' z; omega
        · subst z; exact ⟨rfl, e⟩
        · have := al_Tlt hQ z; omega
      refine zi_beq (al_T Q d) (c : Int) (fun z => ⟨p + 1, xd_57 hp1 hp (by omega) hb hper hle (fun y => A d ⟨z, y⟩) (fun ⟨i, y⟩ => B fun d' h' => ?_) p 0 (by omega) (fun i hi => by omega) (p + 1) (by omega)⟩) (fun z => B fun d' h' => z (only d' h').2) rfl (zi_n c)
      have := (only d' h').1
      subst this
      exact y (h'.2 i)
    refine zi_bn (by omega) (by omega) (fun z => fin (by omega)) (fun z => zi_ble (c : Int) (al_T Q d) (fun y => fin y) (fun y => ?_) (zi_n c) rfl)
    have ml := Nat.mod_lt d (y := p) (by omega)
    refine zx_fmN (by omega) (by omega) (by omega) ⟨zi_inN (by omega) (by omega), ?_⟩
    rw [zi_clN (by omega), hle _ ml, al_perM hper]
    refine nm_r (zi_add _ _) (nm_r (nI_1 d) (ih (d + 1) (by omega) (by omega) (fun d' hd' => ?_)))
    by_cases w : d' = d
    · subst w; exact y
    · exact k d' (by omega)
theorem xd_step {post : Int32 → Prop} (hc : 1 ≤ c ∧ c ≤ 60) (hp1 : 1 ≤ p) (hp : p ≤ 3600) (hQ : ∀ i, 1 ≤ Q i) (hb : ∀ i, -200 ≤ Q i ∧ Q i ≤ 200) (hper : ∀ i, Q (i + p) = Q i) (hle : ∀ i, i < p → le i = zi_I (Q i)) (A : ∀ d, al_ok Q c d → post (nI d)) (B : (∀ d, ¬ al_ok Q c d) → post 0) : wpX_alteredStep post ((nI c), sz, sc, ls, L, K, S, ch, li, le) (nI p) := by
  unfold wpX_alteredStep
  exact ⟨c + 1, xd_4 hc hp1 hp hQ hb hper hle A B (c + 1) 0 (by omega) (by omega) (fun d hd => by omega)⟩
/-! the layout -/
theorem al_Fr {d : Nat} {x : Int} (hQ : ∀ i, 1 ≤ Q i) (hc : 1 ≤ c) {j w : Nat} (hj : j < c) (hw : al_W Q j w) : al_F Q c d x ((x + j) % (c : Int)) = some ((w : Int) - d * ((x + j) / (c : Int))) := by
  have em := mx_em (x + j) c
  have e : (x + j) % (c : Int) - x = j + -((x + j) / (c : Int)) * c := by rw [Int.neg_mul]; omega
  unfold al_F
  rw [e, Int.add_mul_emod_self_right, Int.add_mul_ediv_right _ _ (by omega), Int.emod_eq_of_lt (by omega) (by omega), Int.ediv_eq_zero_of_lt (by omega) (by omega), Int.zero_add, Int.toNat_natCast, al_wE hQ hw, Int.neg_mul, Int.mul_comm]
  rfl
theorem xy_L {post : SX → Prop} {d : Nat} {x : Int} {K0 L0 : Nat → Int32} (hc : 1 ≤ c ∧ c ≤ 60) (hp1 : 1 ≤ p) (hp : p ≤ 3600) (hQ : ∀ i, 1 ≤ Q i) (hb : ∀ i, -200 ≤ Q i ∧ Q i ≤ 200) (hper : ∀ i, Q (i + p) = Q i) (hle : ∀ i, i < p → le i = zi_I (Q i)) (hd : al_ok Q c d) (xb : -700000000 ≤ x) (xb' : x ≤ 700000000) (hg : sd_g c (al_F Q c d x) d g) (h : ∀ K' L' S', rp_R c K' L' S' 4 (al_F Q c d x) g → sd_F c K0 L0 S K' L' S' → post ((nI c), sz, sc, ls, L', K', S', ch, li, le)) : ∀ (n j w : Nat) (K L : Nat → Int32), j ≤ c → c < n + j → (al_T Q w ≤ j ∧ (j : Int) ≤ al_T Q (w + 1)) → sd_D K0 L0 K L (fun r => ∃ u : Nat, u < j ∧ (r : Int) = (x + u) % (c : Int)) (al_F Q c d x) → wX_layOut_14 post (zi_I x) (nI d) (nI p) n (nI w) (zi_I (al_T Q (w + 1) - j)) (nI j) (nI c) sz sc ls L K S ch li le := by
  have db := al_okB hQ hc.1 hd
  intro n
  induction n with
  | zero => intro j w K L h1 h2; omega
  | succ n ih =>
    intro j w K L h1 h2 hw hD
    refine zi_bn (by omega) (by omega) (fun z => ?_) (fun z => ?_)
    · have : j = c := by omega
      subst this
      refine xw_settle hc.2 hD (fun r hr => ?_) hg (fun S' hR4 hF _ => h _ _ _ hR4 hF) (zi_n d)
      have m0 := Int.emod_nonneg ((r : Int) - x) (b := (j : Int)) (by omega)
      have m1 := Int.emod_lt_of_pos ((r : Int) - x) (b := (j : Int)) (by omega)
      have em := mx_em ((r : Int) - x) j
      refine ⟨(((r : Int) - x) % (j : Int)).toNat, by omega, ?_⟩
      rw [Int.toNat_of_nonneg m0, show x + ((r : Int) - x) % (j : Int) = r + -(((r : Int) - x) / (j : Int)) * j by rw [Int.neg_mul]; omega, Int.add_mul_emod_self_right, Int.emod_eq_of_lt (by omega) (by omega)]
    · have m0 := Int.emod_nonneg (x + j) (b := (c : Int)) (by omega)
      have m1 := Int.emod_lt_of_pos (x + j) (b := (c : Int)) (by omega)
      have ex : zi_I x + nI j = zi_I (x + j) := by rw [zi_n j, zi_add]
      have put : ∀ w : Nat, al_W Q j w → ∀ y : Int32, y = zi_I (al_T Q (w + 1) - j) → wX_layOut_49 post (wX_layOut_14 post (zi_I x) (nI d) (nI p) n) (zi_I x) (nI d) (nI p) (nI w) y (nI j) (nI c) sz sc ls L K S ch li le := fun w hw y hy => by
        subst hy
        unfold wX_layOut_49
        have fr := al_Fr (d := d) (x := x) hQ hc.1 z hw
        rw [ex, show wpX_floorMod = wpX_floorMod from rfl]
        refine (show wpX_floorMod _ ((nI c), sz, sc, ls, L, K, S, ch, li, le) (zi_I (x + j)) (nI c) from ?_)
        rw [zi_n c]
        refine zx_fmod (by omega) (by omega) (by omega) (by omega) (zx_fdiv (by omega) (by omega) (by omega) (by omega) ?_)
        rw [← zi_n c, zi_nat m0]
        refine xw_putv (by omega) hD ?_ (fun v hv => ?_) (D' := fun r => ∃ u : Nat, u < j + 1 ∧ (r : Int) = (x + u) % (c : Int)) (fun r hr => ?_) (fun K' L' hD' => ?_)
        · rw [Int.toNat_of_nonneg m0, fr]
          show _ = zi_I _
          rw [zi_n w, zi_n d, zi_mul, zi_sub]
        · rw [Int.toNat_of_nonneg m0] at hv
          have := al_Fv (r := ((x + j) % (c : Int)).toNat) hQ hc hd xb xb' (by omega) (by rw [Int.toNat_of_nonneg m0]; exact hv)
          omega
        · obtain ⟨u, hu, er⟩ := hr
          by_cases y : u = j
          · right
            subst y
            omega
          · exact .inl ⟨u, by omega, er⟩
        · have wn := hw.2
          have wl := hw.1
          have := ih (j + 1) w K' L' (by omega) (by omega) ⟨by omega, by omega⟩ hD'
          refine nm_r (e' := zi_I (al_T Q (w + 1) - (j + 1 : Nat))) ?_ (nm_r (nI_1 j) this)
          rw [show (-1 : Int32) = zi_I (-1) by decide +kernel, zi_add]
          congr 1; omega
      have Tw : al_T Q (w + 1 + 1) = al_T Q (w + 1) + Q (w + 1) := rfl
      have bw := hb w
      have q1 := hQ (w + 1)
      have Tw' : al_T Q (w + 1) = al_T Q w + Q w := rfl
      refine zi_beq (al_T Q (w + 1) - j) 0 (fun y => nm_r (nI_1 w) ?_) (fun y => put w ⟨hw.1, by omega⟩ _ rfl) rfl zi_0
      have t0 := al_T0 hQ (w + 1)
      have ml := Nat.mod_lt (w + 1) (y := p) (by omega)
      refine zx_fmN (by omega) (by omega) (by omega) ⟨zi_inN (by omega) (by omega), ?_⟩
      rw [zi_clN (by omega), hle _ ml, al_perM hper]
      exact nm_e (put (w + 1) ⟨by omega, by omega⟩ _ (by congr 1; omega))
theorem xy_lay {post : SX → Prop} {d : Nat} {x : Int} (hc : 1 ≤ c ∧ c ≤ 60) (hp1 : 1 ≤ p) (hp : p ≤ 3600) (hQ : ∀ i, 1 ≤ Q i) (hb : ∀ i, -200 ≤ Q i ∧ Q i ≤ 200) (hper : ∀ i, Q (i + p) = Q i) (hle : ∀ i, i < p → le i = zi_I (Q i)) (h01 : ∀ i, K i = 0 ∨ K i = 1) (hd : al_ok Q c d) (xb : -700000000 ≤ x) (xb' : x ≤ 700000000) (hg : sd_g c (al_F Q c d x) d g) (h : ∀ K' L' S', rp_R c K' L' S' 4 (al_F Q c d x) g → sd_F c K L S K' L' S' → post ((nI c), sz, sc, ls, L', K', S', ch, li, le)) : wpX_layOut post ((nI c), sz, sc, ls, L, K, S, ch, li, le) (zi_I x) (nI d) (nI p) := by
  unfold wpX_layOut
  have q0 := hQ 0
  have t1 : al_T Q (0 + 1) = 0 + Q 0 := rfl
  refine nm_r (e' := zi_I (al_T Q (0 + 1) - (0 : Nat))) ?_ ⟨c + 1, xy_L hc hp1 hp hQ hb hper hle hd xb xb' hg h (c + 1) 0 0 K L (by omega) (by omega) ⟨Int.le_refl _, by omega⟩ (sd_Dm (sd_D0 h01) (fun r ⟨u, hu, _⟩ => by omega))⟩
  rw [hle 0 hp1, t1]
  congr 1; omega
end
end
section
/-! the reference's alter -/
def al_A (m l : Nat) (k : Int) : Nat → Int
  | 0 => 0
  | n + 1 => al_A m l k n + al_ad m l k n
theorem al_Ae {m l : Nat} {k : Int} (hl : l < m) : ∀ n : Nat, al_A m l k n = (n / m : Nat) * k + (if l < n % m then k else 0) := by
  intro n
  induction n with
  | zero => rw [Nat.zero_div, Nat.zero_mod, if_neg (by omega)]; simp [al_A]
  | succ n ih =>
    have em := Nat.mod_add_div n m
    have ml := Nat.mod_lt n (y := m) (by omega)
    rw [al_A, ih]
    unfold al_ad
    by_cases z : n % m + 1 = m
    · have e : (n + 1) / m = n / m + 1 ∧ (n + 1) % m = 0 := by
        have h1 : n + 1 = 0 + m * (n / m + 1) := by rw [Nat.mul_add]; omega
        rw [h1, Nat.add_mul_div_left _ _ (by omega), Nat.add_mul_mod_self_left, Nat.zero_div, Nat.zero_mod]
        exact ⟨by omega, rfl⟩
      rw [e.1, e.2, if_neg (c := l < 0) (by omega), Int.natCast_add, Int.add_mul]
      by_cases y : n % m = l
      · rw [if_neg (by omega), if_pos y]; simp
      · rw [if_pos (by omega), if_neg y]; simp
    · have e : (n + 1) / m = n / m ∧ (n + 1) % m = n % m + 1 := by
        have h1 : n + 1 = (n % m + 1) + m * (n / m) := by omega
        have h2 : n % m + 1 < m := by omega
        constructor
        · rw [h1, Nat.add_mul_div_left _ _ (by omega), Nat.div_eq_of_lt h2, Nat.zero_add]
        · rw [h1, Nat.add_mul_mod_self_left, Nat.mod_eq_of_lt h2]
      rw [e.1, e.2]
      by_cases y : n % m = l
      · rw [if_neg (by omega), if_pos y, if_pos (by omega)]; omega
      · by_cases y' : l < n % m
        · rw [if_pos y', if_neg y, if_pos (by omega)]; omega
        · rw [if_neg y', if_neg y, if_neg (by omega)]; omega
theorem al_TA {f : Int → Int} {m l : Nat} {k : Int} : ∀ n : Nat, al_T (al_L f m l k) n = f n - f 0 + al_A m l k n := by
  intro n
  induction n with
  | zero => simp [al_T, al_A]
  | succ n ih =>
    rw [al_T, al_A, ih]
    unfold al_L al_ad
    rw [Int.natCast_add]
    show _ + (f (n + 1) - f n + _) = f (n + 1) - f 0 + _
    omega
theorem al_tot {c m l : Nat} {s k : Int} {F : Int → Option Int} {f : Int → Int} (h : al_H c s F f) (hc : c ≤ 60) (hs : s ≤ 60) (hm : 1 ≤ m) (hm' : m ≤ 60) (hl : l < m) (kb : k ≤ 60) : al_T (al_L f m l k) (s.toNat * m) ≤ 7200 := by
  have sp := h.2.2.2
  have e := al_mul h m 0
  rw [al_TA, al_Ae hl, Nat.mul_div_cancel _ (by omega), Nat.mul_mod_left, if_neg (by omega), Int.natCast_mul, Int.toNat_of_nonneg (by omega), Int.mul_comm s m]
  rw [Int.zero_add] at e
  rw [e]
  have a : (m : Int) * c ≤ 60 * 60 := Int.mul_le_mul (by omega) (by omega) (by omega) (by omega)
  have b : s * k ≤ s * 60 := Int.mul_le_mul_of_nonneg_left kb (by omega)
  omega
section
variable {dp : Int32} {c : Nat} {K L S wk : Nat → Int32} {e : Nat} {F : Int → Option Int} {s g : Int} {f : Int → Int} {m l : Nat} {k : Int} {Q : Nat → Int} {p : Nat}
theorem yn_len {post : Int32 → Prop} {i : Nat} (hR : rp_R c K L S e F s) (hG : mx_G c s F) (he : e < 4) (hf : al_H c s F f) (m1 : 1 ≤ m) (m2 : m ≤ 60) (hl : l < m) (hi : i ≤ 100000) (h : post (zi_I (al_L f m l k i))) : wpY_newLength post ((nI c), dp, K, L, S, wk) (nI e) (nI i) (nI m) (nI l) (zi_I k) := by
  unfold wpY_newLength
  dsimp only
  rw [zi_n i, zi_n m]
  refine yw_edge true hR hG (by omega) (by omega) (by omega) (fun y hy => ?_) (fun hy => absurd (al_ed1 hf i).1 (hy _))
  refine yw_edge false hR hG (by omega) (by omega) (by omega) (fun x hx => ?_) (fun hx => absurd (al_ed0 hf i).1 (hx _))
  have ey := mx_edu hy (al_ed1 hf i)
  have ex := mx_edu hx (al_ed0 hf i)
  subst ey ex
  refine nm_r (e' := zi_I (f (i + 1) - f i)) (by rw [zi_1, zi_sub, zi_add]; congr 1; omega) ?_
  refine zy_fdiv (by omega) (by omega) (by omega) (by omega) (nm_r (e' := nI (i % m)) ?_ ?_)
  · have em := Int.emod_add_ediv_mul (i : Int) (m : Int)
    rw [zi_mul, zi_sub, zi_n (i % m), Int.natCast_emod]
    congr 1; omega
  · unfold al_L at h
    have ml := Nat.mod_lt i (y := m) (by omega)
    by_cases z : i % m = l
    · rw [if_pos z] at h
      refine br_t (by rw [z]) ?_
      rw [zi_add]; exact h
    · rw [if_neg z, Int.add_zero] at h
      exact br_f (by rw [nI_eq (by omega) (by omega)]; exact z) h
theorem yg_62 {post : Int32 → SY → Prop} {x1 x2 x3 : Int32} (hR : rp_R c K L S e F s) (hG : mx_G c s F) (he : e < 4) (h : al_ng c F → ∃ n, wY_alter_120 post x1 x2 x3 (nI e) (nI c) dp K L S wk n 0 0) (h' : ¬ al_ng c F → post 6 ((nI c), dp, K, L, S, wk)) : ∀ (d j : Nat), j + d = c → (∀ r : Nat, r < j → F (r : Int) ≠ none ∧ ∀ v w, F (r : Int) = some v → F ((r : Int) + 1) = some w → w - v ≤ 1) → ∀ n, d < n → wY_alter_62 post x1 x2 x3 (nI e) (nI c) dp K L S wk n (nI j) := by
  have c1 := hG.1.1.1
  have c2 := hG.1.1.2
  have hp := hG.1.2.2.1
  intro d
  induction d with
  | zero =>
    intro j hj k n hn
    obtain ⟨q, rfl⟩ : ∃ q, n = q + 1 := ⟨n - 1, by omega⟩
    have : j = c := by omega
    subst this
    refine br_t (nI_le (by omega) (by omega)) (h fun r hr => ?_)
    obtain ⟨k1, k2⟩ := k r hr
    cases f : F (r : Int) with
    | none => exact absurd f k1
    | some v =>
      have : F ((r : Int) + 1) ≠ none := by
        by_cases z : r + 1 < j
        · exact (k (r + 1) z).1
        · have er : (r : Int) + 1 = 0 + (j : Int) := by omega
          rw [er, hp 0]
          have := (k 0 (by omega)).1
          intro y
          cases f0 : F 0 with
          | none => exact this f0
          | some v0 => rw [f0] at y; cases y
      cases f' : F ((r : Int) + 1) with
      | none => exact absurd f' this
      | some w => exact ⟨v, w, rfl, rfl, k2 v w f f'⟩
  | succ d ih =>
    intro j hj k n hn
    obtain ⟨q, rfl⟩ : ∃ q, n = q + 1 := ⟨n - 1, by omega⟩
    have bad : (¬ ∃ v w, F (j : Int) = some v ∧ F ((j : Int) + 1) = some w ∧ w - v ≤ 1) → post 6 ((nI c), dp, K, L, S, wk) := fun z => h' fun y => z (y j (by omega))
    refine br_f (nI_ge (by omega) (by omega)) ?_
    have ex : nI j + 1 = zi_I ((j : Int) + 1) := by rw [zi_n j, zi_1, zi_add]
    have ex' : zi_I ((j : Int) + 1) = nI (j + 1) := by rw [← ex, nI_1]
    rw [ex, zi_n j]
    refine yw_cov hR hG.1 (by omega) (by omega) (by omega) ?_
    cases f : F (j : Int) with
    | none =>
      refine br_t rfl (bad ?_)
      rintro ⟨v, w, z, -⟩
      rw [f] at z; cases z
    | some v =>
      have vb := mx_bd hG.1 f
      refine br_f (rp_1 rfl) (yw_lab hR hG.1 (by omega) (by omega) (by omega) fun y hy => yw_lab hR hG.1 (by omega) (by omega) (by omega) fun y' hy' => ?_)
      rw [hy' v f]
      cases f' : F ((j : Int) + 1) with
      | none =>
        have b : post 6 ((nI c), dp, K, L, S, wk) := bad (by
          rintro ⟨v, w, -, z, -⟩
          rw [f'] at z; cases z)
        refine br_c (fun z => nm_r ex' (ih (j + 1) (by omega) (re_up k ⟨by rw [f]; exact mx_ss, fun v w _ z => ?_⟩) q (by omega))) (fun _ => b)
        rw [f'] at z; cases z
      | some w =>
        have wb := mx_bd hG.1 f'
        rw [hy w f']
        refine zi_ble (w - v) 1 (fun z => nm_r ex' (ih (j + 1) (by omega) (re_up k ⟨by rw [f]; exact mx_ss, fun v' w' y y' => ?_⟩) q (by omega))) (fun z => bad ?_) (zi_sub w v) zi_1
        · rw [f] at y; rw [f'] at y'
          injection y with y; injection y' with y'
          omega
        · rintro ⟨v', w', y, y', y''⟩
          rw [f] at y; rw [f'] at y'
          injection y with y; injection y' with y'
          omega
theorem yt_120 {post : Int32 → SY → Prop} (hR : rp_R c K L S e F s) (hG : mx_G c s F) (he : e < 4) (hf : al_H c s F f) (m1 : 1 ≤ m) (m2 : m ≤ 60) (hl : l < m) (hb : ∀ i, -200 ≤ al_L f m l k i ∧ al_L f m l k i ≤ 200) (h : (∀ i, i < s.toNat * m → 1 ≤ al_L f m l k i) → ∃ n, wY_alter_184 post (nI m) (nI l) (zi_I k) (nI e) (zi_I (al_T (al_L f m l k) (s.toNat * m))) (zi_I (al_T (al_L f m l k) (s.toNat * m) + c)) (nI c) dp n 0 0 K L S wk) (h' : (∃ i, i < s.toNat * m ∧ al_L f m l k i < 1) → post 7 ((nI c), dp, K, L, S, wk)) : ∀ (d j : Nat), j + d = s.toNat * m → (∀ i, i < j → 1 ≤ al_L f m l k i) → ∀ n, d < n → wY_alter_120 post (nI m) (nI l) (zi_I k) (nI e) (nI c) dp K L S wk n (zi_I (al_T (al_L f m l k) j)) (nI j) := by
  have c1 := hG.1.1.1
  have c2 := hG.1.1.2
  have s2 := hG.1.2.1.2
  have sp := hf.2.2.2
  have sm : s.toNat * m ≤ 3600 := Nat.mul_le_mul (show s.toNat ≤ 60 by omega) m2
  have ex : zi_I s * nI m = nI (s.toNat * m) := by rw [zi_nat (by omega), zi_nmul]
  intro d
  induction d with
  | zero =>
    intro j hj kk n hn
    obtain ⟨q, rfl⟩ : ∃ q, n = q + 1 := ⟨n - 1, by omega⟩
    have : j = s.toNat * m := by omega
    subst this
    refine ⟨zi_inN (by omega) (by omega), ?_⟩
    rw [zi_clN (by omega), hR.1, ex]
    refine br_t (nI_le (Nat.le_refl _) (by omega)) (nm_r (e' := zi_I (al_T (al_L f m l k) (s.toNat * m) + c)) (by rw [zi_n c, zi_add]) (h kk))
  | succ d ih =>
    intro j hj kk n hn
    obtain ⟨q, rfl⟩ : ∃ q, n = q + 1 := ⟨n - 1, by omega⟩
    have bj := hb j
    refine ⟨zi_inN (by omega) (by omega), ?_⟩
    rw [zi_clN (by omega), hR.1, ex]
    refine br_f (nI_ge (by omega) (by omega)) (yn_len hR hG he hf m1 m2 hl (by omega) (zi_ble 1 (al_L f m l k j) (fun z => ?_) (fun z => h' ⟨j, by omega, z⟩) zi_1 rfl))
    exact nm_r (zi_add _ _) (nm_r (nI_1 j) (ih (j + 1) (by omega) (re_up kk z) q (by omega)))
/-- the walk so far -/
def al_wk (Q : Nat → Int) (wk : Nat → Int32) (n : Nat) : Prop := ∀ j, j < n → wk j = zi_I (al_w Q j)
theorem yw_214 {post : Int32 → SY → Prop} {J : Int32 → Int32 → (Nat → Int32) → (Nat → Int32) → (Nat → Int32) → (Nat → Int32) → Prop} {x1 x2 x3 x4 x5 : Int32} {Z i : Nat} (hQ : ∀ i, 1 ≤ Q i) (hb : ∀ i, -200 ≤ Q i ∧ Q i ≤ 200) (hZ : Z < 8000) (hi : al_T Q i < Z) (hJ : ∀ (a : Nat) (wk : Nat → Int32), al_wk Q wk a → a ≤ Z → ((a : Int) = al_T Q (i + 1) ∨ (a = Z ∧ (Z : Int) ≤ al_T Q (i + 1))) → J (nI a) (nI (i + 1)) K L S wk) : ∀ (n d a : Nat) (wk : Nat → Int32), (d : Int) ≤ Q i → Q i < n + d → (a : Int) = al_T Q i + d → a ≤ Z → al_wk Q wk a → wY_alter_214 post J x1 x2 x3 x4 x5 (nI Z) (nI i) (zi_I (Q i)) (nI c) dp n (nI a) (nI d) K L S wk := by
  have Ti : al_T Q (i + 1) = al_T Q i + Q i := rfl
  have bi := hb i
  have t0 := al_T0 hQ i
  intro n
  induction n with
  | zero => intro d a wk h1 h2; omega
  | succ n ih =>
    intro d a wk h1 h2 h3 h4 h5
    refine zi_ble (Q i) (d : Int) (fun z => nm_r (nI_1 i) (hJ a wk h5 h4 (.inl (by omega)))) (fun z => zi_bn (by omega) (by omega) (fun y => nm_r (nI_1 i) (hJ a wk h5 h4 (.inr (by omega)))) (fun y => ?_)) rfl (zi_n d)
    refine br_f (nI_ge (b := 8000) (by omega) (by omega)) ⟨zi_inN (by omega) (by omega), nm_r (e' := upd wk a (nI i)) (by rw [zi_clN (by omega)]) (nm_r (nI_1 a) (nm_r (nI_1 d) (ih (d + 1) (a + 1) _ (by omega) (by omega) (by omega) (by omega) (fun j hj => ?_))))⟩
    by_cases w : j = a
    · subst w
      rw [zi_us, al_wE hQ (w := i) ⟨by omega, by omega⟩, zi_n]
    · rw [zi_un w]; exact h5 j (by omega)
theorem yw_184 {post : Int32 → SY → Prop} {x5 : Int32} {Z : Nat} (hR : rp_R c K L S e F s) (hG : mx_G c s F) (he : e < 4) (hf : al_H c s F f) (m1 : 1 ≤ m) (m2 : m ≤ 60) (hl : l < m) (hQ : ∀ i, 1 ≤ al_L f m l k i) (hb : ∀ i, -200 ≤ al_L f m l k i ∧ al_L f m l k i ≤ 200) (hZ : Z < 8000) (h : ∀ wk, al_wk (al_L f m l k) wk Z → wY_alter_260 post (nI e) x5 (nI c) dp K L S wk) : ∀ (n i a : Nat) (wk : Nat → Int32), i ≤ Z → Z < n + i → a ≤ Z → ((a : Int) = al_T (al_L f m l k) i ∨ (a = Z ∧ (Z : Int) ≤ al_T (al_L f m l k) i)) → al_wk (al_L f m l k) wk a → wY_alter_184 post (nI m) (nI l) (zi_I k) (nI e) x5 (nI Z) (nI c) dp n (nI a) (nI i) K L S wk := by
  intro n
  induction n with
  | zero => intro i a wk h1 h2; omega
  | succ n ih =>
    intro i a wk h1 h2 h3 h4 h5
    have t0 := al_T0 hQ i
    have fin : Z ≤ a → wY_alter_260 post (nI e) x5 (nI c) dp K L S wk := fun z => by
      have : a = Z := by omega
      subst this
      exact h wk h5
    refine zi_bn (by omega) (by omega) (fun z => fin (by omega)) (fun z => zi_bn (by omega) (by omega) fin (fun y => ?_))
    have ha : (a : Int) = al_T (al_L f m l k) i := by
      rcases h4 with h4 | h4
      · exact h4
      · omega
    refine yn_len hR hG he hf m1 m2 hl (by omega) ⟨(al_L f m l k i).toNat + 1, yw_214 hQ hb hZ (by omega) (fun a' wk' w1 w2 w3 => ?_) _ 0 a wk (by have := hQ i; omega) (by omega) (by omega) h3 h5⟩
    exact ih (i + 1) a' wk' (by omega) (by omega) w2 w3 w1
theorem yd_281 {post : Int32 → SY → Prop} {n0 Z : Nat} (hc : 1 ≤ c ∧ c ≤ 60) (hp1 : 1 ≤ p) (hQ : ∀ i, 1 ≤ Q i) (hper : ∀ i, Q (i + p) = Q i) (hZ : (Z : Int) = al_T Q p) (hZ' : Z + c < 8000) (hw : al_wk Q wk (Z + c)) (hn0 : al_W Q c n0) (A : al_ok Q c n0 → wY_alter_334 post (nI e) (nI n0) (nI c) dp K L S wk) (B : (∀ d, ¬ al_ok Q c d) → post 3 ((nI c), dp, K, L, S, wk)) : ∀ (d j : Nat), j + d = Z → (∀ (j' w w' : Nat), j' < j → al_W Q j' w → al_W Q (j' + c) w' → w' = w + n0) → ∀ n, d < n → wY_alter_281 post (nI e) (nI Z) (nI n0) (nI c) dp K L S wk n (nI j) := by
  intro d
  induction d with
  | zero =>
    intro j hj kk n hn
    obtain ⟨q, rfl⟩ : ∃ q, n = q + 1 := ⟨n - 1, by omega⟩
    have : j = Z := by omega
    subst this
    exact br_t (nI_le (by omega) (by omega)) (A (al_okR hQ hper hp1 (fun j' w w' h1 h2 h3 => kk j' w w' (by omega) h2 h3)))
  | succ d ih =>
    intro j hj kk n hn
    obtain ⟨q, rfl⟩ : ∃ q, n = q + 1 := ⟨n - 1, by omega⟩
    have w1 := al_ws hQ j
    have w2 := al_ws hQ (j + c)
    have b1 : al_w Q j ≤ j := by
      have := al_T0 hQ (al_w Q j)
      have := w1.1
      omega
    have b2 : al_w Q (j + c) ≤ j + c := by
      have := al_T0 hQ (al_w Q (j + c))
      have := w2.1
      omega
    have b3 : n0 ≤ c := by
      have := al_T0 hQ n0
      have := hn0.1
      omega
    refine br_f (nI_ge (by omega) (by omega)) ?_
    rw [nI_add]
    refine br_f (nI_ge (b := 8000) (by omega) (by omega)) ⟨zi_inN (by omega) (by omega), zi_inN (by omega) (by omega), ?_⟩
    rw [zi_clN (by omega), zi_clN (by omega), hw _ (by omega), hw _ (by omega), zi_sub]
    refine zi_beq ((al_w Q (j + c) : Int) - al_w Q j) n0 (fun z => nm_r (nI_1 j) (ih (j + 1) (by omega) (fun j' w w' h1 h2 h3 => ?_) q (by omega))) (fun z => B fun d0 ok => z ?_) rfl (zi_n n0)
    · by_cases y : j' = j
      · subst y
        have e1 := al_Wu hQ h2 w1
        rw [Int.natCast_add] at w2
        have e2 := al_Wu hQ h3 w2
        omega
      · exact kk j' w w' (by omega) h2 h3
    · have o1 := al_okW ok w1
      rw [Int.natCast_add] at w2
      have e1 := al_Wu hQ o1 w2
      have w0 : al_W Q 0 0 := ⟨Int.le_refl _, by have := al_T0 hQ (0 + 1); omega⟩
      have o2 := al_okW ok w0
      rw [Int.zero_add] at o2
      have e2 := al_Wu hQ o2 hn0
      omega
theorem yl_347 {post : Int32 → SY → Prop} {d : Nat} {x : Int} {K0 L0 : Nat → Int32} (hc : 1 ≤ c ∧ c ≤ 60) (he : e < 4) (hQ : ∀ i, 1 ≤ Q i) (hd : al_ok Q c d) (hw : al_wk Q wk c) (xb : -700000000 ≤ x) (xb' : x ≤ 700000000) (hg : sd_g c (al_F Q c d x) d g) (h : mx_rg c (al_F Q c d x) → ∀ K' L' S', sd_U c K0 L0 S K' L' S' e (al_F Q c d x) g → post 0 ((nI c), (nI (e + 1)), K', L', S', wk)) (h' : ¬ mx_rg c (al_F Q c d x) → ∀ K' L' S', sd_F c K0 L0 S K' L' S' → post 5 ((nI c), dp, K', L', S', wk)) : ∀ (n0 j : Nat) (K L : Nat → Int32), j + n0 = c → sd_D K0 L0 K L (fun r => r < j) (al_F Q c d x) → (∀ r : Nat, r < j → ∀ v, al_F Q c d x (r : Int) = some v → -9999 ≤ v ∧ v ≤ 9999) → ∀ n, n0 < n → wY_alter_347 post (nI e) (nI d) (zi_I x) n (nI j) (nI c) dp K L S wk := by
  intro n0
  induction n0 with
  | zero =>
    intro j K L hj hD hB n hn
    obtain ⟨q, rfl⟩ : ∃ q, n = q + 1 := ⟨n - 1, by omega⟩
    have : j = c := by omega
    subst this
    exact br_t (nI_le (by omega) (by omega)) (yw_store hc.2 he hD (fun r hr => hr) (fun _ _ => rfl) hg (fun K' L' S' hU => h hB _ _ _ hU) (zi_n d))
  | succ n0 ih =>
    intro j K L hj hD hB n hn
    obtain ⟨q, rfl⟩ : ∃ q, n = q + 1 := ⟨n - 1, by omega⟩
    have m0 := Int.emod_nonneg ((j : Int) - x) (b := (c : Int)) (by omega)
    have m1 := Int.emod_lt_of_pos ((j : Int) - x) (b := (c : Int)) (by omega)
    have em := mx_em ((j : Int) - x) c
    have hF := sd_DF (c := c) (S := S) (S' := S) hc.2 hD (fun _ _ => rfl)
    have ev : al_F Q c d x (j : Int) = some ((al_w Q (((j : Int) - x) % (c : Int)).toNat : Int) + ((j : Int) - x) / (c : Int) * d) := rfl
    generalize hv : ((al_w Q (((j : Int) - x) % (c : Int)).toNat : Int) + ((j : Int) - x) / (c : Int) * d) = v at ev
    have vb := al_Fv hQ hc hd xb xb' (by omega) ev
    have ex : nI j - zi_I x = zi_I ((j : Int) - x) := by rw [zi_n j, zi_sub]
    refine br_f (nI_ge (by omega) (by omega)) ?_
    rw [ex]
    refine (show wpY_floorDiv _ ((nI c), dp, K, L, S, wk) (zi_I ((j : Int) - x)) (nI c) from ?_)
    rw [zi_n c]
    refine zy_fdiv (by omega) (by omega) (by omega) (by omega) ?_
    rw [← zi_n c]
    have ei : zi_I ((j : Int) - x) - zi_I (((j : Int) - x) / (c : Int)) * nI c = nI (((j : Int) - x) % (c : Int)).toNat := by
      rw [zi_n c, zi_mul, zi_sub, show (j : Int) - x - ((j : Int) - x) / (c : Int) * c = ((j : Int) - x) % (c : Int) by omega, zi_nat m0]
    rw [ei, zi_clN (by omega), hw _ (by omega)]
    have bad : ¬ (-9999 ≤ v ∧ v ≤ 9999) → ¬ mx_rg c (al_F Q c d x) := fun y z => y (z j (by omega) v ev)
    refine ⟨zi_inN (by omega) (by omega), nm_r (e' := zi_I v) (by rw [zi_n d, zi_mul, zi_add, hv]) (zi_blt v (-9999) (fun z => h' (bad (by omega)) _ _ _ hF) (fun z => zi_ble v 9999 (fun z' => ?_) (fun z' => h' (bad (by omega)) _ _ _ hF)))⟩
    refine yw_set (by omega) hD (.inr rfl) (by rw [ev]; exact ⟨rfl, rfl⟩) sd_ls (fun K' L' hD' => nm_r (nI_1 j) (ih (j + 1) K' L' (by omega) hD' (re_up hB (fun v' y => ?_)) q (by omega)))
    rw [ev] at y
    injection y with y
    omega
end
end
section
/-! alter -/
theorem al_LB {c m l : Nat} {s k : Int} {F : Int → Option Int} {f : Int → Int} (h : al_H c s F f) (hc : c ≤ 60) (kb : -60 ≤ k) (kb' : k ≤ 60) (i : Nat) : -200 ≤ al_L f m l k i ∧ al_L f m l k i ≤ 200 := by
  have a := h.2.2.1 i
  have b := al_le h i
  unfold al_L
  split <;> omega
section
variable {sz sc ls dp : Int32} {c : Nat} {K L S ch li le wk : Nat → Int32} {e : Nat} {F : Int → Option Int} {s : Int} {m l : Nat} {k : Int}
theorem al_pos {f : Int → Int} (hf : al_H c s F f) (m1 : 1 ≤ m) (h : ¬ ∃ i, i < s.toNat * m ∧ al_L f m l k i < 1) (i : Nat) : 1 ≤ al_L f m l k i := by
  have sp := hf.2.2.2
  have pp : 1 ≤ s.toNat * m := Nat.mul_le_mul (show 1 ≤ s.toNat by omega) m1
  rw [← al_perM (al_Lp hf) i]
  have ml := Nat.mod_lt i (y := s.toNat * m) (by omega)
  by_cases z : 1 ≤ al_L f m l k (i % (s.toNat * m))
  · exact z
  · exact absurd ⟨_, ml, by omega⟩ h
theorem xa_alter {post : Int32 → SX → Prop} {f : Int → Int} {g : Nat → Int} (hR : rp_R c K L S e F s) (hG : mx_G c s F) (he : e < 4) (h01 : ∀ i, K i = 0 ∨ K i = 1) (hn : al_ng c F) (hf : al_H c s F f) (m1 : 1 ≤ m) (m2 : m ≤ 60) (hl : l < m) (kb : -60 ≤ k) (kb' : k ≤ 60) (hg : ∀ d, sd_g c (al_F (al_L f m l k) c d (f 0)) d (g d)) (h7 : (∃ i, i < s.toNat * m ∧ al_L f m l k i < 1) → ∀ le, post 7 ((nI c), sz, sc, ls, L, K, S, ch, li, le)) (h3 : (∀ i, 1 ≤ al_L f m l k i) → (∀ d, ¬ al_ok (al_L f m l k) c d) → ∀ le, post 3 ((nI c), sz, sc, ls, L, K, S, ch, li, le)) (h5 : (∀ i, 1 ≤ al_L f m l k i) → ∀ d, al_ok (al_L f m l k) c d → ¬ mx_rg c (al_F (al_L f m l k) c d (f 0)) → ∀ le K' L' S', sd_F c K L S K' L' S' → post 5 ((nI c), sz, sc, ls, L', K', S', ch, li, le)) (h0 : (∀ i, 1 ≤ al_L f m l k i) → ∀ d, al_ok (al_L f m l k) c d → mx_rg c (al_F (al_L f m l k) c d (f 0)) → ∀ le K' L' S', sd_U c K L S K' L' S' e (al_F (al_L f m l k) c d (f 0)) (g d) → post 0 ((nI c), sz, sc, ls, L', K', S', ch, li, le)) {x5 : Int32} (hx5 : x5 = nI (s.toNat * m)) : wpX_fillLengths (fun u => match u with | (cy, sz, sc, ls, L, K, S, ch, li, le) => wpX_isTooShort (fun r => ((r = 0 → wpX_alteredStep (fun r1 => ((r1 = 0 → post 3 (cy, sz, sc, ls, L, K, S, ch, li, le)) ∧ (¬ r1 = 0 → wpX_edgeTick (fun r2 => wpX_layOut (fun u => match u with | (cy, sz, sc, ls, L, K, S, ch, li, le) => wpX_inRange (fun r3 => ((r3 = 0 → post 5 (cy, sz, sc, ls, L, K, S, ch, li, le)) ∧ (¬ r3 = 0 → wpX_copySlot (fun u => match u with | (cy, sz, sc, ls, L, K, S, ch, li, le) => post 0 (cy, sz, sc, ls, L, K, S, ch, li, le)) (cy, sz, sc, ls, L, K, S, ch, li, le) 4 (nI e)))) (cy, sz, sc, ls, L, K, S, ch, li, le) 4) (cy, sz, sc, ls, L, K, S, ch, li, le) r2 r1 x5) (cy, sz, sc, ls, L, K, S, ch, li, le) (nI e) 0 0))) (cy, sz, sc, ls, L, K, S, ch, li, le) x5) ∧ (¬ r = 0 → post 7 (cy, sz, sc, ls, L, K, S, ch, li, le)))) (cy, sz, sc, ls, L, K, S, ch, li, le) x5) ((nI c), sz, sc, ls, L, K, S, ch, li, le) (nI e) (nI m) (nI l) (zi_I k) := by
  subst hx5
  have c1 := hG.1.1.1
  have c2 := hG.1.1.2
  have s2 := hG.1.2.1.2
  have sp := hf.2.2.2
  have hc : 1 ≤ c ∧ c ≤ 60 := by omega
  have sm : s.toNat * m ≤ 3600 := Nat.mul_le_mul (show s.toNat ≤ 60 by omega) m2
  have pp : 1 ≤ s.toNat * m := Nat.mul_le_mul (show 1 ≤ s.toNat by omega) m1
  have hb := al_LB (m := m) (l := l) (k := k) hf hc.2 kb kb'
  have hper := al_Lp (m := m) (l := l) (k := k) hf
  have xb := mx_tb hG (al_ed0 hf 0).1 (by omega) (by omega)
  refine xf_fill hR hG he hn hf m1 m2 hl (fun le' hle => ?_)
  refine xt_short sm (fun i _ => hb i) hle (mx_br (fun z => ?_) (fun z => h7 z le'))
  have hQ := al_pos hf m1 z
  refine xd_step hc pp sm hQ hb hper hle (fun d hd => ?_) (fun hd => br_t rfl (h3 hQ hd le'))
  have db := al_okB hQ hc.1 hd
  refine br_f (nI_ne0 (by omega) (by omega)) (xw_edge (i := 0) false hR hG (by omega) (by omega) (by omega) (fun x hx => ?_) (fun hx => absurd (al_ed0 hf 0).1 (hx _)))
  have ex := mx_edu hx (al_ed0 hf 0)
  subst ex
  refine xy_lay hc pp sm hQ hb hper hle h01 hd xb.1 xb.2 (hg d) (fun K' L' S' hR4 hF => ?_)
  refine xw_inRange (e := 4) hR4 hc (mg_per hc.1 (al_FP hc.1) (hg d)) (by omega) (fun r hr v hv => ?_) (mx_br (fun z => h5 hQ d hd z _ _ _ _ hF) (fun z => ?_))
  · have := al_Fv hQ hc hd xb.1 xb.2 hr hv; omega
  · exact xw_copy (a := 4) hc.2 (by omega) (by omega) (by omega) hF.1 hR4 (fun K2 L2 S2 hU _ => h0 hQ d hd z _ _ _ _ (sd_FU hF hU))
theorem ya_alter {post : Int32 → SY → Prop} {f : Int → Int} {g : Nat → Int} (hR : rp_R c K L S e F s) (hG : mx_G c s F) (he : e < 4) (h01 : ∀ i, K i = 0 ∨ K i = 1) (hf : al_H c s F f) (m1 : 1 ≤ m) (m2 : m ≤ 60) (hl : l < m) (kb : -60 ≤ k) (kb' : k ≤ 60) (hg : ∀ d, sd_g c (al_F (al_L f m l k) c d (f 0)) d (g d)) (h7 : (∃ i, i < s.toNat * m ∧ al_L f m l k i < 1) → ∀ wk, post 7 ((nI c), dp, K, L, S, wk)) (h3 : (∀ i, 1 ≤ al_L f m l k i) → (∀ d, ¬ al_ok (al_L f m l k) c d) → ∀ wk, post 3 ((nI c), dp, K, L, S, wk)) (h5 : (∀ i, 1 ≤ al_L f m l k i) → ∀ d, al_ok (al_L f m l k) c d → ¬ mx_rg c (al_F (al_L f m l k) c d (f 0)) → ∀ wk K' L' S', sd_F c K L S K' L' S' → post 5 ((nI c), dp, K', L', S', wk)) (h0 : (∀ i, 1 ≤ al_L f m l k i) → ∀ d, al_ok (al_L f m l k) c d → mx_rg c (al_F (al_L f m l k) c d (f 0)) → ∀ wk K' L' S', sd_U c K L S K' L' S' e (al_F (al_L f m l k) c d (f 0)) (g d) → post 0 ((nI c), (nI (e + 1)), K', L', S', wk)) : ∃ n, wY_alter_120 post (nI m) (nI l) (zi_I k) (nI e) (nI c) dp K L S wk n 0 0 := by
  have c1 := hG.1.1.1
  have c2 := hG.1.1.2
  have s2 := hG.1.2.1.2
  have sp := hf.2.2.2
  have hc : 1 ≤ c ∧ c ≤ 60 := by omega
  have pp : 1 ≤ s.toNat * m := Nat.mul_le_mul (show 1 ≤ s.toNat by omega) m1
  have hb := al_LB (m := m) (l := l) (k := k) hf hc.2 kb kb'
  have hper := al_Lp (m := m) (l := l) (k := k) hf
  have xb := mx_tb hG (al_ed0 hf 0).1 (by omega) (by omega)
  have tot := al_tot (k := k) hf hc.2 (by omega) m1 m2 hl kb'
  refine ⟨s.toNat * m + 1, yt_120 hR hG he hf m1 m2 hl hb (fun hq => ?_) (fun z => h7 z wk) (s.toNat * m) 0 (by omega) (fun i hi => by omega) (s.toNat * m + 1) (by omega)⟩
  have hQ := al_pos (l := l) (k := k) hf m1 (fun ⟨i, hi, z⟩ => by have := hq i hi; omega)
  have t0 := al_T0 hQ (s.toNat * m)
  obtain ⟨Z, hZ⟩ : ∃ Z : Nat, (Z : Int) = al_T (al_L f m l k) (s.toNat * m) := ⟨(al_T (al_L f m l k) (s.toNat * m)).toNat, by omega⟩
  rw [← hZ, show (Z : Int) + (c : Int) = ((Z + c : Nat) : Int) from (Int.natCast_add Z c).symm, ← zi_n Z, ← zi_n (Z + c)]
  refine ⟨Z + c + 1, yw_184 hR hG he hf m1 m2 hl hQ hb (by omega) (fun wk' hwk => ?_) (Z + c + 1) 0 0 wk (by omega) (by omega) (by omega) (.inl rfl) (fun j hj => by omega)⟩
  have wc := al_ws hQ c
  have w0 : al_W (al_L f m l k) ((0 : Nat) : Int) 0 := ⟨Int.le_refl _, by have := al_T0 hQ (0 + 1); omega⟩
  have wcb : al_w (al_L f m l k) c ≤ c := by
    have := al_T0 hQ (al_w (al_L f m l k) c)
    have := wc.1
    omega
  have z1 : Z + c ≠ 0 := by omega
  unfold wY_alter_260
  rw [zi_clN (by omega), hwk c (by omega), hwk 0 (by omega), al_wE hQ w0]
  refine ⟨zi_inN (by omega) (by omega), nm_r (e' := nI (al_w (al_L f m l k) c)) (by rw [zi_sub, zi_n]; congr 1) ⟨Z + 1, yd_281 hc pp hQ hper hZ (by omega) hwk wc (fun ok => ?_) (fun no => h3 hQ no _) Z 0 (by omega) (fun j' w w' hj => by omega) (Z + 1) (by omega)⟩⟩
  unfold wY_alter_334
  refine yw_edge (i := 0) false hR hG (by omega) (by omega) (by omega) (fun x hx => ?_) (fun hx => absurd (al_ed0 hf 0).1 (hx _))
  have ex := mx_edu hx (al_ed0 hf 0)
  subst ex
  exact ⟨c + 1, yl_347 (K0 := K) (L0 := L) hc he hQ ok (fun j hj => hwk j (by omega)) xb.1 xb.2 (hg _) (fun rg K' L' S' hU => h0 hQ _ ok rg _ _ _ _ hU) (fun rg K' L' S' hF => h5 hQ _ ok rg _ _ _ _ hF) c 0 K L (by omega) (sd_D0 h01) (fun r hr => by omega) (c + 1) (by omega)⟩
end
theorem i_vc_alter {k : Nat} {u : SX} {v : SY} (I : i_Rel k u v) (hk : k + 4 ≤ 2049) (v1 : Int32) (v2 : Int32) (v3 : Int32) : wpX_alter (fun r u' => wpY_alter (fun r' v' => r' = r ∧ i_Rel (k + 4) u' v') v v1 v2 v3) u v1 v2 v3 := by
  refine rl_el (P := fun u v => wpX_alter (fun r u' => wpY_alter (fun r' v' => r' = r ∧ i_Rel (k + 4) u' v') v v1 v2 v3) u v1 v2 v3) I ?_
  intro c n sc ls K L S ch li le Ky Ly Sy wk hA
  obtain ⟨hc, n4, hK, hKy, hs⟩ := id hA
  have ng : -nI c = zi_I (-(c : Int)) := by rw [zi_n c, zi_neg]
  unfold wpX_alter
  by_cases h : 1 ≤ n
  · have h2 : (1 : Int32) ≤ nI n := nI_le (a := 1) h (by omega)
    refine br_t h2 ?_
    by_cases a1 : v1 < 1
    · exact br_t a1 (br_t h2 (br_t a1 ⟨rfl, rl_mk hA⟩))
    · refine br_f a1 ?_
      by_cases a2 : nI c < v1
      · exact br_t a2 (br_t h2 (br_f a1 (br_t a2 ⟨rfl, rl_mk hA⟩)))
      · refine br_f a2 ?_
        by_cases a3 : v2 < 0
        · exact br_t a3 (br_t h2 (br_f a1 (br_f a2 (br_t a3 ⟨rfl, rl_mk hA⟩))))
        · refine br_f a3 ?_
          by_cases a4 : v1 ≤ v2
          · exact br_t a4 (br_t h2 (br_f a1 (br_f a2 (br_f a3 (br_t a4 ⟨rfl, rl_mk hA⟩)))))
          · refine br_f a4 ?_
            by_cases a5 : v3 < -nI c
            · exact br_t a5 (br_t h2 (br_f a1 (br_f a2 (br_f a3 (br_f a4 (br_t a5 ⟨rfl, rl_mk hA⟩))))))
            · refine br_f a5 ?_
              by_cases a6 : v3 ≤ nI c
              · have e : nI n - 1 = nI (n - 1) := zi_nsub (b := 1) h
                obtain ⟨F, s, hG, hRx, hRy⟩ := hs (n - 1) (by omega)
                obtain ⟨m, m1, m2, rfl⟩ := ar_nat a1 (Int32.not_lt.mp a2) hc.2
                obtain ⟨l, hl', rfl⟩ := nI_of a3
                have hl : l < m := by
                  by_cases z : l < m
                  · exact z
                  · exact absurd (nI_le (a := m) (b := l) (by omega) (by omega)) a4
                have kb := ar_int a5 a6
                rw [ng, zi_T (by omega) (by omega), nI_toInt (by omega)] at kb
                rw [zi_w v3] at a5 a6 ⊢
                generalize v3.toInt = kk at a5 a6 kb ⊢
                have s1 := hG.1.2.1
                refine br_t a6 (nm_r e (xh_gaps hRx hG (by omega) (mx_br (fun z => ?_) (fun z => ?_))))
                · have hn : al_ng c F := Classical.byContradiction z
                  obtain ⟨f, hf⟩ := al_ex hG hn
                  obtain ⟨g, hg⟩ : ∃ g : Nat → Int, ∀ d : Nat, sd_g c (al_F (al_L f m l kk) c d (f 0)) d (g d) := ⟨fun d => (sd_ge c (al_F (al_L f m l kk) c d (f 0)) d).choose, fun d => (sd_ge c (al_F (al_L f m l kk) c d (f 0)) d).choose_spec⟩
                  have yy : ∀ (post : Int32 → SY → Prop), ((∃ i, i < s.toNat * m ∧ al_L f m l kk i < 1) → ∀ wk, post 7 ((nI c), (nI n), Ky, Ly, Sy, wk)) → ((∀ i, 1 ≤ al_L f m l kk i) → (∀ d, ¬ al_ok (al_L f m l kk) c d) → ∀ wk, post 3 ((nI c), (nI n), Ky, Ly, Sy, wk)) → ((∀ i, 1 ≤ al_L f m l kk i) → ∀ d, al_ok (al_L f m l kk) c d → ¬ mx_rg c (al_F (al_L f m l kk) c d (f 0)) → ∀ wk K' L' S', sd_F c Ky Ly Sy K' L' S' → post 5 ((nI c), (nI n), K', L', S', wk)) → ((∀ i, 1 ≤ al_L f m l kk i) → ∀ d, al_ok (al_L f m l kk) c d → mx_rg c (al_F (al_L f m l kk) c d (f 0)) → ∀ wk K' L' S', sd_U c Ky Ly Sy K' L' S' (n - 1) (al_F (al_L f m l kk) c d (f 0)) (g d) → post 0 ((nI c), (nI (n - 1 + 1)), K', L', S', wk)) → ∃ n62, wY_alter_62 post (nI m) (nI l) (zi_I kk) (nI (n - 1)) (nI c) (nI n) Ky Ly Sy wk n62 0 := fun post g7 g3 g5 g0 => ⟨c + 1, yg_62 hRy hG (by omega) (fun _ => ya_alter hRy hG (by omega) hKy hf m1 (by omega) hl (by omega) (by omega) hg g7 g3 g5 g0) (fun y => absurd hn y) c 0 (by omega) (fun r hr => by omega) (c + 1) (by omega)⟩
                  refine ⟨zi_inN (by omega) (by omega), nm_r (e' := nI (s.toNat * m)) (by rw [zi_clN (by omega), hRx.1, zi_nat s1.1, zi_nmul]) ?_⟩
                  refine xa_alter (post := fun r u' => wpY_alter (fun r' v' => r' = r ∧ i_Rel (k + 4) u' v') ((nI c), (nI n), Ky, Ly, Sy, wk) (nI m) (nI l) (zi_I kk)) (g := g) hRx hG (by omega) hK hn hf m1 (by omega) hl (by omega) (by omega) hg (fun z7 le' => ?_) (fun hQ no le' => ?_) (fun hQ d ok nrg le' K1 L1 S1 hF => ?_) (fun hQ d ok rg le' K1 L1 S1 hU => ?_) rfl
                  · refine br_t h2 (br_f a1 (br_f a2 (br_f a3 (br_f a4 (br_f a5 (br_t a6 (nm_r e (yy _ (fun _ wk' => ⟨rfl, rl_mk hA⟩) (fun hQ => ?_) (fun hQ => ?_) (fun hQ => ?_))))))))) <;>
                    · obtain ⟨i, hi, y⟩ := z7
                      have := hQ i
                      omega
                  · refine br_t h2 (br_f a1 (br_f a2 (br_f a3 (br_f a4 (br_f a5 (br_t a6 (nm_r e (yy _ (fun ⟨i, hi, y⟩ => ?_) (fun _ _ wk' => ⟨rfl, rl_mk hA⟩) (fun _ d ok => absurd ok (no d)) (fun _ d ok => absurd ok (no d))))))))))
                    have := hQ i
                    omega
                  · refine br_t h2 (br_f a1 (br_f a2 (br_f a3 (br_f a4 (br_f a5 (br_t a6 (nm_r e (yy _ (fun ⟨i, hi, y⟩ => ?_) (fun _ no => absurd ok (no d)) (fun _ d' ok' _ wk' K2 L2 S2 hF' => ⟨rfl, rl_mk (rl_fail hA hF hF')⟩) (fun _ d' ok' rg => ?_)))))))))
                    · have := hQ i
                      omega
                    · have := al_okU hQ ok ok'
                      subst this
                      exact absurd rg nrg
                  · refine br_t h2 (br_f a1 (br_f a2 (br_f a3 (br_f a4 (br_f a5 (br_t a6 (nm_r e (yy _ (fun ⟨i, hi, y⟩ => ?_) (fun _ no => absurd ok (no d)) (fun _ d' ok' nrg => ?_) (fun _ d' ok' _ wk' K2 L2 S2 hV => ?_)))))))))
                    · have := hQ i
                      omega
                    · have := al_okU hQ ok ok'
                      subst this
                      exact absurd rg nrg
                    · have := al_okU hQ ok ok'
                      subst this
                      rw [show n - 1 + 1 = n by omega]
                      exact ⟨rfl, rl_mk (rl_store hA hU hV (al_FG hQ hc ok rg (hg d)) n4 (fun e' he' hn => by omega))⟩
                · refine br_t h2 (br_f a1 (br_f a2 (br_f a3 (br_f a4 (br_f a5 (br_t a6 (nm_r e ⟨c + 1, yg_62 hRy hG (by omega) (fun y => absurd y z) (fun _ => ⟨rfl, rl_mk hA⟩) c 0 (by omega) (fun r hr => by omega) (c + 1) (by omega)⟩)))))))
              · exact br_f a6 (br_t h2 (br_f a1 (br_f a2 (br_f a3 (br_f a4 (br_f a5 (br_f a6 ⟨rfl, rl_mk hA⟩)))))))
  · have h2 : ¬ (1 : Int32) ≤ nI n := nI_ge (b := 1) (by omega) (by omega)
    exact br_f h2 (br_f h2 ⟨rfl, rl_mk hA⟩)
end
