section
/-! ===== the picture, over naturals: the field of 128 elements, the points ===== -/
/-- a value is worked out before it is handed on (for the kernel's sake); it is f n -/
def gf_k {α : Type} (n : Nat) (f : Nat → α) : α := match n with
  | 0 => f 0
  | m + 1 => f (m + 1)
theorem gf_k_eq {α : Type} (n : Nat) (f : Nat → α) : gf_k n f = f n := by cases n <;> rfl
/-- a times X -/
def gf_d (s : Nat) : Nat := (2 * s) ^^^ (131 * (s / 64))
/-- the loop of mul: c rounds are left -/
def gf_go : Nat → Nat → Nat → Nat → Nat
  | 0, _, x, _ => x
  | c + 1, b, x, s => gf_go c (b / 2) (x ^^^ (b % 2 * s)) (gf_d s)
def gf_mul (a b : Nat) : Nat :=
  gf_k (b / 2) fun b1 => gf_k (b1 / 2) fun b2 => gf_k (b2 / 2) fun b3 => gf_k (b3 / 2) fun b4 => gf_k (b4 / 2) fun b5 => gf_k (b5 / 2) fun b6 =>
  gf_k (gf_d a) fun s1 => gf_k (gf_d s1) fun s2 => gf_k (gf_d s2) fun s3 => gf_k (gf_d s3) fun s4 => gf_k (gf_d s4) fun s5 => gf_k (gf_d s5) fun s6 =>
  gf_k (0 ^^^ (b % 2 * a)) fun x1 => gf_k (x1 ^^^ (b1 % 2 * s1)) fun x2 => gf_k (x2 ^^^ (b2 % 2 * s2)) fun x3 => gf_k (x3 ^^^ (b3 % 2 * s3)) fun x4 =>
  gf_k (x4 ^^^ (b4 % 2 * s4)) fun x5 => gf_k (x5 ^^^ (b5 % 2 * s5)) fun x6 => x6 ^^^ (b6 % 2 * s6)
theorem gf_mul_eq (a b : Nat) : gf_go 7 b 0 a = gf_mul a b := by
  simp only [gf_mul, gf_k_eq, gf_go]
theorem gf_x {a b : Nat} (ha : a < 128) (hb : b < 128) : a ^^^ b < 128 := Nat.xor_lt_two_pow (n := 7) ha hb
theorem gf_d_lt : ∀ s, s < 128 → gf_d s < 128 := by decide +kernel
theorem gf_bit {b s : Nat} (hs : s < 128) : b % 2 * s < 128 := by
  rcases Nat.mod_two_eq_zero_or_one b with e | e
  · rw [e, Nat.zero_mul]; decide
  · rw [e, Nat.one_mul]; exact hs
theorem gf_go_lt : ∀ c b x s, x < 128 → s < 128 → gf_go c b x s < 128
  | 0, _, _, _, hx, _ => hx
  | c + 1, b, x, s, hx, hs => gf_go_lt c (b / 2) (x ^^^ (b % 2 * s)) (gf_d s) (gf_x hx (gf_bit hs)) (gf_d_lt s hs)
theorem gf_mul_lt {a b : Nat} (ha : a < 128) : gf_mul a b < 128 := by
  rw [← gf_mul_eq]
  exact gf_go_lt 7 b 0 a (by decide) ha
/-- the loops of inverse, trace, root: c rounds are left -/
def gf_iv : Nat → Nat → Nat → Nat
  | 0, x, _ => x
  | c + 1, x, s => gf_k (gf_mul s s) fun t => gf_k (gf_mul x t) fun y => gf_iv c y t
def gf_tr : Nat → Nat → Nat → Nat
  | 0, x, _ => x
  | c + 1, x, s => gf_k (x ^^^ s) fun y => gf_k (gf_mul s s) fun t => gf_tr c y t
def gf_ro : Nat → Nat → Nat → Nat
  | 0, x, _ => x
  | c + 1, x, s => gf_k (x ^^^ s) fun y => gf_k (gf_mul s s) fun t => gf_k (gf_mul t t) fun v => gf_ro c y v
theorem gf_iv_s (c x s : Nat) : gf_iv (c + 1) x s = gf_iv c (gf_mul x (gf_mul s s)) (gf_mul s s) := by
  simp only [gf_iv, gf_k_eq]
theorem gf_tr_s (c x s : Nat) : gf_tr (c + 1) x s = gf_tr c (x ^^^ s) (gf_mul s s) := by
  simp only [gf_tr, gf_k_eq]
theorem gf_ro_s (c x s : Nat) : gf_ro (c + 1) x s = gf_ro c (x ^^^ s) (gf_mul (gf_mul s s) (gf_mul s s)) := by
  simp only [gf_ro, gf_k_eq]
theorem gf_iv_lt : ∀ c x s, x < 128 → s < 128 → gf_iv c x s < 128
  | 0, _, _, hx, _ => hx
  | c + 1, x, s, hx, hs => by
    rw [gf_iv_s]
    exact gf_iv_lt c _ _ (gf_mul_lt hx) (gf_mul_lt hs)
theorem gf_tr_lt : ∀ c x s, x < 128 → s < 128 → gf_tr c x s < 128
  | 0, _, _, hx, _ => hx
  | c + 1, x, s, hx, hs => by
    rw [gf_tr_s]
    exact gf_tr_lt c _ _ (gf_x hx hs) (gf_mul_lt hs)
theorem gf_ro_lt : ∀ c x s, x < 128 → s < 128 → gf_ro c x s < 128
  | 0, _, _, hx, _ => hx
  | c + 1, x, s, hx, hs => by
    rw [gf_ro_s]
    exact gf_ro_lt c _ _ (gf_x hx hs) (gf_mul_lt (gf_mul_lt hs))
def gf_inv (a : Nat) : Nat := gf_iv 6 1 a
def gf_qu (a b : Nat) : Nat := gf_k (gf_inv b) fun i => gf_mul a i
theorem gf_qu_eq (a b : Nat) : gf_qu a b = gf_mul a (gf_inv b) := gf_k_eq _ _
theorem gf_inv_lt {a : Nat} (h : a < 128) : gf_inv a < 128 := gf_iv_lt 6 1 a (by decide) h
theorem gf_qu_lt {a b : Nat} (h : a < 128) : gf_qu a b < 128 := by
  rw [gf_qu_eq]
  exact gf_mul_lt h
/-- is the point p, below 16384, on the curve c -/
def gf_on (c p : Nat) : Bool := gf_k (p / 128) fun x => gf_k (p % 128) fun y => gf_k (gf_mul x x) fun xx =>
  Nat.beq (gf_mul y y ^^^ gf_mul x y) (gf_mul xx x ^^^ (c * xx) ^^^ 1)
theorem gf_on_eq {c p : Nat} (h : gf_on c p = true) : gf_mul (p % 128) (p % 128) ^^^ gf_mul (p / 128) (p % 128) = gf_mul (gf_mul (p / 128) (p / 128)) (p / 128) ^^^ (c * gf_mul (p / 128) (p / 128)) ^^^ 1 := by
  simp only [gf_on, gf_k_eq] at h
  exact Nat.eq_of_beq_eq_true h
/-- s in the upper seven bits, t in the lower -/
def gf_pt (s t : Nat) : Nat := s * 128 ||| t
theorem gf_pt_lt {s t : Nat} (hs : s < 128) (ht : t < 128) : gf_pt s t < 16384 := by
  unfold gf_pt
  exact Nat.or_lt_two_pow (n := 14) (by omega) (by omega)
def gf_twS (c x sl : Nat) : Nat := gf_k (gf_mul sl sl ^^^ sl ^^^ c) fun s => gf_pt s (gf_mul x x ^^^ gf_mul (sl ^^^ 1) s)
def gf_tw (c p : Nat) : Nat := if p / 128 = 0 then 16384 else gf_k (p / 128) fun x => gf_k (x ^^^ gf_qu (p % 128) x) fun sl => gf_twS c x sl
def gf_suS (c p x u sl : Nat) : Nat := gf_k (gf_mul sl sl ^^^ sl ^^^ x ^^^ u ^^^ c) fun s => gf_pt s (gf_mul sl (x ^^^ s) ^^^ s ^^^ (p % 128))
def gf_sum (c p q : Nat) : Nat := if p = 16384 then q else if q = 16384 then p else
  if p / 128 = q / 128 then (if p = q then gf_tw c p else 16384) else
  gf_k (p / 128) fun x => gf_k (q / 128) fun u => gf_k (gf_qu ((p ^^^ q) % 128) (x ^^^ u)) fun sl => gf_suS c p x u sl
def gf_sq (p : Nat) : Nat := if p = 16384 then 16384 else gf_pt (gf_mul (p / 128) (p / 128)) (gf_mul (p % 128) (p % 128))
def gf_mi (p : Nat) : Nat := if p = 16384 then 16384 else p ^^^ (p / 128)
theorem gf_lo (p : Nat) : p % 128 < 128 := Nat.mod_lt p (by decide)
theorem gf_hi {p : Nat} (h : p < 16384) : p / 128 < 128 := by omega
theorem gf_c {c : Nat} (h : c ≤ 1) : c < 128 := by omega
theorem gf_tw_le {c p : Nat} (hc : c ≤ 1) (h : p < 16384) : gf_tw c p ≤ 16384 := by
  unfold gf_tw
  split
  · exact Nat.le_refl _
  · simp only [gf_k_eq, gf_twS]
    have h1 := gf_hi h
    have h2 : p / 128 ^^^ gf_qu (p % 128) (p / 128) < 128 := gf_x h1 (gf_qu_lt (gf_lo p))
    have h3 := gf_x (gf_x (gf_mul_lt (b := p / 128 ^^^ gf_qu (p % 128) (p / 128)) h2) h2) (gf_c hc)
    exact Nat.le_of_lt (gf_pt_lt h3 (gf_x (gf_mul_lt h1) (gf_mul_lt (gf_x h2 (by decide)))))
theorem gf_sum_le {c p q : Nat} (hc : c ≤ 1) (hp : p ≤ 16384) (hq : q ≤ 16384) : gf_sum c p q ≤ 16384 := by
  unfold gf_sum
  split
  · exact hq
  · split
    · exact hp
    · have hp' : p < 16384 := by omega
      have hq' : q < 16384 := by omega
      split
      · split
        · exact gf_tw_le hc hp'
        · exact Nat.le_refl _
      · simp only [gf_k_eq, gf_suS]
        have h1 := gf_hi hp'
        have h2 := gf_hi hq'
        have h3 : gf_qu ((p ^^^ q) % 128) (p / 128 ^^^ q / 128) < 128 := gf_qu_lt (gf_lo _)
        have h4 := gf_x (gf_x (gf_x (gf_x (gf_mul_lt (b := gf_qu ((p ^^^ q) % 128) (p / 128 ^^^ q / 128)) h3) h3) h1) h2) (gf_c hc)
        exact Nat.le_of_lt (gf_pt_lt h4 (gf_x (gf_x (gf_mul_lt h3) h4) (gf_lo p)))
theorem gf_sq_le {p : Nat} (hp : p ≤ 16384) : gf_sq p ≤ 16384 := by
  unfold gf_sq
  split
  · exact Nat.le_refl _
  · exact Nat.le_of_lt (gf_pt_lt (gf_mul_lt (gf_hi (by omega))) (gf_mul_lt (gf_lo p)))
theorem gf_mi_le {p : Nat} (hp : p ≤ 16384) : gf_mi p ≤ 16384 := by
  unfold gf_mi
  split
  · exact Nat.le_refl _
  · exact Nat.le_of_lt (Nat.xor_lt_two_pow (n := 14) (by omega) (by omega))
theorem gf_sqO : gf_sq 16384 = 16384 := if_pos rfl
theorem gf_sumO (c p : Nat) : gf_sum c 16384 p = p := if_pos rfl
/-- twice p, as multiple(2, p) works it out on the curve c -/
def gf_m2 (c p : Nat) : Nat := gf_k (if c = 0 then p else gf_mi p) fun n => gf_k (gf_sq n) fun v => gf_k (gf_sq v) fun w => gf_k (gf_sum c w n) fun z => gf_sq z
/-- a point -/
def gf_P (c p : Nat) : Prop := p = 16384 ∨ (p < 16384 ∧ gf_on c p = true)
/-- a point at which the law's checks hold -/
def gf_G (c p : Nat) : Prop := gf_P c p ∧ gf_P c (gf_mi p) ∧ gf_sum c p p = gf_m2 c p ∧ gf_sum c p (gf_mi p) = 16384
theorem gf_P_le {c p : Nat} (h : gf_P c p) : p ≤ 16384 := by
  rcases h with h | h
  · omega
  · omega
end
section
/-! ===== every point of both curves, by the kernel ===== -/
def gf_chk (c p : Nat) : Bool := gf_k (gf_mi p) fun n => Nat.blt p 16384 && (Nat.blt n 16384 && (gf_on c p && (gf_on c n && (Nat.beq (gf_sum c p p) (gf_m2 c p) && Nat.beq (gf_sum c p n) 16384))))
theorem gf_chk_G {c p : Nat} (h : gf_chk c p = true) : gf_G c p := by
  simp only [gf_chk, gf_k_eq, Bool.and_eq_true, Nat.blt_eq, Nat.beq_eq] at h
  obtain ⟨h1, h2, h3, h4, h5, h6⟩ := h
  exact ⟨Or.inr ⟨h1, h3⟩, Or.inr ⟨h2, h4⟩, h5, h6⟩
/-- the right side at x: x + c + 1 / (x x) -/
def gf_rt (c x : Nat) : Nat := gf_k (gf_inv x) fun o => x ^^^ c ^^^ gf_mul o o
theorem gf_rt_eq (c x : Nat) : gf_rt c x = x ^^^ c ^^^ gf_mul (gf_inv x) (gf_inv x) := gf_k_eq _ _
def gf_row (c x : Nat) : Bool := gf_k (gf_rt c x) fun r => if gf_tr 7 0 r = 0 then gf_k (gf_pt x (gf_mul x (gf_ro 4 0 r))) fun p => gf_chk c p && gf_chk c (p ^^^ x) else true
def gf_all (f : Nat → Bool) : Nat → Bool
  | 0 => true
  | n + 1 => f (n + 1) && gf_all f n
theorem gf_all_at {f : Nat → Bool} : ∀ n, gf_all f n = true → ∀ x, 0 < x → x ≤ n → f x = true
  | 0, _, x, h0, hx => absurd h0 (by omega)
  | n + 1, h, x, h0, hx => by
    simp only [gf_all, Bool.and_eq_true] at h
    rcases Nat.lt_or_ge n x with z | z
    · have e : x = n + 1 := by omega
      rw [e]
      exact h.1
    · exact gf_all_at n h.2 x h0 z
theorem gf_rows0 : gf_all (gf_row 0) 127 = true := by decide +kernel
theorem gf_rows1 : gf_all (gf_row 1) 127 = true := by decide +kernel
theorem gf_one0 : gf_chk 0 1 = true := by decide +kernel
theorem gf_one1 : gf_chk 1 1 = true := by decide +kernel
theorem gf_one {c : Nat} (hc : c ≤ 1) : gf_G c 1 := by
  have e : c = 0 ∨ c = 1 := by omega
  rcases e with rfl | rfl
  · exact gf_chk_G gf_one0
  · exact gf_chk_G gf_one1
theorem gf_GO {c : Nat} (hc : c ≤ 1) : gf_G c 16384 := by
  have e : c = 0 ∨ c = 1 := by omega
  rcases e with rfl | rfl
  · exact ⟨Or.inl rfl, Or.inl (by decide +kernel), by decide +kernel, by decide +kernel⟩
  · exact ⟨Or.inl rfl, Or.inl (by decide +kernel), by decide +kernel, by decide +kernel⟩
theorem gf_at {c x : Nat} (hc : c ≤ 1) (h0 : 0 < x) (hx : x < 128) (ht : gf_tr 7 0 (gf_rt c x) = 0) : gf_G c (gf_pt x (gf_mul x (gf_ro 4 0 (gf_rt c x)))) ∧ gf_G c (gf_pt x (gf_mul x (gf_ro 4 0 (gf_rt c x))) ^^^ x) := by
  have e : gf_row c x = true := by
    have e : c = 0 ∨ c = 1 := by omega
    rcases e with rfl | rfl
    · exact gf_all_at 127 gf_rows0 x h0 (by omega)
    · exact gf_all_at 127 gf_rows1 x h0 (by omega)
  simp only [gf_row, gf_k_eq, if_pos ht, Bool.and_eq_true] at e
  exact ⟨gf_chk_G e.1, gf_chk_G e.2⟩
end
section
/-! ===== Int32 under xor, or (the first two families turned from kit/laws/BITS.to-paste) ===== -/
theorem gf_cnt : ∀ n, n < 32 → ((nI n &&& 31).toBitVec.smod 32).toNat = n := by decide +kernel
theorem gf_xor (a b : Nat) : nI a ^^^ nI b = nI (a ^^^ b) := by
  apply Int32.toBitVec_inj.1
  show BitVec.ofNat 32 a ^^^ BitVec.ofNat 32 b = BitVec.ofNat 32 (a ^^^ b)
  apply BitVec.eq_of_getLsbD_eq
  intro i hi
  simp [hi]
theorem gf_or (a b : Nat) : nI a ||| nI b = nI (a ||| b) := by
  apply Int32.toBitVec_inj.1
  show BitVec.ofNat 32 a ||| BitVec.ofNat 32 b = BitVec.ofNat 32 (a ||| b)
  apply BitVec.eq_of_getLsbD_eq
  intro i hi
  simp [hi]
theorem gf_shr {p : Nat} (h : p ≤ 16384) : nI p >>> ((7 : Int32) &&& 31) = nI (p / 128) := pk_shrN (by omega) _ 7 (by decide)
theorem gf_and {p : Nat} (h : p ≤ 16384) : nI p &&& 127 = nI (p % 128) := pk_andN (by omega) 7 (by decide)
theorem gf_shl {s : Nat} (h : s < 128) : nI s <<< ((7 : Int32) &&& 31) = nI (s * 128) := pk_shlN _ 7 (by decide) (by omega)
theorem gf_join {s t : Nat} (h : s < 128) : (nI s <<< ((7 : Int32) &&& 31)) ||| nI t = nI (gf_pt s t) := by
  rw [gf_shl h, gf_or]
  rfl
/-! ===== the walks: the field ===== -/
section
variable {post : Int32 → Prop} {f0 f1 f2 f3 f4 f5 f6 f7 : Int32} {a1 : Nat → Int32}
theorem gf_w30 {J : Int32 → Int32 → Int32 → Prop} {x2 : Int32} {x s i : Nat} (hs : s < 128) (H : J (nI x) (nI (gf_d s)) (nI (i + 1))) : wX_mul_30 post J x2 (nI x) (nI s) (nI i) f0 f1 f2 f3 f4 f5 f6 f7 a1 := by
  unfold wX_mul_30
  refine nm_r (e' := nI (s * 2)) (pk_shlN (n := s) ((1 : Int32) &&& 31) 1 (by decide) (by omega)) ?_
  refine pk_lt (s * 2) 128 (fun h => nm_r (nI_1 i) ?_) (fun h => nm_r (e' := nI (gf_d s)) ?_ (nm_r (nI_1 i) H))
  · have e : gf_d s = s * 2 := by
      have z : s / 64 = 0 := by omega
      unfold gf_d
      rw [z, Nat.mul_zero, Nat.xor_zero, Nat.mul_comm]
    rw [← e]
    exact H
  · have e : gf_d s = s * 2 ^^^ 131 := by
      have z : s / 64 = 1 := by omega
      unfold gf_d
      rw [z, Nat.mul_one, Nat.mul_comm 2 s]
    rw [e]
    exact gf_xor (s * 2) 131
theorem gf_m8 {b : Nat} (hb : b < 128) : ∀ c i x s, i + c = 7 → s < 128 → post (nI (gf_go c (b / 2 ^ i) x s)) → wX_mul_8 post (nI b) f0 f1 f2 f3 f4 f5 f6 f7 a1 (c + 1) (nI x) (nI s) (nI i)
  | 0, i, x, s, hi, hs, h => by
    have e : i = 7 := by omega
    subst e
    exact br_t (by decide) h
  | c + 1, i, x, s, hi, hs, h => by
    have hd : b / 2 ^ i ≤ b := Nat.div_le_self _ _
    have e : (nI b >>> (nI i &&& 31)) &&& 1 = nI (b / 2 ^ i % 2) := by
      rw [pk_shrN (by omega) _ i (gf_cnt i (by omega))]
      exact pk_andN (by omega) 1 (by decide)
    have k : post (nI (gf_go c (b / 2 ^ (i + 1)) (x ^^^ (b / 2 ^ i % 2 * s)) (gf_d s))) := by
      rw [Nat.pow_succ, ← Nat.div_div_eq_div_mul]
      exact h
    have ih := gf_m8 hb c (i + 1) (x ^^^ (b / 2 ^ i % 2 * s)) (gf_d s) (by omega) (gf_d_lt s hs) k
    have hm : b / 2 ^ i % 2 < 2 := Nat.mod_lt _ (by decide)
    refine br_f (nI_ge (b := 7) (by omega) (by decide)) ?_
    generalize b / 2 ^ i % 2 = t at e ih hm
    refine pk_eq t 1 (fun z => nm_r (gf_xor x s) (gf_w30 hs ?_)) (fun z => gf_w30 hs ?_) e rfl (by omega) (by omega)
    · rw [z, Nat.one_mul] at ih
      exact ih
    · have z0 : t = 0 := by omega
      rw [z0, Nat.zero_mul, Nat.xor_zero] at ih
      exact ih
theorem gf_mulW {u : St2} {a b : Nat} (ha : a < 128) (hb : b < 128) (h : post (nI (gf_mul a b))) : wpX_mul post u (nI a) (nI b) := by
  obtain ⟨g0, g1, g2, g3, g4, g5, g6, g7, b1⟩ := u
  rw [← gf_mul_eq] at h
  have k := gf_m8 (post := post) (f0 := g0) (f1 := g1) (f2 := g2) (f3 := g3) (f4 := g4) (f5 := g5) (f6 := g6) (f7 := g7) (a1 := b1) hb 7 0 0 a rfl ha (by rw [Nat.pow_zero, Nat.div_one]; exact h)
  exact ⟨8, k⟩
theorem gf_i7 : ∀ c i x s, i + c = 7 → x < 128 → s < 128 → post (nI (gf_iv c x s)) → wX_inverse_7 post f0 f1 f2 f3 f4 f5 f6 f7 a1 (c + 1) (nI x) (nI s) (nI i)
  | 0, i, x, s, hi, hx, hs, h => by
    have e : i = 7 := by omega
    subst e
    exact br_t (by decide) h
  | c + 1, i, x, s, hi, hx, hs, h => by
    rw [gf_iv_s] at h
    have ih := gf_i7 c (i + 1) _ _ (by omega) (gf_mul_lt hx) (gf_mul_lt hs) h
    exact br_f (nI_ge (b := 7) (by omega) (by decide)) (gf_mulW hs hs (gf_mulW hx (gf_mul_lt hs) (nm_r (nI_1 i) ih)))
theorem gf_invW {u : St2} {a : Nat} (ha : a < 128) (h : post (nI (gf_inv a))) : wpX_inverse post u (nI a) := by
  obtain ⟨g0, g1, g2, g3, g4, g5, g6, g7, b1⟩ := u
  have k := gf_i7 (post := post) (f0 := g0) (f1 := g1) (f2 := g2) (f3 := g3) (f4 := g4) (f5 := g5) (f6 := g6) (f7 := g7) (a1 := b1) 6 1 1 a rfl (by decide) ha h
  exact ⟨7, k⟩
theorem gf_t7 : ∀ c i x s, i + c = 7 → x < 128 → s < 128 → post (nI (gf_tr c x s)) → wX_trace_7 post f0 f1 f2 f3 f4 f5 f6 f7 a1 (c + 1) (nI x) (nI s) (nI i)
  | 0, i, x, s, hi, hx, hs, h => by
    have e : i = 7 := by omega
    subst e
    exact br_t (by decide) h
  | c + 1, i, x, s, hi, hx, hs, h => by
    rw [gf_tr_s] at h
    have ih := gf_t7 c (i + 1) _ _ (by omega) (gf_x hx hs) (gf_mul_lt hs) h
    exact br_f (nI_ge (b := 7) (by omega) (by decide)) (nm_r (gf_xor x s) (gf_mulW hs hs (nm_r (nI_1 i) ih)))
theorem gf_trW {u : St2} {a : Nat} (ha : a < 128) (h : post (nI (gf_tr 7 0 a))) : wpX_trace post u (nI a) := by
  obtain ⟨g0, g1, g2, g3, g4, g5, g6, g7, b1⟩ := u
  have k := gf_t7 (post := post) (f0 := g0) (f1 := g1) (f2 := g2) (f3 := g3) (f4 := g4) (f5 := g5) (f6 := g6) (f7 := g7) (a1 := b1) 7 0 0 a rfl (by decide) ha h
  exact ⟨8, k⟩
theorem gf_r7 : ∀ c i x s, i + c = 4 → x < 128 → s < 128 → post (nI (gf_ro c x s)) → wX_root_7 post f0 f1 f2 f3 f4 f5 f6 f7 a1 (c + 1) (nI x) (nI s) (nI i)
  | 0, i, x, s, hi, hx, hs, h => by
    have e : i = 4 := by omega
    subst e
    exact br_t (by decide) h
  | c + 1, i, x, s, hi, hx, hs, h => by
    rw [gf_ro_s] at h
    have ih := gf_r7 c (i + 1) _ _ (by omega) (gf_x hx hs) (gf_mul_lt (gf_mul_lt hs)) h
    exact br_f (nI_ge (b := 4) (by omega) (by decide)) (nm_r (gf_xor x s) (gf_mulW hs hs (gf_mulW (gf_mul_lt hs) (gf_mul_lt hs) (nm_r (nI_1 i) ih))))
theorem gf_roW {u : St2} {a : Nat} (ha : a < 128) (h : post (nI (gf_ro 4 0 a))) : wpX_root post u (nI a) := by
  obtain ⟨g0, g1, g2, g3, g4, g5, g6, g7, b1⟩ := u
  have k := gf_r7 (post := post) (f0 := g0) (f1 := g1) (f2 := g2) (f3 := g3) (f4 := g4) (f5 := g5) (f6 := g6) (f7 := g7) (a1 := b1) 4 0 0 a rfl (by decide) ha h
  exact ⟨5, k⟩
theorem gf_quW {u : St2} {a b : Nat} (ha : a < 128) (hb : b < 128) (h : post (nI (gf_qu a b))) : wpX_quotient post u (nI a) (nI b) := by
  obtain ⟨g0, g1, g2, g3, g4, g5, g6, g7, b1⟩ := u
  rw [gf_qu_eq] at h
  unfold wpX_quotient
  exact gf_invW hb (gf_mulW ha (gf_inv_lt hb) h)
end
end
section
/-! ===== the walks: points ===== -/
section
variable {post : Int32 → Prop} {c : Nat} {f1 f2 f3 f4 f5 f6 f7 : Int32} {a1 : Nat → Int32}
theorem gf_w59 {f0 : Int32} {y4 y5 z0 z1 : Nat} (e : y4 ^^^ y5 = z1 ^^^ z0 ^^^ 1) (h : post 1) : wX_onCurve_59 post (nI y4) (nI y5) (nI z0) (nI z1) f0 f1 f2 f3 f4 f5 f6 f7 a1 := by
  unfold wX_onCurve_59
  refine nm_r (e' := nI (z1 ^^^ z0 ^^^ 1)) ?_ (br_t ?_ h)
  · rw [gf_xor]
    exact gf_xor _ 1
  · rw [gf_xor, e]
theorem gf_onW {p : Nat} (hc : c ≤ 1) (hp : p < 16384) (ho : gf_on c p = true) (h : post 1) : wpX_onCurve post (nI c, f1, f2, f3, f4, f5, f6, f7, a1) (nI p) := by
  have e := gf_on_eq ho
  have hx := gf_hi hp
  have hy := gf_lo p
  unfold wpX_onCurve
  refine nm_r (gf_shr (Nat.le_of_lt hp)) (nm_r (gf_and (Nat.le_of_lt hp)) ?_)
  refine gf_mulW hy hy (gf_mulW hx hy (gf_mulW hx hx (gf_mulW (gf_mul_lt hx) hx ?_)))
  refine pk_eq c 1 (fun z => ?_) (fun z => ?_)
  · rw [z, Nat.one_mul] at e
    exact gf_w59 e h
  · have z0 : c = 0 := by omega
    rw [z0, Nat.zero_mul] at e
    exact gf_w59 (z0 := 0) e h
theorem gf_badW {p : Nat} (hc : c ≤ 1) (hp : gf_P c p) (h : post 0) : wpX_bad post (nI c, f1, f2, f3, f4, f5, f6, f7, a1) (nI p) := by
  have hle := gf_P_le hp
  unfold wpX_bad
  refine pk_eq p 16384 (fun _ => h) (fun z => br_f (nI_pos (by omega)) ?_)
  refine pk_lt 16384 p (fun z2 => absurd z2 (by omega)) (fun _ => ?_)
  rcases hp with e | ⟨hlt, ho⟩
  · exact absurd e z
  · exact gf_onW hc hlt ho (br_f (by decide) h)
theorem gf_isW {p : Nat} (hc : c ≤ 1) (hp : gf_P c p) (h : post 1) : wpX_isPoint post (nI c, f1, f2, f3, f4, f5, f6, f7, a1) (nI p) := by
  unfold wpX_isPoint
  exact gf_badW hc hp (br_t rfl h)
theorem gf_miW {u : St2} {p : Nat} (hp : p ≤ 16384) (h : post (nI (gf_mi p))) : wpX_minus post u (nI p) := by
  obtain ⟨g0, g1, g2, g3, g4, g5, g6, g7, b1⟩ := u
  unfold wpX_minus
  refine pk_eq p 16384 (fun z => ?_) (fun z => ?_)
  · rw [gf_mi, if_pos z] at h
    exact h
  · rw [gf_mi, if_neg z] at h
    rw [gf_shr hp, gf_xor]
    exact h
theorem gf_sqW {u : St2} {p : Nat} (hp : p ≤ 16384) (h : post (nI (gf_sq p))) : wpX_squared post u (nI p) := by
  obtain ⟨g0, g1, g2, g3, g4, g5, g6, g7, b1⟩ := u
  unfold wpX_squared
  refine pk_eq p 16384 (fun z => ?_) (fun z => ?_)
  · rw [gf_sq, if_pos z] at h
    exact h
  · rw [gf_sq, if_neg z] at h
    have hx := gf_hi (p := p) (by omega)
    have hy := gf_lo p
    rw [gf_shr hp, gf_and hp]
    refine gf_mulW hx hx (gf_mulW hy hy ?_)
    rw [gf_join (gf_mul_lt hx)]
    exact h
theorem gf_twW {p : Nat} (hc : c ≤ 1) (hp : p < 16384) (h : post (nI (gf_tw c p))) : wpX_twice post (nI c, f1, f2, f3, f4, f5, f6, f7, a1) (nI p) := by
  have hle := Nat.le_of_lt hp
  have hx := gf_hi hp
  have hy := gf_lo p
  unfold wpX_twice
  refine nm_r (gf_shr hle) ?_
  refine pk_eq p 16384 (fun z => absurd z (by omega)) (fun _ => ?_)
  refine pk_eq (p / 128) 0 (fun z => ?_) (fun z => ?_)
  · rw [gf_tw, if_pos z] at h
    exact h
  · rw [gf_tw, if_neg z] at h
    simp only [gf_k_eq, gf_twS] at h
    rw [gf_and hle]
    refine gf_quW hy hx (nm_r (gf_xor _ _) ?_)
    have hs : p / 128 ^^^ gf_qu (p % 128) (p / 128) < 128 := gf_x hx (gf_qu_lt hy)
    generalize p / 128 ^^^ gf_qu (p % 128) (p / 128) = sl at h hs
    refine gf_mulW hs hs (nm_r (e' := nI (gf_mul sl sl ^^^ sl ^^^ c)) (by rw [gf_xor, gf_xor]) ?_)
    have ht : gf_mul sl sl ^^^ sl ^^^ c < 128 := gf_x (gf_x (gf_mul_lt hs) hs) (gf_c hc)
    generalize gf_mul sl sl ^^^ sl ^^^ c = s at h ht
    refine gf_mulW hx hx ?_
    have e1 : nI sl ^^^ 1 = nI (sl ^^^ 1) := gf_xor sl 1
    rw [e1]
    refine gf_mulW (gf_x hs (by decide)) ht (nm_r (gf_xor _ _) ?_)
    rw [gf_join ht]
    exact h
theorem gf_sumW {p q : Nat} (hc : c ≤ 1) (hp : p ≤ 16384) (hq : q ≤ 16384) (h : post (nI (gf_sum c p q))) : wpX_sum post (nI c, f1, f2, f3, f4, f5, f6, f7, a1) (nI p) (nI q) := by
  unfold wpX_sum
  refine pk_eq p 16384 (fun z => ?_) (fun z => ?_)
  · rw [gf_sum, if_pos z] at h
    exact h
  · rw [gf_sum, if_neg z] at h
    refine pk_eq q 16384 (fun z2 => ?_) (fun z2 => ?_)
    · rw [if_pos z2] at h
      exact h
    · rw [if_neg z2] at h
      have hp' : p < 16384 := by omega
      have hq' : q < 16384 := by omega
      have hx := gf_hi hp'
      have hu := gf_hi hq'
      have hy := gf_lo p
      refine nm_r (gf_shr hp) (nm_r (gf_shr hq) ?_)
      refine pk_eq (p / 128) (q / 128) (fun z3 => ?_) (fun z3 => ?_)
      · rw [if_pos z3] at h
        refine pk_eq p q (fun z4 => ?_) (fun z4 => ?_)
        · rw [if_pos z4] at h
          exact gf_twW hc hp' h
        · rw [if_neg z4] at h
          exact h
      · rw [if_neg z3] at h
        simp only [gf_k_eq, gf_suS] at h
        have e0 : (nI p ^^^ nI q) &&& 127 = nI ((p ^^^ q) % 128) := by
          rw [gf_xor]
          exact pk_andN (Nat.lt_trans (Nat.xor_lt_two_pow (n := 14) hp' hq') (by decide)) 7 (by decide)
        rw [e0, gf_xor (p / 128) (q / 128), gf_and hp]
        refine gf_quW (gf_lo _) (gf_x hx hu) ?_
        have hs : gf_qu ((p ^^^ q) % 128) (p / 128 ^^^ q / 128) < 128 := gf_qu_lt (gf_lo _)
        generalize gf_qu ((p ^^^ q) % 128) (p / 128 ^^^ q / 128) = sl at h hs
        refine gf_mulW hs hs (nm_r (e' := nI (gf_mul sl sl ^^^ sl ^^^ (p / 128) ^^^ (q / 128) ^^^ c)) (by rw [gf_xor, gf_xor, gf_xor, gf_xor]) ?_)
        have ht : gf_mul sl sl ^^^ sl ^^^ (p / 128) ^^^ (q / 128) ^^^ c < 128 := gf_x (gf_x (gf_x (gf_x (gf_mul_lt hs) hs) hx) hu) (gf_c hc)
        generalize gf_mul sl sl ^^^ sl ^^^ (p / 128) ^^^ (q / 128) ^^^ c = s at h ht
        rw [gf_xor (p / 128) s]
        refine gf_mulW hs (gf_x hx ht) (nm_r (e' := nI (gf_mul sl (p / 128 ^^^ s) ^^^ s ^^^ (p % 128))) (by rw [gf_xor, gf_xor]) ?_)
        rw [gf_join ht]
        exact h
theorem gf_addW {p q : Nat} (hc : c ≤ 1) (hp : gf_P c p) (hq : gf_P c q) (h : post (nI (gf_sum c p q))) : wpX_add post (nI c, f1, f2, f3, f4, f5, f6, f7, a1) (nI p) (nI q) := by
  unfold wpX_add
  exact gf_badW hc hp (br_t rfl (gf_badW hc hq (br_t rfl (gf_sumW hc (gf_P_le hp) (gf_P_le hq) h))))
theorem gf_negW {p : Nat} (hc : c ≤ 1) (hp : gf_P c p) (h : post (nI (gf_mi p))) : wpX_negate post (nI c, f1, f2, f3, f4, f5, f6, f7, a1) (nI p) := by
  unfold wpX_negate
  exact gf_badW hc hp (br_t rfl (gf_miW (gf_P_le hp) h))
/-! ===== next ===== -/
theorem gf_128 {f0 : Int32} {st k : Nat} (hst : st ≤ 16384) (hk : k ≤ 16384) (h4 : post (-4)) (H : st ≤ k → post (nI k)) : wX_firstAt_128 post (nI st) (nI k) f0 f1 f2 f3 f4 f5 f6 f7 a1 :=
  pk_lt k st (fun _ => h4) (fun z => H z)
theorem gf_103 {f0 : Int32} {st k p q : Nat} (hst : st ≤ 16384) (hk : k ≤ 16384) (hp : p ≤ 16384) (hq : q ≤ 16384) (h4 : post (-4)) (Hk : st ≤ k → post (nI k)) (Hp : st ≤ p → post (nI p)) (Hq : st ≤ q → post (nI q)) : wX_firstAt_103 post (nI st) (nI p) (nI q) (nI k) f0 f1 f2 f3 f4 f5 f6 f7 a1 :=
  pk_lt k st (fun _ => br_c (fun _ => gf_128 hst hp h4 Hp) (fun _ => gf_128 hst hq h4 Hq)) (fun z => Hk z)
theorem gf_firstW {st x : Nat} (hc : c ≤ 1) (hst : st ≤ 16384) (hx : x < 128) (h4 : post (-4)) (H : ∀ p, gf_G c p → st ≤ p → post (nI p)) : wpX_firstAt post (nI c, f1, f2, f3, f4, f5, f6, f7, a1) (nI x) (nI st) := by
  unfold wpX_firstAt
  refine pk_eq x 0 (fun z => ?_) (fun z => ?_)
  · exact pk_lt 1 st (fun _ => h4) (fun z2 => H 1 (gf_one hc) z2)
  · have hi := gf_inv_lt hx
    have hr : gf_rt c x < 128 := by
      rw [gf_rt_eq]
      exact gf_x (gf_x hx (gf_c hc)) (gf_mul_lt hi)
    refine gf_invW hx (gf_mulW hi hi (nm_r (e' := nI (gf_rt c x)) (by rw [gf_rt_eq, gf_xor, gf_xor]) ?_))
    refine gf_trW hr ?_
    have ht := gf_tr_lt 7 0 (gf_rt c x) (by decide) hr
    refine pk_eq (gf_tr 7 0 (gf_rt c x)) 0 (fun z2 => ?_) (fun _ => h4)
    have hG := gf_at hc (by omega) hx z2
    have ho := gf_ro_lt 4 0 (gf_rt c x) (by decide) hr
    refine gf_roW hr (gf_mulW hx ho ?_)
    refine nm_r (gf_join hx) (nm_r (gf_xor _ _) ?_)
    generalize gf_pt x (gf_mul x (gf_ro 4 0 (gf_rt c x))) = p at hG
    generalize p ^^^ x = q at hG
    have hp := gf_P_le hG.1.1
    have hq := gf_P_le hG.2.1
    exact br_c (fun _ => gf_103 hst hq hp hq h4 (H q hG.2) (H p hG.1) (H q hG.2)) (fun _ => gf_103 hst hp hp hq h4 (H p hG.1) (H p hG.1) (H q hG.2))
theorem gf_n25 {st : Nat} (hc : c ≤ 1) (hst : st ≤ 16384) (H : ∀ p, gf_G c p → st ≤ p → post (nI p)) : ∀ k x, x + k = 128 → wX_next_25 post (nI st) (nI c) f1 f2 f3 f4 f5 f6 f7 a1 (k + 1) (nI x)
  | 0, x, h => by
    have e : x = 128 := by omega
    subst e
    exact br_t (by decide) (H 16384 (gf_GO hc) hst)
  | k + 1, x, h => by
    have ih := gf_n25 hc hst H k (x + 1) (by omega)
    exact br_f (nI_ge (b := 128) (by omega) (by decide)) (gf_firstW hc hst (by omega) (br_t (by decide) (nm_r (nI_1 x) ih)) (fun p hG hp => br_f (nI_pos (by have := gf_P_le hG.1; omega)) (H p hG hp)))
theorem gf_nextW {p1 : Int32} (hc : c ≤ 1) (h : p1 ≤ 16384) (H : ∀ p, gf_G c p → ¬ nI p < p1 → post (nI p)) : wpX_next post (nI c, f1, f2, f3, f4, f5, f6, f7, a1) p1 := by
  unfold wpX_next
  refine br_t h (br_c (fun h0 => ?_) (fun h0 => ?_))
  · obtain ⟨st, hst, rfl⟩ := nI_of2 (n := 16384) (x := p1) (M := 16384) (by decide) (by rw [Int32.not_lt]; exact h0) h
    refine nm_r (gf_shr hst) ?_
    have k := gf_n25 (post := post) (f1 := f1) (f2 := f2) (f3 := f3) (f4 := f4) (f5 := f5) (f6 := f6) (f7 := f7) (a1 := a1) hc hst (fun p hG hp => H p hG (nI_nlt hp (by have := gf_P_le hG.1; omega))) (128 - st / 128) (st / 128) (by omega)
    exact ⟨_, k⟩
  · refine nm_r (e' := nI 0) (by decide) ?_
    have k := gf_n25 (post := post) (f1 := f1) (f2 := f2) (f3 := f3) (f4 := f4) (f5 := f5) (f6 := f6) (f7 := f7) (a1 := a1) hc (st := 0) (by omega) (fun p hG hp => H p hG (fun z => h0 (Int32.le_of_lt (Int32.lt_of_le_of_lt (nI_pos' (by have := gf_P_le hG.1; omega)) z)))) 128 0 rfl
    exact ⟨_, k⟩
end
end
section
/-! ===== the walks: multiples ===== -/
/-- one digit -/
def gf_dg (c : Nat) (d : Int32) (p y : Nat) : Nat := if d = 1 then gf_sum c y p else if d = -1 then gf_sum c y (gf_mi p) else y
/-- the loop of multiplied: k digits are left -/
def gf_mu (c p : Nat) (am : Nat → Int32) : Nat → Nat → Nat
  | 0, x => x
  | k + 1, x => gf_mu c p am k (gf_dg c (am k) p (gf_sq x))
theorem gf_dg1 (c p y : Nat) : gf_dg c 1 p y = gf_sum c y p := if_pos rfl
theorem gf_dgm (c p y : Nat) : gf_dg c (-1) p y = gf_sum c y (gf_mi p) := by
  unfold gf_dg
  rw [if_neg (by decide), if_pos rfl]
theorem gf_dg0 (c p y : Nat) : gf_dg c 0 p y = y := by
  unfold gf_dg
  rw [if_neg (by decide), if_neg (by decide)]
theorem gf_mu1 {c p : Nat} {am : Nat → Int32} (h : am 0 = 1) : gf_mu c p am 1 16384 = p := by
  simp only [gf_mu, h, gf_dg1, gf_sqO, gf_sumO]
theorem gf_mum {c p : Nat} {am : Nat → Int32} (h : am 0 = -1) : gf_mu c p am 1 16384 = gf_mi p := by
  simp only [gf_mu, h, gf_dgm, gf_sqO, gf_sumO]
theorem gf_mu20 {p : Nat} {am : Nat → Int32} (h0 : am 0 = 0) (h1 : am 1 = 1) (h2 : am 2 = 0) (h3 : am 3 = 1) : gf_mu 0 p am 4 16384 = gf_m2 0 p := by
  simp only [gf_mu, h0, h1, h2, h3, gf_dg1, gf_dg0, gf_sqO, gf_sumO, gf_m2, gf_k_eq, if_true]
theorem gf_mu21 {p : Nat} {am : Nat → Int32} (h0 : am 0 = 0) (h1 : am 1 = -1) (h2 : am 2 = 0) (h3 : am 3 = -1) : gf_mu 1 p am 4 16384 = gf_m2 1 p := by
  simp only [gf_mu, h0, h1, h2, h3, gf_dgm, gf_dg0, gf_sqO, gf_sumO, gf_m2, gf_k_eq, if_neg (show ¬ (1 : Nat) = 0 by decide)]
section
variable {post : Int32 → St2 → Prop} {c : Nat} {f1 f2 f3 f4 f5 f6 f7 : Int32} {am : Nat → Int32}
theorem gf_m33 {p : Nat} (hc : c ≤ 1) (hp : p ≤ 16384) : ∀ k x, k ≤ 40 → x ≤ 16384 → post (nI (gf_mu c p am k x)) (nI c, f1, f2, f3, f4, f5, f6, f7, am) → wX_multiplied_33 post (nI p) (nI c) f1 f2 f3 f4 f5 f6 f7 am (k + 1) (nI x) (nI k - 1)
  | 0, x, hk, hx, h => br_t (by decide) h
  | k + 1, x, hk, hx, h => by
    have hs := gf_sq_le hx
    have e : nI k + (-1) = nI k - 1 := (Int32.sub_eq_add_neg _ _).symm
    have hm := gf_mi_le hp
    rw [nI_pred]
    refine br_f (nI_pos (by omega)) (gf_sqW hx ⟨vp_in_nI (by omega) (by omega), ?_⟩)
    rw [nI_clamp (by omega)]
    have h' : post (nI (gf_mu c p am k (gf_dg c (am k) p (gf_sq x)))) (nI c, f1, f2, f3, f4, f5, f6, f7, am) := h
    refine br_c (fun z => ?_) (fun z => ⟨vp_in_nI (by omega) (by omega), br_c (fun z2 => ?_) (fun z2 => ?_)⟩)
    · rw [z, gf_dg1] at h'
      exact gf_sumW hc hs hp (nm_r e (gf_m33 hc hp k _ (by omega) (gf_sum_le hc hs hp) h'))
    · rw [z2, gf_dgm] at h'
      exact gf_miW hp (gf_sumW hc hs hm (nm_r e (gf_m33 hc hp k _ (by omega) (gf_sum_le hc hs hm) h')))
    · rw [gf_dg, if_neg z, if_neg z2] at h'
      exact nm_r e (gf_m33 hc hp k _ (by omega) hs h')
theorem gf_18W {p : Nat} {z0 : Int32} {g6 g7 g8 : Int32} {bm : Nat → Int32} (n : Nat) (D : (Nat → Int32) → Prop) (hc : c ≤ 1) (hp : p ≤ 16384) (hn : n ≤ 40)
    (HR : ∀ Q : St2 → Prop, (∀ am, D am → Q (nI c, f1, f2, f3, f4, 0, 0, nI n, am)) → wpX_recode Q (nI c, f1, f2, f3, f4, g6, g7, g8, bm) z0)
    (H : ∀ am, D am → post (nI (gf_mu c p am n 16384)) (nI c, f1, f2, f3, f4, 0, 0, nI n, am)) : wX_multiplied_18 post (nI p) z0 (nI c) f1 f2 f3 f4 g6 g7 g8 bm := by
  unfold wX_multiplied_18
  refine HR _ (fun am hD => ?_)
  have k := gf_m33 (post := post) hc hp n 16384 hn (by omega) (H am hD)
  exact nm_e ⟨n + 1, k⟩
end
/-! ===== recode ===== -/
theorem gf_rd {post : Int32 → Prop} {u : St2} {p0 p1 : Int32} (h1 : 1 ≤ p1) (h2 : ¬ (2 * p1) = 0) (h3 : 0 ≤ (2 * p0) + p1) (h4 : ((2 * p0) + p1) / (2 * p1) = 0) (h : post 0) : wpX_rounded post u p0 p1 := by
  obtain ⟨g0, g1, g2, g3, g4, g5, g6, g7, b1⟩ := u
  unfold wpX_rounded
  exact br_t h1 (nm_e ⟨h2, nm_r h4 (br_t h3 h)⟩)
section
variable {post : St2 → Prop} {f0 f1 f2 f3 f4 : Int32}
theorem gf_rc {n : Nat} {x2 pa pb dg : Int32} {am : Nat → Int32} (d q x2' pA pB dg' : Int32) (j : Nat)
    (H : wX_recode_12 post f0 f1 f2 f3 f4 n x2' pA pB dg' (upd am j d))
    (h40 : ¬ 40 ≤ x2) (hz : ¬ (pa = 0 ∧ pb = 0)) (hd : ((pa &&& 1) = 1 ∧ 2 - ((pa - (2 * pb)) &&& 3) = d) ∨ (¬ (pa &&& 1) = 1 ∧ d = 0))
    (hj : j < 40) (e0 : dg = nI j) (e1 : pa - d = q) (e2 : pb + (f2 * (q / 2)) = pA) (e3 : -(q / 2) = pB) (e4 : x2 + 1 = x2') (e5 : dg + 1 = dg') :
    wX_recode_12 post f0 f1 f2 f3 f4 (n + 1) x2 pa pb dg am := by
  have k70 : wX_recode_70 post (wX_recode_12 post f0 f1 f2 f3 f4 n) x2 d f0 f1 f2 f3 f4 q pb dg am := by
    unfold wX_recode_70
    subst e0
    refine ⟨vp_in_nI hj (by omega), ?_⟩
    rw [nI_clamp (by omega)]
    exact nm_e (nm_r e5 ⟨by decide, nm_e (nm_r e2 (nm_r e3 (nm_r e4 H)))⟩)
  have k32 : wX_recode_32 post (wX_recode_12 post f0 f1 f2 f3 f4 n) x2 f0 f1 f2 f3 f4 pa pb dg am := by
    unfold wX_recode_32
    rcases hd with ⟨hd1, hd2⟩ | ⟨hd1, hd2⟩
    · exact br_t hd1 (nm_r hd2 (nm_r e1 k70))
    · refine br_f hd1 ?_
      rw [hd2, Int32.sub_zero] at e1
      rw [hd2, ← e1] at k70
      exact k70
  refine br_f h40 (br_c (fun z => br_f (fun z2 => hz ⟨z, z2⟩) k32) (fun _ => k32))
theorem gf_rz {n : Nat} {x2 dg : Int32} {am : Nat → Int32} (h40 : ¬ 40 ≤ x2) (h : post (f0, f1, f2, f3, f4, 0, 0, dg, am)) : wX_recode_12 post f0 f1 f2 f3 f4 (n + 1) x2 0 0 dg am :=
  br_f h40 (br_t rfl (br_t rfl h))
/-- reduce leaves k and 0 where both roundings are 0 -/
theorem gf_re {k nm a b g5 g6 g7 : Int32} {am : Nat → Int32} (e0 : ((f3 * f3) + ((f2 * f3) * f4)) + ((2 * f4) * f4) = nm) (ea : k * (f3 + (f2 * f4)) = a) (eb : (-k) * f4 = b)
    (h1 : 1 ≤ nm) (h2 : ¬ (2 * nm) = 0) (ha : 0 ≤ (2 * a) + nm) (ha' : ((2 * a) + nm) / (2 * nm) = 0) (hb : 0 ≤ (2 * b) + nm) (hb' : ((2 * b) + nm) / (2 * nm) = 0)
    (ek : k - ((0 * f3) - ((2 * 0) * f4)) = k) (ez : -(((0 * f4) + (0 * f3)) + ((f2 * 0) * f4)) = 0)
    (H : ∃ n, wX_recode_12 post f0 f1 f2 f3 f4 n 0 k 0 0 am) : wpX_recode post (f0, f1, f2, f3, f4, g5, g6, g7, am) k := by
  unfold wpX_recode wpX_reduce
  dsimp only
  refine nm_r e0 ?_
  rw [ea, eb]
  refine gf_rd h1 h2 ha ha' (gf_rd h1 h2 hb hb' ?_)
  exact nm_r ek (nm_r ez H)
end
section
variable {Q : St2 → Prop} {g6 g7 g8 : Int32} {bm : Nat → Int32}
theorem gf_r01 (H : ∀ am : Nat → Int32, am 0 = 1 → Q (nI 0, 116, -1, 9, 7, 0, 0, nI 1, am)) : wpX_recode Q (nI 0, 116, -1, 9, 7, g6, g7, g8, bm) 1 := by
  refine gf_re (nm := 116) (a := 2) (b := -7) (by decide) (by decide) (by decide) (by decide) (by decide) (by decide) (by decide) (by decide) (by decide) (by decide) (by decide) ⟨2, ?_⟩
  refine gf_rc 1 0 1 0 0 1 0 ?_ (by decide) (by decide) (by decide) (by decide) (by decide) (by decide) (by decide) (by decide) (by decide) (by decide)
  exact gf_rz (by decide) (H _ rfl)
theorem gf_r0m (H : ∀ am : Nat → Int32, am 0 = -1 → Q (nI 0, 116, -1, 9, 7, 0, 0, nI 1, am)) : wpX_recode Q (nI 0, 116, -1, 9, 7, g6, g7, g8, bm) (-1) := by
  refine gf_re (nm := 116) (a := -2) (b := 7) (by decide) (by decide) (by decide) (by decide) (by decide) (by decide) (by decide) (by decide) (by decide) (by decide) (by decide) ⟨2, ?_⟩
  refine gf_rc (-1) 0 1 0 0 1 0 ?_ (by decide) (by decide) (by decide) (by decide) (by decide) (by decide) (by decide) (by decide) (by decide) (by decide)
  exact gf_rz (by decide) (H _ rfl)
theorem gf_r02 (H : ∀ am : Nat → Int32, (am 0 = 0 ∧ am 1 = 1 ∧ am 2 = 0 ∧ am 3 = 1) → Q (nI 0, 116, -1, 9, 7, 0, 0, nI 4, am)) : wpX_recode Q (nI 0, 116, -1, 9, 7, g6, g7, g8, bm) 2 := by
  refine gf_re (nm := 116) (a := 4) (b := -14) (by decide) (by decide) (by decide) (by decide) (by decide) (by decide) (by decide) (by decide) (by decide) (by decide) (by decide) ⟨5, ?_⟩
  refine gf_rc 0 2 1 (-1) (-1) 1 0 ?_ (by decide) (by decide) (by decide) (by decide) (by decide) (by decide) (by decide) (by decide) (by decide) (by decide)
  refine gf_rc 1 (-2) 2 0 1 2 1 ?_ (by decide) (by decide) (by decide) (by decide) (by decide) (by decide) (by decide) (by decide) (by decide) (by decide)
  refine gf_rc 0 0 3 1 0 3 2 ?_ (by decide) (by decide) (by decide) (by decide) (by decide) (by decide) (by decide) (by decide) (by decide) (by decide)
  refine gf_rc 1 0 4 0 0 4 3 ?_ (by decide) (by decide) (by decide) (by decide) (by decide) (by decide) (by decide) (by decide) (by decide) (by decide)
  exact gf_rz (by decide) (H _ ⟨rfl, rfl, rfl, rfl⟩)
theorem gf_r11 (H : ∀ am : Nat → Int32, am 0 = 1 → Q (nI 1, 142, 1, -11, 7, 0, 0, nI 1, am)) : wpX_recode Q (nI 1, 142, 1, -11, 7, g6, g7, g8, bm) 1 := by
  refine gf_re (nm := 142) (a := -4) (b := -7) (by decide) (by decide) (by decide) (by decide) (by decide) (by decide) (by decide) (by decide) (by decide) (by decide) (by decide) ⟨2, ?_⟩
  refine gf_rc 1 0 1 0 0 1 0 ?_ (by decide) (by decide) (by decide) (by decide) (by decide) (by decide) (by decide) (by decide) (by decide) (by decide)
  exact gf_rz (by decide) (H _ rfl)
theorem gf_r1m (H : ∀ am : Nat → Int32, am 0 = -1 → Q (nI 1, 142, 1, -11, 7, 0, 0, nI 1, am)) : wpX_recode Q (nI 1, 142, 1, -11, 7, g6, g7, g8, bm) (-1) := by
  refine gf_re (nm := 142) (a := 4) (b := 7) (by decide) (by decide) (by decide) (by decide) (by decide) (by decide) (by decide) (by decide) (by decide) (by decide) (by decide) ⟨2, ?_⟩
  refine gf_rc (-1) 0 1 0 0 1 0 ?_ (by decide) (by decide) (by decide) (by decide) (by decide) (by decide) (by decide) (by decide) (by decide) (by decide)
  exact gf_rz (by decide) (H _ rfl)
theorem gf_r12 (H : ∀ am : Nat → Int32, (am 0 = 0 ∧ am 1 = -1 ∧ am 2 = 0 ∧ am 3 = -1) → Q (nI 1, 142, 1, -11, 7, 0, 0, nI 4, am)) : wpX_recode Q (nI 1, 142, 1, -11, 7, g6, g7, g8, bm) 2 := by
  refine gf_re (nm := 142) (a := -8) (b := -14) (by decide) (by decide) (by decide) (by decide) (by decide) (by decide) (by decide) (by decide) (by decide) (by decide) (by decide) ⟨5, ?_⟩
  refine gf_rc 0 2 1 1 (-1) 1 0 ?_ (by decide) (by decide) (by decide) (by decide) (by decide) (by decide) (by decide) (by decide) (by decide) (by decide)
  refine gf_rc (-1) 2 2 0 (-1) 2 1 ?_ (by decide) (by decide) (by decide) (by decide) (by decide) (by decide) (by decide) (by decide) (by decide) (by decide)
  refine gf_rc 0 0 3 (-1) 0 3 2 ?_ (by decide) (by decide) (by decide) (by decide) (by decide) (by decide) (by decide) (by decide) (by decide) (by decide)
  refine gf_rc (-1) 0 4 0 0 4 3 ?_ (by decide) (by decide) (by decide) (by decide) (by decide) (by decide) (by decide) (by decide) (by decide) (by decide)
  exact gf_rz (by decide) (H _ ⟨rfl, rfl, rfl, rfl⟩)
end
/-! ===== multiple: r is the answer at every point, the curve's own fields stay ===== -/
def gf_M (c : Nat) (cn m A B k : Int32) (r : Nat → Nat) : Prop := ∀ (post : Int32 → St2 → Prop) (p : Nat) (pa pb dg : Int32) (am : Nat → Int32), gf_P c p → (∀ pa pb dg am, post (nI (r p)) (nI c, cn, m, A, B, pa, pb, dg, am)) → wpX_multiple post (nI c, cn, m, A, B, pa, pb, dg, am) k (nI p)
theorem gf_Mk {c : Nat} {cn m A B k : Int32} {r : Nat → Nat} (n : Nat) (D : (Nat → Int32) → Prop) (hc : c ≤ 1) (hn : n ≤ 40) (h1 : ¬ k < (-1000000)) (h2 : k ≤ 1000000) (h3 : ¬ cn ≤ 0) (h4 : ¬ cn = 0) (h5 : k - k / cn * cn = k)
    (HR : ∀ (Q : St2 → Prop) (g6 g7 g8 : Int32) (bm : Nat → Int32), (∀ am, D am → Q (nI c, cn, m, A, B, 0, 0, nI n, am)) → wpX_recode Q (nI c, cn, m, A, B, g6, g7, g8, bm) k)
    (Hr : ∀ p am, D am → gf_mu c p am n 16384 = r p) : gf_M c cn m A B k r := by
  intro post p pa pb dg am hP H
  have hp := gf_P_le hP
  unfold wpX_multiple
  refine gf_badW hc hP (br_t rfl ?_)
  unfold wpX_badMultiplier
  refine br_f h1 (br_t h2 (br_t rfl ?_))
  unfold wpX_multiplied
  refine br_f h3 ⟨h4, ?_⟩
  rw [h5]
  refine gf_18W n D hc hp hn (fun Q => HR Q pa pb dg am) (fun am' hD => ?_)
  rw [Hr p am' hD]
  exact H 0 0 (nI n) am'
theorem gf_M01 : gf_M 0 116 (-1) 9 7 1 (fun p => p) := gf_Mk 1 (fun am => am 0 = 1) (by decide) (by decide) (by decide) (by decide) (by decide) (by decide) (by decide) (fun Q g6 g7 g8 bm H => gf_r01 H) (fun p am h => gf_mu1 h)
theorem gf_M0m : gf_M 0 116 (-1) 9 7 (-1) gf_mi := gf_Mk 1 (fun am => am 0 = -1) (by decide) (by decide) (by decide) (by decide) (by decide) (by decide) (by decide) (fun Q g6 g7 g8 bm H => gf_r0m H) (fun p am h => gf_mum h)
theorem gf_M02 : gf_M 0 116 (-1) 9 7 2 (gf_m2 0) := gf_Mk 4 (fun am => am 0 = 0 ∧ am 1 = 1 ∧ am 2 = 0 ∧ am 3 = 1) (by decide) (by decide) (by decide) (by decide) (by decide) (by decide) (by decide) (fun Q g6 g7 g8 bm H => gf_r02 H) (fun p am h => gf_mu20 h.1 h.2.1 h.2.2.1 h.2.2.2)
theorem gf_M11 : gf_M 1 142 1 (-11) 7 1 (fun p => p) := gf_Mk 1 (fun am => am 0 = 1) (by decide) (by decide) (by decide) (by decide) (by decide) (by decide) (by decide) (fun Q g6 g7 g8 bm H => gf_r11 H) (fun p am h => gf_mu1 h)
theorem gf_M1m : gf_M 1 142 1 (-11) 7 (-1) gf_mi := gf_Mk 1 (fun am => am 0 = -1) (by decide) (by decide) (by decide) (by decide) (by decide) (by decide) (by decide) (fun Q g6 g7 g8 bm H => gf_r1m H) (fun p am h => gf_mum h)
theorem gf_M12 : gf_M 1 142 1 (-11) 7 2 (gf_m2 1) := gf_Mk 4 (fun am => am 0 = 0 ∧ am 1 = -1 ∧ am 2 = 0 ∧ am 3 = -1) (by decide) (by decide) (by decide) (by decide) (by decide) (by decide) (by decide) (fun Q g6 g7 g8 bm H => gf_r12 H) (fun p am h => gf_mu21 h.1 h.2.1 h.2.2.1 h.2.2.2)
end
section
/-! ===== the constructor, the law ===== -/
theorem gf_in50 {post : St2 → Prop} {mc ms : Nat} {x2 : Int32} {kc ks : Nat} {f0 f1 f2 f3 f4 f5 f6 f7 : Int32} {am : Nat → Int32} {n : Nat} {x3 x4 x5 : Int32} (y3 y4 y5 : Int32)
    (H : wX_init_50 post mc ms x2 kc ks f0 f1 f2 f3 f4 f5 f6 f7 am n y3 y4 y5) (h7 : ¬ 7 ≤ x5) (e3 : (-2) * x4 = y3) (e4 : x3 + (x2 * x4) = y4) (e5 : x5 + 1 = y5) :
    wX_init_50 post mc ms x2 kc ks f0 f1 f2 f3 f4 f5 f6 f7 am (n + 1) x3 x4 x5 :=
  br_f h7 (nm_r e3 (nm_r e4 (nm_r e5 H)))
theorem gf_init0 {p0 : Int32} (h : ¬ 1 ≤ p0) (Q : St2 → Prop) (H : Q (nI 0, 116, -1, 9, 7, 0, 0, 0, fun _ => 0)) : wpX_init Q 1 40 (0, 0, 0, 0, 0, 0, 0, 0) p0 := by
  unfold wpX_init
  refine ⟨by decide, by decide, br_f h ?_⟩
  unfold wX_init_23
  refine br_f h ?_
  unfold wX_init_36
  refine ⟨8, ?_⟩
  refine gf_in50 0 1 1 ?_ (by decide) (by decide) (by decide) (by decide)
  refine gf_in50 (-2) (-1) 2 ?_ (by decide) (by decide) (by decide) (by decide)
  refine gf_in50 2 (-1) 3 ?_ (by decide) (by decide) (by decide) (by decide)
  refine gf_in50 2 3 4 ?_ (by decide) (by decide) (by decide) (by decide)
  refine gf_in50 (-6) (-1) 5 ?_ (by decide) (by decide) (by decide) (by decide)
  refine gf_in50 2 (-5) 6 ?_ (by decide) (by decide) (by decide) (by decide)
  refine gf_in50 10 7 7 ?_ (by decide) (by decide) (by decide) (by decide)
  exact br_t (by decide) (nm_r (e' := 9) (by decide) (nm_r (e' := 116) (by decide) H))
theorem gf_init1 {p0 : Int32} (h : 1 ≤ p0) (Q : St2 → Prop) (H : Q (nI 1, 142, 1, -11, 7, 0, 0, 0, fun _ => 0)) : wpX_init Q 1 40 (0, 0, 0, 0, 0, 0, 0, 0) p0 := by
  unfold wpX_init
  refine ⟨by decide, by decide, br_t h ?_⟩
  unfold wX_init_23
  refine br_t h ?_
  unfold wX_init_36
  refine ⟨8, ?_⟩
  refine gf_in50 0 1 1 ?_ (by decide) (by decide) (by decide) (by decide)
  refine gf_in50 (-2) 1 2 ?_ (by decide) (by decide) (by decide) (by decide)
  refine gf_in50 (-2) (-1) 3 ?_ (by decide) (by decide) (by decide) (by decide)
  refine gf_in50 2 (-3) 4 ?_ (by decide) (by decide) (by decide) (by decide)
  refine gf_in50 6 (-1) 5 ?_ (by decide) (by decide) (by decide) (by decide)
  refine gf_in50 2 5 6 ?_ (by decide) (by decide) (by decide) (by decide)
  refine gf_in50 (-10) 7 7 ?_ (by decide) (by decide) (by decide) (by decide)
  exact br_t (by decide) (nm_r (e' := -11) (by decide) (nm_r (e' := 142) (by decide) H))
theorem gf_b4 {post : Int32 → Prop} {u : St2} (h : post 1) : wpX_bad post u (-4) := by
  obtain ⟨g0, g1, g2, g3, g4, g5, g6, g7, b1⟩ := u
  unfold wpX_bad
  exact br_f (by decide) (br_t (by decide) h)
theorem gf_is4 {post : Int32 → Prop} {u : St2} (h : post 0) : wpX_isPoint post u (-4) := by
  obtain ⟨g0, g1, g2, g3, g4, g5, g6, g7, b1⟩ := u
  unfold wpX_isPoint
  exact gf_b4 (br_f (by decide) h)
theorem gf_mu4 {post : Int32 → St2 → Prop} {f0 f1 f2 f3 f4 f5 f6 f7 k : Int32} {am : Nat → Int32} (h : post (-1) (f0, f1, f2, f3, f4, f5, f6, f7, am)) : wpX_multiple post (f0, f1, f2, f3, f4, f5, f6, f7, am) k (-4) := by
  unfold wpX_multiple
  exact gf_b4 (br_f (by decide) h)
theorem gf_add4 {post : Int32 → Prop} {u : St2} {q : Int32} (h : post (-1)) : wpX_add post u (-4) q := by
  obtain ⟨g0, g1, g2, g3, g4, g5, g6, g7, b1⟩ := u
  unfold wpX_add
  exact gf_b4 (br_f (by decide) h)
theorem gf_neg4 {post : Int32 → Prop} {u : St2} (h : post (-1)) : wpX_negate post u (-4) := by
  obtain ⟨g0, g1, g2, g3, g4, g5, g6, g7, b1⟩ := u
  unfold wpX_negate
  exact gf_b4 (br_f (by decide) h)
theorem gf_pts {post : Int32 → Prop} {f0 f1 f2 f3 f4 f5 f6 f7 : Int32} {am : Nat → Int32} (h : post f1) : wpX_points post (f0, f1, f2, f3, f4, f5, f6, f7, am) := by
  unfold wpX_points
  exact h
/-- the checks, a point was found -/
theorem gf_yes {mc ms kc ks : Nat} {p0 p1 p cn s n : Int32} (hcn : (p0 ≤ 0 ∧ cn = 116) ∨ (¬ p0 ≤ 0 ∧ cn = 142)) (hp : ¬ p < p1) : wL_lawOf_88 (fun r _ => r = 1) mc ms p0 p1 p 1 cn p s s n n 16384 1 kc ks := by
  have k139 : wL_lawOf_139 (fun r _ => r = 1) mc ms p p s s n n 16384 1 kc ks :=
    br_f (by decide) (br_t rfl (br_t rfl (br_t rfl (br_f (by decide) (br_t rfl (br_f (by decide) rfl))))))
  have k126 : wL_lawOf_126 (fun r _ => r = 1) mc ms p1 p p s s n n 16384 1 p p kc ks := br_t rfl (br_f (by decide) (br_f hp k139))
  unfold wL_lawOf_88
  refine br_t rfl ?_
  rcases hcn with ⟨h, e⟩ | ⟨h, e⟩
  · exact br_t h (br_t e (br_f (by decide) k126))
  · exact br_f h (br_t e (br_f (by decide) k126))
/-- the checks, from lies beyond -/
theorem gf_no {mc ms kc ks : Nat} {p0 p1 cn : Int32} (hcn : (p0 ≤ 0 ∧ cn = 116) ∨ (¬ p0 ≤ 0 ∧ cn = 142)) : wL_lawOf_88 (fun r _ => r = 1) mc ms p0 p1 (-4) 0 cn (-1) (-1) (-1) (-1) (-1) (-1) 0 kc ks := by
  have k182 : wL_lawOf_182 (fun r _ => r = 1) mc ms (-1) (-1) 0 (-1) (-1) kc ks := br_t rfl (br_t rfl (br_t rfl (br_t rfl rfl)))
  have k139 : wL_lawOf_139 (fun r _ => r = 1) mc ms (-4) (-1) (-1) (-1) (-1) (-1) (-1) 0 kc ks := br_t rfl (br_t rfl (br_t rfl (br_t rfl (br_t rfl k182))))
  have k126 : wL_lawOf_126 (fun r _ => r = 1) mc ms p1 (-4) (-1) (-1) (-1) (-1) (-1) (-1) 0 (-4) (-4) kc ks := br_t rfl (br_t rfl k139)
  unfold wL_lawOf_88
  refine br_t rfl ?_
  rcases hcn with ⟨h, e⟩ | ⟨h, e⟩
  · exact br_t h (br_t e (br_t rfl k126))
  · exact br_f h (br_t e (br_t rfl k126))
theorem gf_law {c : Nat} {cn m A B p0 p1 : Int32} (hc : c ≤ 1) (hcn : (p0 ≤ 0 ∧ cn = 116) ∨ (¬ p0 ≤ 0 ∧ cn = 142))
    (HI : ∀ Q : St2 → Prop, Q (nI c, cn, m, A, B, 0, 0, 0, fun _ => 0) → wpX_init Q 1 40 (0, 0, 0, 0, 0, 0, 0, 0) p0)
    (M1 : gf_M c cn m A B 1 (fun p => p)) (M2 : gf_M c cn m A B 2 (gf_m2 c)) (Mm : gf_M c cn m A B (-1) gf_mi) : wpL_lawOf (fun r _ => r = 1) 28 448 () p0 p1 := by
  unfold wpL_lawOf
  refine ⟨by decide, by decide, 1, 40, by decide, by decide, HI _ ?_⟩
  by_cases h : p1 ≤ 16384
  · have h' : ¬ 16384 < p1 := by rw [Int32.not_lt]; exact h
    refine gf_nextW hc h (fun p hG hp => ?_)
    obtain ⟨hP, hN, hS, hZ⟩ := hG
    refine gf_isW hc hP (gf_pts ?_)
    refine M1 _ p _ _ _ _ hP (fun pa1 pb1 dg1 am1 => ?_)
    refine gf_addW hc hP hP ?_
    refine M2 _ p _ _ _ _ hP (fun pa2 pb2 dg2 am2 => ?_)
    refine gf_negW hc hP ?_
    refine Mm _ p _ _ _ _ hP (fun pa3 pb3 dg3 am3 => ?_)
    refine gf_addW hc hP hN (br_f h' ?_)
    rw [hS, hZ]
    exact gf_yes hcn hp
  · have h' : 16384 < p1 := by rw [← Int32.not_le]; exact h
    refine br_f h ?_
    exact gf_is4 (gf_pts (gf_mu4 (gf_add4 (gf_mu4 (gf_neg4 (gf_mu4 (gf_add4 (br_t h' (gf_no hcn)))))))))
theorem gf_any (p0 p1 : Int32) : wpL_lawOf (fun r _ => r = 1) 28 448 () p0 p1 := by
  by_cases h : (1 : Int32) ≤ p0
  · have h0 : ¬ p0 ≤ 0 := by
      intro z
      exact absurd (Int32.le_trans h z) (by decide)
    exact gf_law (c := 1) (by decide) (Or.inr ⟨h0, rfl⟩) (gf_init1 h) gf_M11 gf_M12 gf_M1m
  · have h0 : p0 ≤ 0 := by
      rw [Int32.le_iff_toInt_le] at h ⊢
      have e1 : (1 : Int32).toInt = 1 := by decide
      have e0 : (0 : Int32).toInt = 0 := by decide
      omega
    exact gf_law (c := 0) (by decide) (Or.inl ⟨h0, rfl⟩) (gf_init0 h) gf_M01 gf_M02 gf_M0m
theorem gf_cell {post : Int32 → Prop} {L : Nat} {xs : Nat → Int32} (hL : L ≤ 2) (k : Nat) (hk : k < 2) (H : ∀ r, post r) : wpL_cellAt post L xs () (nI k) :=
  pk_le L k (fun _ => H _) (fun z => ⟨vp_in_nI z (by omega), H _⟩)
theorem i_vc (xs : Nat → Int32) (L : Nat) (hL : L ≤ 2) : wpL_law (fun r => r = 1) L xs := by
  unfold wpL_law
  exact gf_cell hL 0 (by decide) (fun r1 => gf_cell hL 1 (by decide) (fun r2 => ⟨28, 448, by decide, by decide, gf_any r1 r2⟩))
end
