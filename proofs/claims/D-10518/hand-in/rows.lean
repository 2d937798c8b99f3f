section
/-! ===== numbers ===== -/
theorem tm_3 (e f : Nat) : (3 : Int32) * nI e + nI f = nI (3 * e + f) := by
  rw [show (3 : Int32) = nI 3 from rfl, pk_mul, nI_add]
theorem tm_mul {a b : Nat} : nI a * nI b = nI (a * b) := pk_mul a b
/-- which interpretations of part p have the digit k -/
def tm_wd (k p : Nat) : Int64 :=
  if k = 0 then -6148914691236517206 else if k = 1 then -3689348814741910324 else if k = 2 then -1085102592571150096
  else if k = 3 then -71777214294589696 else if k = 4 then -281470681808896 else if k = 5 then -4294967296
  else if p / 2 ^ (k - 6) % 2 = 1 then -1 else 0
theorem tm_sh : ∀ k : Nat, k < 12 → ∀ p : Nat, p < 64 → 5 < k → ((((nI p) >>> ((nI k - 6) &&& 31)) &&& 1) = 1 ↔ p / 2 ^ (k - 6) % 2 = 1) := by decide +kernel
/-- the bit r of x -/
def tm_b (x : Int64) (r : Nat) : Nat := x.toUInt64.toNat / 2 ^ r % 2
theorem tm_b_le (x : Int64) (r : Nat) : tm_b x r ≤ 1 := by
  unfold tm_b
  omega
theorem tm_cu : ∀ k : Nat, k < 64 → ((nI k).toInt64.toUInt64 &&& Int64.toUInt64 63).toNat % 64 = k := by decide +kernel
theorem tm_bit (x : Int64) {r : Nat} (hr : r < 64) : ((x.toUInt64 >>> ((nI r).toInt64.toUInt64 &&& Int64.toUInt64 63)).toInt64).toInt32 &&& 1 = nI (tm_b x r) := by
  rw [pk_and _ 1 (by decide)]
  have e : (((x.toUInt64 >>> ((nI r).toInt64.toUInt64 &&& Int64.toUInt64 63)).toInt64).toInt32).toBitVec.toNat = (x.toUInt64 >>> ((nI r).toInt64.toUInt64 &&& Int64.toUInt64 63)).toNat % 2 ^ 32 := by
    rw [Int64.toBitVec_toInt32, BitVec.signExtend_eq_setWidth_of_le _ (by decide), BitVec.toNat_setWidth]
    rfl
  rw [e, UInt64.toNat_shiftRight, tm_cu r hr, Nat.shiftRight_eq_div_pow]
  unfold tm_b
  congr 1
  omega
theorem tm_bm1 : ∀ r : Nat, r < 64 → tm_b (-1) r = 1 := by decide +kernel
theorem tm_b15 : ∀ r : Nat, r < 4 → tm_b 15 r = 1 := by decide +kernel
theorem tm_b0 (r : Nat) : tm_b 0 r = 0 := by
  unfold tm_b
  rw [show (0 : Int64).toUInt64.toNat = 0 from rfl, Nat.zero_div]
theorem tm_wdlo : ∀ k : Nat, k < 6 → ∀ r : Nat, r < 64 → tm_b (tm_wd k 0) r = r / 2 ^ k % 2 := by decide +kernel
theorem tm_wd0 {k : Nat} (hk : k < 6) (p : Nat) : tm_wd k p = tm_wd k 0 := by
  obtain rfl | rfl | rfl | rfl | rfl | rfl : k = 0 ∨ k = 1 ∨ k = 2 ∨ k = 3 ∨ k = 4 ∨ k = 5 := by omega
  all_goals rfl
theorem tm_wdhi {k : Nat} (hk : 6 ≤ k) (p : Nat) : tm_wd k p = if p / 2 ^ (k - 6) % 2 = 1 then -1 else 0 := by
  unfold tm_wd
  rw [if_neg (by omega), if_neg (by omega), if_neg (by omega), if_neg (by omega), if_neg (by omega), if_neg (by omega)]
/-- the digit k of the interpretation m is the bit m % 64 of the digit's word in part m / 64 -/
theorem tm_wdb {k m : Nat} (hk : k < 12) : tm_b (tm_wd k (m / 64)) (m % 64) = m / 2 ^ k % 2 := by
  have hr : m % 64 < 64 := Nat.mod_lt _ (by decide)
  by_cases h : k < 6
  · rw [tm_wd0 h, tm_wdlo k h _ hr]
    obtain rfl | rfl | rfl | rfl | rfl | rfl : k = 0 ∨ k = 1 ∨ k = 2 ∨ k = 3 ∨ k = 4 ∨ k = 5 := by omega
    all_goals omega
  · have e : m / 64 / 2 ^ (k - 6) = m / 2 ^ k := by
      rw [Nat.div_div_eq_div_mul, show (64 : Nat) = 2 ^ 6 from rfl, ← Nat.pow_add, show 6 + (k - 6) = k by omega]
    rw [tm_wdhi (by omega), e]
    by_cases g : m / 2 ^ k % 2 = 1
    · rw [if_pos g, tm_bm1 _ hr, g]
    · rw [if_neg g, tm_b0]
      omega
/-- the models' words: without axioms all interpretations are models -/
def tm_mb (d j : Nat) : Int64 := if d = 3 then -1 else if j = 0 then (if d = 1 then 15 else -1) else 0
/-- how many models there are in the first i parts -/
def tm_cn (d i : Nat) : Nat := if d = 3 then 64 * i else if i = 0 then 0 else if d = 1 then 4 else 64
theorem tm_d3 {d : Nat} (h : 1 ≤ d ∧ d ≤ 3) : d = 1 ∨ d = 2 ∨ d = 3 := by omega
theorem tm_dig {d : Nat} : nI d + nI d * nI d = nI (d + d * d) := by rw [pk_mul, nI_add]
theorem tm_cnt {d : Nat} (h : 1 ≤ d ∧ d ≤ 3) : (1 : Int32) <<< (nI (d + d * d) &&& 31) = nI (tm_cn d 64) := by
  obtain rfl | rfl | rfl := tm_d3 h
  all_goals decide
theorem tm_cn_le {d : Nat} (h : 1 ≤ d ∧ d ≤ 3) : tm_cn d 64 ≤ 4096 := by
  obtain rfl | rfl | rfl := tm_d3 h
  all_goals decide
/-- every number below the count is a model -/
theorem tm_mdl {d m : Nat} (h : 1 ≤ d ∧ d ≤ 3) (hm : m < tm_cn d 64) : tm_b (tm_mb d (m / 64)) (m % 64) = 1 := by
  have hr : m % 64 < 64 := Nat.mod_lt _ (by decide)
  obtain rfl | rfl | rfl := tm_d3 h
  · have h4 : m < 4 := hm
    rw [show m / 64 = 0 by omega, show m % 64 = m by omega]
    exact tm_b15 m h4
  · have h4 : m < 64 := hm
    rw [show m / 64 = 0 by omega]
    exact tm_bm1 _ hr
  · exact tm_bm1 _ hr
/-- a part that has the digit b -/
def tm_wp (b : Nat) : Nat := if b < 6 then 0 else 2 ^ (b - 6)
theorem tm_fo : ∀ d : Nat, d < 4 → ∀ b : Nat, b < d + d * d → 0 < d → tm_wp b < 64 ∧ ¬ (tm_mb d (tm_wp b) &&& tm_wd b (tm_wp b)) = 0 ∧ ¬ (tm_mb d 0 &&& (tm_wd b 0 ^^^ (-1))) = 0 := by decide +kernel
/-! ===== lists of three elements ===== -/
def tm_el (l v : Nat) : Nat := if v = 0 then l % 3 else if v = 1 then l / 3 % 3 else l / 9
def tm_isl (d l : Nat) : Prop := l % 3 < d ∧ l / 3 % 3 < d ∧ l / 9 < d
theorem tm_elt {d l : Nat} (h : tm_isl d l) (v : Nat) : tm_el l v < d := by
  obtain ⟨h1, h2, h3⟩ := h
  unfold tm_el
  by_cases e0 : v = 0
  · rw [if_pos e0]; exact h1
  · rw [if_neg e0]
    by_cases e1 : v = 1
    · rw [if_pos e1]; exact h2
    · rw [if_neg e1]; exact h3
/-- the sum of g over the lists below i -/
def tm_sum (d : Nat) (g : Nat → Nat) : Nat → Nat
  | 0 => 0
  | i + 1 => tm_sum d g i + (if i % 3 < d ∧ i / 3 % 3 < d ∧ i / 9 < d then g i else 0)
theorem tm_sum_y {d i : Nat} {g : Nat → Nat} (h : tm_isl d i) : tm_sum d g (i + 1) = tm_sum d g i + g i := by
  unfold tm_isl at h
  show tm_sum d g i + _ = _
  rw [if_pos h]
theorem tm_sum_n {d i : Nat} {g : Nat → Nat} (h : ¬ tm_isl d i) : tm_sum d g (i + 1) = tm_sum d g i := by
  unfold tm_isl at h
  show tm_sum d g i + _ = _
  rw [if_neg h, Nat.add_zero]
theorem tm_sum_le {d : Nat} {g : Nat → Nat} (h : ∀ l, g l ≤ 1) (i : Nat) : tm_sum d g i ≤ i := by
  induction i with
  | zero => exact Nat.le_refl 0
  | succ i ih =>
    have hi := h i
    by_cases z : tm_isl d i
    · rw [tm_sum_y z]; omega
    · rw [tm_sum_n z]; omega
/-- sums over elements and over pairs -/
def tm_s1 (d : Nat) (G : Nat → Nat → Nat) : Nat := G 0 0 + (if 1 < d then G 1 1 else 0) + (if 2 < d then G 2 2 else 0)
def tm_row (d : Nat) (G : Nat → Nat → Nat) (e : Nat) : Nat := G e 0 + (if 1 < d then G e 1 else 0) + (if 2 < d then G e 2 else 0)
def tm_s2 (d : Nat) (G : Nat → Nat → Nat) : Nat := tm_row d G 0 + (if 1 < d then tm_row d G 1 else 0) + (if 2 < d then tm_row d G 2 else 0)
theorem tm_same {d v : Nat} (h : 1 ≤ d ∧ d ≤ 3) (hv : v < 3) (G : Nat → Nat → Nat) : tm_sum d (fun l => G (tm_el l v) (tm_el l v)) 27 = d * d * tm_s1 d G := by
  obtain rfl | rfl | rfl := tm_d3 h
  all_goals obtain rfl | rfl | rfl : v = 0 ∨ v = 1 ∨ v = 2 := by omega
  all_goals simp [tm_sum, tm_el, tm_s1]
  all_goals omega
theorem tm_diff {d v w : Nat} (h : 1 ≤ d ∧ d ≤ 3) (hv : v < 3) (hw : w < 3) (ne : v ≠ w) (G : Nat → Nat → Nat) : tm_sum d (fun l => G (tm_el l v) (tm_el l w)) 27 = d * tm_s2 d G := by
  obtain rfl | rfl | rfl := tm_d3 h
  all_goals obtain ⟨rfl, rfl⟩ | ⟨rfl, rfl⟩ | ⟨rfl, rfl⟩ | ⟨rfl, rfl⟩ | ⟨rfl, rfl⟩ | ⟨rfl, rfl⟩ : (v = 0 ∧ w = 1) ∨ (v = 0 ∧ w = 2) ∨ (v = 1 ∧ w = 0) ∨ (v = 1 ∧ w = 2) ∨ (v = 2 ∧ w = 0) ∨ (v = 2 ∧ w = 1) := by omega
  all_goals simp [tm_sum, tm_el, tm_s2, tm_row]
  all_goals omega
end
section
section
variable {hh ax el kn sz dp : Int32} {a1 a2 a3 a4 a5 : Nat → Int32} {a6 : Nat → Int64} {a7 : Nat → Int32} {a8 a9 a10 a11 a12 a13 : Nat → Int64}
theorem tm_withDigit {post : Int64 → Prop} {k p : Nat} (hk : k < 12) (hp : p < 64) (H : post (tm_wd k p)) : wpX_withDigit post () (nI k) (nI p) := by
  have e : ∀ v, tm_wd k p = v → post v := fun v h => h ▸ H
  refine pk_lt k 0 (fun z => absurd z (by omega)) (fun _ => pk_lt 5 k (fun z => ?_) (fun z => ?_))
  · refine ek_if (tm_sh k hk p hp z) (fun g => e _ ?_) (fun g => e _ ?_)
    · rw [tm_wdhi (by omega), if_pos g]
    · rw [tm_wdhi (by omega), if_neg g]
  · exact pk_eq k 0 (fun z => e _ (by rw [z]; rfl)) (fun z0 => pk_eq k 1 (fun z => e _ (by rw [z]; rfl)) (fun z1 => pk_eq k 2 (fun z => e _ (by rw [z]; rfl)) (fun z2 => pk_eq k 3 (fun z => e _ (by rw [z]; rfl)) (fun z3 => pk_eq k 4 (fun z => e _ (by rw [z]; rfl)) (fun z4 => pk_eq k 5 (fun z => e _ (by rw [z]; rfl)) (fun z5 => absurd hk (by omega)))))))
theorem tm_r3 {l : Nat} (h : l < 2 ^ 31) : nI l - nI l / 3 * 3 = nI (l % 3) := pk_rem (d := 3) h (by decide) (by decide)
theorem tm_q3 {l : Nat} (h : l < 2 ^ 31) : nI l / 3 = nI (l / 3) := pk_div (d := 3) h (by decide) (by decide)
theorem tm_q9 {l : Nat} (h : l < 2 ^ 31) : nI l / 9 = nI (l / 9) := pk_div (d := 9) h (by decide) (by decide)
theorem tm_isList {post : Int32 → Prop} {d l : Nat} (hd : d ≤ 3) (hl : l < 27) (H1 : tm_isl d l → post 1) (H0 : ¬ tm_isl d l → post 0) : wpX_isList post (hh, ax, el, kn, nI d, dp, a1, a2, a3, a4, a5, a6, a7, a8, a9, a10, a11, a12, a13) (nI l) := by
  have e1 := tm_r3 (l := l) (by omega)
  have e2 := tm_q3 (l := l) (by omega)
  have e3 := tm_r3 (l := l / 3) (by omega)
  have e4 := tm_q9 (l := l) (by omega)
  unfold wpX_isList
  dsimp only
  rw [e1, e2, e3, e4]
  exact ⟨by decide, pk_le d (l % 3) (fun z => H0 (fun t => absurd t.1 (by omega))) (fun z1 => ⟨by decide, by decide, pk_le d (l / 3 % 3) (fun z => H0 (fun t => absurd t.2.1 (by omega))) (fun z2 => ⟨by decide, pk_le d (l / 9) (fun z => H0 (fun t => absurd t.2.2 (by omega))) (fun z3 => H1 ⟨z1, z2, z3⟩)⟩)⟩)⟩
theorem tm_elementIn {post : Int32 → Prop} {l v : Nat} (hl : l < 27) (hv : v < 3) (H : post (nI (tm_el l v))) : wpX_elementIn post () (nI l) (nI v) := by
  have e1 := tm_r3 (l := l) (by omega)
  have e2 := tm_q3 (l := l) (by omega)
  have e3 := tm_r3 (l := l / 3) (by omega)
  have e4 := tm_q9 (l := l) (by omega)
  have e : ∀ x, tm_el l v = x → post (nI x) := fun x h => h ▸ H
  unfold wpX_elementIn
  rw [e1, e2, e3, e4]
  exact pk_eq v 0 (fun z => ⟨by decide, e _ (by unfold tm_el; rw [if_pos z])⟩) (fun z0 => pk_eq v 1 (fun z => ⟨by decide, by decide, e _ (by unfold tm_el; rw [if_neg z0, if_pos z])⟩) (fun z1 => ⟨by decide, e _ (by unfold tm_el; rw [if_neg z0, if_neg z1])⟩))
/-! ===== the constructor ===== -/
theorem tm_lm73 {post : St2 → Prop} {x4 z0 : Int32} {p q : Nat} (hp : p < 6) (hq : q < 18) (H : ∀ b, post (hh, ax, el, kn, sz, dp, a1, a2, a3, a4, a5, a6, b, a8, a9, a10, a11, a12, a13)) : wX_layMap_73 post (nI p) x4 z0 (nI q) hh ax el kn sz dp a1 a2 a3 a4 a5 a6 a7 a8 a9 a10 a11 a12 a13 :=
  ⟨pk_in q 18 hq, nm_e ⟨pk_in (3 * p + 2) 18 (by omega) (tm_3 p 2), nm_e (H _)⟩⟩
theorem tm_lm52 {post : St2 → Prop} {x2 x3 x4 z0 : Int32} {p q : Nat} (hp : p < 6) (hq : q < 18) (H : ∀ b, post (hh, ax, el, kn, sz, dp, a1, a2, a3, a4, a5, a6, b, a8, a9, a10, a11, a12, a13)) : wX_layMap_52 post (nI p) x2 x3 x4 z0 (nI q) hh ax el kn sz dp a1 a2 a3 a4 a5 a6 a7 a8 a9 a10 a11 a12 a13 := by
  have e : (3 : Int32) * nI p + 1 = nI (3 * p + 1) := tm_3 p 1
  unfold wX_layMap_52
  rw [e]
  exact ⟨pk_in q 18 hq, nm_e ⟨by decide, br_c (fun _ => tm_lm73 hp (by omega) H) (fun _ => tm_lm73 hp (by omega) H)⟩⟩
theorem tm_lm34 {post : St2 → Prop} {x2 x3 x4 : Int32} {p : Nat} (hp : p < 6) (H : ∀ b, post (hh, ax, el, kn, sz, dp, a1, a2, a3, a4, a5, a6, b, a8, a9, a10, a11, a12, a13)) : wX_layMap_34 post (nI p) x2 x3 x4 hh ax el kn sz dp a1 a2 a3 a4 a5 a6 a7 a8 a9 a10 a11 a12 a13 := by
  have e : (3 : Int32) * nI p = nI (3 * p) := pk_mul 3 p
  unfold wX_layMap_34
  rw [e]
  exact ⟨by decide, br_c (fun _ => tm_lm52 hp (by omega) H) (fun _ => tm_lm52 hp (by omega) H)⟩
theorem tm_layMap {post : St2 → Prop} {p : Nat} (hp : p < 6) (H : ∀ b, post (hh, ax, el, kn, sz, dp, a1, a2, a3, a4, a5, a6, b, a8, a9, a10, a11, a12, a13)) : wpX_layMap post (hh, ax, el, kn, sz, dp, a1, a2, a3, a4, a5, a6, a7, a8, a9, a10, a11, a12, a13) (nI p) :=
  br_c (fun _ => br_c (fun _ => tm_lm34 hp H) (fun _ => tm_lm34 hp H)) (fun _ => tm_lm34 hp H)
theorem tm_init117 {post : St2 → Prop} {mc ms kc ks : Nat} (H : ∀ b, post (hh, ax, el, kn, sz, dp, a1, a2, a3, a4, a5, a6, b, a8, a9, a10, a11, a12, a13)) : ∃ n, wX_init_117 post mc ms kc ks n 0 hh ax el kn sz dp a1 a2 a3 a4 a5 a6 a7 a8 a9 a10 a11 a12 a13 :=
  pk_loop (fun n i s => wX_init_117 post mc ms kc ks n (nI i) hh ax el kn sz dp a1 a2 a3 a4 a5 a6 s a8 a9 a10 a11 a12 a13) (fun _ _ => True) 6 0 a7 (by omega) trivial
    (fun n s _ => pk_le 6 6 (fun _ => H s) (fun z => absurd z (by omega)))
    (fun n i s hi _ hw => pk_le 6 i (fun z => absurd z (by omega)) (fun _ => tm_layMap hi (fun b => nm_r (nI_1 i) (hw b trivial))))
theorem tm_init {post : St2 → Prop} {mc ms : Nat} (h1 : 13 ≤ mc) (h2 : 1129 ≤ ms)
    (H : ∀ b, post (0, 0, 2, 0, 0, 0, (fun _ => 0), (fun _ => 0), (fun _ => 0), (fun _ => 0), (fun _ => 0), (fun _ => 0), b, (fun _ => 0), (fun _ => 0), (fun _ => 0), (fun _ => 0), (fun _ => 0), (fun _ => 0))) :
    wpX_init post mc ms (0, 0, 0, 0, 0, 0) :=
  ⟨by omega, by omega, by omega, by omega, by omega, by omega, by omega, by omega, by omega, by omega, by omega, by omega, by omega, by omega, by omega, by omega, by omega, by omega, by omega, by omega, by omega, by omega, by omega, by omega, by omega, by omega, tm_init117 H⟩
/-! ===== a part of 64 interpretations ===== -/
theorem tm_co12 {post : St2 → Prop} {J2 : Int32 → (Nat → Int32) → (Nat → Int32) → (Nat → Int32) → (Nat → Int32) → (Nat → Int32) → (Nat → Int64) → (Nat → Int32) → (Nat → Int64) → (Nat → Int64) → (Nat → Int64) → (Nat → Int64) → (Nat → Int64) → (Nat → Int64) → Prop} {d o e : Nat} (hd : d ≤ 3) (ho : o < 3) (he : e < 3)
    (H : ∀ b, J2 (nI (e + 1)) a1 a2 a3 a4 a5 a6 a7 a8 a9 b a11 a12 a13) : ∃ n, wX_closeOver_12 post J2 (nI o) (nI e) hh ax el kn (nI d) dp n 0 a1 a2 a3 a4 a5 a6 a7 a8 a9 a10 a11 a12 a13 :=
  pk_loop (fun n i s => wX_closeOver_12 post J2 (nI o) (nI e) hh ax el kn (nI d) dp n (nI i) a1 a2 a3 a4 a5 a6 a7 a8 a9 s a11 a12 a13) (fun _ _ => True) d 0 a10 (by omega) trivial
    (fun n s _ => pk_le d d (fun _ => nm_r (nI_1 e) (H s)) (fun z => absurd z (by omega)))
    (fun n i s hi _ hw => pk_le d i (fun z => absurd z (by omega)) (fun _ => ⟨pk_in (3 * e + i) 9 (by omega) (tm_3 e i), pk_in (3 * e + o) 9 (by omega) (tm_3 e o), pk_in (3 * o + i) 9 (by omega) (tm_3 o i), pk_in (3 * e + i) 9 (by omega) (tm_3 e i), nm_e (nm_r (nI_1 i) (hw _ trivial))⟩))
theorem tm_closeOver {post : St2 → Prop} {d o : Nat} (hd : d ≤ 3) (ho : o < 3) (H : ∀ b, post (hh, ax, el, kn, nI d, dp, a1, a2, a3, a4, a5, a6, a7, a8, a9, b, a11, a12, a13)) : wpX_closeOver post (hh, ax, el, kn, nI d, dp, a1, a2, a3, a4, a5, a6, a7, a8, a9, a10, a11, a12, a13) (nI o) :=
  pk_loop (fun n i s => wX_closeOver_2 post (nI o) hh ax el kn (nI d) dp n (nI i) a1 a2 a3 a4 a5 a6 a7 a8 a9 s a11 a12 a13) (fun _ _ => True) d 0 a10 (by omega) trivial
    (fun n s _ => pk_le d d (fun _ => H s) (fun z => absurd z (by omega)))
    (fun n i s hi _ hw => pk_le d i (fun z => absurd z (by omega)) (fun _ => tm_co12 hd ho (by omega) (fun b => hw b trivial)))
theorem tm_lp103 {post : St2 → Prop} {d : Nat} (hd : d ≤ 3) (H : ∀ b, post (hh, ax, el, kn, nI d, dp, a1, a2, a3, a4, a5, a6, a7, a8, a9, b, a11, a12, a13)) : ∃ n, wX_layPart_103 post (nI d) n 0 hh ax el kn (nI d) dp a1 a2 a3 a4 a5 a6 a7 a8 a9 a10 a11 a12 a13 :=
  pk_loop (fun n i s => wX_layPart_103 post (nI d) n (nI i) hh ax el kn (nI d) dp a1 a2 a3 a4 a5 a6 a7 a8 a9 s a11 a12 a13) (fun _ _ => True) d 0 a10 (by omega) trivial
    (fun n s _ => pk_le d d (fun _ => H s) (fun z => absurd z (by omega)))
    (fun n i s hi _ hw => pk_le d i (fun z => absurd z (by omega)) (fun _ => tm_closeOver hd (by omega) (fun b => nm_r (nI_1 i) (hw b trivial))))
/-- the relation's words stand for the rows ahead of e, and in row e ahead of i -/
def tm_R (d p e i : Nat) (b : Nat → Int64) : Prop := ∀ e' f', f' < d → (e' < e ∨ (e' = e ∧ f' < i)) → b (3 * e' + f') = tm_wd (d + d * e' + f') p
theorem tm_R_up {d p e i : Nat} {b : Nat → Int64} {x : Int64} {q : Nat} (hd : d ≤ 3) (hi : i < d) (h : tm_R d p e i b) (hq : q = 3 * e + i) (hx : x = tm_wd (d + d * e + i) p) : tm_R d p e (i + 1) (vp_updL b q x) := by
  intro e' f' hf hc
  by_cases z : e' = e ∧ f' = i
  · rw [z.1, z.2, hq, pk_uLs, hx]
  · rw [pk_uLn (by omega)]
    exact h e' f' hf (by omega)
theorem tm_R_row {d p e : Nat} {b : Nat → Int64} (h : tm_R d p e d b) : tm_R d p (e + 1) 0 b := by
  intro e' f' hf hc
  exact h e' f' hf (by omega)
theorem tm_dl (d e i : Nat) : (nI d + nI d * nI e) + nI i = nI (d + d * e + i) := by rw [pk_mul, nI_add, nI_add]
theorem tm_lp26 {post : St2 → Prop} {J7 : Int32 → (Nat → Int32) → (Nat → Int32) → (Nat → Int32) → (Nat → Int32) → (Nat → Int32) → (Nat → Int64) → (Nat → Int32) → (Nat → Int64) → (Nat → Int64) → (Nat → Int64) → (Nat → Int64) → (Nat → Int64) → (Nat → Int64) → Prop} {d p e : Nat} (hd : d ≤ 3) (hp : p < 64) (he : e < d)
    (h0 : tm_R d p e 0 a9) (H : ∀ b c, tm_R d p (e + 1) 0 b → J7 (nI (e + 1)) a1 a2 a3 a4 a5 a6 a7 a8 b c a11 a12 a13) : ∃ n, wX_layPart_26 post J7 (nI d) (nI p) (nI e) hh ax el kn sz dp n 0 a1 a2 a3 a4 a5 a6 a7 a8 a9 a10 a11 a12 a13 := by
  refine pk_loop (fun n i s => wX_layPart_26 post J7 (nI d) (nI p) (nI e) hh ax el kn sz dp n (nI i) a1 a2 a3 a4 a5 a6 a7 a8 s.1 s.2 a11 a12 a13) (fun i s => tm_R d p e i s.1) d 0 (a9, a10) (by omega) h0 ?_ ?_
  · exact fun n s h => pk_le d d (fun _ => nm_r (nI_1 e) (H s.1 s.2 (tm_R_row h))) (fun z => absurd z (by omega))
  · intro n i s hi h hw
    have hk : d + d * e + i < 12 := by
      obtain rfl | rfl | rfl : d = 1 ∨ d = 2 ∨ d = 3 := by omega
      all_goals omega
    have c3 : ((3 : Int32) * nI e + nI i).toNatClampNeg = 3 * e + i := by rw [tm_3]; exact nI_clamp (by omega)
    have hn := tm_R_up (x := tm_wd (d + d * e + i) p) hd hi h c3 rfl
    refine pk_le d i (fun z => absurd z (by omega)) (fun _ => ?_)
    rw [tm_dl]
    exact tm_withDigit hk hp ⟨pk_in (3 * e + i) 9 (by omega) (tm_3 e i), nm_e (br_c (fun _ => ⟨pk_in (3 * e + i) 9 (by omega) (tm_3 e i), nm_e (nm_r (nI_1 i) (hw (_, _) hn))⟩) (fun _ => ⟨pk_in (3 * e + i) 9 (by omega) (tm_3 e i), pk_in (3 * e + i) 9 (by omega) (tm_3 e i), nm_e (nm_r (nI_1 i) (hw (_, _) hn))⟩))⟩
theorem tm_layPart {post : St2 → Prop} {d p : Nat} (hd : d ≤ 3) (hp : p < 64)
    (H : ∀ b c q, (∀ e, e < d → b e = tm_wd e p) → tm_R d p d 0 c → post (hh, ax, el, kn, nI d, dp, a1, a2, a3, a4, a5, a6, a7, b, c, q, a11, a12, a13)) : wpX_layPart post (hh, ax, el, kn, sz, dp, a1, a2, a3, a4, a5, a6, a7, a8, a9, a10, a11, a12, a13) (nI d) (nI p) := by
  refine pk_loop (fun n i s => wX_layPart_7 post (nI d) (nI p) hh ax el kn (nI d) dp n (nI i) a1 a2 a3 a4 a5 a6 a7 s.1 s.2.1 s.2.2 a11 a12 a13) (fun i s => (∀ e, e < i → s.1 e = tm_wd e p) ∧ tm_R d p i 0 s.2.1) d 0 (a8, a9, a10) (by omega) ⟨fun e h => absurd h (by omega), fun e' f' hf hc => absurd hc (by omega)⟩ ?_ ?_
  · exact fun n s h => pk_le d d (fun _ => tm_lp103 hd (fun b => H s.1 s.2.1 b h.1 h.2)) (fun z => absurd z (by omega))
  · intro n i s hi h hw
    have c3 : (nI i).toNatClampNeg = i := nI_clamp (by omega)
    refine pk_le d i (fun z => absurd z (by omega)) (fun _ => tm_withDigit (by omega) hp ⟨pk_in i 3 (by omega), nm_e (tm_lp26 hd hp hi h.2 (fun b c hb => hw (_, b, c) ⟨?_, hb⟩))⟩)
    intro e he
    show vp_updL s.1 (nI i).toNatClampNeg (tm_wd i p) e = _
    rw [c3]
    by_cases z : e = i
    · rw [z, pk_uLs]
    · rw [pk_uLn z]
      exact h.1 e (by omega)
end
end
section
section
variable {hh ax el kn sz dp : Int32} {a1 a2 a3 a4 a5 : Nat → Int32} {a6 : Nat → Int64} {a7 : Nat → Int32} {a8 a9 a10 a11 a12 a13 : Nat → Int64}
theorem tm_modelsHere {post : Int64 → St2 → Prop} {d : Nat} {x : Int32} (hd : d ≤ 3) (H : post (if d = 1 then 15 else -1) (hh, 0, el, kn, sz, dp, a1, a2, a3, a4, a5, a6, a7, a8, a9, a10, a11, a12, a13)) : wpX_modelsHere post (hh, 0, el, kn, sz, dp, a1, a2, a3, a4, a5, a6, a7, a8, a9, a10, a11, a12, a13) (nI d) x :=
  pk_eq d 1 (fun z => ⟨1, br_t (Int32.le_refl 0) (by rw [if_pos z] at H; exact H)⟩) (fun z => ⟨1, br_t (Int32.le_refl 0) (by rw [if_neg z] at H; exact H)⟩)
theorem tm_up {d i : Nat} {b : Nat → Int64} {x : Int64} (h : ∀ j, j < i → b j = tm_mb d j) (hx : x = tm_mb d i) : ∀ j, j < i + 1 → vp_updL b i x j = tm_mb d j := by
  intro j hj
  by_cases z : j = i
  · rw [z, pk_uLs, hx]
  · rw [pk_uLn z]
    exact h j (by omega)
theorem tm_up2 {d i : Nat} {b : Nat → Int64} {x y : Int64} (h : ∀ j, j < i → b j = tm_mb d j) (hx : x = tm_mb d i) : ∀ j, j < i + 1 → vp_updL (vp_updL b i y) i x j = tm_mb d j := by
  intro j hj
  by_cases z : j = i
  · rw [z, pk_uLs, hx]
  · rw [pk_uLn z, pk_uLn z]
    exact h j (by omega)
theorem tm_find {post : St2 → Prop} {d : Nat} (hd : 1 ≤ d ∧ d ≤ 3)
    (H : ∀ s b6 b8 b9 b10, (∀ j, j < 64 → b6 j = tm_mb d j) → post (hh, 0, nI d, 1, s, dp, a1, a2, a3, a4, a5, b6, a7, b8, b9, b10, a11, a12, a13)) : wpX_find post (hh, 0, nI d, 0, sz, dp, a1, a2, a3, a4, a5, a6, a7, a8, a9, a10, a11, a12, a13) := by
  refine br_t rfl (pk_loop (σ := Int32 × (Nat → Int64) × (Nat → Int64) × (Nat → Int64) × (Nat → Int64)) (fun n i s => wX_find_15 post n (nI i) hh 0 (nI d) 1 s.1 dp a1 a2 a3 a4 a5 s.2.1 a7 s.2.2.1 s.2.2.2.1 s.2.2.2.2 a11 a12 a13) (fun i s => ∀ j, j < i → s.2.1 j = tm_mb d j) 64 0 (sz, a6, a8, a9, a10) (by omega) (fun j hj => absurd hj (by omega)) ?_ ?_)
  · exact fun n s h => pk_le 64 64 (fun _ => H s.1 s.2.1 s.2.2.1 s.2.2.2.1 s.2.2.2.2 h) (fun z => absurd z (by omega))
  · intro n i s hi h hw
    have c : (nI i).toNatClampNeg = i := nI_clamp (by omega)
    refine pk_le 64 i (fun z => absurd z (by omega)) (fun _ => ⟨pk_in i 64 hi, nm_e ?_⟩)
    refine pk_eq d 3 (fun z => pk_le 64 i (fun g => absurd g (by omega)) (fun g => ?_)) (fun z => pk_le 1 i (fun g => nm_r (nI_1 i) ?_) (fun g => ?_))
    · exact tm_layPart hd.2 hi (fun b c' q _ _ => tm_modelsHere hd.2 ⟨pk_in i 64 hi, nm_e (nm_r (nI_1 i) (hw (nI d, _, b, c', q) (by dsimp only; rw [c]; exact tm_up2 h (by unfold tm_mb; rw [if_pos z, if_neg (by omega)]))))⟩)
    · exact hw (s.1, vp_updL s.2.1 (nI i).toNatClampNeg 0, s.2.2.1, s.2.2.2.1, s.2.2.2.2) (by dsimp only; rw [c]; exact tm_up h (by unfold tm_mb; rw [if_neg z, if_neg (by omega)]))
    · exact tm_layPart hd.2 hi (fun b c' q _ _ => tm_modelsHere hd.2 ⟨pk_in i 64 hi, nm_e (nm_r (nI_1 i) (hw (nI d, _, b, c', q) (by dsimp only; rw [c]; exact tm_up2 h (by unfold tm_mb; rw [if_neg z, if_pos (show i = 0 by omega)]))))⟩)
/-- known already: nothing to do -/
theorem tm_found {post : St2 → Prop} (H : post (hh, ax, el, 1, sz, dp, a1, a2, a3, a4, a5, a6, a7, a8, a9, a10, a11, a12, a13)) : wpX_find post (hh, ax, el, 1, sz, dp, a1, a2, a3, a4, a5, a6, a7, a8, a9, a10, a11, a12, a13) := br_f (by decide) H
/-! ===== ones, models ===== -/
theorem tm_ones {post : Int32 → Prop} {x : Int64} (f : Nat → Int64) (c : Nat) (hx : x = f 0) (hc : c ≤ 64) (h1 : ∀ i, i < c → ¬ f i = 0 ∧ f i &&& (f i - 1) = f (i + 1)) (h0 : f c = 0) (H : post (nI c)) : wpX_ones post () x := by
  subst hx
  exact pk_loop (σ := Unit) (fun n i _ => wX_ones_7 post n (nI i) (f i) (nI i)) (fun _ _ => True) c 0 () (by omega) trivial
    (fun n _ _ => pk_le 64 c (fun _ => H) (fun _ => br_t h0 H))
    (fun n i _ hi _ hw => pk_le 64 i (fun z => absurd z (by omega)) (fun _ => br_f (h1 i hi).1 (nm_r (h1 i hi).2 (nm_r (nI_1 i) (nm_r (nI_1 i) (hw () trivial))))))
theorem tm_f64 : ∀ i : Nat, i < 64 → ¬ lN (2 ^ 64 - 2 ^ i) = 0 ∧ lN (2 ^ 64 - 2 ^ i) &&& (lN (2 ^ 64 - 2 ^ i) - 1) = lN (2 ^ 64 - 2 ^ (i + 1)) := by decide +kernel
theorem tm_f4 : ∀ i : Nat, i < 4 → ¬ lN (16 - 2 ^ i) = 0 ∧ lN (16 - 2 ^ i) &&& (lN (16 - 2 ^ i) - 1) = lN (16 - 2 ^ (i + 1)) := by decide +kernel
theorem tm_ones64 {post : Int32 → Prop} {x : Int64} (hx : x = -1) (H : post (nI 64)) : wpX_ones post () x :=
  tm_ones (fun i => lN (2 ^ 64 - 2 ^ i)) 64 (hx.trans (by decide +kernel)) (by omega) tm_f64 (by decide +kernel) H
theorem tm_ones4 {post : Int32 → Prop} {x : Int64} (hx : x = 15) (H : post (nI 4)) : wpX_ones post () x :=
  tm_ones (fun i => lN (16 - 2 ^ i)) 4 (hx.trans (by decide +kernel)) (by omega) tm_f4 (by decide +kernel) H
theorem tm_ones0 {post : Int32 → Prop} {x : Int64} (hx : x = 0) (H : post (nI 0)) : wpX_ones post () x :=
  tm_ones (fun _ => 0) 0 hx (by omega) (fun i hi => absurd hi (by omega)) rfl H
/-- how many models part i has -/
def tm_oc (d i : Nat) : Nat := if d = 3 then 64 else if i = 0 then (if d = 1 then 4 else 64) else 0
theorem tm_onesAt {post : Int32 → Prop} {x : Int64} {d i : Nat} (hx : x = tm_mb d i) (H : post (nI (tm_oc d i))) : wpX_ones post () x := by
  by_cases h3 : d = 3
  · have e1 : tm_mb d i = -1 := by unfold tm_mb; rw [if_pos h3]
    have e2 : tm_oc d i = 64 := by unfold tm_oc; rw [if_pos h3]
    rw [e2] at H
    exact tm_ones64 (hx.trans e1) H
  · by_cases h0 : i = 0
    · by_cases h1 : d = 1
      · have e1 : tm_mb d i = 15 := by unfold tm_mb; rw [if_neg h3, if_pos h0, if_pos h1]
        have e2 : tm_oc d i = 4 := by unfold tm_oc; rw [if_neg h3, if_pos h0, if_pos h1]
        rw [e2] at H
        exact tm_ones4 (hx.trans e1) H
      · have e1 : tm_mb d i = -1 := by unfold tm_mb; rw [if_neg h3, if_pos h0, if_neg h1]
        have e2 : tm_oc d i = 64 := by unfold tm_oc; rw [if_neg h3, if_pos h0, if_neg h1]
        rw [e2] at H
        exact tm_ones64 (hx.trans e1) H
    · have e1 : tm_mb d i = 0 := by unfold tm_mb; rw [if_neg h3, if_neg h0]
      have e2 : tm_oc d i = 0 := by unfold tm_oc; rw [if_neg h3, if_neg h0]
      rw [e2] at H
      exact tm_ones0 (hx.trans e1) H
theorem tm_cn_s (d i : Nat) : tm_cn d i + tm_oc d i = tm_cn d (i + 1) := by
  unfold tm_cn tm_oc
  by_cases h3 : d = 3
  · rw [if_pos h3, if_pos h3, if_pos h3]; omega
  · rw [if_neg h3, if_neg h3, if_neg h3, if_neg (show ¬ i + 1 = 0 by omega)]
    by_cases h0 : i = 0
    · rw [if_pos h0, if_pos h0, Nat.zero_add]
    · rw [if_neg h0, if_neg h0, Nat.add_zero]
theorem tm_cn0 (d : Nat) : tm_cn d 0 = 0 := by
  unfold tm_cn
  by_cases h3 : d = 3
  · rw [if_pos h3]
  · rw [if_neg h3]; rfl
theorem tm_models8 {post : Int32 → St2 → Prop} {d : Nat} (h6 : ∀ j, j < 64 → a6 j = tm_mb d j) (H : post (nI (tm_cn d 64)) (hh, ax, el, kn, sz, dp, a1, a2, a3, a4, a5, a6, a7, a8, a9, a10, a11, a12, a13)) : ∃ n, wX_models_8 post hh ax el kn sz dp a1 a2 a3 a4 a5 a6 a7 a8 a9 a10 a11 a12 a13 n 0 0 :=
  pk_loop (fun n i s => wX_models_8 post hh ax el kn sz dp a1 a2 a3 a4 a5 a6 a7 a8 a9 a10 a11 a12 a13 n s (nI i)) (fun i s => s = nI (tm_cn d i)) 64 0 0 (by omega) (by rw [tm_cn0]; rfl)
    (fun n s h => pk_le 64 64 (fun _ => by rw [h]; exact H) (fun z => absurd z (by omega)))
    (fun n i s hi h hw => pk_le 64 i (fun z => absurd z (by omega)) (fun _ => ⟨pk_in i 64 hi, tm_onesAt (d := d) (i := i) (by rw [nI_clamp (by omega)]; exact h6 i hi) (nm_r (show s + nI (tm_oc d i) = nI (tm_cn d (i + 1)) by rw [h, nI_add, tm_cn_s]) (nm_r (nI_1 i) (hw _ rfl)))⟩))
theorem tm_models {post : Int32 → St2 → Prop} {d : Nat} (hd : 1 ≤ d ∧ d ≤ 3)
    (H : ∀ s b6 b8 b9 b10, (∀ j, j < 64 → b6 j = tm_mb d j) → post (nI (tm_cn d 64)) (hh, 0, nI d, 1, s, dp, a1, a2, a3, a4, a5, b6, a7, b8, b9, b10, a11, a12, a13)) : wpX_models post (hh, 0, nI d, 0, sz, dp, a1, a2, a3, a4, a5, a6, a7, a8, a9, a10, a11, a12, a13) := by
  unfold wpX_models
  exact tm_find hd (fun s b6 b8 b9 b10 h6 => tm_models8 h6 (H s b6 b8 b9 b10 h6))
/-! ===== numbers of interpretations ===== -/
theorem tm_interp {post : Int32 → Prop} {d : Nat} (hd : 1 ≤ d ∧ d ≤ 3) (H : post (nI (tm_cn d 64))) : wpX_interpretations post (hh, ax, nI d, kn, sz, dp, a1, a2, a3, a4, a5, a6, a7, a8, a9, a10, a11, a12, a13) := by
  have e : (1 : Int32) <<< ((nI d + nI d * nI d) &&& 31) = nI (tm_cn d 64) := by rw [tm_dig, tm_cnt hd]
  exact ek_v (P := post) e H
theorem tm_domainY {post : Int32 → St2 → Prop} {d : Nat} (hd : 1 ≤ d ∧ d ≤ 3) (H : post (nI (tm_cn d 64)) (hh, ax, nI d, 0, sz, dp, a1, a2, a3, a4, a5, a6, a7, a8, a9, a10, a11, a12, a13)) : wpX_domain post (hh, ax, el, kn, sz, dp, a1, a2, a3, a4, a5, a6, a7, a8, a9, a10, a11, a12, a13) (nI d) :=
  pk_lt d 1 (fun z => absurd z (by omega)) (fun _ => pk_le d 3 (fun _ => tm_interp hd H) (fun z => absurd z (by omega)))
theorem tm_domainN {post : Int32 → St2 → Prop} {x : Int32} (hx : x < 1 ∨ 3 < x) (H : post (-1) (hh, ax, el, kn, sz, dp, a1, a2, a3, a4, a5, a6, a7, a8, a9, a10, a11, a12, a13)) : wpX_domain post (hh, ax, el, kn, sz, dp, a1, a2, a3, a4, a5, a6, a7, a8, a9, a10, a11, a12, a13) x :=
  br_c (fun _ => H) (fun z => br_f (fun g => hx.elim z (fun y => Int32.not_lt.mpr g y)) H)
theorem tm_isNumberN {post : Int32 → Prop} {d : Nat} {x : Int32} (hd : 1 ≤ d ∧ d ≤ 3) (hx : x < 0 ∨ nI (tm_cn d 64) ≤ x) (H : post 0) : wpX_isNumber post (hh, ax, nI d, kn, sz, dp, a1, a2, a3, a4, a5, a6, a7, a8, a9, a10, a11, a12, a13) x :=
  br_c (fun _ => H) (fun z => tm_interp hd (br_t (hx.elim (fun y => absurd y z) id) H))
theorem tm_isNumberY {post : Int32 → Prop} {d m : Nat} (hd : 1 ≤ d ∧ d ≤ 3) (hm : m < tm_cn d 64) (H : post 1) : wpX_isNumber post (hh, ax, nI d, kn, sz, dp, a1, a2, a3, a4, a5, a6, a7, a8, a9, a10, a11, a12, a13) (nI m) := by
  have h4 := tm_cn_le hd
  exact pk_lt m 0 (fun z => absurd z (by omega)) (fun _ => tm_interp hd (pk_le (tm_cn d 64) m (fun z => absurd z (by omega)) (fun _ => H)))
theorem tm_isModelN {post : Int32 → St2 → Prop} {d : Nat} {x : Int32} (hd : 1 ≤ d ∧ d ≤ 3) (hx : x < 0 ∨ nI (tm_cn d 64) ≤ x) (H : post (-1) (hh, ax, nI d, kn, sz, dp, a1, a2, a3, a4, a5, a6, a7, a8, a9, a10, a11, a12, a13)) : wpX_isModel post (hh, ax, nI d, kn, sz, dp, a1, a2, a3, a4, a5, a6, a7, a8, a9, a10, a11, a12, a13) x := by
  unfold wpX_isModel
  exact tm_isNumberN hd hx (br_t rfl H)
theorem tm_isModelY {post : Int32 → St2 → Prop} {d m : Nat} (hd : 1 ≤ d ∧ d ≤ 3) (hm : m < tm_cn d 64) (h6 : ∀ j, j < 64 → a6 j = tm_mb d j) (H : post 1 (hh, ax, nI d, 1, sz, dp, a1, a2, a3, a4, a5, a6, a7, a8, a9, a10, a11, a12, a13)) : wpX_isModel post (hh, ax, nI d, 1, sz, dp, a1, a2, a3, a4, a5, a6, a7, a8, a9, a10, a11, a12, a13) (nI m) := by
  have h4 := tm_cn_le hd
  have e1 : nI m >>> ((6 : Int32) &&& 31) = nI (m / 64) := pk_shrN (by omega) _ 6 (by decide)
  have e2 : nI m &&& 63 = nI (m % 64) := pk_andN (by omega) 6 (by decide)
  have e3 : a6 (nI m >>> ((6 : Int32) &&& 31)).toNatClampNeg = tm_mb d (m / 64) := by
    rw [e1, nI_clamp (by omega)]
    exact h6 _ (by omega)
  have e : (((a6 (nI m >>> ((6 : Int32) &&& 31)).toNatClampNeg).toUInt64 >>> ((nI m &&& 63).toInt64.toUInt64 &&& Int64.toUInt64 63)).toInt64).toInt32 &&& 1 = 1 := by
    rw [e3, e2, tm_bit _ (Nat.mod_lt _ (by decide)), tm_mdl hd hm]
    rfl
  unfold wpX_isModel
  exact tm_isNumberY hd hm (br_f (by decide) (tm_found ⟨pk_in (m / 64) 64 (by omega) e1, ek_v (P := fun r => post r (hh, ax, nI d, 1, sz, dp, a1, a2, a3, a4, a5, a6, a7, a8, a9, a10, a11, a12, a13)) e H⟩))
/-! ===== forced ===== -/
theorem tm_forced28 {post : Int32 → St2 → Prop} {d b : Nat} (hd : 1 ≤ d ∧ d ≤ 3) (hb : b < d + d * d) (h6 : ∀ j, j < 64 → a6 j = tm_mb d j) (H : post 2 (hh, ax, el, kn, sz, dp, a1, a2, a3, a4, a5, a6, a7, a8, a9, a10, a11, a12, a13)) : ∃ n, wX_forced_28 post (nI b) hh ax el kn sz dp a1 a2 a3 a4 a5 a6 a7 a8 a9 a10 a11 a12 a13 n 0 0 0 := by
  obtain ⟨hw0, hw1, hw2⟩ := tm_fo d (by omega) b hb (by omega)
  have hb12 : b < 12 := by
    obtain rfl | rfl | rfl := tm_d3 hd
    all_goals omega
  refine pk_loop (σ := Int32 × Int32) (fun n i s => wX_forced_28 post (nI b) hh ax el kn sz dp a1 a2 a3 a4 a5 a6 a7 a8 a9 a10 a11 a12 a13 n s.1 s.2 (nI i)) (fun i s => (tm_wp b < i → ¬ s.1 = 0) ∧ (0 < i → ¬ s.2 = 0)) 64 0 (0, 0) (by omega) ⟨fun z => absurd z (by omega), fun z => absurd z (by omega)⟩ ?_ ?_
  · exact fun n s h => pk_le 64 64 (fun _ => br_f (h.1 hw0) (br_f (h.2 (by omega)) H)) (fun z => absurd z (by omega))
  · intro n i s hi h hw
    have c : a6 (nI i).toNatClampNeg = tm_mb d i := by rw [nI_clamp (by omega)]; exact h6 i hi
    have K : ∀ y : Int32, (tm_wp b < i + 1 → ¬ y = 0) → wX_forced_67 post (wX_forced_28 post (nI b) hh ax el kn sz dp a1 a2 a3 a4 a5 a6 a7 a8 a9 a10 a11 a12 a13 n) (nI b) s.2 (nI i) (tm_wd b i) y hh ax el kn sz dp a1 a2 a3 a4 a5 a6 a7 a8 a9 a10 a11 a12 a13 := by
      intro y hy
      refine br_c (fun z => ⟨pk_in i 64 hi, br_c (fun g => nm_r (nI_1 i) (hw (y, 0) ⟨hy, fun _ => ?_⟩)) (fun g => nm_r (nI_1 i) (hw (y, 1) ⟨hy, fun _ => show ¬ (1 : Int32) = 0 by decide⟩))⟩) (fun z => nm_r (nI_1 i) (hw (y, 1) ⟨hy, fun _ => show ¬ (1 : Int32) = 0 by decide⟩))
      rw [c] at g
      by_cases q : i = 0
      · rw [q] at g
        exact absurd g hw2
      · exact absurd z (h.2 (by omega))
    refine pk_le 64 i (fun z => absurd z (by omega)) (fun _ => tm_withDigit hb12 hi (br_c (fun z => ⟨pk_in i 64 hi, br_c (fun g => K 0 (fun q => ?_)) (fun g => K 1 (fun _ => by decide))⟩) (fun z => K 1 (fun _ => by decide))))
    rw [c] at g
    by_cases e : tm_wp b = i
    · rw [← e] at g
      exact absurd g hw1
    · exact absurd z (h.1 (by omega))
theorem tm_forcedY {post : Int32 → St2 → Prop} {d b : Nat} (hd : 1 ≤ d ∧ d ≤ 3) (hb : b < d + d * d) (h6 : ∀ j, j < 64 → a6 j = tm_mb d j) (H : post 2 (hh, ax, nI d, 1, sz, dp, a1, a2, a3, a4, a5, a6, a7, a8, a9, a10, a11, a12, a13)) : wpX_forced post (hh, ax, nI d, 1, sz, dp, a1, a2, a3, a4, a5, a6, a7, a8, a9, a10, a11, a12, a13) (nI b) := by
  have e : nI b < nI d + nI d * nI d := by
    rw [tm_dig]
    refine nI_lt hb ?_
    obtain rfl | rfl | rfl := tm_d3 hd
    all_goals decide
  have hb12 : b < 12 := by
    obtain rfl | rfl | rfl := tm_d3 hd
    all_goals omega
  exact pk_lt b 0 (fun z => absurd z (by omega)) (fun _ => br_t e (tm_found (tm_forced28 hd hb h6 H)))
theorem tm_forcedN {post : Int32 → St2 → Prop} {d : Nat} {x : Int32} (hx : x < 0 ∨ nI (d + d * d) ≤ x) (H : post (-1) (hh, ax, nI d, kn, sz, dp, a1, a2, a3, a4, a5, a6, a7, a8, a9, a10, a11, a12, a13)) : wpX_forced post (hh, ax, nI d, kn, sz, dp, a1, a2, a3, a4, a5, a6, a7, a8, a9, a10, a11, a12, a13) x := by
  refine br_c (fun _ => H) (fun z => ?_)
  have e : ¬ x < nI d + nI d * nI d := by
    rw [tm_dig]
    exact hx.elim (fun y => absurd y z) (fun y => Int32.not_lt.mpr y)
  exact br_f e H
end
end
section
section
variable {hh ax el kn sz dp : Int32} {a1 a2 a3 a4 a5 : Nat → Int32} {a6 : Nat → Int64} {a7 : Nat → Int32} {a8 a9 a10 a11 a12 a13 : Nat → Int64}
/-- the greatest argument of a kind -/
def tm_lim : Nat → Option Int32
  | 0 => some 2 | 1 => some 8 | 2 => some 8 | 3 => some 8 | 9 => some 2 | 10 => some 2 | 11 => some 5 | _ => none
def tm_bad (k : Nat) (x : Int32) : Prop := ∃ c, tm_lim k = some c ∧ (x < 0 ∨ c < x)
theorem tm_lim_y {k : Nat} {c x : Int32} (e : tm_lim k = some c) (h : ¬ x < 0) (h2 : ¬ c < x) : ¬ tm_bad k x := by
  intro hb
  obtain ⟨c', e', hh⟩ := hb
  rw [e] at e'
  have e2 : c = c' := Option.some.inj e'
  rw [← e2] at hh
  exact hh.elim h h2
theorem tm_lim_n {k : Nat} {x : Int32} (e : tm_lim k = none) : ¬ tm_bad k x := by
  intro hb
  obtain ⟨c', e', hh⟩ := hb
  rw [e] at e'
  exact absurd e'.symm (Option.some_ne_none c')
theorem tm_limA {k : Nat} (h : k = 0 ∨ k = 9 ∨ k = 10) : tm_lim k = some 2 := by
  obtain rfl | rfl | rfl := h
  all_goals rfl
theorem tm_limB {k : Nat} (h : 0 < k ∧ k < 4) : tm_lim k = some 8 := by
  obtain rfl | rfl | rfl : k = 1 ∨ k = 2 ∨ k = 3 := by omega
  all_goals rfl
theorem tm_limN {k : Nat} (h : 4 ≤ k ∧ k < 9) : tm_lim k = none := by
  obtain rfl | rfl | rfl | rfl | rfl : k = 4 ∨ k = 5 ∨ k = 6 ∨ k = 7 ∨ k = 8 := by omega
  all_goals rfl
theorem tm_limC {k : Nat} (h : k = 11) : tm_lim k = some 5 := by
  subst h
  rfl
theorem tm_fits {post : Int32 → Prop} {k : Nat} {x : Int32} (hk : k < 12) (H1 : ¬ tm_bad k x → post 1) (H0 : tm_bad k x → post 0) : wpX_fits post () (nI k) x := by
  have A : tm_lim k = some 2 → wX_fits_64 post x := fun e => br_c (fun z => H0 ⟨2, e, .inl z⟩) (fun z => br_c (fun g => H0 ⟨2, e, .inr g⟩) (fun g => H1 (tm_lim_y e z g)))
  have B : tm_lim k = some 8 → wX_fits_79 post x := fun e => br_c (fun z => H0 ⟨8, e, .inl z⟩) (fun z => br_c (fun g => H0 ⟨8, e, .inr g⟩) (fun g => H1 (tm_lim_y e z g)))
  have N : tm_lim k = none → post 1 := fun e => H1 (tm_lim_n e)
  refine pk_lt k 0 (fun z => absurd z (by omega)) (fun _ => pk_lt 11 k (fun z => absurd z (by omega)) (fun _ => ?_))
  refine pk_eq k 0 (fun z => A (tm_limA (.inl z))) (fun z0 => pk_eq k 1 (fun z => B (tm_limB (by omega))) (fun z1 => pk_eq k 2 (fun z => B (tm_limB (by omega))) (fun z2 => pk_eq k 3 (fun z => B (tm_limB (by omega))) (fun z3 => ?_))))
  refine pk_eq k 4 (fun z => N (tm_limN (by omega))) (fun z4 => pk_eq k 5 (fun z => N (tm_limN (by omega))) (fun z5 => pk_eq k 6 (fun z => N (tm_limN (by omega))) (fun z6 => pk_eq k 7 (fun z => N (tm_limN (by omega))) (fun z7 => ?_))))
  refine pk_eq k 8 (fun z => N (tm_limN (by omega))) (fun z8 => pk_eq k 9 (fun z => A (tm_limA (.inr (.inl z)))) (fun z9 => pk_eq k 10 (fun z => A (tm_limA (.inr (.inr z)))) (fun z10 => pk_eq k 11 (fun z => ?_) (fun z11 => trivial))))
  have e := tm_limC z
  exact br_c (fun z => H0 ⟨5, e, .inl z⟩) (fun z => br_c (fun g => H0 ⟨5, e, .inr g⟩) (fun g => H1 (tm_lim_y e z g)))
theorem tm_taken0 {post : Int32 → Prop} {k : Nat} {x : Int32} (hx : x = nI k) (hk : k < 4) (H : post 0) : wpX_taken post () x := by
  subst hx
  exact pk_lt 3 k (fun z => absurd z (by omega)) (fun _ => H)
theorem tm_takenP {post : Int32 → Prop} {k : Nat} (h4 : 4 ≤ k) (hk : k < 12) (H1 : post 1) (H2 : post 2) : wpX_taken post () (nI k) :=
  pk_lt 3 k (fun _ => br_c (fun _ => H1) (fun _ => br_c (fun _ => H2) (fun _ => H1))) (fun z => absurd z (by omega))
/-- a kind that there isn't -/
theorem tm_tokenO {post : Int32 → St2 → Prop} {x y : Int32} (h : x < 0 ∨ 11 < x) (H : post (-1) (hh, ax, el, kn, sz, dp, a1, a2, a3, a4, a5, a6, a7, a8, a9, a10, a11, a12, a13)) : wpX_token post (hh, ax, el, kn, sz, dp, a1, a2, a3, a4, a5, a6, a7, a8, a9, a10, a11, a12, a13) x y :=
  br_c (fun _ => H) (fun z => br_t (h.elim (fun g => absurd g z) id) H)
/-- an argument that doesn't fit -/
theorem tm_tokenB {post : Int32 → St2 → Prop} {k : Nat} {y : Int32} (hk : k < 12) (hb : tm_bad k y) (H : post (-1) (hh, ax, el, kn, sz, dp, a1, a2, a3, a4, a5, a6, a7, a8, a9, a10, a11, a12, a13)) : wpX_token post (hh, ax, el, kn, sz, dp, a1, a2, a3, a4, a5, a6, a7, a8, a9, a10, a11, a12, a13) (nI k) y :=
  pk_lt k 0 (fun z => absurd z (by omega)) (fun _ => pk_lt 11 k (fun z => absurd z (by omega)) (fun _ => tm_fits hk (fun g => absurd hb g) (fun _ => br_t rfl H)))
/-- nothing on the stack to take -/
theorem tm_tokenT {post : Int32 → St2 → Prop} {k : Nat} {y : Int32} (h4 : 4 ≤ k) (hk : k < 12) (hb : ¬ tm_bad k y) (H : post (-2) (0, ax, el, kn, sz, dp, a1, a2, a3, a4, a5, a6, a7, a8, a9, a10, a11, a12, a13)) : wpX_token post (0, ax, el, kn, sz, dp, a1, a2, a3, a4, a5, a6, a7, a8, a9, a10, a11, a12, a13) (nI k) y :=
  pk_lt k 0 (fun z => absurd z (by omega)) (fun _ => pk_lt 11 k (fun z => absurd z (by omega)) (fun _ => tm_fits hk (fun _ => br_f (by decide) (tm_takenP h4 hk (br_f (by decide) H) (br_f (by decide) H))) (fun g => absurd g hb)))
theorem tm_tk63 {post : Int32 → St2 → Prop} {x y : Int32} (H : post 1 (1, ax, el, kn, sz, dp, upd a1 0 x, upd a2 0 y, upd a3 0 0, upd a4 0 1, a5, a6, a7, a8, a9, a10, a11, a12, a13)) (n : Nat) : wX_token_63 post x y 0 0 ax el kn sz dp a1 a2 a3 a4 a5 a6 a7 a8 a9 a10 a11 a12 a13 (n + 1) 1 0 :=
  br_t (by decide) (br_t (by decide) (br_t rfl ⟨pk_in 0 288 (by omega), nm_r (e' := upd a1 0 x) rfl ⟨pk_in 0 288 (by omega), nm_r (e' := upd a2 0 y) rfl (nm_r (e' := (0 : Int32)) (by decide) (br_t rfl ⟨pk_in 0 6 (by omega), nm_r (e' := upd a3 0 0) rfl ⟨pk_in 0 6 (by omega), nm_r (e' := upd a4 0 1) rfl (nm_r (e' := (1 : Int32)) (by decide) H)⟩⟩))⟩⟩))
/-- an atom is laid -/
theorem tm_tokenA {post : Int32 → St2 → Prop} {k : Nat} {y : Int32} (hk : k < 4) (hb : ¬ tm_bad k y) (H : post 1 (1, ax, el, kn, sz, dp, upd a1 0 (nI k), upd a2 0 y, upd a3 0 0, upd a4 0 1, a5, a6, a7, a8, a9, a10, a11, a12, a13)) : wpX_token post (0, ax, el, kn, sz, dp, a1, a2, a3, a4, a5, a6, a7, a8, a9, a10, a11, a12, a13) (nI k) y :=
  pk_lt k 0 (fun z => absurd z (by omega)) (fun _ => pk_lt 11 k (fun z => absurd z (by omega)) (fun _ => tm_fits (by omega) (fun _ => br_f (by decide) (tm_taken0 rfl hk (br_t (by decide) (br_t rfl (br_t (by decide) (nm_r (e' := (0 : Int32)) (by decide) ⟨1, tm_tk63 H 0⟩)))))) (fun g => absurd g hb)))
end
section
variable {hh ax el kn sz dp : Int32} {a1 a2 a3 a4 a5 : Nat → Int32} {a6 : Nat → Int64} {a7 : Nat → Int32} {a8 a9 a10 a11 a12 a13 : Nat → Int64}
variable {post : Int32 → St0 → Prop} {mc ms kc ks k : Nat} {x2 x3 x4 x6 x7 x8 : Int32}
/-! ===== the law's own test of kind and argument ===== -/
theorem tm_l129 (H1 : tm_bad k x2 → wL_lawOf_144 post mc ms (nI k) x2 x3 x4 x6 x7 x8 kc ks hh ax el kn sz dp a1 a2 a3 a4 a5 a6 a7 a8 a9 a10 a11 a12 a13) (H0 : ¬ tm_bad k x2 → wL_lawOf_148 post mc ms (nI k) x2 x3 x4 x6 x7 x8 kc ks hh ax el kn sz dp a1 a2 a3 a4 a5 a6 a7 a8 a9 a10 a11 a12 a13) (hk : k < 12) (hn : k ≠ 11 → ¬ tm_bad k x2) : wL_lawOf_129 post mc ms (nI k) x2 x3 x4 x6 x7 x8 kc ks hh ax el kn sz dp a1 a2 a3 a4 a5 a6 a7 a8 a9 a10 a11 a12 a13 :=
  pk_eq k 11 (fun z => br_c (fun g => H1 ⟨5, tm_limC z, .inl g⟩) (fun g => br_c (fun q => H0 (tm_lim_y (tm_limC z) g (Int32.not_lt.mpr q))) (fun q => H1 ⟨5, tm_limC z, .inr (Int32.not_le.mp q)⟩))) (fun z => H0 (hn z))
theorem tm_l110 (H1 : tm_bad k x2 → wL_lawOf_144 post mc ms (nI k) x2 x3 x4 x6 x7 x8 kc ks hh ax el kn sz dp a1 a2 a3 a4 a5 a6 a7 a8 a9 a10 a11 a12 a13) (H0 : ¬ tm_bad k x2 → wL_lawOf_148 post mc ms (nI k) x2 x3 x4 x6 x7 x8 kc ks hh ax el kn sz dp a1 a2 a3 a4 a5 a6 a7 a8 a9 a10 a11 a12 a13) (hk : k < 12) (hn : k = 0 ∨ k = 9 ∨ k = 10 → ¬ tm_bad k x2) : wL_lawOf_110 post mc ms (nI k) x2 x3 x4 x6 x7 x8 kc ks hh ax el kn sz dp a1 a2 a3 a4 a5 a6 a7 a8 a9 a10 a11 a12 a13 := by
  refine pk_le k 0 (fun z => tm_l129 H1 H0 hk (fun _ => hn (by omega))) (fun z => pk_le 4 k (fun g => tm_l129 H1 H0 hk (fun q => ?_)) (fun g => ?_))
  · by_cases h9 : k < 9
    · exact tm_lim_n (tm_limN ⟨g, h9⟩)
    · exact hn (by omega)
  · have e := tm_limB ⟨z, g⟩
    exact br_c (fun q => H1 ⟨8, e, .inl q⟩) (fun q => br_c (fun r => H1 ⟨8, e, .inr r⟩) (fun r => tm_l129 H1 H0 hk (fun _ => tm_lim_y e q r)))
theorem tm_l101 (H1 : tm_bad k x2 → wL_lawOf_144 post mc ms (nI k) x2 x3 x4 x6 x7 x8 kc ks hh ax el kn sz dp a1 a2 a3 a4 a5 a6 a7 a8 a9 a10 a11 a12 a13) (H0 : ¬ tm_bad k x2 → wL_lawOf_148 post mc ms (nI k) x2 x3 x4 x6 x7 x8 kc ks hh ax el kn sz dp a1 a2 a3 a4 a5 a6 a7 a8 a9 a10 a11 a12 a13) (hk : k < 12) (hz : k = 0 ∨ k = 9 ∨ k = 10) : wL_lawOf_101 post mc ms (nI k) x2 x3 x4 x6 x7 x8 kc ks hh ax el kn sz dp a1 a2 a3 a4 a5 a6 a7 a8 a9 a10 a11 a12 a13 :=
  br_c (fun q => H1 ⟨2, tm_limA hz, .inl q⟩) (fun q => br_c (fun r => H1 ⟨2, tm_limA hz, .inr r⟩) (fun r => tm_l110 H1 H0 hk (fun _ => tm_lim_y (tm_limA hz) q r)))
end
end
section
section
variable {hh ax el kn sz dp : Int32} {a1 a2 a3 a4 a5 : Nat → Int32} {a6 : Nat → Int64} {a7 : Nat → Int32} {a8 a9 a10 a11 a12 a13 : Nat → Int64}
/-- the word of an atom -/
def tm_at (k : Nat) (b8 b9 b10 : Nat → Int64) (e f : Nat) : Int64 := if k = 0 then b8 e else if k = 1 then b9 (3 * e + f) else if k = 2 then (if e = f then -1 else 0) else b10 (3 * e + f)
def tm_v1 (k a : Nat) : Nat := if k = 0 then a else a / 3
def tm_v2 (k a : Nat) : Nat := if k = 0 then a else a % 3
theorem tm_atom {post : Int64 → Prop} {k e f : Nat} (hk : k < 4) (he : e < 3) (hf : f < 3) (H : post (tm_at k a8 a9 a10 e f)) : wpX_atom post (hh, ax, el, kn, sz, dp, a1, a2, a3, a4, a5, a6, a7, a8, a9, a10, a11, a12, a13) (nI k) (nI e) (nI f) := by
  have c3 : ((3 : Int32) * nI e + nI f).toNatClampNeg = 3 * e + f := by rw [tm_3]; exact nI_clamp (by omega)
  have ce : (nI e).toNatClampNeg = e := nI_clamp (by omega)
  have t : ∀ v, tm_at k a8 a9 a10 e f = v → post v := fun v h => h ▸ H
  refine pk_lt k 0 (fun z => absurd z (by omega)) (fun _ => pk_lt 2 k (fun z => ⟨pk_in (3 * e + f) 9 (by omega) (tm_3 e f), t _ ?_⟩) (fun z => ?_))
  · unfold tm_at
    rw [if_neg (by omega), if_neg (by omega), if_neg (by omega), c3]
  · refine pk_eq k 0 (fun z0 => ⟨pk_in e 3 he, t _ ?_⟩) (fun z0 => pk_eq k 1 (fun z1 => ⟨pk_in (3 * e + f) 9 (by omega) (tm_3 e f), t _ ?_⟩) (fun z1 => pk_eq k 2 (fun z2 => pk_eq e f (fun q => t _ ?_) (fun q => t _ ?_)) (fun z2 => absurd z (by omega))))
    · unfold tm_at
      rw [if_pos z0, ce]
    · unfold tm_at
      rw [if_neg z0, if_pos z1, c3]
    · unfold tm_at
      rw [if_neg z0, if_neg z1, if_pos z2, if_pos q]
    · unfold tm_at
      rw [if_neg z0, if_neg z1, if_pos z2, if_neg q]
theorem tm_el3 {l v : Nat} (hl : l < 27) : tm_el l v < 3 := by
  unfold tm_el
  by_cases e0 : v = 0
  · rw [if_pos e0]; omega
  · rw [if_neg e0]
    by_cases e1 : v = 1
    · rw [if_pos e1]; omega
    · rw [if_neg e1]; omega
theorem tm_la58 {post : St2 → Prop} {J : Int32 → (Nat → Int32) → (Nat → Int32) → (Nat → Int32) → (Nat → Int32) → (Nat → Int32) → (Nat → Int64) → (Nat → Int32) → (Nat → Int64) → (Nat → Int64) → (Nat → Int64) → (Nat → Int64) → (Nat → Int64) → (Nat → Int64) → Prop} {x2 z : Int32} {k i e v : Nat} (hk : k < 4) (hi : i < 27) (he : e < 3) (hv : v < 3) (hz : z = nI v)
    (H : J (nI (i + 1)) a1 a2 a3 a4 a5 a6 a7 a8 a9 a10 (vp_updL a11 i (tm_at k a8 a9 a10 e (tm_el i v))) a12 a13) : wX_layAtom_2_58 post J (nI k) x2 0 (nI i) (nI e) z (nI i) hh ax el kn sz dp a1 a2 a3 a4 a5 a6 a7 a8 a9 a10 a11 a12 a13 := by
  subst hz
  have e0 : (0 : Int32) + nI i = nI i := Int32.zero_add _
  have e1 : ((0 : Int32) + nI i).toNatClampNeg = i := by rw [e0]; exact nI_clamp (by omega)
  exact tm_elementIn hi hv (tm_atom hk he (tm_el3 hi) ⟨pk_in i 378 (by omega) e0, nm_r (by rw [e1]) (nm_r (nI_1 i) H)⟩)
theorem tm_la40 {post : St2 → Prop} {J : Int32 → (Nat → Int32) → (Nat → Int32) → (Nat → Int32) → (Nat → Int32) → (Nat → Int32) → (Nat → Int64) → (Nat → Int32) → (Nat → Int64) → (Nat → Int64) → (Nat → Int64) → (Nat → Int64) → (Nat → Int64) → (Nat → Int64) → Prop} {z : Int32} {k a i : Nat} (hk : k < 4) (ha : a < 9) (hi : i < 27) (h1 : tm_v1 k a < 3) (h2 : tm_v2 k a < 3) (hz : z = nI (tm_v1 k a))
    (H : J (nI (i + 1)) a1 a2 a3 a4 a5 a6 a7 a8 a9 a10 (vp_updL a11 i (tm_at k a8 a9 a10 (tm_el i (tm_v1 k a)) (tm_el i (tm_v2 k a)))) a12 a13) : wX_layAtom_2_40 post J (nI k) (nI a) 0 (nI i) z (nI i) hh ax el kn sz dp a1 a2 a3 a4 a5 a6 a7 a8 a9 a10 a11 a12 a13 := by
  subst hz
  refine tm_elementIn hi h1 (pk_eq k 0 (fun q => ?_) (fun q => ⟨by decide, ?_⟩))
  · exact tm_la58 hk hi (tm_el3 hi) h2 (by unfold tm_v2; rw [if_pos q]) H
  · exact tm_la58 hk hi (tm_el3 hi) h2 (by unfold tm_v2; rw [if_neg q]; exact tm_r3 (by omega)) H
theorem tm_layAtom {post : St2 → Prop} {k a d : Nat} {x y : Int32} (hx : x = nI k) (hy : y = nI a) (hk : k < 4) (ha : a < 9) (hd : d ≤ 3) (h1 : tm_v1 k a < 3) (h2 : tm_v2 k a < 3)
    (H : ∀ b, (∀ l, l < 27 → tm_isl d l → b l = tm_at k a8 a9 a10 (tm_el l (tm_v1 k a)) (tm_el l (tm_v2 k a))) → post (hh, ax, el, kn, nI d, 0, a1, a2, a3, a4, a5, a6, a7, a8, a9, a10, b, a12, a13)) : wpX_layAtom_2 post (hh, ax, el, kn, nI d, 0, a1, a2, a3, a4, a5, a6, a7, a8, a9, a10, a11, a12, a13) x y := by
  subst hx hy
  refine nm_r (e' := (0 : Int32)) (by decide) ?_
  refine pk_loop (fun n i s => wX_layAtom_2_11 post (nI k) (nI a) 0 hh ax el kn (nI d) 0 n (nI i) a1 a2 a3 a4 a5 a6 a7 a8 a9 a10 s a12 a13) (fun i s => ∀ l, l < i → tm_isl d l → s l = tm_at k a8 a9 a10 (tm_el l (tm_v1 k a)) (tm_el l (tm_v2 k a))) 27 0 a11 (by omega) (fun l hl => absurd hl (by omega)) ?_ ?_
  · exact fun n s h => pk_le 27 27 (fun _ => H s h) (fun z => absurd z (by omega))
  · intro n i s hi h hw
    have up : ∀ l, l < i + 1 → tm_isl d l → vp_updL s i (tm_at k a8 a9 a10 (tm_el i (tm_v1 k a)) (tm_el i (tm_v2 k a))) l = tm_at k a8 a9 a10 (tm_el l (tm_v1 k a)) (tm_el l (tm_v2 k a)) := by
      intro l hl hs
      by_cases z : l = i
      · rw [z, pk_uLs]
      · rw [pk_uLn z]
        exact h l (by omega) hs
    refine pk_le 27 i (fun z => absurd z (by omega)) (fun _ => tm_isList hd hi (fun y => br_f (by decide) (pk_eq k 0 (fun q => ?_) (fun q => ⟨by decide, ?_⟩))) (fun y => br_t rfl (nm_r (nI_1 i) (hw s ?_))))
    · exact tm_la40 hk ha hi h1 h2 (by unfold tm_v1; rw [if_pos q]) (hw _ up)
    · exact tm_la40 hk ha hi h1 h2 (by unfold tm_v1; rw [if_neg q]; exact tm_q3 (by omega)) (hw _ up)
    · intro l hl hs
      by_cases z : l = i
      · rw [z] at hs
        exact absurd hs y
      · exact h l (by omega) hs
theorem tm_woX {post : St2 → Prop} (n : Nat) (H : post (hh, ax, el, kn, sz, dp, a1, a2, a3, a4, a5, a6, a7, a8, a9, a10, a11, a12, a13)) : wX_workOut_2_7 post 0 1 (n + 1) 1 hh ax el kn sz dp a1 a2 a3 a4 a5 a6 a7 a8 a9 a10 a11 a12 a13 := br_t (by decide) H
theorem tm_workOut {post : St2 → Prop} {k a d : Nat} {x y : Int32} (hx : x = 0) (hy : y = 1) (k1 : a1 0 = nI k) (k2 : a2 0 = nI a) (hk : k < 4) (ha : a < 9) (hd : d ≤ 3) (h1 : tm_v1 k a < 3) (h2 : tm_v2 k a < 3)
    (H : ∀ b, (∀ l, l < 27 → tm_isl d l → b l = tm_at k a8 a9 a10 (tm_el l (tm_v1 k a)) (tm_el l (tm_v2 k a))) → post (hh, ax, el, kn, nI d, 1, a1, a2, a3, a4, a5, a6, a7, a8, a9, a10, b, a12, a13)) : wpX_workOut_2 post (hh, ax, el, kn, nI d, dp, a1, a2, a3, a4, a5, a6, a7, a8, a9, a10, a11, a12, a13) x y := by
  subst hx hy
  have e1 : a1 (0 : Int32).toNatClampNeg = nI k := by rw [sb_cl0]; exact k1
  have e2 : a2 (0 : Int32).toNatClampNeg = nI a := by rw [sb_cl0]; exact k2
  have S : ∀ n, wX_workOut_2_7 post 0 1 (n + 1 + 1) 0 hh ax el kn (nI d) 0 a1 a2 a3 a4 a5 a6 a7 a8 a9 a10 a11 a12 a13 := fun n =>
    br_f (by decide) ⟨pk_in 0 288 (by omega), tm_taken0 e1 hk (br_t rfl ⟨pk_in 0 288 (by omega), pk_in 0 288 (by omega), tm_layAtom e1 e2 hk ha hd h1 h2 (fun b hb => nm_r (e' := (1 : Int32)) (by decide) (nm_r (e' := (1 : Int32)) (by decide) (tm_woX n (H b hb))))⟩)⟩
  exact ⟨2, S 0⟩
theorem tm_lists59 {post : Int32 → St2 → Prop} {d m : Nat} {t : Nat → Int64} (hd : d ≤ 3) (hm : m < 4096) (h11 : ∀ l, l < 27 → tm_isl d l → a11 l = t l)
    (H : post (nI (tm_sum d (fun l => tm_b (t l) (m % 64)) 27)) (hh, ax, el, kn, nI d, dp, a1, a2, a3, a4, a5, a6, a7, a8, a9, a10, a11, a12, a13)) : ∃ n, wX_lists_59 post (nI m) hh ax el kn (nI d) dp a1 a2 a3 a4 a5 a6 a7 a8 a9 a10 a11 a12 a13 n 0 0 := by
  have e2 : nI m &&& 63 = nI (m % 64) := pk_andN (by omega) 6 (by decide)
  refine pk_loop (fun n i s => wX_lists_59 post (nI m) hh ax el kn (nI d) dp a1 a2 a3 a4 a5 a6 a7 a8 a9 a10 a11 a12 a13 n s (nI i)) (fun i s => s = nI (tm_sum d (fun l => tm_b (t l) (m % 64)) i)) 27 0 0 (by omega) rfl ?_ ?_
  · exact fun n s h => pk_le 27 27 (fun _ => by rw [h]; exact H) (fun z => absurd z (by omega))
  · intro n i s hi h hw
    refine pk_le 27 i (fun z => absurd z (by omega)) (fun _ => tm_isList hd hi (fun y => br_f (by decide) ⟨pk_in i 378 (by omega), ?_⟩) (fun y => br_t rfl (nm_r (nI_1 i) (hw s ?_))))
    · have e : s + ((((a11 (nI i).toNatClampNeg).toUInt64 >>> ((nI m &&& 63).toInt64.toUInt64 &&& Int64.toUInt64 63)).toInt64).toInt32 &&& 1) = nI (tm_sum d (fun l => tm_b (t l) (m % 64)) (i + 1)) := by
        rw [e2, tm_bit _ (Nat.mod_lt _ (by decide)), nI_clamp (by omega), h11 i hi y, h, nI_add, tm_sum_y y]
      exact nm_r e (nm_r (nI_1 i) (hw _ rfl))
    · rw [tm_sum_n y]
      exact h
theorem tm_layPartE {post : St2 → Prop} {d p : Nat} {x : Int32} (hx : x = nI p) (hd : d ≤ 3) (hp : p < 64)
    (H : ∀ b c q, (∀ e, e < d → b e = tm_wd e p) → tm_R d p d 0 c → post (hh, ax, el, kn, nI d, dp, a1, a2, a3, a4, a5, a6, a7, b, c, q, a11, a12, a13)) : wpX_layPart post (hh, ax, el, kn, sz, dp, a1, a2, a3, a4, a5, a6, a7, a8, a9, a10, a11, a12, a13) (nI d) x := by
  subst hx
  exact tm_layPart hd hp H
/-- a formula and a number that is there -/
theorem tm_listsY {post : Int32 → St2 → Prop} {d m k a : Nat} (hd : 1 ≤ d ∧ d ≤ 3) (hm : m < tm_cn d 64) (k1 : a1 0 = nI k) (k2 : a2 0 = nI a) (k3 : a3 0 = 0) (k4 : a4 0 = 1) (hk : k < 4) (ha : a < 9) (h1 : tm_v1 k a < 3) (h2 : tm_v2 k a < 3)
    (H : ∀ b8 b9 b10 b11, (∀ e, e < d → b8 e = tm_wd e (m / 64)) → tm_R d (m / 64) d 0 b9 → post (nI (tm_sum d (fun l => tm_b (tm_at k b8 b9 b10 (tm_el l (tm_v1 k a)) (tm_el l (tm_v2 k a))) (m % 64)) 27)) (1, ax, nI d, kn, nI d, 1, a1, a2, a3, a4, a5, a6, a7, b8, b9, b10, b11, a12, a13)) : wpX_lists post (1, ax, nI d, kn, sz, dp, a1, a2, a3, a4, a5, a6, a7, a8, a9, a10, a11, a12, a13) (nI m) := by
  have h4 := tm_cn_le hd
  have e0 : ((1 : Int32) - 1).toNatClampNeg = 0 := by decide
  have e1 : nI m >>> ((6 : Int32) &&& 31) = nI (m / 64) := pk_shrN (by omega) _ 6 (by decide)
  refine br_f (by decide) (tm_isNumberY hd hm (br_f (by decide) (tm_layPartE e1 hd.2 (by omega) (fun b8 b9 b10 g8 g9 => ⟨pk_in 0 6 (by omega) (by decide), pk_in 0 6 (by omega) (by decide), ?_⟩))))
  exact tm_workOut (by rw [e0]; exact k3) (by rw [e0]; exact k4) k1 k2 hk ha hd.2 h1 h2 (fun b11 g11 => tm_lists59 hd.2 (by omega) g11 (H b8 b9 b10 b11 g8 g9))
theorem tm_listsE {post : Int32 → St2 → Prop} {x : Int32} (H : post (-1) (0, ax, el, kn, sz, dp, a1, a2, a3, a4, a5, a6, a7, a8, a9, a10, a11, a12, a13)) : wpX_lists post (0, ax, el, kn, sz, dp, a1, a2, a3, a4, a5, a6, a7, a8, a9, a10, a11, a12, a13) x := br_t rfl H
theorem tm_listsN {post : Int32 → St2 → Prop} {d : Nat} {x : Int32} (hd : 1 ≤ d ∧ d ≤ 3) (hx : x < 0 ∨ nI (tm_cn d 64) ≤ x) (H : post (-1) (hh, ax, nI d, kn, sz, dp, a1, a2, a3, a4, a5, a6, a7, a8, a9, a10, a11, a12, a13)) : wpX_lists post (hh, ax, nI d, kn, sz, dp, a1, a2, a3, a4, a5, a6, a7, a8, a9, a10, a11, a12, a13) x :=
  br_c (fun _ => H) (fun _ => tm_isNumberN hd hx (br_t rfl H))
end
end
section
/-! ===== the law's counting, and the sums over lists in pure form ===== -/
def tm_bs (B : Nat → Nat) : Nat → Nat
  | 0 => 0
  | i + 1 => tm_bs B i + B i
theorem tm_sl : ∀ i : Nat, i < 32 → ((nI i &&& 31).toBitVec.smod 32).toNat = i := by decide +kernel
theorem tm_shd {m i : Nat} (hm : m < 4096) (hi : i < 32) : nI m >>> (nI i &&& 31) = nI (m / 2 ^ i) := pk_shrN (by omega) _ i (tm_sl i hi)
theorem tm_mbit {m i : Nat} (hm : m < 4096) (hi : i < 32) : (nI m >>> (nI i &&& 31)) &&& 1 = nI (m / 2 ^ i % 2) := by
  have h : m / 2 ^ i ≤ m := Nat.div_le_self _ _
  rw [tm_shd hm hi]
  exact pk_andN (by omega) 1 (by decide)
theorem tm_Lones {post : Int32 → Prop} {x y : Int32} {m c : Nat} (hx : x = nI m) (hy : y = nI c) (hm : m < 4096) (hc : c ≤ 12) (H : post (nI (tm_bs (fun i => m / 2 ^ i % 2) c))) : wpL_ones post () x y := by
  subst hx hy
  refine pk_loop (fun n i s => wL_ones_4 post (nI m) (nI c) n s (nI i)) (fun i s => s = nI (tm_bs (fun i => m / 2 ^ i % 2) i)) c 0 0 (by omega) rfl ?_ ?_
  · exact fun n s h => pk_le c c (fun _ => by rw [h]; exact H) (fun z => absurd z (by omega))
  · intro n i s hi h hw
    have e : s + ((nI m >>> (nI i &&& 31)) &&& 1) = nI (tm_bs (fun i => m / 2 ^ i % 2) (i + 1)) := by
      rw [tm_mbit hm (by omega), h, nI_add]
      rfl
    exact pk_le c i (fun z => absurd z (by omega)) (fun _ => pk_le 12 i (fun z => absurd z (by omega)) (fun _ => nm_r e (nm_r (nI_1 i) (hw _ rfl))))
theorem tm_s1e {d : Nat} (hd : 1 ≤ d ∧ d ≤ 3) {G : Nat → Nat → Nat} {B : Nat → Nat} (h : ∀ e, e < d → G e e = B e) : tm_s1 d G = tm_bs B d := by
  obtain rfl | rfl | rfl := tm_d3 hd
  · have h0 := h 0 (by omega)
    simp [tm_s1, tm_bs]
    omega
  · have h0 := h 0 (by omega)
    have h1 := h 1 (by omega)
    simp [tm_s1, tm_bs]
    omega
  · have h0 := h 0 (by omega)
    have h1 := h 1 (by omega)
    have h2 := h 2 (by omega)
    simp [tm_s1, tm_bs]
    omega
theorem tm_s2e {d : Nat} (hd : 1 ≤ d ∧ d ≤ 3) {G : Nat → Nat → Nat} {B : Nat → Nat} (h : ∀ e f, e < d → f < d → G e f = B (d * e + f)) : tm_s2 d G = tm_bs B (d * d) := by
  obtain rfl | rfl | rfl := tm_d3 hd
  · have h0 : G 0 0 = B 0 := h 0 0 (by omega) (by omega)
    simp [tm_s2, tm_row, tm_bs]
    omega
  · have h0 : G 0 0 = B 0 := h 0 0 (by omega) (by omega)
    have h1 : G 0 1 = B 1 := h 0 1 (by omega) (by omega)
    have h2 : G 1 0 = B 2 := h 1 0 (by omega) (by omega)
    have h3 : G 1 1 = B 3 := h 1 1 (by omega) (by omega)
    simp [tm_s2, tm_row, tm_bs]
    omega
  · have h0 : G 0 0 = B 0 := h 0 0 (by omega) (by omega)
    have h1 : G 0 1 = B 1 := h 0 1 (by omega) (by omega)
    have h2 : G 0 2 = B 2 := h 0 2 (by omega) (by omega)
    have h3 : G 1 0 = B 3 := h 1 0 (by omega) (by omega)
    have h4 : G 1 1 = B 4 := h 1 1 (by omega) (by omega)
    have h5 : G 1 2 = B 5 := h 1 2 (by omega) (by omega)
    have h6 : G 2 0 = B 6 := h 2 0 (by omega) (by omega)
    have h7 : G 2 1 = B 7 := h 2 1 (by omega) (by omega)
    have h8 : G 2 2 = B 8 := h 2 2 (by omega) (by omega)
    simp [tm_s2, tm_row, tm_bs]
    omega
theorem tm_s1_le {d : Nat} (hd : 1 ≤ d ∧ d ≤ 3) {G : Nat → Nat → Nat} (h : ∀ e f, G e f ≤ 1) : tm_s1 d G ≤ d := by
  have h0 := h 0 0
  have h1 := h 1 1
  have h2 := h 2 2
  obtain rfl | rfl | rfl := tm_d3 hd
  all_goals simp [tm_s1]
  all_goals omega
theorem tm_row_le {d : Nat} (hd : 1 ≤ d ∧ d ≤ 3) {G : Nat → Nat → Nat} (h : ∀ e f, G e f ≤ 1) (e : Nat) : tm_row d G e ≤ d := by
  have h0 := h e 0
  have h1 := h e 1
  have h2 := h e 2
  obtain rfl | rfl | rfl := tm_d3 hd
  all_goals simp [tm_row]
  all_goals omega
theorem tm_s2_le {d : Nat} (hd : 1 ≤ d ∧ d ≤ 3) {G : Nat → Nat → Nat} (h : ∀ e f, G e f ≤ 1) : tm_s2 d G ≤ d * d := by
  have h0 := tm_row_le hd h 0
  have h1 := tm_row_le hd h 1
  have h2 := tm_row_le hd h 2
  unfold tm_s2
  obtain rfl | rfl | rfl := tm_d3 hd
  · rw [if_neg (by omega), if_neg (by omega)]; omega
  · rw [if_pos (by omega), if_neg (by omega)]; omega
  · rw [if_pos (by omega), if_pos (by omega)]; omega
theorem tm_s1_same {d : Nat} (hd : 1 ≤ d ∧ d ≤ 3) {G : Nat → Nat → Nat} (h : ∀ e f, G e f = if e = f then 1 else 0) : tm_s1 d G = d := by
  obtain rfl | rfl | rfl := tm_d3 hd
  all_goals simp [tm_s1, h]
theorem tm_s2_same {d : Nat} (hd : 1 ≤ d ∧ d ≤ 3) {G : Nat → Nat → Nat} (h : ∀ e f, G e f = if e = f then 1 else 0) : tm_s2 d G = d := by
  obtain rfl | rfl | rfl := tm_d3 hd
  all_goals simp [tm_s2, tm_row, h]
/-- the bit of an atom -/
def tm_G (k m : Nat) (b8 b9 b10 : Nat → Int64) (e f : Nat) : Nat := tm_b (tm_at k b8 b9 b10 e f) (m % 64)
/-- how many lists -/
def tm_N (d k a m : Nat) (b8 b9 b10 : Nat → Int64) : Nat := tm_sum d (fun l => tm_b (tm_at k b8 b9 b10 (tm_el l (tm_v1 k a)) (tm_el l (tm_v2 k a))) (m % 64)) 27
section
variable {d k a m : Nat} {b8 b9 b10 : Nat → Int64}
theorem tm_N_one (hd : 1 ≤ d ∧ d ≤ 3) (h1 : tm_v1 k a < 3) (e : tm_v1 k a = tm_v2 k a) : tm_N d k a m b8 b9 b10 = d * d * tm_s1 d (tm_G k m b8 b9 b10) := by
  unfold tm_N
  rw [← e]
  exact tm_same hd h1 (tm_G k m b8 b9 b10)
theorem tm_N_two (hd : 1 ≤ d ∧ d ≤ 3) (h1 : tm_v1 k a < 3) (h2 : tm_v2 k a < 3) (e : tm_v1 k a ≠ tm_v2 k a) : tm_N d k a m b8 b9 b10 = d * tm_s2 d (tm_G k m b8 b9 b10) :=
  tm_diff hd h1 h2 e (tm_G k m b8 b9 b10)
theorem tm_G_le (e f : Nat) : tm_G k m b8 b9 b10 e f ≤ 1 := tm_b_le _ _
theorem tm_N_le (hd : 1 ≤ d ∧ d ≤ 3) (h1 : tm_v1 k a < 3) (h2 : tm_v2 k a < 3) : tm_N d k a m b8 b9 b10 ≤ d * d * d ∧ tm_N d k a m b8 b9 b10 % d = 0 := by
  by_cases e : tm_v1 k a = tm_v2 k a
  · rw [tm_N_one hd h1 e]
    exact ⟨Nat.mul_le_mul_left _ (tm_s1_le hd tm_G_le), by rw [Nat.mul_assoc]; exact Nat.mul_mod_right _ _⟩
  · rw [tm_N_two hd h1 h2 e]
    refine ⟨?_, Nat.mul_mod_right _ _⟩
    rw [Nat.mul_assoc]
    exact Nat.mul_le_mul_left _ (tm_s2_le hd tm_G_le)
theorem tm_G0 (hd : 1 ≤ d ∧ d ≤ 3) (hk : k = 0) (g8 : ∀ e, e < d → b8 e = tm_wd e (m / 64)) (e : Nat) (he : e < d) : tm_G k m b8 b9 b10 e e = m / 2 ^ e % 2 := by
  unfold tm_G tm_at
  rw [if_pos hk, g8 e he]
  exact tm_wdb (by omega)
theorem tm_G1 (hd : 1 ≤ d ∧ d ≤ 3) (hk : k = 1) (g9 : tm_R d (m / 64) d 0 b9) (e f : Nat) (he : e < d) (hf : f < d) : tm_G k m b8 b9 b10 e f = m / 2 ^ d / 2 ^ (d * e + f) % 2 := by
  have h12 : d + d * e + f < 12 := by
    obtain rfl | rfl | rfl := tm_d3 hd
    all_goals omega
  unfold tm_G tm_at
  rw [if_neg (by omega), if_pos hk, g9 e f hf (.inl he), tm_wdb h12, Nat.div_div_eq_div_mul, ← Nat.pow_add, Nat.add_assoc]
theorem tm_G2 (hk : k = 2) (e f : Nat) : tm_G k m b8 b9 b10 e f = if e = f then 1 else 0 := by
  unfold tm_G tm_at
  rw [if_neg (by omega), if_neg (by omega), if_pos hk]
  by_cases q : e = f
  · rw [if_pos q, if_pos q]
    exact tm_bm1 _ (Nat.mod_lt _ (by decide))
  · rw [if_neg q, if_neg q]
    exact tm_b0 _
theorem tm_N0 (hd : 1 ≤ d ∧ d ≤ 3) (hk : k = 0) (h1 : tm_v1 k a < 3) (g8 : ∀ e, e < d → b8 e = tm_wd e (m / 64)) : tm_N d k a m b8 b9 b10 = tm_bs (fun i => m / 2 ^ i % 2) d * d * d := by
  have e : tm_v1 k a = tm_v2 k a := by unfold tm_v1 tm_v2; rw [if_pos hk, if_pos hk]
  rw [tm_N_one hd h1 e, tm_s1e (B := fun i => m / 2 ^ i % 2) hd (tm_G0 hd hk g8), Nat.mul_comm, Nat.mul_assoc]
theorem tm_N1 (hd : 1 ≤ d ∧ d ≤ 3) (hk : k = 1) (h1 : tm_v1 k a < 3) (h2 : tm_v2 k a < 3) (e : tm_v1 k a ≠ tm_v2 k a) (g9 : tm_R d (m / 64) d 0 b9) : tm_N d k a m b8 b9 b10 = tm_bs (fun i => m / 2 ^ d / 2 ^ i % 2) (d * d) * d := by
  rw [tm_N_two hd h1 h2 e, tm_s2e (B := fun i => m / 2 ^ d / 2 ^ i % 2) hd (tm_G1 hd hk g9), Nat.mul_comm]
theorem tm_N2o (hd : 1 ≤ d ∧ d ≤ 3) (hk : k = 2) (h1 : tm_v1 k a < 3) (e : tm_v1 k a = tm_v2 k a) : tm_N d k a m b8 b9 b10 = d * d * d := by
  rw [tm_N_one hd h1 e, tm_s1_same hd (tm_G2 hk)]
theorem tm_N2n (hd : 1 ≤ d ∧ d ≤ 3) (hk : k = 2) (h1 : tm_v1 k a < 3) (h2 : tm_v2 k a < 3) (e : tm_v1 k a ≠ tm_v2 k a) : tm_N d k a m b8 b9 b10 = d * d := by
  rw [tm_N_two hd h1 h2 e, tm_s2_same hd (tm_G2 hk)]
end
end
section
section
variable {hh ax el kn sz dp : Int32} {a1 a2 a3 a4 a5 : Nat → Int32} {a6 : Nat → Int64} {a7 : Nat → Int32} {a8 a9 a10 a11 a12 a13 : Nat → Int64}
variable {post : Int32 → St0 → Prop} {mc ms kc ks : Nat} {x1 x2 x3 x4 x6 x10 x11 z : Int32} {d k a m N : Nat}
/-! ===== the law's ends ===== -/
theorem tm_d27 (hd : 1 ≤ d ∧ d ≤ 3) : d * d ≤ 9 ∧ d * d * d ≤ 27 := by
  obtain rfl | rfl | rfl := tm_d3 hd
  all_goals decide
theorem tm_l405 (hd : 1 ≤ d ∧ d ≤ 3) (h : N ≤ d * d * d ∧ N % d = 0) (H : post 1 ()) : wL_lawOf_405 post mc ms (nI d) (nI N) kc ks := by
  obtain ⟨h9, h27⟩ := tm_d27 hd
  have e : nI N - nI N / nI d * nI d = 0 := by
    rw [pk_rem (by omega) (by omega) (by omega), h.2]
    rfl
  exact pk_lt N 0 (fun q => absurd q (by omega)) (fun _ => pk_lt (d * d * d) N (fun q => absurd q (by omega)) (fun _ => ⟨nI_ne0 (by omega) (by omega), br_t e H⟩) (by rw [pk_mul, pk_mul]))
theorem tm_l324o (hd : 1 ≤ d ∧ d ≤ 3) (hm : m < 4096) (hk : k < 4) (h2 : k = 2 → N = d * d * d) (h : N ≤ d * d * d ∧ N % d = 0) (H : post 1 ()) : wL_lawOf_324 post mc ms (nI k) (nI m) (nI d) (nI N) 1 kc ks := by
  obtain ⟨h9, h27⟩ := tm_d27 hd
  have hq : m / 2 ^ d ≤ m := Nat.div_le_self _ _
  refine pk_eq k 2 (fun q => br_f (by decide) (br_t ?_ H)) (fun _ => tm_Lones (tm_shd hm (by omega)) (pk_mul d d) (by omega) (by omega) (br_c (fun _ => br_f (by decide) (tm_l405 hd h H)) (fun _ => tm_l405 hd h H)))
  rw [h2 q, pk_mul, pk_mul]
theorem tm_l324n (hd : 1 ≤ d ∧ d ≤ 3) (hm : m < 4096) (hk : k < 4) (h2 : k = 2 → N = d * d) (h1 : k = 1 → N = tm_bs (fun i => m / 2 ^ d / 2 ^ i % 2) (d * d) * d) (h : N ≤ d * d * d ∧ N % d = 0) (H : post 1 ()) : wL_lawOf_324 post mc ms (nI k) (nI m) (nI d) (nI N) 0 kc ks := by
  obtain ⟨h9, h27⟩ := tm_d27 hd
  have hq : m / 2 ^ d ≤ m := Nat.div_le_self _ _
  refine pk_eq k 2 (fun q => br_t rfl (br_t ?_ H)) (fun _ => tm_Lones (tm_shd hm (by omega)) (pk_mul d d) (by omega) (by omega) (pk_eq k 1 (fun q => br_t rfl (br_t ?_ H)) (fun _ => tm_l405 hd h H)))
  · rw [h2 q, pk_mul]
  · rw [h1 q, pk_mul]
theorem tm_argOf (hk : k < 4) (hb : ¬ tm_bad k x2) : ∃ a, x2 = nI a ∧ a < 9 ∧ tm_v1 k a < 3 ∧ tm_v2 k a < 3 := by
  by_cases h0 : k = 0
  · have e := tm_limA (k := k) (.inl h0)
    obtain ⟨a, ha, ea⟩ := nI_of (x := x2) (fun q => hb ⟨2, e, .inl q⟩)
    have h2 : ¬ nI 2 < nI a := fun q => hb ⟨2, e, .inr (by rw [ea]; exact q)⟩
    rw [nI_ltI (by omega) ha] at h2
    refine ⟨a, ea, by omega, ?_, ?_⟩
    · unfold tm_v1
      rw [if_pos h0]
      omega
    · unfold tm_v2
      rw [if_pos h0]
      omega
  · have e := tm_limB (k := k) ⟨by omega, hk⟩
    obtain ⟨a, ha, ea⟩ := nI_of (x := x2) (fun q => hb ⟨8, e, .inl q⟩)
    have h2 : ¬ nI 8 < nI a := fun q => hb ⟨8, e, .inr (by rw [ea]; exact q)⟩
    rw [nI_ltI (by omega) ha] at h2
    refine ⟨a, ea, by omega, ?_, ?_⟩
    · unfold tm_v1
      rw [if_neg h0]
      omega
    · unfold tm_v2
      rw [if_neg h0]
      omega
theorem tm_l247Y (hd : 1 ≤ d ∧ d ≤ 3) (hm : m < tm_cn d 64) (k1 : a1 0 = nI k) (k2 : a2 0 = nI a) (k3 : a3 0 = 0) (k4 : a4 0 = 1) (hk : k < 4) (ha : a < 9) (h1 : tm_v1 k a < 3) (h2 : tm_v2 k a < 3) (H : post 1 ()) : wL_lawOf_247 post mc ms (nI k) (nI a) (nI m) (nI d) 1 1 z z kc ks 1 ax (nI d) kn sz dp a1 a2 a3 a4 a5 a6 a7 a8 a9 a10 a11 a12 a13 := by
  have h4 := tm_cn_le hd
  refine br_t rfl (tm_listsY hd hm k1 k2 k3 k4 hk ha h1 h2 (fun b8 b9 b10 b11 g8 g9 => br_t rfl (br_f (by decide) ?_)))
  have hN := tm_N_le (m := m) (b8 := b8) (b9 := b9) (b10 := b10) hd h1 h2
  refine pk_eq k 0 (fun q => tm_Lones rfl rfl (by omega) (by omega) (br_t ?_ H)) (fun q => ⟨by decide, by decide, ek_if (d := tm_v1 k a = tm_v2 k a) ?_ (fun r => ?_) (fun r => ?_)⟩)
  · rw [pk_mul, pk_mul]
    exact congrArg nI (tm_N0 (m := m) (b8 := b8) (b9 := b9) (b10 := b10) hd q h1 g8)
  · rw [tm_r3 (by omega), tm_q3 (by omega), nI_eq (by omega) (by omega)]
    unfold tm_v1 tm_v2
    rw [if_neg q, if_neg q]
  · exact tm_l324o hd (by omega) hk (fun q2 => tm_N2o hd q2 h1 r) hN H
  · exact tm_l324n hd (by omega) hk (fun q2 => tm_N2n hd q2 h1 h2 r) (fun q1 => tm_N1 hd q1 h1 h2 r g9) hN H
theorem tm_l247N (hd : 1 ≤ d ∧ d ≤ 3) (hx : x3 < 0 ∨ nI (tm_cn d 64) ≤ x3) (H : post 1 ()) : wL_lawOf_247 post mc ms x1 x2 x3 x6 1 0 z z kc ks hh ax (nI d) kn sz dp a1 a2 a3 a4 a5 a6 a7 a8 a9 a10 a11 a12 a13 :=
  br_t rfl (tm_listsN hd hx (br_t rfl (br_t rfl (br_t rfl H))))
theorem tm_l247E (hr : ¬ x10 = 1) (H : post 1 ()) : wL_lawOf_247 post mc ms x1 x2 x3 x6 x10 x11 z z kc ks 0 ax el kn sz dp a1 a2 a3 a4 a5 a6 a7 a8 a9 a10 a11 a12 a13 :=
  br_t rfl (tm_listsE (br_f hr (br_t rfl H)))
/-! ===== the law from its end to its beginning ===== -/
theorem tm_l220 (hd : 1 ≤ d ∧ d ≤ 3) (h6 : ∀ j, j < 64 → a6 j = tm_mb d j) (K : ∀ z', wL_lawOf_247 post mc ms x1 x2 x3 (nI d) x10 x11 z' z' kc ks hh ax (nI d) 1 sz dp a1 a2 a3 a4 a5 a6 a7 a8 a9 a10 a11 a12 a13) : wL_lawOf_220 post mc ms x1 x2 x3 x4 (nI d) (nI (d + d * d)) x10 x11 z z kc ks hh ax (nI d) 1 sz dp a1 a2 a3 a4 a5 a6 a7 a8 a9 a10 a11 a12 a13 := by
  obtain ⟨h9, h27⟩ := tm_d27 hd
  refine br_t rfl ?_
  by_cases hx : x4 < 0 ∨ nI (d + d * d) ≤ x4
  · exact tm_forcedN hx (br_c (fun _ => K (-1)) (fun y => br_t (hx.elim (fun q => absurd q y) id) (K (-1))))
  · have y : ¬ x4 < 0 := fun q => hx (.inl q)
    have y2 : ¬ nI (d + d * d) ≤ x4 := fun q => hx (.inr q)
    obtain ⟨b, hb, e⟩ := nI_of y
    subst e
    have hb2 : b < d + d * d := by
      have y3 := y2
      rw [nI_leI (by omega) hb] at y3
      omega
    exact tm_forcedY hd hb2 h6 (br_f y (br_f y2 (K 2)))
theorem tm_l182 (hd : 1 ≤ d ∧ d ≤ 3) (h6 : ∀ j, j < 64 → a6 j = tm_mb d j)
    (KN : (x3 < 0 ∨ nI (tm_cn d 64) ≤ x3) → ∀ z', wL_lawOf_247 post mc ms x1 x2 x3 (nI d) x10 0 z' z' kc ks hh ax (nI d) 1 sz dp a1 a2 a3 a4 a5 a6 a7 a8 a9 a10 a11 a12 a13)
    (KY : ∀ m, m < tm_cn d 64 → x3 = nI m → ∀ z', wL_lawOf_247 post mc ms x1 x2 x3 (nI d) x10 1 z' z' kc ks hh ax (nI d) 1 sz dp a1 a2 a3 a4 a5 a6 a7 a8 a9 a10 a11 a12 a13) :
    wL_lawOf_182 post mc ms x1 x2 x3 x4 (nI d) (nI (d + d * d)) (nI (tm_cn d 64)) x10 z z kc ks hh ax (nI d) 1 sz dp a1 a2 a3 a4 a5 a6 a7 a8 a9 a10 a11 a12 a13 := by
  have h4 := tm_cn_le hd
  refine br_t rfl ?_
  by_cases hx : x3 < 0 ∨ nI (tm_cn d 64) ≤ x3
  · have g : wL_lawOf_201 post mc ms x1 x2 x3 x4 (nI d) (nI (d + d * d)) x10 kc ks hh ax (nI d) 1 sz dp a1 a2 a3 a4 a5 a6 a7 a8 a9 a10 a11 a12 a13 := by
      unfold wL_lawOf_201 wL_lawOf_202
      exact tm_isModelN hd hx (br_t rfl (tm_l220 hd h6 (KN hx)))
    exact br_c (fun _ => g) (fun y => br_t (hx.elim (fun q => absurd q y) id) g)
  · have y : ¬ x3 < 0 := fun q => hx (.inl q)
    have y2 : ¬ nI (tm_cn d 64) ≤ x3 := fun q => hx (.inr q)
    obtain ⟨m, hm, e⟩ := nI_of y
    subst e
    have hm2 : m < tm_cn d 64 := by
      have y3 := y2
      rw [nI_leI (by omega) hm] at y3
      omega
    exact br_f y (br_f y2 (tm_isModelY hd hm2 h6 (br_f (by decide) (tm_l220 hd h6 (KY m hm2 rfl)))))
/-- nothing was put -/
theorem tm_l182E (hd : 1 ≤ d ∧ d ≤ 3) (h6 : ∀ j, j < 64 → a6 j = tm_mb d j) (hr : ¬ x10 = 1) (H : post 1 ()) : wL_lawOf_182 post mc ms x1 x2 x3 x4 (nI d) (nI (d + d * d)) (nI (tm_cn d 64)) x10 z z kc ks 0 ax (nI d) 1 sz dp a1 a2 a3 a4 a5 a6 a7 a8 a9 a10 a11 a12 a13 :=
  tm_l182 hd h6 (fun _ _ => tm_l247E hr H) (fun _ _ _ _ => tm_l247E hr H)
/-- an atom was put -/
theorem tm_l182Y (hd : 1 ≤ d ∧ d ≤ 3) (h6 : ∀ j, j < 64 → a6 j = tm_mb d j) (k1 : a1 0 = nI k) (k2 : a2 0 = nI a) (k3 : a3 0 = 0) (k4 : a4 0 = 1) (hk : k < 4) (ha : a < 9) (h1 : tm_v1 k a < 3) (h2 : tm_v2 k a < 3) (H : post 1 ()) : wL_lawOf_182 post mc ms (nI k) (nI a) x3 x4 (nI d) (nI (d + d * d)) (nI (tm_cn d 64)) 1 z z kc ks 1 ax (nI d) 1 sz dp a1 a2 a3 a4 a5 a6 a7 a8 a9 a10 a11 a12 a13 :=
  tm_l182 hd h6 (fun hx _ => tm_l247N hd hx H) (fun m hm e _ => by subst e; exact tm_l247Y hd hm k1 k2 k3 k4 hk ha h1 h2 H)
theorem tm_l144O (hd : 1 ≤ d ∧ d ≤ 3) (h6 : ∀ j, j < 64 → a6 j = tm_mb d j) (ho : x1 < 0 ∨ 11 < x1) (H : post 1 ()) : wL_lawOf_144 post mc ms x1 x2 x3 x4 (nI d) (nI (d + d * d)) (nI (tm_cn d 64)) kc ks 0 ax (nI d) 1 sz dp a1 a2 a3 a4 a5 a6 a7 a8 a9 a10 a11 a12 a13 := by
  unfold wL_lawOf_144 wL_lawOf_149
  exact tm_tokenO ho (br_f (by decide) (tm_l182E hd h6 (by decide) H))
theorem tm_l144B (hd : 1 ≤ d ∧ d ≤ 3) (h6 : ∀ j, j < 64 → a6 j = tm_mb d j) (hk : k < 12) (hb : tm_bad k x2) (H : post 1 ()) : wL_lawOf_144 post mc ms (nI k) x2 x3 x4 (nI d) (nI (d + d * d)) (nI (tm_cn d 64)) kc ks 0 ax (nI d) 1 sz dp a1 a2 a3 a4 a5 a6 a7 a8 a9 a10 a11 a12 a13 := by
  unfold wL_lawOf_144 wL_lawOf_149
  exact tm_tokenB hk hb (br_f (by decide) (tm_l182E hd h6 (by decide) H))
theorem tm_l148 (hd : 1 ≤ d ∧ d ≤ 3) (h6 : ∀ j, j < 64 → a6 j = tm_mb d j) (hk : k < 12) (hb : ¬ tm_bad k x2) (H : post 1 ()) : wL_lawOf_148 post mc ms (nI k) x2 x3 x4 (nI d) (nI (d + d * d)) (nI (tm_cn d 64)) kc ks 0 ax (nI d) 1 sz dp a1 a2 a3 a4 a5 a6 a7 a8 a9 a10 a11 a12 a13 := by
  unfold wL_lawOf_148 wL_lawOf_149
  by_cases h4 : 4 ≤ k
  · exact tm_tokenT h4 hk hb (br_t rfl (pk_le 4 k (fun _ => tm_l182E hd h6 (by decide) H) (fun q => absurd q (by omega))))
  · obtain ⟨a, ea, ha, h1, h2⟩ := tm_argOf (by omega) hb
    subst ea
    exact tm_tokenA (by omega) hb (br_t rfl (pk_le 4 k (fun q => absurd q (by omega)) (fun _ => tm_l182Y hd h6 pk_us pk_us pk_us pk_us (by omega) ha h1 h2 H)))
theorem tm_l60 (hd : 1 ≤ d ∧ d ≤ 3) (H : post 1 ()) : wL_lawOf_60 post mc ms x1 x2 x3 x4 (nI d) (nI (d + d * d)) (nI (tm_cn d 64)) z z kc ks 0 0 (nI d) 0 sz dp a1 a2 a3 a4 a5 a6 a7 a8 a9 a10 a11 a12 a13 := by
  refine br_t rfl (tm_models hd (fun s b6 b8 b9 b10 h6 => br_t rfl ?_))
  by_cases ho : x1 < 0 ∨ 11 < x1
  · exact br_c (fun _ => tm_l144O hd h6 ho H) (fun y => br_t (ho.elim (fun q => absurd q y) id) (tm_l144O hd h6 ho H))
  · have y : ¬ x1 < 0 := fun q => ho (.inl q)
    obtain ⟨k, hk, e⟩ := nI_of y
    subst e
    have y2 : ¬ nI 11 < nI k := fun q => ho (.inr q)
    rw [nI_ltI (by omega) hk] at y2
    have hk2 : k < 12 := by omega
    exact pk_lt k 0 (fun q => absurd q (by omega)) (fun _ => pk_lt 11 k (fun q => absurd q (by omega)) (fun _ => pk_eq k 0 (fun q => tm_l101 (fun hb => tm_l144B hd h6 hk2 hb H) (fun hb => tm_l148 hd h6 hk2 hb H) hk2 (.inl q)) (fun q0 => pk_eq k 9 (fun q => tm_l101 (fun hb => tm_l144B hd h6 hk2 hb H) (fun hb => tm_l148 hd h6 hk2 hb H) hk2 (.inr (.inl q))) (fun q9 => pk_eq k 10 (fun q => tm_l101 (fun hb => tm_l144B hd h6 hk2 hb H) (fun hb => tm_l148 hd h6 hk2 hb H) hk2 (.inr (.inr q))) (fun q10 => tm_l110 (fun hb => tm_l144B hd h6 hk2 hb H) (fun hb => tm_l148 hd h6 hk2 hb H) hk2 (fun t => absurd t (by omega)))))))
theorem tm_l24Y (hd : 1 ≤ d ∧ d ≤ 3) (H : post 1 ()) : wL_lawOf_24 post mc ms (nI d) x1 x2 x3 x4 (nI d) kc ks 0 0 el kn sz dp a1 a2 a3 a4 a5 a6 a7 a8 a9 a10 a11 a12 a13 :=
  nm_r tm_dig (nm_r (tm_cnt hd) (tm_domainY hd (br_t rfl (tm_l60 hd H))))
theorem tm_l24N {x0 : Int32} (hx : x0 < 1 ∨ 3 < x0) (H : post 1 ()) : wL_lawOf_24 post mc ms x0 x1 x2 x3 x4 (nI 2) kc ks 0 0 (nI 2) 0 sz dp a1 a2 a3 a4 a5 a6 a7 a8 a9 a10 a11 a12 a13 := by
  have ne : ¬ nI 2 = x0 := by
    intro e
    rw [← e] at hx
    exact absurd hx (by decide)
  exact nm_r tm_dig (nm_r (tm_cnt (d := 2) (by omega)) (tm_domainN hx (br_f ne (tm_l60 (d := 2) (by omega) H))))
theorem tm_lawOf {x0 : Int32} (h1 : 14 ≤ mc) (h2 : 1148 ≤ ms) (H : post 1 ()) : wpL_lawOf post mc ms () x0 x1 x2 x3 x4 := by
  refine ⟨by omega, by omega, 13, 1129, by omega, by omega, tm_init (by omega) (by omega) (fun b => ?_)⟩
  refine br_c (fun q => tm_l24N (.inl q) H) (fun q => br_c (fun r => tm_l24N (.inr r) H) (fun r => ?_))
  have y : ¬ x0 < 0 := by
    intro t
    exact q (Int32.lt_trans t (by decide))
  obtain ⟨d, hd, e⟩ := nI_of y
  subst e
  have q2 : ¬ nI d < nI 1 := q
  have r2 : ¬ nI 3 < nI d := r
  rw [nI_ltI hd (by omega)] at q2
  rw [nI_ltI (by omega) hd] at r2
  exact tm_l24Y (by omega) H
end
theorem tm_cell {post : Int32 → Prop} {L j : Nat} {xs : Nat → Int32} (hj : j < 5) (hL : L ≤ 5) (H : ∀ r, post r) : wpL_cellAt post L xs () (nI j) :=
  pk_le L j (fun _ => H 0) (fun z => ⟨pk_in j L z, H _⟩)
theorem i_vc (xs : Nat → Int32) (L : Nat) (hL : L ≤ 5) : wpL_law (fun r => r = 1) L xs :=
  tm_cell (j := 0) (by omega) hL (fun _ => tm_cell (j := 1) (by omega) hL (fun _ => tm_cell (j := 2) (by omega) hL (fun _ => tm_cell (j := 3) (by omega) hL (fun _ => tm_cell (j := 4) (by omega) hL (fun _ => ⟨14, 1148, by omega, by omega, tm_lawOf (by omega) (by omega) rfl⟩)))))
end
