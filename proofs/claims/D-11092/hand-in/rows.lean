section
/-! ===== bits: cut, bitAt, sizes over naturals ===== -/
/-- an address cut to its first l bits -/
def pr_ct (a l : Nat) : Nat := a / 2 ^ (16 - l) * 2 ^ (16 - l)
/-- the bit at place i from the front -/
def pr_bt (a i : Nat) : Nat := a / 2 ^ (15 - i) % 2
theorem pr_and (a b : Nat) : nI a &&& nI b = nI (a &&& b) := by
  apply Int32.toBitVec_inj.1
  show BitVec.ofNat 32 a &&& BitVec.ofNat 32 b = BitVec.ofNat 32 (a &&& b)
  apply BitVec.eq_of_getLsbD_eq
  intro i hi
  simp [hi]
theorem pr_nat_cut {a m : Nat} (ha : a < 65536) : (a &&& (65535 * 2 ^ m)) &&& 65535 = a / 2 ^ m * 2 ^ m := by
  apply Nat.eq_of_testBit_eq
  intro i
  rw [show (65535 : Nat) = 2 ^ 16 - 1 from rfl, Nat.testBit_and, Nat.testBit_and, Nat.testBit_mul_two_pow, Nat.testBit_mul_two_pow, Nat.testBit_two_pow_sub_one, Nat.testBit_two_pow_sub_one, ← Nat.shiftRight_eq_div_pow, Nat.testBit_shiftRight]
  rcases Nat.lt_or_ge i m with h | h
  · rw [decide_eq_false (show ¬ m ≤ i by omega)]
    simp
  · rw [decide_eq_true h, show m + (i - m) = i by omega]
    rcases Nat.lt_or_ge i 16 with h2 | h2
    · rw [decide_eq_true h2, decide_eq_true (show i - m < 16 by omega)]
      simp
    · rw [Nat.testBit_lt_two_pow (show a < 2 ^ i from Nat.lt_of_lt_of_le ha (show 2 ^ 16 ≤ 2 ^ i from Nat.pow_le_pow_right (by decide) h2))]
      simp
theorem pr_msk : ∀ l, l < 17 → (65535 : Int32) <<< ((16 - nI l) &&& 31) = nI (65535 * 2 ^ (16 - l)) := by decide +kernel
theorem pr_cut {a l : Nat} (ha : a < 65536) (hl : l ≤ 16) : (nI a &&& ((65535 : Int32) <<< ((16 - nI l) &&& 31))) &&& 65535 = nI (pr_ct a l) := by
  rw [pr_msk l (by omega), pr_and]
  show nI _ &&& nI 65535 = _
  rw [pr_and, pr_nat_cut ha]
  rfl
theorem pr_cnt : ∀ i, i < 16 → (((15 - nI i).toUInt32 &&& Int32.toUInt32 31).toBitVec % 32).toNat = 15 - i := by decide +kernel
theorem pr_bit {a i : Nat} (ha : a < 65536) (hi : i < 16) : (((nI a).toUInt32 >>> ((15 - nI i).toUInt32 &&& Int32.toUInt32 31)).toInt32) &&& 1 = nI (pr_bt a i) := by
  have h : a / 2 ^ (15 - i) ≤ a := Nat.div_le_self _ _
  rw [pk_ushrN (by omega) _ _ (pr_cnt i hi), pk_andN (by omega) 1 (by decide)]
  rfl
theorem pr_shr : ∀ k, k < 17 → (65536 : Int32) >>> (nI k &&& 31) = nI (2 ^ (16 - k)) := by decide +kernel
theorem pr_pw {a b : Nat} (h : a ≤ b) : 2 ^ b = 2 ^ a * 2 ^ (b - a) := by
  rw [← Nat.pow_add, show a + (b - a) = b by omega]
theorem pr_bt_lt (a i : Nat) : pr_bt a i < 2 := Nat.mod_lt _ (by decide)
theorem pr_ct_le (a l : Nat) : pr_ct a l ≤ a := Nat.div_mul_le_self _ _
/-- what is cut off below isn't seen above -/
theorem pr_ct_div (a : Nat) {l n : Nat} (h : 16 - l ≤ n) : pr_ct a l / 2 ^ n = a / 2 ^ n := by
  unfold pr_ct
  rw [pr_pw h, ← Nat.div_div_eq_div_mul, Nat.mul_div_cancel _ (Nat.two_pow_pos _), Nat.div_div_eq_div_mul]
theorem pr_ct_ct (a : Nat) {k l : Nat} (h : k ≤ l) : pr_ct (pr_ct a l) k = pr_ct a k := by
  rw [show pr_ct (pr_ct a l) k = pr_ct a l / 2 ^ (16 - k) * 2 ^ (16 - k) from rfl, pr_ct_div a (show 16 - l ≤ 16 - k by omega)]
  rfl
theorem pr_bt_ct (a : Nat) {i l : Nat} (h : i < l) (hl : l ≤ 16) : pr_bt (pr_ct a l) i = pr_bt a i := by
  unfold pr_bt
  rw [pr_ct_div a (show 16 - l ≤ 15 - i by omega)]
theorem pr_ct_eq {a b k : Nat} (h : a / 2 ^ (16 - k) = b / 2 ^ (16 - k)) : pr_ct a k = pr_ct b k := by
  unfold pr_ct
  rw [h]
theorem pr_ct_ne {a b k : Nat} (h : ¬ a / 2 ^ (16 - k) = b / 2 ^ (16 - k)) : ¬ pr_ct a k = pr_ct b k := by
  unfold pr_ct
  intro e
  exact h (Nat.eq_of_mul_eq_mul_right (Nat.two_pow_pos _) e)
/-- the front of i + 1 bits is the front of i bits and one bit -/
theorem pr_front (a : Nat) {i : Nat} (hi : i < 16) : a / 2 ^ (16 - (i + 1)) = 2 * (a / 2 ^ (16 - i)) + pr_bt a i := by
  have e : 2 ^ (16 - i) = 2 ^ (15 - i) * 2 := by
    rw [← Nat.pow_succ, show (15 - i).succ = 16 - i by omega]
  unfold pr_bt
  rw [show 16 - (i + 1) = 15 - i by omega, e, ← Nat.div_div_eq_div_mul]
  omega
theorem pr_front_eq {a b i : Nat} (hi : i < 16) (h : a / 2 ^ (16 - i) = b / 2 ^ (16 - i)) (e : pr_bt a i = pr_bt b i) : a / 2 ^ (16 - (i + 1)) = b / 2 ^ (16 - (i + 1)) := by
  rw [pr_front a hi, pr_front b hi, h, e]
/-- sizes -/
theorem pr_sz_le (k : Nat) : 2 ^ (16 - k) ≤ 65536 := Nat.pow_le_pow_right (show 2 > 0 by decide) (show 16 - k ≤ 16 by omega)
theorem pr_sz_pos (k : Nat) : 0 < 2 ^ (16 - k) := Nat.two_pow_pos _
theorem pr_sz_lt {k l : Nat} (h : k < l) (hl : l ≤ 16) : 2 ^ (16 - l) < 2 ^ (16 - k) := Nat.pow_lt_pow_right (by decide) (by omega)
/-- places -/
theorem pr_2 (q : Nat) : (2 : Int32) * nI q = nI (2 * q) := pk_mul 2 q
theorem pr_2b (q b : Nat) : (2 : Int32) * nI q + nI b = nI (2 * q + b) := by rw [pr_2, nI_add]
theorem pr_21 (q : Nat) : (2 : Int32) * nI q + 1 = nI (2 * q + 1) := by rw [pr_2, nI_1]
theorem pr_n1 : ((-1 : Int32) < 0) := by decide
theorem pr_n0 : ¬ ((0 : Int32) ≤ -1) := by decide
theorem pr_ne1 {n : Nat} (h : n < 2 ^ 31) : ¬ (-1 : Int32) = nI n := by
  intro e
  exact nI_pos h (by rw [← e]; exact pr_n1)
end
section
/-! ===== the small methods ===== -/
section
variable {h r f ab fu : Int32} {a1 a2 a3 a4 a5 a6 a7 a8 a9 : Nat → Int32}
theorem pr_init {post : St2 → Prop} {mc ms : Nat} (hmc : 9 ≤ mc) (hms : 585 ≤ ms)
    (H : ∀ c : Nat → Int32, (∀ j, j < 63 → c (2 * j) = nI (j + 1)) → post (0, -1, 0, 0, 0, fun _ => 0, fun _ => 0, fun _ => 0, fun _ => 0, c, fun _ => 0, fun _ => 0, fun _ => 0, fun _ => 0)) :
    wpX_init post mc ms (0, 0, 0, 0, 0) := by
  unfold wpX_init
  refine ⟨by omega, by omega, by omega, by omega, by omega, by omega, by omega, by omega, by omega, by omega, by omega, by omega, by omega, by omega, by omega, by omega, by omega, by omega, ?_⟩
  refine pk_loop (fun n i s => wX_init_79 post mc ms 9 585 0 0 0 0 0 n (nI i) (fun _ => 0) (fun _ => 0) (fun _ => 0) (fun _ => 0) s (fun _ => 0) (fun _ => 0) (fun _ => 0) (fun _ => 0)) (fun i s => ∀ j, j < i → j < 63 → s (2 * j) = nI (j + 1)) 64 0 (fun _ => 0) (by omega) (fun j hj => absurd hj (by omega)) ?_ ?_
  · intro n s hs
    exact pk_le 64 64 (fun _ => H s (fun j hj => hs j (by omega) hj)) (fun z => absurd z (by omega))
  · intro n i s hi hs hw
    have fill : ∀ v : Int32, (i < 63 → v = nI (i + 1)) → ∀ j, j < i + 1 → j < 63 → upd s (2 * i) v (2 * j) = nI (j + 1) := by
      intro v hv j hj hj2
      rcases Nat.lt_or_ge j i with g | g
      · rw [pk_un (by omega)]
        exact hs j g hj2
      · have e : j = i := by omega
        subst e
        rw [pk_us]
        exact hv hj2
    have e2 : ((2 : Int32) * nI i).toNatClampNeg = 2 * i := by rw [pr_2, nI_clamp (by omega)]
    refine pk_le 64 i (fun z => absurd z (by omega)) (fun _ => ?_)
    refine pk_eq i 63 (fun e => ⟨pk_in (2 * i) 128 (by omega) (pr_2 i), nm_r (e' := upd s (2 * i) (-1)) (by rw [e2]) (nm_r (nI_1 i) (hw _ (fill _ (fun z => absurd z (by omega)))))⟩)
      (fun e => ⟨pk_in (2 * i) 128 (by omega) (pr_2 i), nm_r (e' := upd s (2 * i) (nI (i + 1))) (by rw [e2, nI_1]) (nm_r (nI_1 i) (hw _ (fill _ (fun _ => rfl))))⟩)
theorem pr_cutw {post : Int32 → Prop} {u : St0} {a l : Nat} (ha : a < 65536) (hl : l ≤ 16) (H : post (nI (pr_ct a l))) : wpX_cut post u (nI a) (nI l) := by
  unfold wpX_cut
  rw [pr_cut ha hl]
  exact H
theorem pr_bitw {post : Int32 → Prop} {u : St0} {a i : Nat} (ha : a < 65536) (hi : i < 16) (H : post (nI (pr_bt a i))) : wpX_bitAt post u (nI a) (nI i) := by
  unfold wpX_bitAt
  rw [pr_bit ha hi]
  exact H
theorem pr_cov {post : Int32 → Prop} {q lq p bq : Nat} (hq : q < 64) (hl : lq ≤ 16) (hp : p < 65536) (h3 : a3 q = nI lq) (h2 : a2 q = nI bq) (hb : bq < 65536)
    (ht : pr_ct p lq = bq → post 1) (hf : pr_ct p lq ≠ bq → post 0) : wpX_covers post (h, r, f, ab, fu, a1, a2, a3, a4, a5, a6, a7, a8, a9) (nI q) (nI p) := by
  have hc : pr_ct p lq ≤ p := pr_ct_le p lq
  unfold wpX_covers
  dsimp only
  rw [nI_clamp (show q < 2 ^ 31 by omega), h3, h2]
  exact ⟨vp_in_nI hq (by decide), pr_cutw hp hl ⟨vp_in_nI hq (by decide), pk_eq (pr_ct p lq) bq ht hf⟩⟩
theorem pr_common {post : Int32 → Prop} {a b k : Nat} (ha : a < 65536) (hb : b < 65536) (hk : k ≤ 16) (hne : ¬ a / 2 ^ (16 - k) = b / 2 ^ (16 - k))
    (H : ∀ s, s < k → a / 2 ^ (16 - s) = b / 2 ^ (16 - s) → pr_bt a s ≠ pr_bt b s → post (nI s)) : wpX_common post () (nI a) (nI b) (nI k) := by
  unfold wpX_common
  refine pk_loop (σ := Unit) (fun n i _ => wX_common_2 post (nI a) (nI b) (nI k) n (nI i)) (fun i _ => a / 2 ^ (16 - i) = b / 2 ^ (16 - i)) k 0 () (Nat.zero_le k) ?_ (fun n _ hh => absurd hh hne) ?_
  · show a / 65536 = b / 65536
    omega
  · intro n i _ hi hh hw
    have b1 := pr_bt_lt a i
    have b2 := pr_bt_lt b i
    refine pk_le k i (fun z => absurd z (by omega)) (fun _ => pr_bitw ha (by omega) (pr_bitw hb (by omega) ?_))
    exact pk_eq (pr_bt a i) (pr_bt b i) (fun e => nm_r (nI_1 i) (hw () (pr_front_eq (by omega) hh e))) (fun e => H i hi hh e)
theorem pr_newNode {post : Int32 → St2 → Prop} {q : Nat} {p l pe : Int32} (hq : q < 64)
    (H : post (nI q) (h, r, a5 (2 * q), ab, fu, upd a1 q 1, upd a2 q p, upd a3 q l, upd a4 q pe, upd (upd a5 (2 * q) (-1)) (2 * q + 1) (-1), a6, a7, a8, a9)) :
    wpX_newNode post (h, r, nI q, ab, fu, a1, a2, a3, a4, a5, a6, a7, a8, a9) p l pe := by
  unfold wpX_newNode
  dsimp only
  rw [pr_21, pr_2, nI_clamp (show q < 2 ^ 31 by omega), nI_clamp (show 2 * q < 2 ^ 31 by omega), nI_clamp (show 2 * q + 1 < 2 ^ 31 by omega)]
  exact ⟨vp_in_nI (by omega) (by decide), nm_e ⟨vp_in_nI hq (by decide), nm_e ⟨vp_in_nI hq (by decide), nm_e ⟨vp_in_nI hq (by decide), nm_e ⟨vp_in_nI hq (by decide), nm_e ⟨vp_in_nI (by omega) (by decide), nm_e ⟨vp_in_nI (by omega) (by decide), nm_e H⟩⟩⟩⟩⟩⟩⟩
theorem pr_lead_root {post : St2 → Prop} {p1 p2 : Int32} (H : post (h, p2, f, ab, fu, a1, a2, a3, a4, a5, a6, a7, a8, a9)) :
    wpX_lead post (h, r, f, ab, fu, a1, a2, a3, a4, a5, a6, a7, a8, a9) (-1) p1 p2 := by
  unfold wpX_lead
  exact br_f pr_n0 H
theorem pr_lead_node {post : St2 → Prop} {q p l : Nat} {p2 : Int32} (hq : q < 64) (hp : p < 65536) (hl : l < 16) (h3 : a3 q = nI l)
    (H : post (h, r, f, ab, fu, a1, a2, a3, a4, upd a5 (2 * q + pr_bt p l) p2, a6, a7, a8, a9)) :
    wpX_lead post (h, r, f, ab, fu, a1, a2, a3, a4, a5, a6, a7, a8, a9) (nI q) (nI p) p2 := by
  have hb := pr_bt_lt p l
  unfold wpX_lead
  dsimp only
  rw [nI_clamp (show q < 2 ^ 31 by omega), h3]
  refine br_t (nI_pos' (by omega)) ⟨vp_in_nI hq (by decide), pr_bitw hp hl ?_⟩
  rw [pr_2b, nI_clamp (show 2 * q + pr_bt p l < 2 ^ 31 by omega)]
  exact ⟨vp_in_nI (by omega) (by decide), nm_e H⟩
theorem pr_release {post : St2 → Prop} {q : Nat} (hq : q < 64)
    (H : post (h, r, nI q, ab, fu, upd a1 q 0, a2, a3, a4, upd a5 (2 * q) f, a6, a7, a8, a9)) :
    wpX_release post (h, r, f, ab, fu, a1, a2, a3, a4, a5, a6, a7, a8, a9) (nI q) := by
  unfold wpX_release
  dsimp only
  rw [pr_2, nI_clamp (show q < 2 ^ 31 by omega), nI_clamp (show 2 * q < 2 ^ 31 by omega)]
  exact ⟨vp_in_nI hq (by decide), nm_e ⟨vp_in_nI (by omega) (by decide), nm_e H⟩⟩
/-! find, a step -/
theorem pr_find_null {post : Int32 → St2 → Prop} {x1 x2 : Int32} {n i : Nat} (hi : i < 18) (H : post (-1) (h, r, f, ab, fu, a1, a2, a3, a4, a5, a6, a7, a8, a9)) :
    wX_find_18 post x1 x2 h r f a1 a2 a3 a4 a5 a6 a7 a8 a9 (n + 1) (-1) (nI i) ab fu :=
  pk_le 18 i (fun z => absurd z (by omega)) (fun _ => br_t pr_n1 H)
theorem pr_find_step {post : Int32 → St2 → Prop} {p len n i q lq bq : Nat} (hi : i < 18) (hq : q < 64) (hp : p < 65536) (hl : lq ≤ len) (hlen : len ≤ 16) (h3 : a3 q = nI lq) (h2 : a2 q = nI bq) (hb : bq < 65536)
    (Hm : pr_ct p lq ≠ bq → post (-1) (h, r, f, ab, fu, a1, a2, a3, a4, a5, a6, a7, a8, a9))
    (He : pr_ct p lq = bq → lq = len → post (nI q) (h, r, f, ab, fu, a1, a2, a3, a4, a5, a6, a7, a8, a9))
    (Hg : pr_ct p lq = bq → lq < len → wX_find_18 post (nI p) (nI len) h r f a1 a2 a3 a4 a5 a6 a7 a8 a9 n (a5 (2 * q + pr_bt p lq)) (nI (i + 1)) (nI q) ab) :
    wX_find_18 post (nI p) (nI len) h r f a1 a2 a3 a4 a5 a6 a7 a8 a9 (n + 1) (nI q) (nI i) ab fu := by
  have hbt := pr_bt_lt p lq
  refine pk_le 18 i (fun z => absurd z (by omega)) (fun _ => br_f (nI_pos (by omega)) ⟨vp_in_nI hq (by decide), ?_⟩)
  rw [nI_clamp (show q < 2 ^ 31 by omega), h3]
  refine pk_lt len lq (fun z => absurd z (by omega)) (fun _ => pr_cov hq (by omega) hp h3 h2 hb (fun hc => br_f (by decide) ⟨vp_in_nI hq (by decide), ?_⟩) (fun hc => br_t rfl (Hm hc)))
  refine pk_eq lq len (fun e => He hc e) (fun e => ⟨vp_in_nI hq (by decide), pr_bitw hp (by omega) ?_⟩)
  rw [pr_2b, nI_clamp (show 2 * q + pr_bt p lq < 2 ^ 31 by omega)]
  exact ⟨vp_in_nI (by omega) (by decide), nm_e (nm_r (nI_1 i) (Hg hc (by omega)))⟩
/-! settling, a step -/
theorem pr_set_null {post : Int32 → Prop} {x1 x2 : Int32} {n i : Nat} (hi : i < 18) (H : post x2) :
    wX_settling_10 post x1 h r f ab fu a1 a2 a3 a4 a5 a6 a7 a8 a9 (n + 1) x2 (-1) (nI i) :=
  pk_le 18 i (fun z => absurd z (by omega)) (fun _ => br_t pr_n1 H)
theorem pr_set_44 {post : Int32 → Prop} {J : Int32 → Int32 → Int32 → Prop} {p q lq i : Nat} {z0 : Int32} (hq : q < 64) (hp : p < 65536) (hl : lq ≤ 16) (h3 : a3 q = nI lq)
    (H16 : lq = 16 → J z0 (-1) (nI (i + 1))) (Hl : lq < 16 → J z0 (a5 (2 * q + pr_bt p lq)) (nI (i + 1))) :
    wX_settling_44 post J (nI p) (nI q) (nI i) z0 h r f ab fu a1 a2 a3 a4 a5 a6 a7 a8 a9 := by
  have hbt := pr_bt_lt p lq
  unfold wX_settling_44
  rw [nI_clamp (show q < 2 ^ 31 by omega), h3]
  refine ⟨vp_in_nI hq (by decide), pk_eq lq 16 (fun e => nm_r (nI_1 i) (H16 e)) (fun e => ⟨vp_in_nI hq (by decide), pr_bitw hp (by omega) ?_⟩)⟩
  rw [pr_2b, nI_clamp (show 2 * q + pr_bt p lq < 2 ^ 31 by omega)]
  exact ⟨vp_in_nI (by omega) (by decide), nm_e (nm_r (nI_1 i) (Hl (by omega)))⟩
theorem pr_set_step {post : Int32 → Prop} {p q lq bq n i : Nat} {x2 : Int32} (hi : i < 18) (hq : q < 64) (hp : p < 65536) (hl : lq ≤ 16) (h3 : a3 q = nI lq) (h2 : a2 q = nI bq) (hb : bq < 65536)
    (Hm : pr_ct p lq ≠ bq → post x2)
    (Hg : pr_ct p lq = bq → ∀ best c : Int32, (a4 q < 0 → best = x2) → (¬ a4 q < 0 → best = nI q) → (lq = 16 → c = -1) → (lq < 16 → c = a5 (2 * q + pr_bt p lq)) → wX_settling_10 post (nI p) h r f ab fu a1 a2 a3 a4 a5 a6 a7 a8 a9 n best c (nI (i + 1))) :
    wX_settling_10 post (nI p) h r f ab fu a1 a2 a3 a4 a5 a6 a7 a8 a9 (n + 1) x2 (nI q) (nI i) := by
  refine pk_le 18 i (fun z => absurd z (by omega)) (fun _ => br_f (nI_pos (by omega)) (pr_cov hq hl hp h3 h2 hb (fun hc => br_f (by decide) ⟨vp_in_nI hq (by decide), ?_⟩) (fun hc => br_t rfl (Hm hc))))
  rw [nI_clamp (show q < 2 ^ 31 by omega)]
  refine br_c (fun g => ?_) (fun g => ?_)
  · exact pr_set_44 hq hp hl h3 (fun e => Hg hc x2 (-1) (fun _ => rfl) (fun z => absurd g z) (fun _ => rfl) (fun z => absurd z (by omega))) (fun e => Hg hc x2 _ (fun _ => rfl) (fun z => absurd g z) (fun z => absurd z (by omega)) (fun _ => rfl))
  · exact pr_set_44 hq hp hl h3 (fun e => Hg hc (nI q) (-1) (fun z => absurd z g) (fun _ => rfl) (fun _ => rfl) (fun z => absurd z (by omega))) (fun e => Hg hc (nI q) _ (fun z => absurd z g) (fun _ => rfl) (fun z => absurd z (by omega)) (fun _ => rfl))
end
end
section
/-! ===== visit and settleAll ===== -/
section
variable {h r f ab fu : Int32} {a1 a2 a3 a4 a5 a6 a7 a8 a9 : Nat → Int32}
theorem pr_v_end {post : Int32 → St2 → Prop} {x1 x3 x4 : Int32} {n : Nat} (H : post x4 (h, r, f, ab, fu, a1, a2, a3, a4, a5, a6, a7, a8, a9)) :
    wX_visit_99 post x1 x3 h r f ab fu (n + 1) x4 (nI 2) a1 a2 a3 a4 a5 a6 a7 a8 a9 :=
  pk_le 2 2 (fun _ => H) (fun z => absurd z (by omega))
theorem pr_v_skip {post : Int32 → St2 → Prop} {x3 x4 : Int32} {n q b : Nat} (hq : q < 64) (hb : b < 2) (h5 : a5 (2 * q + b) = -1)
    (H : wX_visit_99 post (nI q) x3 h r f ab fu n x4 (nI (b + 1)) a1 a2 a3 a4 a5 a6 a7 a8 a9) :
    wX_visit_99 post (nI q) x3 h r f ab fu (n + 1) x4 (nI b) a1 a2 a3 a4 a5 a6 a7 a8 a9 := by
  have e : ((2 : Int32) * nI q + nI b).toNatClampNeg = 2 * q + b := by rw [pr_2b, nI_clamp (by omega)]
  refine pk_le 2 b (fun z => absurd z (by omega)) (fun _ => ⟨pk_in (2 * q + b) 128 (by omega) (pr_2b q b), nm_r (e' := (-1 : Int32)) (by rw [e, h5]) ?_⟩)
  exact br_t pr_n1 (nm_r (nI_1 b) H)
theorem pr_v_push {post : Int32 → St2 → Prop} {x3 : Int32} {n q b t c : Nat} (hq : q < 64) (hb : b < 2) (h5 : a5 (2 * q + b) = nI c) (hc : c < 64) (ht : t < 64)
    (H : wX_visit_99 post (nI q) x3 h r f ab fu n (nI (t + 1)) (nI (b + 1)) a1 a2 a3 a4 a5 a6 a7 (upd a8 c x3) (upd a9 t (nI c))) :
    wX_visit_99 post (nI q) x3 h r f ab fu (n + 1) (nI t) (nI b) a1 a2 a3 a4 a5 a6 a7 a8 a9 := by
  have e : ((2 : Int32) * nI q + nI b).toNatClampNeg = 2 * q + b := by rw [pr_2b, nI_clamp (by omega)]
  refine pk_le 2 b (fun z => absurd z (by omega)) (fun _ => ⟨pk_in (2 * q + b) 128 (by omega) (pr_2b q b), nm_r (e' := nI c) (by rw [e, h5]) ?_⟩)
  refine br_f (nI_pos (by omega)) ⟨vp_in_nI hc (by decide), nm_r (e' := upd a8 c x3) (by rw [nI_clamp (by omega)]) ⟨vp_in_nI ht (by decide), nm_r (e' := upd a9 t (nI c)) (by rw [nI_clamp (by omega)]) ?_⟩⟩
  exact nm_r (nI_1 t) (nm_r (nI_1 b) H)
/-- a node without children -/
theorem pr_v_leaf {post : Int32 → St2 → Prop} {x3 x4 : Int32} {q : Nat} (hq : q < 64) (h0 : a5 (2 * q) = -1) (h1 : a5 (2 * q + 1) = -1)
    (H : post x4 (h, r, f, ab, fu, a1, a2, a3, a4, a5, a6, a7, a8, a9)) :
    ∃ n, wX_visit_99 post (nI q) x3 h r f ab fu n x4 0 a1 a2 a3 a4 a5 a6 a7 a8 a9 :=
  ⟨3, pr_v_skip (b := 0) hq (by decide) h0 (pr_v_skip (b := 1) hq (by decide) h1 (pr_v_end H))⟩
/-- a node with one child -/
theorem pr_v_one {post : Int32 → St2 → Prop} {x3 : Int32} {q t c b : Nat} (hq : q < 64) (hb : b < 2) (h0 : a5 (2 * q + b) = nI c) (h1 : a5 (2 * q + (1 - b)) = -1) (hc : c < 64) (ht : t < 64)
    (H : post (nI (t + 1)) (h, r, f, ab, fu, a1, a2, a3, a4, a5, a6, a7, upd a8 c x3, upd a9 t (nI c))) :
    ∃ n, wX_visit_99 post (nI q) x3 h r f ab fu n (nI t) 0 a1 a2 a3 a4 a5 a6 a7 a8 a9 := by
  rcases (show b = 0 ∨ b = 1 by omega) with e | e
  · subst e
    exact ⟨3, pr_v_push (b := 0) hq (by decide) h0 hc ht (pr_v_skip (b := 1) hq (by decide) h1 (pr_v_end H))⟩
  · subst e
    exact ⟨3, pr_v_skip (b := 0) hq (by decide) h1 (pr_v_push (b := 1) hq (by decide) h0 hc ht (pr_v_end H))⟩
/-- a node with two children -/
theorem pr_v_two {post : Int32 → St2 → Prop} {x3 : Int32} {q t c d : Nat} (hq : q < 64) (h0 : a5 (2 * q) = nI c) (h1 : a5 (2 * q + 1) = nI d) (hc : c < 64) (hd : d < 64) (ht : t < 63)
    (H : post (nI (t + 2)) (h, r, f, ab, fu, a1, a2, a3, a4, a5, a6, a7, upd (upd a8 c x3) d x3, upd (upd a9 t (nI c)) (t + 1) (nI d))) :
    ∃ n, wX_visit_99 post (nI q) x3 h r f ab fu n (nI t) 0 a1 a2 a3 a4 a5 a6 a7 a8 a9 :=
  ⟨3, pr_v_push (b := 0) hq (by decide) h0 hc (by omega) (pr_v_push (b := 1) hq (by decide) h1 hd (by omega) (pr_v_end H))⟩
theorem pr_visit_fork {post : Int32 → St2 → Prop} {q : Nat} {p1 up : Int32} (hq : q < 64) (h4 : a4 q = -1) (h8 : a8 q = up)
    (H : ∃ n, wX_visit_99 post (nI q) up h r f ab fu n p1 0 a1 a2 a3 a4 a5 a6 a7 a8 a9) :
    wpX_visit post (h, r, f, ab, fu, a1, a2, a3, a4, a5, a6, a7, a8, a9) (nI q) p1 := by
  unfold wpX_visit
  dsimp only
  rw [nI_clamp (show q < 2 ^ 31 by omega), h4, h8]
  exact ⟨vp_in_nI hq (by decide), nm_e ⟨vp_in_nI hq (by decide), br_t pr_n1 H⟩⟩
/-- a held node with nothing held above -/
theorem pr_visit_top {post : Int32 → St2 → Prop} {q lq pe : Nat} {p1 : Int32} (hq : q < 64) (hl : lq ≤ 16) (h3 : a3 q = nI lq) (h4 : a4 q = nI pe) (hpe : pe < 8) (h8 : a8 q = -1)
    (H : ∃ n, wX_visit_99 post (nI q) (nI q) h r f ab fu n p1 0 a1 a2 a3 a4 a5 (upd (upd a6 pe (a6 pe + nI (2 ^ (16 - lq)))) 8 (a6 8 - nI (2 ^ (16 - lq)))) (upd a7 q (nI (2 ^ (16 - lq)))) a8 a9) :
    wpX_visit post (h, r, f, ab, fu, a1, a2, a3, a4, a5, a6, a7, a8, a9) (nI q) p1 := by
  unfold wpX_visit
  dsimp only
  rw [nI_clamp (show q < 2 ^ 31 by omega), h4, h3, h8, nI_clamp (show pe < 2 ^ 31 by omega), pr_shr lq (by omega)]
  refine ⟨vp_in_nI hq (by decide), nm_e ⟨vp_in_nI hq (by decide), br_f (nI_pos (by omega)) ⟨vp_in_nI hq (by decide), nm_e ⟨vp_in_nI hq (by decide), nm_e ⟨vp_in_nI hq (by decide), vp_in_nI (by omega) (by decide), vp_in_nI (by omega) (by decide), nm_e (br_f pr_n0 ?_)⟩⟩⟩⟩⟩
  unfold wX_visit_70
  refine ⟨pk_in 8 9 (by omega), pk_in 8 9 (by omega), nm_r (e' := upd (upd a6 pe (a6 pe + nI (2 ^ (16 - lq)))) 8 (a6 8 - nI (2 ^ (16 - lq)))) ?_ (br_t pr_n1 H)⟩
  rw [show (8 : Int32).toNatClampNeg = 8 from rfl, pk_un (show 8 ≠ pe by omega)]
/-- a held node with u held above -/
theorem pr_visit_below {post : Int32 → St2 → Prop} {q lq pe u pu : Nat} {p1 : Int32} (hq : q < 64) (hu : u < 64) (hl : lq ≤ 16) (h3 : a3 q = nI lq) (h4 : a4 q = nI pe) (hpe : pe < 8) (h8 : a8 q = nI u) (h4u : a4 u = nI pu) (hpu : pu < 8)
    (H : ∃ n, wX_visit_99 post (nI q) (nI q) h r f ab fu n p1 0 a1 a2 a3 a4 a5 (upd (upd a6 pe (a6 pe + nI (2 ^ (16 - lq)))) pu (upd a6 pe (a6 pe + nI (2 ^ (16 - lq))) pu - nI (2 ^ (16 - lq)))) (upd (upd a7 q (nI (2 ^ (16 - lq)))) u (upd a7 q (nI (2 ^ (16 - lq))) u - nI (2 ^ (16 - lq)))) a8 a9) :
    wpX_visit post (h, r, f, ab, fu, a1, a2, a3, a4, a5, a6, a7, a8, a9) (nI q) p1 := by
  unfold wpX_visit
  dsimp only
  rw [nI_clamp (show q < 2 ^ 31 by omega), h4, h3, h8, nI_clamp (show pe < 2 ^ 31 by omega), pr_shr lq (by omega)]
  refine ⟨vp_in_nI hq (by decide), nm_e ⟨vp_in_nI hq (by decide), br_f (nI_pos (by omega)) ⟨vp_in_nI hq (by decide), nm_e ⟨vp_in_nI hq (by decide), nm_e ⟨vp_in_nI hq (by decide), vp_in_nI (by omega) (by decide), vp_in_nI (by omega) (by decide), nm_e (br_t (nI_pos' (by omega)) ⟨vp_in_nI hu (by decide), ?_⟩)⟩⟩⟩⟩⟩
  rw [nI_clamp (show u < 2 ^ 31 by omega), h4u]
  unfold wX_visit_70
  rw [nI_clamp (show u < 2 ^ 31 by omega), nI_clamp (show pu < 2 ^ 31 by omega)]
  exact ⟨vp_in_nI (by omega) (by decide), vp_in_nI (by omega) (by decide), nm_e (br_f (nI_pos (by omega)) ⟨vp_in_nI hu (by decide), vp_in_nI hu (by decide), nm_e H⟩)⟩
theorem pr_settleAll {post : St2 → Prop} {q : Nat} (hq : q < 64)
    (H : ∀ s : Nat → Int32, (∀ j, j < 8 → s j = 0) → s 8 = 65536 → ∃ n, wX_settleAll_63 post n 1 0 h (nI q) f ab fu a1 a2 a3 a4 a5 s a7 (upd a8 q (-1)) (upd a9 0 (nI q))) :
    wpX_settleAll post (h, nI q, f, ab, fu, a1, a2, a3, a4, a5, a6, a7, a8, a9) := by
  unfold wpX_settleAll
  dsimp only
  refine pk_loop (fun n i s => wX_settleAll_2 post h (nI q) f ab fu n (nI i) a1 a2 a3 a4 a5 s a7 a8 a9) (fun i s => ∀ j, j < i → s j = 0) 9 0 a6 (by omega) (fun j hj => absurd hj (by omega)) ?_ ?_
  · intro n s hs
    refine pk_le 9 9 (fun _ => nm_e (br_f (nI_pos (by omega)) (nm_e ⟨vp_in_nI hq (by decide), nm_r (e' := upd a8 q (-1)) (by rw [nI_clamp (by omega)]) (H _ ?_ ?_)⟩))) (fun z => absurd z (by omega))
    · intro j hj
      rw [pk_un (by omega)]
      exact hs j (by omega)
    · exact pk_us
  · intro n i s hi hs hw
    refine pk_le 9 i (fun z => absurd z (by omega)) (fun _ => ⟨vp_in_nI hi (by decide), nm_r (e' := upd s i 0) (by rw [nI_clamp (by omega)]) (nm_r (nI_1 i) (hw _ ?_))⟩)
    intro j hj
    rcases Nat.lt_or_ge j i with g | g
    · rw [pk_un (by omega)]
      exact hs j g
    · rw [show j = i by omega, pk_us]
/-- a step of the walk: the top of the stack is visited -/
theorem pr_s_step {post : St2 → Prop} {n d i q : Nat} (hd : d < 64) (hi : i < 64) (h9 : a9 d = nI q)
    (H : ∀ ψ : Int32 → St2 → Prop, (∀ (r' h' ro f' ab' fu' : Int32) (b1 b2 b3 b4 b5 b6 b7 b8 b9 : Nat → Int32), wX_settleAll_63 post n r' (nI (i + 1)) h' ro f' ab' fu' b1 b2 b3 b4 b5 b6 b7 b8 b9 → ψ r' (h', ro, f', ab', fu', b1, b2, b3, b4, b5, b6, b7, b8, b9)) → wpX_visit ψ (h, r, f, ab, fu, a1, a2, a3, a4, a5, a6, a7, a8, a9) (nI q) (nI d)) :
    wX_settleAll_63 post (n + 1) (nI (d + 1)) (nI i) h r f ab fu a1 a2 a3 a4 a5 a6 a7 a8 a9 := by
  refine pk_le 64 i (fun z => absurd z (by omega)) (fun _ => pk_le (d + 1) 0 (fun z => absurd z (by omega)) (fun _ => ⟨pk_in d 64 hd (nI_pred d), nm_r (e' := nI q) (by rw [nI_pred, nI_clamp (by omega), h9]) ?_⟩))
  rw [nI_pred]
  exact H _ (fun r' h' ro f' ab' fu' b1 b2 b3 b4 b5 b6 b7 b8 b9 w => nm_r (nI_1 i) w)
theorem pr_s_end {post : St2 → Prop} {n i : Nat} (hi : i < 64) (H : post (h, r, f, ab, fu, a1, a2, a3, a4, a5, a6, a7, a8, a9)) :
    wX_settleAll_63 post (n + 1) (nI 0) (nI i) h r f ab fu a1 a2 a3 a4 a5 a6 a7 a8 a9 :=
  pk_le 64 i (fun z => absurd z (by omega)) (fun _ => pk_le 0 0 (fun _ => H) (fun z => absurd z (by omega)))
end
end
section
/-! ===== the two trees, and what settleAll makes of them ===== -/
/-- the second entry lies in the first: node 0 is the root, node 1 its one child -/
def pr_I (k l x y P Q : Nat) (a1 a2 a3 a4 a5 : Nat → Int32) : Prop :=
  (a1 0 = 1 ∧ a1 1 = 1 ∧ ∀ j, 2 ≤ j → a1 j = 0) ∧ (a2 0 = nI P ∧ a2 1 = nI Q) ∧ (a3 0 = nI k ∧ a3 1 = nI l) ∧ (a4 0 = nI x ∧ a4 1 = nI y) ∧
  (a5 (pr_bt Q k) = nI 1 ∧ a5 (1 - pr_bt Q k) = -1 ∧ a5 2 = -1 ∧ a5 3 = -1)
/-- it does not: node 2 is the root, a fork at s bits, nodes 0 and 1 its children -/
def pr_O (k l s x y P Q : Nat) (a1 a2 a3 a4 a5 : Nat → Int32) : Prop :=
  (a1 0 = 1 ∧ a1 1 = 1 ∧ a1 2 = 1 ∧ ∀ j, 3 ≤ j → a1 j = 0) ∧ (a2 0 = nI P ∧ a2 1 = nI Q ∧ a2 2 = nI (pr_ct Q s)) ∧ (a3 0 = nI k ∧ a3 1 = nI l ∧ a3 2 = nI s) ∧ (a4 0 = nI x ∧ a4 1 = nI y ∧ a4 2 = -1) ∧
  (a5 0 = -1 ∧ a5 1 = -1 ∧ a5 2 = -1 ∧ a5 3 = -1 ∧ a5 (4 + pr_bt Q s) = nI 1 ∧ a5 (4 + pr_bt P s) = nI 0)
/-- one leaf is left: node 0 is the root -/
def pr_1 (k x P : Nat) (a1 a2 a3 a4 a5 : Nat → Int32) : Prop :=
  a1 0 = 1 ∧ (∀ j, 1 ≤ j → a1 j = 0) ∧ a2 0 = nI P ∧ a3 0 = nI k ∧ a4 0 = nI x ∧ a5 0 = -1 ∧ a5 1 = -1
/-- what settleAll leaves: the sums of x and of nobody, what the two nodes settle, what is held above them -/
def pr_F (x vx v8 t0 t1 : Nat) (u1 : Int32) (b6 b7 b8 : Nat → Int32) : Prop :=
  b6 x = nI vx ∧ b6 8 = nI v8 ∧ b7 0 = nI t0 ∧ b7 1 = nI t1 ∧ b8 0 = -1 ∧ b8 1 = u1
theorem pr_sum_I {s : Nat → Int32} {x y bg sm : Nat} (hx : x < 8) (hy : y < 8) (h0 : ∀ j, j < 8 → s j = 0) (h8 : s 8 = 65536) (hb : bg ≤ 65536) (hs : sm ≤ bg) :
    upd (upd (upd (upd s x (s x + nI bg)) 8 (s 8 - nI bg)) y (upd (upd s x (s x + nI bg)) 8 (s 8 - nI bg) y + nI sm)) x (upd (upd (upd s x (s x + nI bg)) 8 (s 8 - nI bg)) y (upd (upd s x (s x + nI bg)) 8 (s 8 - nI bg) y + nI sm) x - nI sm) x = nI (if x = y then bg else bg - sm) ∧
    upd (upd (upd (upd s x (s x + nI bg)) 8 (s 8 - nI bg)) y (upd (upd s x (s x + nI bg)) 8 (s 8 - nI bg) y + nI sm)) x (upd (upd (upd s x (s x + nI bg)) 8 (s 8 - nI bg)) y (upd (upd s x (s x + nI bg)) 8 (s 8 - nI bg) y + nI sm) x - nI sm) 8 = nI (65536 - bg) := by
  have z : (0 : Int32) = nI 0 := rfl
  constructor
  · rw [pk_us]
    by_cases e : x = y
    · subst e
      rw [pk_us, pk_un (show x ≠ 8 by omega), pk_us, h0 x hx, z, nI_add, nI_add, pk_sub (by omega), if_pos rfl]
      exact congrArg nI (by omega)
    · rw [pk_un e, pk_un (show x ≠ 8 by omega), pk_us, h0 x hx, z, nI_add, pk_sub (by omega), if_neg e]
      exact congrArg nI (by omega)
  · rw [pk_un (show 8 ≠ x by omega), pk_un (show 8 ≠ y by omega), pk_us, h8]
    exact pk_sub (a := 65536) hb
theorem pr_sum_O {s : Nat → Int32} {p q u v : Nat} (hp : p < 8) (hq : q < 8) (h0 : ∀ j, j < 8 → s j = 0) (h8 : s 8 = 65536) (hu : u + v ≤ 65536) :
    (∀ x, x < 8 → upd (upd (upd (upd s p (s p + nI u)) 8 (s 8 - nI u)) q (upd (upd s p (s p + nI u)) 8 (s 8 - nI u) q + nI v)) 8 (upd (upd s p (s p + nI u)) 8 (s 8 - nI u) 8 - nI v) x = nI ((if x = p then u else 0) + (if x = q then v else 0))) ∧
    upd (upd (upd (upd s p (s p + nI u)) 8 (s 8 - nI u)) q (upd (upd s p (s p + nI u)) 8 (s 8 - nI u) q + nI v)) 8 (upd (upd s p (s p + nI u)) 8 (s 8 - nI u) 8 - nI v) 8 = nI (65536 - u - v) := by
  have z : (0 : Int32) = nI 0 := rfl
  constructor
  · intro x hx
    rw [pk_un (show x ≠ 8 by omega)]
    by_cases e : x = q
    · subst e
      rw [pk_us, pk_un (show x ≠ 8 by omega), if_pos rfl]
      by_cases g : x = p
      · subst g
        rw [pk_us, h0 x hx, z, nI_add, nI_add, if_pos rfl]
        exact congrArg nI (by omega)
      · rw [pk_un g, h0 x hx, z, nI_add, if_neg g]
    · rw [pk_un e, pk_un (show x ≠ 8 by omega), if_neg e]
      by_cases g : x = p
      · subst g
        rw [pk_us, h0 x hx, z, nI_add, if_pos rfl]
        exact congrArg nI (by omega)
      · rw [pk_un g, h0 x hx, if_neg g]
        rfl
  · rw [pk_us, pk_us, h8, show (65536 : Int32) = nI 65536 from rfl, pk_sub (by omega), pk_sub (by omega)]
section
variable {h r f ab fu : Int32} {a1 a2 a3 a4 a5 a6 a7 a8 a9 : Nat → Int32}
theorem pr_settle_I {post : St2 → Prop} {k l x y P Q : Nat} (hkl : k < l) (hl : l ≤ 16) (hx : x < 8) (hy : y < 8) (pic : pr_I k l x y P Q a1 a2 a3 a4 a5)
    (H : ∀ b6 b7 b8 b9 : Nat → Int32, pr_F x (if x = y then 2 ^ (16 - k) else 2 ^ (16 - k) - 2 ^ (16 - l)) (65536 - 2 ^ (16 - k)) (2 ^ (16 - k) - 2 ^ (16 - l)) (2 ^ (16 - l)) (nI 0) b6 b7 b8 → post (h, nI 0, f, ab, fu, a1, a2, a3, a4, a5, b6, b7, b8, b9)) :
    wpX_settleAll post (h, nI 0, f, ab, fu, a1, a2, a3, a4, a5, a6, a7, a8, a9) := by
  obtain ⟨_, _, ⟨p30, p31⟩, ⟨p40, p41⟩, c1, c2, c3, c4⟩ := pic
  have hbt := pr_bt_lt Q k
  refine pr_settleAll (by decide) (fun s hs0 hs8 => ⟨3, ?_⟩)
  refine pr_s_step (n := 2) (d := 0) (i := 0) (q := 0) (by decide) (by decide) pk_us (fun ψ hψ => ?_)
  refine pr_visit_top (q := 0) (lq := k) (pe := x) (by decide) (by omega) p30 p40 hx pk_us ?_
  refine pr_v_one (q := 0) (t := 0) (c := 1) (b := pr_bt Q k) (by decide) hbt (by rw [show 2 * 0 + pr_bt Q k = pr_bt Q k by omega]; exact c1) (by rw [show 2 * 0 + (1 - pr_bt Q k) = 1 - pr_bt Q k by omega]; exact c2) (by decide) (by decide) (hψ _ _ _ _ _ _ _ _ _ _ _ _ _ _ _ ?_)
  refine pr_s_step (n := 1) (d := 0) (i := 1) (q := 1) (by decide) (by decide) pk_us (fun ψ hψ => ?_)
  refine pr_visit_below (q := 1) (u := 0) (lq := l) (pe := y) (pu := x) (by decide) (by decide) hl p31 p41 hy pk_us p40 hx ?_
  refine pr_v_leaf (q := 1) (by decide) c3 c4 (hψ _ _ _ _ _ _ _ _ _ _ _ _ _ _ _ ?_)
  refine pr_s_end (n := 0) (i := 2) (by decide) (H _ _ _ _ ?_)
  have hb := pr_sz_le k
  have hs := pr_sz_lt hkl hl
  obtain ⟨q1, q2⟩ := pr_sum_I hx hy hs0 hs8 hb (Nat.le_of_lt hs)
  refine ⟨q1, q2, ?_, ?_, ?_, ?_⟩
  · rw [pk_us, pk_un (by decide), pk_us, pk_sub (by omega)]
  · rw [pk_un (by decide), pk_us]
  · rw [pk_un (by decide), pk_us]
  · exact pk_us
/-- a fork over two leaves -/
theorem pr_settle_fork {post : St2 → Prop} {c d lc ld pc pd : Nat} (hc : c < 2) (hd : d < 2) (hcd : c ≠ d) (hlc : lc ≤ 16) (hld : ld ≤ 16) (hpc : pc < 8) (hpd : pd < 8)
    (hz : 2 ^ (16 - ld) + 2 ^ (16 - lc) ≤ 65536)
    (h42 : a4 2 = -1) (h54 : a5 4 = nI c) (h55 : a5 5 = nI d) (h3c : a3 c = nI lc) (h3d : a3 d = nI ld) (h4c : a4 c = nI pc) (h4d : a4 d = nI pd)
    (h5 : ∀ j, j < 4 → a5 j = -1)
    (H : ∀ b6 b7 b8 b9 : Nat → Int32, (∀ x, x < 8 → b6 x = nI ((if x = pd then 2 ^ (16 - ld) else 0) + (if x = pc then 2 ^ (16 - lc) else 0))) → b6 8 = nI (65536 - 2 ^ (16 - ld) - 2 ^ (16 - lc)) →
      b7 c = nI (2 ^ (16 - lc)) → b7 d = nI (2 ^ (16 - ld)) → b8 c = -1 → b8 d = -1 → post (h, nI 2, f, ab, fu, a1, a2, a3, a4, a5, b6, b7, b8, b9)) :
    wpX_settleAll post (h, nI 2, f, ab, fu, a1, a2, a3, a4, a5, a6, a7, a8, a9) := by
  refine pr_settleAll (by decide) (fun s hs0 hs8 => ⟨4, ?_⟩)
  refine pr_s_step (n := 3) (d := 0) (i := 0) (q := 2) (by decide) (by decide) pk_us (fun ψ hψ => ?_)
  refine pr_visit_fork (q := 2) (by decide) h42 pk_us ?_
  refine pr_v_two (q := 2) (t := 0) (c := c) (d := d) (by decide) h54 h55 (by omega) (by omega) (by decide) (hψ _ _ _ _ _ _ _ _ _ _ _ _ _ _ _ ?_)
  refine pr_s_step (n := 2) (d := 1) (i := 1) (q := d) (by decide) (by decide) pk_us (fun ψ hψ => ?_)
  refine pr_visit_top (q := d) (lq := ld) (pe := pd) (by omega) hld h3d h4d hpd pk_us ?_
  refine pr_v_leaf (q := d) (by omega) (h5 _ (by omega)) (h5 _ (by omega)) (hψ _ _ _ _ _ _ _ _ _ _ _ _ _ _ _ ?_)
  refine pr_s_step (n := 1) (d := 0) (i := 2) (q := c) (by decide) (by decide) (by rw [pk_un (by decide), pk_us]) (fun ψ hψ => ?_)
  refine pr_visit_top (q := c) (lq := lc) (pe := pc) (by omega) hlc h3c h4c hpc (by rw [pk_un hcd, pk_us]) ?_
  refine pr_v_leaf (q := c) (by omega) (h5 _ (by omega)) (h5 _ (by omega)) (hψ _ _ _ _ _ _ _ _ _ _ _ _ _ _ _ ?_)
  obtain ⟨q1, q2⟩ := pr_sum_O hpd hpc hs0 hs8 hz
  refine pr_s_end (n := 0) (i := 3) (by decide) (H _ _ _ _ q1 q2 pk_us ?_ ?_ pk_us)
  · rw [pk_un (Ne.symm hcd), pk_us]
  · rw [pk_un hcd, pk_us]
theorem pr_settle_O {post : St2 → Prop} {k l s x y P Q : Nat} (hk : 0 < k) (hkl : k < l) (hl : l ≤ 16) (hx : x < 8) (hy : y < 8) (hb : pr_bt Q s ≠ pr_bt P s) (pic : pr_O k l s x y P Q a1 a2 a3 a4 a5)
    (H : ∀ b6 b7 b8 b9 : Nat → Int32, pr_F x (if x = y then 2 ^ (16 - k) + 2 ^ (16 - l) else 2 ^ (16 - k)) (65536 - 2 ^ (16 - k) - 2 ^ (16 - l)) (2 ^ (16 - k)) (2 ^ (16 - l)) (-1) b6 b7 b8 → post (h, nI 2, f, ab, fu, a1, a2, a3, a4, a5, b6, b7, b8, b9)) :
    wpX_settleAll post (h, nI 2, f, ab, fu, a1, a2, a3, a4, a5, a6, a7, a8, a9) := by
  obtain ⟨_, _, ⟨p30, p31, p32⟩, ⟨p40, p41, p42⟩, c0, c1, c2, c3, c4, c5⟩ := pic
  have b1 := pr_bt_lt Q s
  have b2 := pr_bt_lt P s
  have s1 : 2 ^ (16 - k) ≤ 2 ^ 15 := Nat.pow_le_pow_right (by decide) (by omega)
  have s2 := pr_sz_lt hkl hl
  have s3 : (2 : Nat) ^ 15 = 32768 := by decide
  have h5 : ∀ j, j < 4 → a5 j = -1 := by
    intro j hj
    rcases (show j = 0 ∨ j = 1 ∨ j = 2 ∨ j = 3 by omega) with e | e | e | e <;> subst e <;> assumption
  rcases (show (pr_bt Q s = 0 ∧ pr_bt P s = 1) ∨ (pr_bt Q s = 1 ∧ pr_bt P s = 0) by omega) with ⟨e1, e2⟩ | ⟨e1, e2⟩
  · rw [e1] at c4
    rw [e2] at c5
    refine pr_settle_fork (c := 1) (d := 0) (lc := l) (ld := k) (pc := y) (pd := x) (by decide) (by decide) (by decide) hl (by omega) hy hx (by omega) p42 c4 c5 p31 p30 p41 p40 h5 (fun b6 b7 b8 b9 f1 f2 f3 f4 f5 f6 => H b6 b7 b8 b9 ⟨?_, f2, f4, f3, f6, f5⟩)
    rw [f1 x hx, if_pos rfl]
    by_cases e : x = y
    · rw [if_pos e, if_pos e]
    · rw [if_neg e, if_neg e]
      rfl
  · rw [e1] at c4
    rw [e2] at c5
    refine pr_settle_fork (c := 0) (d := 1) (lc := k) (ld := l) (pc := x) (pd := y) (by decide) (by decide) (by decide) (by omega) hl hx hy (by omega) p42 c5 c4 p30 p31 p40 p41 h5 (fun b6 b7 b8 b9 f1 f2 f3 f4 f5 f6 => H b6 b7 b8 b9 ⟨?_, ?_, f3, f4, f5, f6⟩)
    · rw [f1 x hx, if_pos rfl]
      by_cases e : x = y
      · rw [if_pos e, if_pos e, Nat.add_comm]
      · rw [if_neg e, if_neg e, Nat.zero_add]
    · rw [f2]
      exact congrArg nI (by omega)
end
end
section
/-! ===== the questions ===== -/
theorem pr_nltm {n : Nat} (hn : n < 2 ^ 31) : ¬ nI n < -1 := by
  intro g
  rw [Int32.lt_iff_toInt_lt, nI_toInt hn, show ((-1 : Int32)).toInt = -1 from by decide] at g
  omega
section
variable {h r f ab fu : Int32} {a1 a2 a3 a4 a5 a6 a7 a8 a9 : Nat → Int32}
/-! owned, over what settleAll leaves -/
theorem pr_owned {post : Int32 → St2 → Prop} {x vx v8 t0 t1 : Nat} {u1 : Int32} (hx : x < 8)
    (hset : ∀ ψ : St2 → Prop, (∀ b6 b7 b8 b9 : Nat → Int32, pr_F x vx v8 t0 t1 u1 b6 b7 b8 → ψ (h, r, f, ab, fu, a1, a2, a3, a4, a5, b6, b7, b8, b9)) → wpX_settleAll ψ (h, r, f, ab, fu, a1, a2, a3, a4, a5, a6, a7, a8, a9))
    (H : ∀ b6 b7 b8 b9 : Nat → Int32, post (nI vx) (h, r, f, ab, fu, a1, a2, a3, a4, a5, b6, b7, b8, b9)) :
    wpX_owned post (h, r, f, ab, fu, a1, a2, a3, a4, a5, a6, a7, a8, a9) (nI x) := by
  unfold wpX_owned
  dsimp only
  refine br_f (pr_nltm (by omega)) (br_t (nI_le (b := 7) (by omega) (by decide)) (hset _ (fun b6 b7 b8 b9 hF => ?_)))
  dsimp only
  rw [nI_clamp (show x < 2 ^ 31 by omega), hF.1]
  exact br_t (nI_pos' (by omega)) ⟨vp_in_nI (by omega) (by decide), H b6 b7 b8 b9⟩
theorem pr_owned_no {post : Int32 → St2 → Prop} {x vx v8 t0 t1 : Nat} {u1 : Int32}
    (hset : ∀ ψ : St2 → Prop, (∀ b6 b7 b8 b9 : Nat → Int32, pr_F x vx v8 t0 t1 u1 b6 b7 b8 → ψ (h, r, f, ab, fu, a1, a2, a3, a4, a5, b6, b7, b8, b9)) → wpX_settleAll ψ (h, r, f, ab, fu, a1, a2, a3, a4, a5, a6, a7, a8, a9))
    (H : ∀ b6 b7 b8 b9 : Nat → Int32, post (nI v8) (h, r, f, ab, fu, a1, a2, a3, a4, a5, b6, b7, b8, b9)) :
    wpX_owned post (h, r, f, ab, fu, a1, a2, a3, a4, a5, a6, a7, a8, a9) (-1) := by
  unfold wpX_owned
  dsimp only
  refine br_f (by decide) (br_t (by decide) (hset _ (fun b6 b7 b8 b9 hF => ?_)))
  dsimp only
  rw [hF.2.1]
  exact br_f pr_n0 (H b6 b7 b8 b9)
/-! owner and length, over settling -/
theorem pr_owner {post : Int32 → Prop} {p0 : Int32} {b q : Nat} (hp : p0 &&& 65535 = nI b) (hq : q < 64)
    (hs : ∀ ψ : Int32 → Prop, ψ (nI q) → wpX_settling ψ (h, r, f, ab, fu, a1, a2, a3, a4, a5, a6, a7, a8, a9) (nI b)) (H : post (a4 q)) :
    wpX_owner post (h, r, f, ab, fu, a1, a2, a3, a4, a5, a6, a7, a8, a9) p0 := by
  unfold wpX_owner
  dsimp only
  rw [hp]
  refine hs _ ?_
  rw [nI_clamp (show q < 2 ^ 31 by omega)]
  exact br_t (nI_pos' (by omega)) ⟨vp_in_nI hq (by decide), H⟩
theorem pr_owner_no {post : Int32 → Prop} {p0 : Int32} {b : Nat} (hp : p0 &&& 65535 = nI b)
    (hs : ∀ ψ : Int32 → Prop, ψ (-1) → wpX_settling ψ (h, r, f, ab, fu, a1, a2, a3, a4, a5, a6, a7, a8, a9) (nI b)) (H : post (-1)) :
    wpX_owner post (h, r, f, ab, fu, a1, a2, a3, a4, a5, a6, a7, a8, a9) p0 := by
  unfold wpX_owner
  dsimp only
  rw [hp]
  exact hs _ (br_f pr_n0 H)
theorem pr_length {post : Int32 → Prop} {p0 : Int32} {b q : Nat} (hp : p0 &&& 65535 = nI b) (hq : q < 64)
    (hs : ∀ ψ : Int32 → Prop, ψ (nI q) → wpX_settling ψ (h, r, f, ab, fu, a1, a2, a3, a4, a5, a6, a7, a8, a9) (nI b)) (H : post (a3 q)) :
    wpX_length post (h, r, f, ab, fu, a1, a2, a3, a4, a5, a6, a7, a8, a9) p0 := by
  unfold wpX_length
  dsimp only
  rw [hp]
  refine hs _ ?_
  rw [nI_clamp (show q < 2 ^ 31 by omega)]
  exact br_t (nI_pos' (by omega)) ⟨vp_in_nI hq (by decide), H⟩
/-- a held leaf that covers the address settles it -/
theorem pr_set_leaf {post : Int32 → Prop} {p q lq bq n i pe : Nat} {x2 : Int32} (hi : i < 17) (hq : q < 64) (hp : p < 65536) (hl : lq ≤ 16) (h3 : a3 q = nI lq) (h2 : a2 q = nI bq) (hb : bq < 65536) (h4 : a4 q = nI pe) (hpe : pe < 8)
    (h50 : a5 (2 * q) = -1) (h51 : a5 (2 * q + 1) = -1) (hc : pr_ct p lq = bq) (H : post (nI q)) :
    wX_settling_10 post (nI p) h r f ab fu a1 a2 a3 a4 a5 a6 a7 a8 a9 (n + 2) x2 (nI q) (nI i) := by
  refine pr_set_step (n := n + 1) (by omega) hq hp hl h3 h2 hb (fun z => absurd hc z) (fun _ best c e1 e2 e3 e4 => ?_)
  have g2 : best = nI q := e2 (by rw [h4]; exact nI_pos (by omega))
  have g4 : c = -1 := by
    rcases (show lq = 16 ∨ lq < 16 by omega) with e | e
    · exact e3 e
    · rw [e4 e]
      rcases (show pr_bt p lq = 0 ∨ pr_bt p lq = 1 by have := pr_bt_lt p lq; omega) with e' | e'
      · rw [e']
        exact h50
      · rw [e']
        exact h51
  rw [g2, g4]
  exact pr_set_null (by omega) H
theorem pr_settling_I {post : Int32 → Prop} {k l x y P Q b : Nat} (hkl : k < l) (hl : l ≤ 16) (hx : x < 8) (hy : y < 8) (hb : b < 65536) (hP : pr_ct b k = P) (hQ : pr_ct b l = Q) (pic : pr_I k l x y P Q a1 a2 a3 a4 a5)
    (H : post (nI 1)) : wpX_settling post (h, nI 0, f, ab, fu, a1, a2, a3, a4, a5, a6, a7, a8, a9) (nI b) := by
  obtain ⟨_, ⟨p20, p21⟩, ⟨p30, p31⟩, ⟨p40, p41⟩, c1, c2, c3, c4⟩ := pic
  have hP' := pr_ct_le b k
  have hQ' := pr_ct_le b l
  unfold wpX_settling
  dsimp only
  refine ⟨3, pr_set_step (n := 2) (i := 0) (q := 0) (lq := k) (bq := P) (by decide) (by decide) hb (by omega) p30 p20 (by omega) (fun z => absurd hP z) (fun _ best c e1 e2 e3 e4 => ?_)⟩
  have g4 : c = nI 1 := by
    rw [e4 (by omega), show 2 * 0 + pr_bt b k = pr_bt b k by omega, ← pr_bt_ct b hkl hl, hQ]
    exact c1
  rw [g4]
  exact pr_set_leaf (n := 0) (q := 1) (lq := l) (bq := Q) (by decide) (by decide) hb hl p31 p21 (by omega) p41 hy c3 c4 hQ H
theorem pr_settling_O {post : Int32 → Prop} {k l s x y P Q b : Nat} (hs : s < k) (hkl : k < l) (hl : l ≤ 16) (hx : x < 8) (hy : y < 8) (hb : b < 65536) (hQ : pr_ct b l = Q) (pic : pr_O k l s x y P Q a1 a2 a3 a4 a5)
    (H : post (nI 1)) : wpX_settling post (h, nI 2, f, ab, fu, a1, a2, a3, a4, a5, a6, a7, a8, a9) (nI b) := by
  obtain ⟨_, ⟨p20, p21, p22⟩, ⟨p30, p31, p32⟩, ⟨p40, p41, p42⟩, c0, c1, c2, c3, c4, c5⟩ := pic
  have hQ' := pr_ct_le b l
  have hQ2 := pr_ct_le Q s
  have hc : pr_ct b s = pr_ct Q s := by rw [← hQ, pr_ct_ct b (by omega)]
  unfold wpX_settling
  dsimp only
  refine ⟨3, pr_set_step (n := 2) (i := 0) (q := 2) (lq := s) (bq := pr_ct Q s) (by decide) (by decide) hb (by omega) p32 p22 (by omega) (fun z => absurd hc z) (fun _ best c e1 e2 e3 e4 => ?_)⟩
  have g4 : c = nI 1 := by
    rw [e4 (by omega), ← pr_bt_ct b (show s < l by omega) hl, hQ]
    exact c4
  rw [g4]
  exact pr_set_leaf (n := 0) (q := 1) (lq := l) (bq := Q) (by decide) (by decide) hb hl p31 p21 (by omega) p41 hy c2 c3 hQ H
theorem pr_settling_none {post : Int32 → Prop} {b : Nat} (H : post (-1)) : wpX_settling post (h, -1, f, ab, fu, a1, a2, a3, a4, a5, a6, a7, a8, a9) (nI b) := by
  unfold wpX_settling
  exact ⟨1, pr_set_null (i := 0) (by decide) H⟩
theorem pr_settling_1 {post : Int32 → Prop} {k x P b : Nat} (hk : k ≤ 16) (hx : x < 8) (hb : b < 65536) (hP : pr_ct b k = P) (pic : pr_1 k x P a1 a2 a3 a4 a5)
    (H : post (nI 0)) : wpX_settling post (h, nI 0, f, ab, fu, a1, a2, a3, a4, a5, a6, a7, a8, a9) (nI b) := by
  obtain ⟨_, _, p2, p3, p4, c0, c1⟩ := pic
  have hP' := pr_ct_le b k
  unfold wpX_settling
  exact ⟨2, pr_set_leaf (n := 0) (i := 0) (q := 0) (lq := k) (bq := P) (by decide) (by decide) hb hk p3 p2 (by omega) p4 hx c0 c1 hP H⟩
theorem pr_settling_1no {post : Int32 → Prop} {k x P b : Nat} (hk : k ≤ 16) (hb : b < 65536) (hP' : P < 65536) (hP : pr_ct b k ≠ P) (pic : pr_1 k x P a1 a2 a3 a4 a5)
    (H : post (-1)) : wpX_settling post (h, nI 0, f, ab, fu, a1, a2, a3, a4, a5, a6, a7, a8, a9) (nI b) := by
  obtain ⟨_, _, p2, p3, p4, c0, c1⟩ := pic
  unfold wpX_settling
  exact ⟨1, pr_set_step (n := 0) (i := 0) (q := 0) (lq := k) (bq := P) (by decide) (by decide) hb hk p3 p2 hP' (fun _ => H) (fun z => absurd z hP)⟩
/-! useless -/
theorem pr_u_rest {post : Int32 → St2 → Prop} {x1 : Int32} (H : post x1 (h, r, f, ab, fu, a1, a2, a3, a4, a5, a6, a7, a8, a9)) :
    ∀ m i, i + m = 64 → (∀ j, i ≤ j → a1 j = 0) → wX_useless_8 post h r f ab fu a1 a2 a3 a4 a5 a6 a7 a8 a9 (m + 1) x1 (nI i) := by
  intro m
  induction m with
  | zero =>
    intro i hi hz
    exact pk_le 64 i (fun _ => H) (fun z => absurd z (by omega))
  | succ m ih =>
    intro i hi hz
    refine pk_le 64 i (fun z => absurd z (by omega)) (fun _ => ⟨vp_in_nI (by omega) (by decide), br_t (by rw [nI_clamp (by omega)]; exact hz i (Nat.le_refl i)) (nm_r (nI_1 i) (ih (i + 1) (by omega) (fun j hj => hz j (by omega))))⟩)
theorem pr_u_fork {post : Int32 → St2 → Prop} {x1 : Int32} {n i : Nat} (hi : i < 64) (h1 : a1 i = 1) (h4 : a4 i = -1)
    (H : wX_useless_8 post h r f ab fu a1 a2 a3 a4 a5 a6 a7 a8 a9 n x1 (nI (i + 1))) :
    wX_useless_8 post h r f ab fu a1 a2 a3 a4 a5 a6 a7 a8 a9 (n + 1) x1 (nI i) := by
  refine pk_le 64 i (fun z => absurd z (by omega)) (fun _ => ⟨vp_in_nI hi (by decide), ?_⟩)
  rw [nI_clamp (show i < 2 ^ 31 by omega), h1, h4]
  exact br_f (by decide) ⟨vp_in_nI hi (by decide), br_t pr_n1 (nm_r (nI_1 i) H)⟩
theorem pr_u_66 {post : Int32 → St2 → Prop} {J : Int32 → Int32 → Prop} {x1 z0 : Int32} {i t : Nat} (hi : i < 64) (h7 : a7 i = nI t) (ht : 0 < t) (ht2 : t < 2 ^ 31)
    (H0 : z0 = 0 → J x1 (nI (i + 1))) (H1 : ¬ z0 = 0 → J (x1 + 1) (nI (i + 1))) :
    wX_useless_66 post J x1 (nI i) z0 h r f ab fu a1 a2 a3 a4 a5 a6 a7 a8 a9 := by
  unfold wX_useless_66
  rw [nI_clamp (show i < 2 ^ 31 by omega), h7]
  exact ⟨vp_in_nI hi (by decide), br_f (nI_ne0 ht ht2) (br_c (fun e => nm_r (e' := x1) (by rw [Int32.add_zero]) (nm_r (nI_1 i) (H0 e))) (fun e => nm_e (nm_r (nI_1 i) (H1 e))))⟩
theorem pr_u_top {post : Int32 → St2 → Prop} {x1 : Int32} {n i pe t : Nat} (hi : i < 64) (h1 : a1 i = 1) (h4 : a4 i = nI pe) (hpe : pe < 8) (h8 : a8 i = -1) (h7 : a7 i = nI t) (ht : 0 < t) (ht2 : t < 2 ^ 31)
    (H : wX_useless_8 post h r f ab fu a1 a2 a3 a4 a5 a6 a7 a8 a9 n x1 (nI (i + 1))) :
    wX_useless_8 post h r f ab fu a1 a2 a3 a4 a5 a6 a7 a8 a9 (n + 1) x1 (nI i) := by
  refine pk_le 64 i (fun z => absurd z (by omega)) (fun _ => ⟨vp_in_nI hi (by decide), ?_⟩)
  rw [nI_clamp (show i < 2 ^ 31 by omega), h1, h4, h8]
  refine br_f (by decide) ⟨vp_in_nI hi (by decide), br_f (nI_pos (by omega)) ⟨vp_in_nI hi (by decide), br_t pr_n1 ?_⟩⟩
  unfold wX_useless_65
  exact pr_u_66 hi h7 ht ht2 (fun _ => H) (fun z => absurd rfl z)
theorem pr_u_below {post : Int32 → St2 → Prop} {x1 : Int32} {n i pe u pu t : Nat} (hi : i < 64) (h1 : a1 i = 1) (h4 : a4 i = nI pe) (hpe : pe < 8) (hu : u < 64) (h8 : a8 i = nI u) (h4u : a4 u = nI pu) (hpu : pu < 8) (h7 : a7 i = nI t) (ht : 0 < t) (ht2 : t < 2 ^ 31)
    (He : pu = pe → wX_useless_8 post h r f ab fu a1 a2 a3 a4 a5 a6 a7 a8 a9 n (x1 + 1) (nI (i + 1)))
    (Hn : pu ≠ pe → wX_useless_8 post h r f ab fu a1 a2 a3 a4 a5 a6 a7 a8 a9 n x1 (nI (i + 1))) :
    wX_useless_8 post h r f ab fu a1 a2 a3 a4 a5 a6 a7 a8 a9 (n + 1) x1 (nI i) := by
  refine pk_le 64 i (fun z => absurd z (by omega)) (fun _ => ⟨vp_in_nI hi (by decide), ?_⟩)
  rw [nI_clamp (show i < 2 ^ 31 by omega), h1, h4, h8, nI_clamp (show u < 2 ^ 31 by omega), h4u]
  refine br_f (by decide) ⟨vp_in_nI hi (by decide), br_f (nI_pos (by omega)) ⟨vp_in_nI hi (by decide), br_f (nI_pos (by omega)) ⟨vp_in_nI hi (by decide), vp_in_nI hu (by decide), vp_in_nI hi (by decide), ?_⟩⟩⟩
  refine pk_eq pu pe (fun e => pr_u_66 hi h7 ht ht2 (fun z => absurd z (by decide)) (fun _ => He e)) (fun e => ?_)
  unfold wX_useless_65
  exact pr_u_66 hi h7 ht ht2 (fun _ => Hn e) (fun z => absurd rfl z)
theorem pr_useless_I {post : Int32 → St2 → Prop} {k l x y P Q : Nat} (hkl : k < l) (hl : l ≤ 16) (hx : x < 8) (hy : y < 8) (pic : pr_I k l x y P Q a1 a2 a3 a4 a5)
    (H : ∀ b6 b7 b8 b9 : Nat → Int32, post (nI (if x = y then 1 else 0)) (h, nI 0, f, ab, fu, a1, a2, a3, a4, a5, b6, b7, b8, b9)) :
    wpX_useless post (h, nI 0, f, ab, fu, a1, a2, a3, a4, a5, a6, a7, a8, a9) := by
  have pic' := pic
  obtain ⟨⟨p10, p11, p12⟩, _, _, ⟨p40, p41⟩, _⟩ := pic
  have hb := pr_sz_le k
  have hs := pr_sz_lt hkl hl
  have hp := pr_sz_pos l
  unfold wpX_useless
  dsimp only
  refine pr_settle_I hkl hl hx hy pic' (fun b6 b7 b8 b9 hF => ?_)
  obtain ⟨_, _, f3, f4, f5, f6⟩ := hF
  dsimp only
  refine ⟨65, pr_u_top (n := 64) (i := 0) (by decide) p10 p40 hx f5 f3 (by omega) (by omega) ?_⟩
  refine pr_u_below (n := 63) (i := 1) (u := 0) (by decide) p11 p41 hy (by decide) f6 p40 hx f4 hp (by omega) (fun e => ?_) (fun e => ?_)
  · have := H b6 b7 b8 b9
    rw [if_pos e] at this
    exact pr_u_rest this 62 2 (by decide) p12
  · have := H b6 b7 b8 b9
    rw [if_neg e] at this
    exact pr_u_rest this 62 2 (by decide) p12
theorem pr_useless_O {post : Int32 → St2 → Prop} {k l s x y P Q : Nat} (hk : 0 < k) (hkl : k < l) (hl : l ≤ 16) (hx : x < 8) (hy : y < 8) (hb : pr_bt Q s ≠ pr_bt P s) (pic : pr_O k l s x y P Q a1 a2 a3 a4 a5)
    (H : ∀ b6 b7 b8 b9 : Nat → Int32, post (nI 0) (h, nI 2, f, ab, fu, a1, a2, a3, a4, a5, b6, b7, b8, b9)) :
    wpX_useless post (h, nI 2, f, ab, fu, a1, a2, a3, a4, a5, a6, a7, a8, a9) := by
  have pic' := pic
  obtain ⟨⟨p10, p11, p12, p13⟩, _, _, ⟨p40, p41, p42⟩, _⟩ := pic
  have hb1 := pr_sz_le k
  have hs := pr_sz_lt hkl hl
  have hp := pr_sz_pos l
  unfold wpX_useless
  dsimp only
  refine pr_settle_O hk hkl hl hx hy hb pic' (fun b6 b7 b8 b9 hF => ?_)
  obtain ⟨_, _, f3, f4, f5, f6⟩ := hF
  dsimp only
  refine ⟨65, pr_u_top (n := 64) (i := 0) (by decide) p10 p40 hx f5 f3 (by omega) (by omega) ?_⟩
  refine pr_u_top (n := 63) (i := 1) (by decide) p11 p41 hy f6 f4 hp (by omega) ?_
  exact pr_u_fork (n := 62) (i := 2) (by decide) p12 p42 (pr_u_rest (H b6 b7 b8 b9) 61 3 (by decide) p13)
/-! entries -/
theorem pr_e_rest {post : Int32 → Prop} {x1 x2 : Int32} (H : post x2) :
    ∀ m i, i + m = 64 → (∀ j, i ≤ j → a1 j = 0) → wX_entries_16 post x1 h r f ab fu a1 a2 a3 a4 a5 a6 a7 a8 a9 (m + 1) x2 (nI i) := by
  intro m
  induction m with
  | zero =>
    intro i hi hz
    exact pk_le 64 i (fun _ => H) (fun z => absurd z (by omega))
  | succ m ih =>
    intro i hi hz
    refine pk_le 64 i (fun z => absurd z (by omega)) (fun _ => ⟨vp_in_nI (by omega) (by decide), br_t (by rw [nI_clamp (by omega)]; exact hz i (Nat.le_refl i)) (nm_r (e' := x2) (by rw [Int32.add_zero]) (nm_r (nI_1 i) (ih (i + 1) (by omega) (fun j hj => hz j (by omega)))))⟩)
theorem pr_entries_none {post : Int32 → Prop} {x : Nat} (hx : x < 8) (hz : ∀ j, a1 j = 0) (H : post (nI 0)) :
    wpX_entries post (h, r, f, ab, fu, a1, a2, a3, a4, a5, a6, a7, a8, a9) (nI x) := by
  unfold wpX_entries
  dsimp only
  exact br_f (nI_pos (by omega)) (br_t (nI_le (b := 7) (by omega) (by decide)) ⟨65, pr_e_rest (x2 := nI 0) H 64 0 (by decide) (fun j _ => hz j)⟩)
theorem pr_entries_1 {post : Int32 → Prop} {k x P : Nat} (hx : x < 8) (pic : pr_1 k x P a1 a2 a3 a4 a5) (H : post (nI 1)) :
    wpX_entries post (h, r, f, ab, fu, a1, a2, a3, a4, a5, a6, a7, a8, a9) (nI x) := by
  obtain ⟨p1, p1', p2, p3, p4, _⟩ := pic
  unfold wpX_entries
  dsimp only
  refine br_f (nI_pos (by omega)) (br_t (nI_le (b := 7) (by omega) (by decide)) ⟨65, ?_⟩)
  refine pk_le 64 0 (fun z => absurd z (by omega)) (fun _ => ⟨pk_in 0 64 (by decide), ?_⟩)
  rw [show (0 : Int32).toNatClampNeg = 0 from rfl, p1, p4]
  exact br_f (by decide) ⟨pk_in 0 64 (by decide), br_t rfl (nm_e (nm_e (pr_e_rest (x2 := nI 1) H 63 1 (by decide) p1')))⟩
end
end
section
/-! ===== find, takeOut, forget ===== -/
section
variable {h r f ab fu : Int32} {a1 a2 a3 a4 a5 a6 a7 a8 a9 : Nat → Int32}
theorem pr_find_none {post : Int32 → St2 → Prop} {x1 x2 : Int32} (H : post (-1) (h, -1, f, -1, -1, a1, a2, a3, a4, a5, a6, a7, a8, a9)) :
    wpX_find post (h, -1, f, ab, fu, a1, a2, a3, a4, a5, a6, a7, a8, a9) x1 x2 := by
  unfold wpX_find
  exact ⟨1, pr_find_null (i := 0) (by decide) H⟩
/-- the root is the node that is looked for -/
theorem pr_find_root {post : Int32 → St2 → Prop} {q p len : Nat} (hq : q < 64) (hp : p < 65536) (hlen : len ≤ 16) (h3 : a3 q = nI len) (h2 : a2 q = nI p) (hc : pr_ct p len = p)
    (H : post (nI q) (h, nI q, f, -1, -1, a1, a2, a3, a4, a5, a6, a7, a8, a9)) :
    wpX_find post (h, nI q, f, ab, fu, a1, a2, a3, a4, a5, a6, a7, a8, a9) (nI p) (nI len) := by
  unfold wpX_find
  exact ⟨1, pr_find_step (n := 0) (i := 0) (lq := len) (bq := p) (by decide) hq hp (Nat.le_refl _) hlen h3 h2 hp (fun z => absurd hc z) (fun _ _ => H) (fun _ z => absurd z (by omega))⟩
/-- a child of the root is -/
theorem pr_find_two {post : Int32 → St2 → Prop} {q c lq bq p len : Nat} (hq : q < 64) (hcc : c < 64) (hp : p < 65536) (hl : lq < len) (hlen : len ≤ 16) (hb : bq < 65536) (h3 : a3 q = nI lq) (h2 : a2 q = nI bq) (hc : pr_ct p lq = bq)
    (h5 : a5 (2 * q + pr_bt p lq) = nI c) (h3c : a3 c = nI len) (h2c : a2 c = nI p) (hc2 : pr_ct p len = p)
    (H : post (nI c) (h, nI q, f, nI q, -1, a1, a2, a3, a4, a5, a6, a7, a8, a9)) :
    wpX_find post (h, nI q, f, ab, fu, a1, a2, a3, a4, a5, a6, a7, a8, a9) (nI p) (nI len) := by
  unfold wpX_find
  refine ⟨2, pr_find_step (n := 1) (i := 0) (lq := lq) (bq := bq) (by decide) hq hp (by omega) hlen h3 h2 hb (fun z => absurd hc z) (fun _ z => absurd z (by omega)) (fun _ _ => ?_)⟩
  rw [h5]
  exact pr_find_step (n := 0) (i := 1) (q := c) (lq := len) (bq := p) (by decide) hcc hp (Nat.le_refl _) hlen h3c h2c hp (fun z => absurd hc2 z) (fun _ _ => H) (fun _ z => absurd z (by omega))
/-! takeOut -/
theorem pr_take_55 {post : St2 → Prop} {q : Nat} (hq : q < 64) (h5 : a5 (2 * q) = -1)
    (H : wX_takeOut_55 post (nI q) (a5 (2 * q + 1)) (h - 1) r f ab fu a1 a2 a3 (upd a4 q (-1)) a5 a6 a7 a8 a9) :
    wpX_takeOut post (h, r, f, ab, fu, a1, a2, a3, a4, a5, a6, a7, a8, a9) (nI q) := by
  unfold wpX_takeOut
  dsimp only
  rw [pr_21, pr_2, nI_clamp (show q < 2 ^ 31 by omega), nI_clamp (show 2 * q < 2 ^ 31 by omega), nI_clamp (show 2 * q + 1 < 2 ^ 31 by omega), h5]
  refine nm_e ⟨vp_in_nI hq (by decide), nm_e ⟨vp_in_nI (by omega) (by decide), nm_e ⟨vp_in_nI (by omega) (by decide), nm_e (br_t pr_n1 ?_)⟩⟩⟩
  unfold wX_takeOut_46
  exact br_t pr_n1 H
theorem pr_take_55b {post : St2 → Prop} {q c : Nat} (hq : q < 64) (hc : c < 64) (h5 : a5 (2 * q) = nI c) (h51 : a5 (2 * q + 1) = -1)
    (H : wX_takeOut_55 post (nI q) (nI c) (h - 1) r f ab fu a1 a2 a3 (upd a4 q (-1)) a5 a6 a7 a8 a9) :
    wpX_takeOut post (h, r, f, ab, fu, a1, a2, a3, a4, a5, a6, a7, a8, a9) (nI q) := by
  unfold wpX_takeOut
  dsimp only
  rw [pr_21, pr_2, nI_clamp (show q < 2 ^ 31 by omega), nI_clamp (show 2 * q < 2 ^ 31 by omega), nI_clamp (show 2 * q + 1 < 2 ^ 31 by omega), h5, h51]
  refine nm_e ⟨vp_in_nI hq (by decide), nm_e ⟨vp_in_nI (by omega) (by decide), nm_e ⟨vp_in_nI (by omega) (by decide), nm_e (br_f (nI_pos (by omega)) (br_t pr_n1 ?_))⟩⟩⟩
  unfold wX_takeOut_46
  exact br_f (nI_pos (by omega)) H
/-- the root, a leaf -/
theorem pr_take_leaf {post : St2 → Prop} {q : Nat} (hq : q < 64) (h5 : a5 (2 * q) = -1) (h51 : a5 (2 * q + 1) = -1)
    (H : post (h - 1, -1, nI q, -1, fu, upd a1 q 0, a2, a3, upd a4 q (-1), upd a5 (2 * q) f, a6, a7, a8, a9)) :
    wpX_takeOut post (h, r, f, -1, fu, a1, a2, a3, a4, a5, a6, a7, a8, a9) (nI q) := by
  refine pr_take_55 hq h5 ?_
  rw [h51]
  unfold wX_takeOut_55
  exact ⟨vp_in_nI hq (by decide), pr_lead_root (pr_release hq (br_f pr_n0 (br_t pr_n1 H)))⟩
/-- the root, with one child -/
theorem pr_take_one {post : St2 → Prop} {q c b : Nat} (hq : q < 64) (hc : c < 64) (hb : b < 2) (h5 : a5 (2 * q + b) = nI c) (h51 : a5 (2 * q + (1 - b)) = -1)
    (H : post (h - 1, nI c, nI q, -1, fu, upd a1 q 0, a2, a3, upd a4 q (-1), upd a5 (2 * q) f, a6, a7, a8, a9)) :
    wpX_takeOut post (h, r, f, -1, fu, a1, a2, a3, a4, a5, a6, a7, a8, a9) (nI q) := by
  rcases (show b = 0 ∨ b = 1 by omega) with e | e
  · subst e
    refine pr_take_55b hq hc h5 h51 ?_
    unfold wX_takeOut_55
    exact ⟨vp_in_nI hq (by decide), pr_lead_root (pr_release hq (br_t (nI_pos' (by omega)) H))⟩
  · subst e
    refine pr_take_55 hq h51 ?_
    rw [h5]
    unfold wX_takeOut_55
    exact ⟨vp_in_nI hq (by decide), pr_lead_root (pr_release hq (br_t (nI_pos' (by omega)) H))⟩
/-- a leaf under a held node -/
theorem pr_take_under {post : St2 → Prop} {q u lu bq pu : Nat} (hq : q < 64) (hu : u < 64) (hne : u ≠ q) (hlu : lu < 16) (hbq : bq < 65536) (hpu : pu < 8) (h3 : a3 u = nI lu) (h2 : a2 q = nI bq) (h4 : a4 u = nI pu)
    (h5 : a5 (2 * q) = -1) (h51 : a5 (2 * q + 1) = -1)
    (H : post (h - 1, r, nI q, nI u, fu, upd a1 q 0, a2, a3, upd a4 q (-1), upd (upd a5 (2 * u + pr_bt bq lu) (-1)) (2 * q) f, a6, a7, a8, a9)) :
    wpX_takeOut post (h, r, f, nI u, fu, a1, a2, a3, a4, a5, a6, a7, a8, a9) (nI q) := by
  refine pr_take_55 hq h5 ?_
  rw [h51]
  unfold wX_takeOut_55
  rw [nI_clamp (show q < 2 ^ 31 by omega), h2]
  refine ⟨vp_in_nI hq (by decide), pr_lead_node hu hbq hlu h3 (pr_release hq (br_f pr_n0 (br_f (nI_pos (by omega)) ⟨vp_in_nI hu (by decide), ?_⟩)))⟩
  rw [nI_clamp (show u < 2 ^ 31 by omega), pk_un hne, h4]
  exact br_t (nI_pos' (by omega)) H
/-- a leaf under the root, a fork: the fork goes too -/
theorem pr_take_fork {post : St2 → Prop} {q u lu bq c : Nat} (hq : q < 64) (hu : u < 64) (hcc : c < 64) (hne : u ≠ q) (hlu : lu < 16) (hbq : bq < 65536) (h3 : a3 u = nI lu) (h2 : a2 q = nI bq) (h4 : a4 u = -1)
    (h5 : a5 (2 * q) = -1) (h51 : a5 (2 * q + 1) = -1) (h5c : a5 (2 * u + (1 - pr_bt bq lu)) = nI c)
    (H : post (h - 1, nI c, nI u, nI u, -1, upd (upd a1 q 0) u 0, a2, a3, upd a4 q (-1), upd (upd (upd a5 (2 * u + pr_bt bq lu) (-1)) (2 * q) f) (2 * u) (nI q), a6, a7, a8, a9)) :
    wpX_takeOut post (h, r, f, nI u, -1, a1, a2, a3, a4, a5, a6, a7, a8, a9) (nI q) := by
  have hbt := pr_bt_lt bq lu
  have fin : wX_takeOut_138 post (nI c) (h - 1) r (nI q) (nI u) (-1) (upd a1 q 0) a2 a3 (upd a4 q (-1)) (upd (upd a5 (2 * u + pr_bt bq lu) (-1)) (2 * q) f) a6 a7 a8 a9 := by
    unfold wX_takeOut_138
    exact ⟨vp_in_nI hu (by decide), pr_lead_root (pr_release hu H)⟩
  refine pr_take_55 hq h5 ?_
  rw [h51]
  unfold wX_takeOut_55
  rw [nI_clamp (show q < 2 ^ 31 by omega), h2]
  refine ⟨vp_in_nI hq (by decide), pr_lead_node hu hbq hlu h3 (pr_release hq (br_f pr_n0 (br_f (nI_pos (by omega)) ⟨vp_in_nI hu (by decide), ?_⟩)))⟩
  rw [nI_clamp (show u < 2 ^ 31 by omega), pk_un hne, h4, pr_21, pr_2, nI_clamp (show 2 * u < 2 ^ 31 by omega), nI_clamp (show 2 * u + 1 < 2 ^ 31 by omega), pk_un (show 2 * u ≠ 2 * q by omega), pk_un (show 2 * u + 1 ≠ 2 * q by omega)]
  refine br_f pr_n0 ⟨vp_in_nI (by omega) (by decide), nm_e ?_⟩
  rcases (show pr_bt bq lu = 0 ∨ pr_bt bq lu = 1 by omega) with e | e
  · rw [e] at h5c
    rw [e, Nat.add_zero] at fin ⊢
    rw [pk_us, pk_un (show 2 * u + 1 ≠ 2 * u by omega), show a5 (2 * u + 1) = nI c from h5c]
    exact br_t pr_n1 ⟨vp_in_nI (by omega) (by decide), fin⟩
  · rw [e] at h5c fin ⊢
    rw [pk_un (show 2 * u ≠ 2 * u + 1 by omega), show a5 (2 * u) = nI c from h5c]
    exact br_f (nI_pos (by omega)) fin
/-! forget -/
theorem pr_f_rest {post : Int32 → St2 → Prop} {x1 x2 : Int32} (H : post x2 (h, r, f, ab, fu, a1, a2, a3, a4, a5, a6, a7, a8, a9)) :
    ∀ m i, i + m = 64 → (∀ j, i ≤ j → a1 j = 0) → wX_forget_16 post x1 (m + 1) x2 (nI i) h r f ab fu a1 a2 a3 a4 a5 a6 a7 a8 a9 := by
  intro m
  induction m with
  | zero =>
    intro i hi hz
    exact pk_le 64 i (fun _ => H) (fun z => absurd z (by omega))
  | succ m ih =>
    intro i hi hz
    refine pk_le 64 i (fun z => absurd z (by omega)) (fun _ => ⟨vp_in_nI (by omega) (by decide), br_t (by rw [nI_clamp (by omega)]; exact hz i (Nat.le_refl i)) (nm_r (nI_1 i) (ih (i + 1) (by omega) (fun j hj => hz j (by omega))))⟩)
theorem pr_f_skip {post : Int32 → St2 → Prop} {x2 : Int32} {n i pe y : Nat} (hi : i < 64) (h1 : a1 i = 1) (h4 : a4 i = nI pe) (hpe : pe < 8) (hy : y < 8) (hne : pe ≠ y)
    (H : wX_forget_16 post (nI y) n x2 (nI (i + 1)) h r f ab fu a1 a2 a3 a4 a5 a6 a7 a8 a9) :
    wX_forget_16 post (nI y) (n + 1) x2 (nI i) h r f ab fu a1 a2 a3 a4 a5 a6 a7 a8 a9 := by
  refine pk_le 64 i (fun z => absurd z (by omega)) (fun _ => ⟨vp_in_nI hi (by decide), ?_⟩)
  rw [nI_clamp (show i < 2 ^ 31 by omega), h1, h4]
  exact br_f (by decide) ⟨vp_in_nI hi (by decide), pk_eq pe y (fun z => absurd z hne) (fun _ => nm_r (nI_1 i) H)⟩
theorem pr_f_hit {post : Int32 → St2 → Prop} {x2 : Int32} {n i y p len : Nat} {ab' fu' : Int32} (hi : i < 64) (h1 : a1 i = 1) (h4 : a4 i = nI y) (h2 : a2 i = nI p) (h3 : a3 i = nI len)
    (hf : ∀ φ : Int32 → St2 → Prop, φ (nI i) (h, r, f, ab', fu', a1, a2, a3, a4, a5, a6, a7, a8, a9) → wpX_find φ (h, r, f, ab, fu, a1, a2, a3, a4, a5, a6, a7, a8, a9) (nI p) (nI len))
    (ht : ∀ ψ : St2 → Prop, (∀ (h' ro f' ab' fu' : Int32) (b1 b2 b3 b4 b5 b6 b7 b8 b9 : Nat → Int32), wX_forget_16 post (nI y) n (x2 + 1) (nI (i + 1)) h' ro f' ab' fu' b1 b2 b3 b4 b5 b6 b7 b8 b9 → ψ (h', ro, f', ab', fu', b1, b2, b3, b4, b5, b6, b7, b8, b9)) → wpX_takeOut ψ (h, r, f, ab', fu', a1, a2, a3, a4, a5, a6, a7, a8, a9) (nI i)) :
    wX_forget_16 post (nI y) (n + 1) x2 (nI i) h r f ab fu a1 a2 a3 a4 a5 a6 a7 a8 a9 := by
  refine pk_le 64 i (fun z => absurd z (by omega)) (fun _ => ⟨vp_in_nI hi (by decide), ?_⟩)
  rw [nI_clamp (show i < 2 ^ 31 by omega), h1, h4, h2, h3]
  refine br_f (by decide) ⟨vp_in_nI hi (by decide), br_t rfl ⟨vp_in_nI hi (by decide), vp_in_nI hi (by decide), hf _ (ht _ (fun h' ro f' ab' fu' b1 b2 b3 b4 b5 b6 b7 b8 b9 w => ?_))⟩⟩
  exact nm_e (nm_r (nI_1 i) w)
theorem pr_forget {post : Int32 → St2 → Prop} {y : Nat} (hy : y < 8) (H : wX_forget_16 post (nI y) 65 (nI 0) (nI 0) h r f ab fu a1 a2 a3 a4 a5 a6 a7 a8 a9) :
    wpX_forget post (h, r, f, ab, fu, a1, a2, a3, a4, a5, a6, a7, a8, a9) (nI y) := by
  unfold wpX_forget
  exact br_f (nI_pos (by omega)) (br_t (nI_le (b := 7) (by omega) (by decide)) ⟨65, H⟩)
theorem pr_forget_I_ne {post : Int32 → St2 → Prop} {k l x y P Q : Nat} (hkl : k < l) (hl : l ≤ 16) (hx : x < 8) (hy : y < 8) (hP : P < 65536) (hQ : Q < 65536) (hxy : x ≠ y) (hQP : pr_ct Q k = P) (hQQ : pr_ct Q l = Q) (pic : pr_I k l x y P Q a1 a2 a3 a4 a5)
    (H : ∀ (h' f' ab' fu' : Int32) (b1 b2 b3 b4 b5 : Nat → Int32), pr_1 k x P b1 b2 b3 b4 b5 → post (nI 1) (h', nI 0, f', ab', fu', b1, b2, b3, b4, b5, a6, a7, a8, a9)) :
    wpX_forget post (h, nI 0, f, ab, fu, a1, a2, a3, a4, a5, a6, a7, a8, a9) (nI y) := by
  obtain ⟨⟨p10, p11, p12⟩, ⟨p20, p21⟩, ⟨p30, p31⟩, ⟨p40, p41⟩, c1, c2, c3, c4⟩ := pic
  have hbt := pr_bt_lt Q k
  refine pr_forget hy (pr_f_skip (n := 64) (i := 0) (by decide) p10 p40 hx hy hxy ?_)
  refine pr_f_hit (n := 63) (i := 1) (by decide) p11 p41 p21 p31 (fun φ hφ => pr_find_two (q := 0) (c := 1) (lq := k) (bq := P) (by decide) (by decide) hQ hkl hl hP p30 p20 hQP (by rw [show 2 * 0 + pr_bt Q k = pr_bt Q k by omega]; exact c1) p31 p21 hQQ hφ) (fun ψ hψ => ?_)
  refine pr_take_under (q := 1) (u := 0) (lu := k) (bq := Q) (pu := x) (by decide) (by decide) (by decide) (by omega) hQ hx p30 p21 p40 c3 c4 (hψ _ _ _ _ _ _ _ _ _ _ _ _ _ _ ?_)
  refine pr_f_rest (H _ _ _ _ _ _ _ _ _ ⟨?_, ?_, p20, p30, ?_, ?_, ?_⟩) 62 2 (by decide) ?_
  · rw [pk_un (by decide)]
    exact p10
  · intro j hj
    rcases (show j = 1 ∨ 2 ≤ j by omega) with e | e
    · rw [e, pk_us]
    · rw [pk_un (by omega)]
      exact p12 j e
  · rw [pk_un (by decide)]
    exact p40
  · rw [pk_un (by decide)]
    rcases (show pr_bt Q k = 0 ∨ pr_bt Q k = 1 by omega) with e | e
    · rw [e]
      exact pk_us
    · rw [e] at c2 ⊢
      rw [pk_un (by decide)]
      exact c2
  · rw [pk_un (by decide)]
    rcases (show pr_bt Q k = 0 ∨ pr_bt Q k = 1 by omega) with e | e
    · rw [e] at c2 ⊢
      rw [pk_un (by decide)]
      exact c2
    · rw [e]
      exact pk_us
  · intro j hj
    rw [pk_un (by omega)]
    exact p12 j hj
theorem pr_forget_I_eq {post : Int32 → St2 → Prop} {k l y P Q : Nat} (hkl : k < l) (hl : l ≤ 16) (hy : y < 8) (hP : P < 65536) (hQ : Q < 65536) (hPP : pr_ct P k = P) (hQQ : pr_ct Q l = Q) (pic : pr_I k l y y P Q a1 a2 a3 a4 a5)
    (H : ∀ (h' f' ab' fu' : Int32) (b1 b2 b3 b4 b5 : Nat → Int32), (∀ j, b1 j = 0) → post (nI 2) (h', -1, f', ab', fu', b1, b2, b3, b4, b5, a6, a7, a8, a9)) :
    wpX_forget post (h, nI 0, f, ab, fu, a1, a2, a3, a4, a5, a6, a7, a8, a9) (nI y) := by
  obtain ⟨⟨p10, p11, p12⟩, ⟨p20, p21⟩, ⟨p30, p31⟩, ⟨p40, p41⟩, c1, c2, c3, c4⟩ := pic
  have hbt := pr_bt_lt Q k
  refine pr_forget hy ?_
  refine pr_f_hit (n := 64) (i := 0) (by decide) p10 p40 p20 p30 (fun φ hφ => pr_find_root (q := 0) (by decide) hP (by omega) p30 p20 hPP hφ) (fun ψ hψ => ?_)
  refine pr_take_one (q := 0) (c := 1) (b := pr_bt Q k) (by decide) (by decide) hbt (by rw [show 2 * 0 + pr_bt Q k = pr_bt Q k by omega]; exact c1) (by rw [show 2 * 0 + (1 - pr_bt Q k) = 1 - pr_bt Q k by omega]; exact c2) (hψ _ _ _ _ _ _ _ _ _ _ _ _ _ _ ?_)
  refine pr_f_hit (n := 63) (i := 1) (by decide) (by rw [pk_un (by decide)]; exact p11) (by rw [pk_un (by decide)]; exact p41) p21 p31 (fun φ hφ => pr_find_root (q := 1) (by decide) hQ hl p31 p21 hQQ hφ) (fun ψ hψ => ?_)
  refine pr_take_leaf (q := 1) (by decide) (by rw [pk_un (by decide)]; exact c3) (by rw [pk_un (by decide)]; exact c4) (hψ _ _ _ _ _ _ _ _ _ _ _ _ _ _ ?_)
  have z : ∀ j, upd (upd a1 0 0) 1 0 j = 0 := by
    intro j
    rcases (show j = 1 ∨ j = 0 ∨ 2 ≤ j by omega) with e | e | e
    · rw [e, pk_us]
    · rw [e, pk_un (by decide), pk_us]
    · rw [pk_un (by omega), pk_un (by omega)]
      exact p12 j e
  exact pr_f_rest (H _ _ _ _ _ _ _ _ _ z) 62 2 (by decide) (fun j _ => z j)
theorem pr_forget_O_ne {post : Int32 → St2 → Prop} {k l s x y P Q : Nat} (hs : s < k) (hkl : k < l) (hl : l ≤ 16) (hx : x < 8) (hy : y < 8) (hQ : Q < 65536) (hxy : x ≠ y) (hb : pr_bt Q s ≠ pr_bt P s) (hQQ : pr_ct Q l = Q) (pic : pr_O k l s x y P Q a1 a2 a3 a4 a5)
    (H : ∀ (h' f' ab' fu' : Int32) (b1 b2 b3 b4 b5 : Nat → Int32), pr_1 k x P b1 b2 b3 b4 b5 → post (nI 1) (h', nI 0, f', ab', fu', b1, b2, b3, b4, b5, a6, a7, a8, a9)) :
    wpX_forget post (h, nI 2, f, ab, fu, a1, a2, a3, a4, a5, a6, a7, a8, a9) (nI y) := by
  obtain ⟨⟨p10, p11, p12, p13⟩, ⟨p20, p21, p22⟩, ⟨p30, p31, p32⟩, ⟨p40, p41, p42⟩, c0, c1, c2, c3, c4, c5⟩ := pic
  have b1 := pr_bt_lt Q s
  have b2 := pr_bt_lt P s
  have hQ2 := pr_ct_le Q s
  refine pr_forget hy (pr_f_skip (n := 64) (i := 0) (by decide) p10 p40 hx hy hxy ?_)
  refine pr_f_hit (n := 63) (i := 1) (by decide) p11 p41 p21 p31 (fun φ hφ => pr_find_two (q := 2) (c := 1) (lq := s) (bq := pr_ct Q s) (by decide) (by decide) hQ (by omega) hl (by omega) p32 p22 rfl c4 p31 p21 hQQ hφ) (fun ψ hψ => ?_)
  refine pr_take_fork (q := 1) (u := 2) (lu := s) (bq := Q) (c := 0) (by decide) (by decide) (by decide) (by decide) (by omega) hQ p32 p21 p42 c2 c3 (by rw [show 1 - pr_bt Q s = pr_bt P s by omega]; exact c5) (hψ _ _ _ _ _ _ _ _ _ _ _ _ _ _ ?_)
  have z : ∀ j, 1 ≤ j → upd (upd a1 1 0) 2 0 j = 0 := by
    intro j hj
    rcases (show j = 1 ∨ j = 2 ∨ 3 ≤ j by omega) with e | e | e
    · rw [e, pk_un (by decide), pk_us]
    · rw [e, pk_us]
    · rw [pk_un (by omega), pk_un (by omega)]
      exact p13 j e
  refine pr_f_rest (H _ _ _ _ _ _ _ _ _ ⟨?_, z, p20, p30, ?_, ?_, ?_⟩) 62 2 (by decide) (fun j hj => z j (by omega))
  · rw [pk_un (by decide), pk_un (by decide)]
    exact p10
  · rw [pk_un (by decide)]
    exact p40
  · rw [pk_un (by decide), pk_un (by decide), pk_un (by omega)]
    exact c0
  · rw [pk_un (by decide), pk_un (by decide), pk_un (by omega)]
    exact c1
theorem pr_forget_O_eq {post : Int32 → St2 → Prop} {k l s y P Q : Nat} (hs : s < k) (hkl : k < l) (hl : l ≤ 16) (hy : y < 8) (hP : P < 65536) (hQ : Q < 65536) (hb : pr_bt Q s ≠ pr_bt P s) (hPP : pr_ct P k = P) (hQQ : pr_ct Q l = Q) (hPQ : pr_ct P s = pr_ct Q s) (pic : pr_O k l s y y P Q a1 a2 a3 a4 a5)
    (H : ∀ (h' f' ab' fu' : Int32) (b1 b2 b3 b4 b5 : Nat → Int32), (∀ j, b1 j = 0) → post (nI 2) (h', -1, f', ab', fu', b1, b2, b3, b4, b5, a6, a7, a8, a9)) :
    wpX_forget post (h, nI 2, f, ab, fu, a1, a2, a3, a4, a5, a6, a7, a8, a9) (nI y) := by
  obtain ⟨⟨p10, p11, p12, p13⟩, ⟨p20, p21, p22⟩, ⟨p30, p31, p32⟩, ⟨p40, p41, p42⟩, c0, c1, c2, c3, c4, c5⟩ := pic
  have b1 := pr_bt_lt Q s
  have b2 := pr_bt_lt P s
  have hQ2 := pr_ct_le Q s
  refine pr_forget hy ?_
  refine pr_f_hit (n := 64) (i := 0) (by decide) p10 p40 p20 p30 (fun φ hφ => pr_find_two (q := 2) (c := 0) (lq := s) (bq := pr_ct Q s) (by decide) (by decide) hP hs (by omega) (by omega) p32 p22 hPQ c5 p30 p20 hPP hφ) (fun ψ hψ => ?_)
  refine pr_take_fork (q := 0) (u := 2) (lu := s) (bq := P) (c := 1) (by decide) (by decide) (by decide) (by decide) (by omega) hP p32 p20 p42 c0 c1 (by rw [show 1 - pr_bt P s = pr_bt Q s by omega]; exact c4) (hψ _ _ _ _ _ _ _ _ _ _ _ _ _ _ ?_)
  refine pr_f_hit (n := 63) (i := 1) (by decide) (by rw [pk_un (by decide), pk_un (by decide)]; exact p11) (by rw [pk_un (by decide)]; exact p41) p21 p31 (fun φ hφ => pr_find_root (q := 1) (by decide) hQ hl p31 p21 hQQ hφ) (fun ψ hψ => ?_)
  refine pr_take_leaf (q := 1) (by decide) (by rw [pk_un (by decide), pk_un (by decide), pk_un (by omega)]; exact c2) (by rw [pk_un (by decide), pk_un (by decide), pk_un (by omega)]; exact c3) (hψ _ _ _ _ _ _ _ _ _ _ _ _ _ _ ?_)
  have z : ∀ j, upd (upd (upd a1 0 0) 2 0) 1 0 j = 0 := by
    intro j
    rcases (show j = 1 ∨ j = 2 ∨ j = 0 ∨ 3 ≤ j by omega) with e | e | e | e
    · rw [e, pk_us]
    · rw [e, pk_un (by decide), pk_us]
    · rw [e, pk_un (by decide), pk_un (by decide), pk_us]
    · rw [pk_un (by omega), pk_un (by omega), pk_un (by omega)]
      exact p13 j e
  exact pr_f_rest (H _ _ _ _ _ _ _ _ _ z) 62 2 (by decide) (fun j _ => z j)
end
end
section
/-! ===== insert and allow ===== -/
section
variable {h r f ab fu : Int32} {a1 a2 a3 a4 a5 a6 a7 a8 a9 : Nat → Int32}
/-- into the empty tree -/
theorem pr_insert_0 {post : St2 → Prop} {q : Nat} {p l pe : Int32} (hq : q < 64)
    (H : post (h, nI q, a5 (2 * q), -1, fu, upd a1 q 1, upd a2 q p, upd a3 q l, upd a4 q pe, upd (upd a5 (2 * q) (-1)) (2 * q + 1) (-1), a6, a7, a8, a9)) :
    wpX_insert post (h, -1, nI q, -1, fu, a1, a2, a3, a4, a5, a6, a7, a8, a9) p l pe := by
  unfold wpX_insert
  refine br_f pr_n0 ?_
  unfold wX_insert_39
  exact pr_newNode hq (br_f pr_n0 (pr_lead_root H))
/-- under u, where nothing is -/
theorem pr_insert_child {post : St2 → Prop} {q u lu p : Nat} {l pe : Int32} (hq : q < 64) (hu : u < 64) (hne : u ≠ q) (hp : p < 65536) (hlu : lu < 16) (h3 : a3 u = nI lu) (h5 : a5 (2 * u + pr_bt p lu) = -1)
    (H : post (h, r, a5 (2 * q), nI u, fu, upd a1 q 1, upd a2 q (nI p), upd a3 q l, upd a4 q pe, upd (upd (upd a5 (2 * q) (-1)) (2 * q + 1) (-1)) (2 * u + pr_bt p lu) (nI q), a6, a7, a8, a9)) :
    wpX_insert post (h, r, nI q, nI u, fu, a1, a2, a3, a4, a5, a6, a7, a8, a9) (nI p) l pe := by
  have hbt := pr_bt_lt p lu
  unfold wpX_insert
  dsimp only
  rw [nI_clamp (show u < 2 ^ 31 by omega), h3]
  refine br_t (nI_pos' (by omega)) ⟨vp_in_nI hu (by decide), pr_bitw hp hlu ?_⟩
  rw [pr_2b, nI_clamp (show 2 * u + pr_bt p lu < 2 ^ 31 by omega), h5]
  refine ⟨vp_in_nI (by omega) (by decide), ?_⟩
  unfold wX_insert_39
  exact pr_newNode hq (br_f pr_n0 (pr_lead_node hu hp hlu (by rw [pk_un hne]; exact h3) H))
/-- beside the root c: a fork -/
theorem pr_insert_fork {post : St2 → Prop} {q c t k l P Q : Nat} {pe : Int32} (hq : q < 64) (hc : c < 64) (ht : t < 64) (hcq : c ≠ q) (hct : c ≠ t) (hP : P < 65536) (hQ : Q < 65536) (hkl : k < l) (hl : l ≤ 16)
    (h3 : a3 c = nI k) (h2 : a2 c = nI P) (h5 : a5 (2 * q) = nI t) (hne : ¬ Q / 2 ^ (16 - k) = P / 2 ^ (16 - k))
    (H : ∀ s, s < k → Q / 2 ^ (16 - s) = P / 2 ^ (16 - s) → pr_bt Q s ≠ pr_bt P s →
      post (h, nI t, upd (upd a5 (2 * q) (-1)) (2 * q + 1) (-1) (2 * t), -1, fu, upd (upd a1 q 1) t 1, upd (upd a2 q (nI Q)) t (nI (pr_ct Q s)), upd (upd a3 q (nI l)) t (nI s), upd (upd a4 q pe) t (-1),
        upd (upd (upd (upd (upd (upd a5 (2 * q) (-1)) (2 * q + 1) (-1)) (2 * t) (-1)) (2 * t + 1) (-1)) (2 * t + pr_bt Q s) (nI q)) (2 * t + pr_bt P s) (nI c), a6, a7, a8, a9)) :
    wpX_insert post (h, nI c, nI q, -1, fu, a1, a2, a3, a4, a5, a6, a7, a8, a9) (nI Q) (nI l) pe := by
  unfold wpX_insert
  refine br_f pr_n0 ?_
  unfold wX_insert_39
  refine pr_newNode hq ?_
  rw [h5]
  dsimp only
  rw [nI_clamp (show c < 2 ^ 31 by omega), pk_un hcq, h3]
  refine br_t (nI_pos' (by omega)) ⟨vp_in_nI hc (by decide), pk_le k l (fun _ => ⟨vp_in_nI hc (by decide), ?_⟩) (fun z => absurd z (by omega))⟩
  unfold wX_insert_87
  rw [nI_clamp (show c < 2 ^ 31 by omega), pk_un hcq, h2]
  refine ⟨vp_in_nI hc (by decide), pr_common hQ hP (by omega) hne (fun s hs e1 e2 => pk_eq s l (fun z => absurd z (by omega)) (fun _ => pr_cutw hQ (by omega) (pr_newNode ht ?_)))⟩
  have b1 := pr_bt_lt Q s
  have b2 := pr_bt_lt P s
  refine pr_bitw hQ (by omega) ?_
  rw [pr_2b, nI_clamp (show 2 * t + pr_bt Q s < 2 ^ 31 by omega)]
  refine ⟨vp_in_nI (by omega) (by decide), nm_e ⟨vp_in_nI hc (by decide), ?_⟩⟩
  rw [pk_un hct, pk_un hcq, h2]
  refine pr_bitw hP (by omega) ?_
  rw [pr_2b, nI_clamp (show 2 * t + pr_bt P s < 2 ^ 31 by omega)]
  exact ⟨vp_in_nI (by omega) (by decide), nm_e (pr_lead_root (H s hs e1 e2))⟩
/-- allow of an entry that is not there -/
theorem pr_allow {post : Int32 → St2 → Prop} {p0 : Int32} {a len pe hd : Nat} {R : St2 → Prop} {ab' fu' : Int32} (ha : a < 65536) (hp : p0 &&& 65535 = nI a) (hlen : len ≤ 16) (hpe : pe < 8) (hhd : hd < 32)
    (hfind : ∀ φ : Int32 → St2 → Prop, φ (-1) (nI hd, r, f, ab', fu', a1, a2, a3, a4, a5, a6, a7, a8, a9) → wpX_find φ (nI hd, r, f, ab, fu, a1, a2, a3, a4, a5, a6, a7, a8, a9) (nI (pr_ct a len)) (nI len))
    (hins : ∀ ψ : St2 → Prop, (∀ u, R u → ψ u) → wpX_insert ψ (nI (hd + 1), r, f, ab', fu', a1, a2, a3, a4, a5, a6, a7, a8, a9) (nI (pr_ct a len)) (nI len) (nI pe))
    (H : ∀ u, R u → post u.1 u) :
    wpX_allow post (nI hd, r, f, ab, fu, a1, a2, a3, a4, a5, a6, a7, a8, a9) p0 (nI len) (nI pe) := by
  unfold wpX_allow
  dsimp only
  rw [hp]
  refine br_f (nI_pos (by omega)) (br_f (nI_nlt (a := 16) hlen (by decide)) (br_f (nI_pos (by omega)) (br_t (nI_le (b := 7) (by omega) (by decide)) (pr_cutw ha hlen (hfind _ (br_t pr_n1 ?_))))))
  unfold wX_allow_69
  refine br_t (nI_lt (b := 32) hhd (by decide)) (nm_r (nI_1 hd) (br_t pr_n1 (hins _ (fun u hu => ?_))))
  obtain ⟨u1, u2, u3, u4, u5, u6, u7, u8, u9, u10, u11, u12, u13, u14⟩ := u
  exact H _ hu
end
/-- the first allow -/
theorem pr_allow1 {post : Int32 → St2 → Prop} {p0 : Int32} {a k x : Nat} {c : Nat → Int32} (ha : a < 65536) (hp : p0 &&& 65535 = nI a) (hk : k ≤ 16) (hx : x < 8) (hc : c 0 = nI 1)
    (H : post (nI 1) (nI 1, nI 0, nI 1, -1, -1, upd (fun _ => 0) 0 1, upd (fun _ => 0) 0 (nI (pr_ct a k)), upd (fun _ => 0) 0 (nI k), upd (fun _ => 0) 0 (nI x), upd (upd c 0 (-1)) 1 (-1), fun _ => 0, fun _ => 0, fun _ => 0, fun _ => 0)) :
    wpX_allow post (0, -1, 0, 0, 0, fun _ => 0, fun _ => 0, fun _ => 0, fun _ => 0, c, fun _ => 0, fun _ => 0, fun _ => 0, fun _ => 0) p0 (nI k) (nI x) := by
  refine pr_allow (hd := 0) (R := fun u => u = (nI 1, nI 0, nI 1, -1, -1, upd (fun _ => 0) 0 1, upd (fun _ => 0) 0 (nI (pr_ct a k)), upd (fun _ => 0) 0 (nI k), upd (fun _ => 0) 0 (nI x), upd (upd c 0 (-1)) 1 (-1), fun _ => 0, fun _ => 0, fun _ => 0, fun _ => 0)) ha hp hk hx (by decide) (fun φ hφ => pr_find_none hφ) (fun ψ hψ => ?_) (fun u hu => ?_)
  · exact pr_insert_0 (q := 0) (by decide) (hψ _ (by rw [show c (2 * 0) = nI 1 from hc]))
  · subst hu
    exact H
/-- the second allow, in the first -/
theorem pr_allow2_I {post : Int32 → St2 → Prop} {p1 : Int32} {b k l x y P : Nat} {c : Nat → Int32} (hb : b < 65536) (hp : p1 &&& 65535 = nI b) (hkl : k < l) (hl : l ≤ 16) (hx : x < 8) (hy : y < 8) (hP : pr_ct b k = P) (hc : c 2 = nI 2)
    (H : ∀ (f' ab' fu' : Int32) (b1 b2 b3 b4 b5 : Nat → Int32), pr_I k l x y P (pr_ct b l) b1 b2 b3 b4 b5 → post (nI 2) (nI 2, nI 0, f', ab', fu', b1, b2, b3, b4, b5, fun _ => 0, fun _ => 0, fun _ => 0, fun _ => 0)) :
    wpX_allow post (nI 1, nI 0, nI 1, -1, -1, upd (fun _ => 0) 0 1, upd (fun _ => 0) 0 (nI P), upd (fun _ => 0) 0 (nI k), upd (fun _ => 0) 0 (nI x), upd (upd c 0 (-1)) 1 (-1), fun _ => 0, fun _ => 0, fun _ => 0, fun _ => 0) p1 (nI l) (nI y) := by
  have hQ' := pr_ct_le b l
  have hP' := pr_ct_le b k
  have hbt := pr_bt_lt (pr_ct b l) k
  have hcov : pr_ct (pr_ct b l) k = P := by rw [pr_ct_ct b (by omega), hP]
  have h5 : upd (upd c 0 (-1)) 1 (-1) (2 * 0 + pr_bt (pr_ct b l) k) = -1 := by
    rcases (show pr_bt (pr_ct b l) k = 0 ∨ pr_bt (pr_ct b l) k = 1 by omega) with e | e
    · rw [e, pk_un (by decide), pk_us]
    · rw [e]
      exact pk_us
  refine pr_allow (hd := 1) (R := fun u => ∃ (f' ab' fu' : Int32) (b1 b2 b3 b4 b5 : Nat → Int32), pr_I k l x y P (pr_ct b l) b1 b2 b3 b4 b5 ∧ u = (nI 2, nI 0, f', ab', fu', b1, b2, b3, b4, b5, fun _ => 0, fun _ => 0, fun _ => 0, fun _ => 0)) (ab' := nI 0) (fu' := -1) hb hp hl hy (by decide) (fun φ hφ => ?_) (fun ψ hψ => ?_) (fun u hu => ?_)
  · unfold wpX_find
    refine ⟨2, pr_find_step (n := 1) (i := 0) (q := 0) (lq := k) (bq := P) (by decide) (by decide) (by omega) (by omega) hl pk_us pk_us (by omega) (fun z => absurd hcov z) (fun _ z => absurd z (by omega)) (fun _ _ => ?_)⟩
    rw [h5]
    exact pr_find_null (n := 0) (i := 1) (by decide) hφ
  · refine pr_insert_child (q := 1) (u := 0) (lu := k) (by decide) (by decide) (by decide) (by omega) (by omega) pk_us h5 (hψ _ ⟨_, _, _, _, _, _, _, _, ⟨⟨?_, ?_, ?_⟩, ⟨?_, ?_⟩, ⟨?_, ?_⟩, ⟨?_, ?_⟩, ?_, ?_, ?_, ?_⟩, rfl⟩)
    · rw [pk_un (by decide), pk_us]
    · exact pk_us
    · intro j hj
      rw [pk_un (by omega), pk_un (by omega)]
    · rw [pk_un (by decide), pk_us]
    · exact pk_us
    · rw [pk_un (by decide), pk_us]
    · exact pk_us
    · rw [pk_un (by decide), pk_us]
    · exact pk_us
    · rw [show 2 * 0 + pr_bt (pr_ct b l) k = pr_bt (pr_ct b l) k by omega]
      exact pk_us
    · rcases (show pr_bt (pr_ct b l) k = 0 ∨ pr_bt (pr_ct b l) k = 1 by omega) with e | e
      · rw [e, pk_un (by decide), pk_un (by decide), pk_un (by decide)]
        exact pk_us
      · rw [e, pk_un (by decide), pk_un (by decide), pk_un (by decide), pk_un (by decide)]
        exact pk_us
    · rw [pk_un (by omega), pk_un (by decide)]
      exact pk_us
    · rw [pk_un (by omega)]
      exact pk_us
  · obtain ⟨f', ab', fu', b1, b2, b3, b4, b5, hI, rfl⟩ := hu
    exact H f' ab' fu' b1 b2 b3 b4 b5 hI
/-- the second allow, beside the first -/
theorem pr_allow2_O {post : Int32 → St2 → Prop} {p1 : Int32} {b k l x y P : Nat} {c : Nat → Int32} (hb : b < 65536) (hp : p1 &&& 65535 = nI b) (hkl : k < l) (hl : l ≤ 16) (hx : x < 8) (hy : y < 8) (hP' : P < 65536) (hPP : pr_ct P k = P) (hP : pr_ct b k ≠ P) (hc : c 2 = nI 2)
    (H : ∀ (s : Nat) (f' ab' fu' : Int32) (b1 b2 b3 b4 b5 : Nat → Int32), s < k → pr_ct P s = pr_ct (pr_ct b l) s → pr_bt (pr_ct b l) s ≠ pr_bt P s → pr_O k l s x y P (pr_ct b l) b1 b2 b3 b4 b5 → post (nI 2) (nI 2, nI 2, f', ab', fu', b1, b2, b3, b4, b5, fun _ => 0, fun _ => 0, fun _ => 0, fun _ => 0)) :
    wpX_allow post (nI 1, nI 0, nI 1, -1, -1, upd (fun _ => 0) 0 1, upd (fun _ => 0) 0 (nI P), upd (fun _ => 0) 0 (nI k), upd (fun _ => 0) 0 (nI x), upd (upd c 0 (-1)) 1 (-1), fun _ => 0, fun _ => 0, fun _ => 0, fun _ => 0) p1 (nI l) (nI y) := by
  have hQ' := pr_ct_le b l
  have hcov : pr_ct (pr_ct b l) k ≠ P := by rw [pr_ct_ct b (by omega)]; exact hP
  have hfr : ¬ pr_ct b l / 2 ^ (16 - k) = P / 2 ^ (16 - k) := by
    intro e
    refine hcov ?_
    rw [pr_ct_eq e, hPP]
  refine pr_allow (hd := 1) (R := fun u => ∃ (s : Nat) (f' ab' fu' : Int32) (b1 b2 b3 b4 b5 : Nat → Int32), s < k ∧ pr_ct P s = pr_ct (pr_ct b l) s ∧ pr_bt (pr_ct b l) s ≠ pr_bt P s ∧ pr_O k l s x y P (pr_ct b l) b1 b2 b3 b4 b5 ∧ u = (nI 2, nI 2, f', ab', fu', b1, b2, b3, b4, b5, fun _ => 0, fun _ => 0, fun _ => 0, fun _ => 0)) (ab' := -1) (fu' := -1) hb hp hl hy (by decide) (fun φ hφ => ?_) (fun ψ hψ => ?_) (fun u hu => ?_)
  · unfold wpX_find
    exact ⟨1, pr_find_step (n := 0) (i := 0) (q := 0) (lq := k) (bq := P) (by decide) (by decide) (by omega) (by omega) hl pk_us pk_us hP' (fun _ => hφ) (fun z => absurd z hcov) (fun z => absurd z hcov)⟩
  · refine pr_insert_fork (q := 1) (c := 0) (t := 2) (k := k) (l := l) (P := P) (by decide) (by decide) (by decide) (by decide) (by decide) hP' (by omega) hkl hl pk_us pk_us (by rw [pk_un (by decide), pk_un (by decide)]; exact hc) hfr (fun s hs e1 e2 => hψ _ ⟨s, _, _, _, _, _, _, _, _, hs, (pr_ct_eq e1).symm, e2, ⟨⟨?_, ?_, ?_, ?_⟩, ⟨?_, ?_, ?_⟩, ⟨?_, ?_, ?_⟩, ⟨?_, ?_, ?_⟩, ?_, ?_, ?_, ?_, ?_, ?_⟩, rfl⟩)
    · rw [pk_un (by decide), pk_un (by decide), pk_us]
    · rw [pk_un (by decide), pk_us]
    · exact pk_us
    · intro j hj
      rw [pk_un (by omega), pk_un (by omega), pk_un (by omega)]
    · rw [pk_un (by decide), pk_un (by decide), pk_us]
    · rw [pk_un (by decide), pk_us]
    · exact pk_us
    · rw [pk_un (by decide), pk_un (by decide), pk_us]
    · rw [pk_un (by decide), pk_us]
    · exact pk_us
    · rw [pk_un (by decide), pk_un (by decide), pk_us]
    · rw [pk_un (by decide), pk_us]
    · exact pk_us
    · rw [pk_un (by omega), pk_un (by omega), pk_un (by decide), pk_un (by decide), pk_un (by decide), pk_un (by decide), pk_un (by decide)]
      exact pk_us
    · rw [pk_un (by omega), pk_un (by omega), pk_un (by decide), pk_un (by decide), pk_un (by decide), pk_un (by decide)]
      exact pk_us
    · rw [pk_un (by omega), pk_un (by omega), pk_un (by decide), pk_un (by decide), pk_un (by decide)]
      exact pk_us
    · rw [pk_un (by omega), pk_un (by omega), pk_un (by decide), pk_un (by decide)]
      exact pk_us
    · rw [pk_un (by omega)]
      exact pk_us
    · exact pk_us
  · obtain ⟨s, f', ab', fu', b1, b2, b3, b4, b5, g1, g2, g3, hO, rfl⟩ := hu
    exact H s f' ab' fu' b1 b2 b3 b4 b5 g1 g2 g3 hO
end
section
/-! ===== the law ===== -/
section
variable {h r f ab fu : Int32} {a1 a2 a3 a4 a5 a6 a7 a8 a9 : Nat → Int32}
theorem pr_tail_ne {post : Int32 → St0 → Prop} {mc ms kc ks k x y P : Nat} {v : Int32} (hp : post 1 ()) (hx : x < 8) (hy : y < 8) (hxy : x ≠ y) (pic : pr_1 k x P a1 a2 a3 a4 a5) :
    wL_lawOf_275 post mc ms (nI x) (nI y) v v kc ks h r f ab fu a1 a2 a3 a4 a5 a6 a7 a8 a9 := by
  unfold wL_lawOf_275
  refine br_t rfl (pr_entries_1 hx pic (pk_eq x y (fun z => absurd z hxy) (fun _ => ?_)))
  unfold wL_lawOf_297
  exact br_t rfl hp
theorem pr_tail_eq {post : Int32 → St0 → Prop} {mc ms kc ks y : Nat} {v : Int32} (hp : post 1 ()) (hy : y < 8) (hz : ∀ j, a1 j = 0) :
    wL_lawOf_275 post mc ms (nI y) (nI y) v v kc ks h r f ab fu a1 a2 a3 a4 a5 a6 a7 a8 a9 := by
  unfold wL_lawOf_275
  refine br_t rfl (pr_entries_none hy hz (br_t rfl ?_))
  unfold wL_lawOf_297
  exact br_t rfl hp
theorem pr_222_I {post : Int32 → St0 → Prop} {mc ms kc ks k l x y P Q b : Nat} {p1 z : Int32} (hp : post 1 ()) (hb : b < 65536) (eb : p1 &&& 65535 = nI b) (hkl : k < l) (hl : l ≤ 16) (hx : x < 8) (hy : y < 8) (hP : pr_ct b k = P) (hQ : pr_ct b l = Q) (pic : pr_I k l x y P Q a1 a2 a3 a4 a5) :
    wL_lawOf_222 post mc ms p1 (nI x) (nI y) 1 z z kc ks h (nI 0) f ab fu a1 a2 a3 a4 a5 a6 a7 a8 a9 := by
  have hP' := pr_ct_le b k
  have hQ' := pr_ct_le b l
  have hPP : pr_ct P k = P := by rw [← hP, pr_ct_ct b (Nat.le_refl k)]
  have hQQ : pr_ct Q l = Q := by rw [← hQ, pr_ct_ct b (Nat.le_refl l)]
  have hQP : pr_ct Q k = P := by rw [← hQ, pr_ct_ct b (by omega), hP]
  unfold wL_lawOf_222
  refine br_t rfl ?_
  by_cases hxy : x = y
  · subst hxy
    refine pr_forget_I_eq hkl hl hx (by omega) (by omega) hPP hQQ pic (fun h' f' ab' fu' b1 b2 b3 b4 b5 hz => br_t rfl ?_)
    unfold wL_lawOf_246
    refine br_t rfl (pr_owner_no eb (fun ψ hψ => pr_settling_none hψ) (br_t rfl ?_))
    unfold wL_lawOf_274
    exact pr_tail_eq hp hx hz
  · refine pr_forget_I_ne hkl hl hx hy (by omega) (by omega) hxy hQP hQQ pic (fun h' f' ab' fu' b1 b2 b3 b4 b5 hz => pk_eq x y (fun e => absurd e hxy) (fun _ => ?_))
    unfold wL_lawOf_246
    refine br_t rfl (pr_owner eb (q := 0) (by decide) (fun ψ hψ => pr_settling_1 (by omega) hx hb hP hz hψ) ?_)
    rw [hz.2.2.2.2.1]
    exact pk_eq x y (fun e => absurd e hxy) (fun _ => br_f (by decide) (pr_tail_ne hp hx hy hxy hz))
theorem pr_222_O {post : Int32 → St0 → Prop} {mc ms kc ks k l s x y P Q b : Nat} {p1 z : Int32} (hp : post 1 ()) (hb : b < 65536) (eb : p1 &&& 65535 = nI b) (hs : s < k) (hkl : k < l) (hl : l ≤ 16) (hx : x < 8) (hy : y < 8) (hP' : P < 65536) (hPP : pr_ct P k = P) (hP : pr_ct b k ≠ P) (hQ : pr_ct b l = Q)
    (hbt : pr_bt Q s ≠ pr_bt P s) (hPQ : pr_ct P s = pr_ct Q s) (pic : pr_O k l s x y P Q a1 a2 a3 a4 a5) :
    wL_lawOf_222 post mc ms p1 (nI x) (nI y) 0 z z kc ks h (nI 2) f ab fu a1 a2 a3 a4 a5 a6 a7 a8 a9 := by
  have hQ' := pr_ct_le b l
  have hQQ : pr_ct Q l = Q := by rw [← hQ, pr_ct_ct b (Nat.le_refl l)]
  unfold wL_lawOf_222
  refine br_t rfl ?_
  by_cases hxy : x = y
  · subst hxy
    refine pr_forget_O_eq hs hkl hl hx hP' (by omega) hbt hPP hQQ hPQ pic (fun h' f' ab' fu' b1 b2 b3 b4 b5 hz => br_t rfl ?_)
    unfold wL_lawOf_246
    refine br_t rfl (pr_owner_no eb (fun ψ hψ => pr_settling_none hψ) (br_t rfl ?_))
    unfold wL_lawOf_274
    exact pr_tail_eq hp hx hz
  · refine pr_forget_O_ne hs hkl hl hx hy (by omega) hxy hbt hQQ pic (fun h' f' ab' fu' b1 b2 b3 b4 b5 hz => pk_eq x y (fun e => absurd e hxy) (fun _ => ?_))
    unfold wL_lawOf_246
    refine br_t rfl (pr_owner_no eb (fun ψ hψ => pr_settling_1no (by omega) hb hP' hP hz hψ) ?_)
    refine pk_eq x y (fun e => absurd e hxy) (fun _ => br_t rfl ?_)
    unfold wL_lawOf_274
    exact pr_tail_ne hp hx hy hxy hz
/-- the checks from the second owned to useless -/
theorem pr_154 {post : Int32 → St0 → Prop} {mc ms kc ks l x y b vx v8 t0 t1 sm first w : Nat} {u1 p1 x12 z : Int32} (eb : p1 &&& 65535 = nI b) (hx : x < 8) (hy : y < 8)
    (hset : ∀ (c6 c7 c8 c9 : Nat → Int32) (ψ : St2 → Prop), (∀ b6 b7 b8 b9 : Nat → Int32, pr_F x vx v8 t0 t1 u1 b6 b7 b8 → ψ (h, r, f, ab, fu, a1, a2, a3, a4, a5, b6, b7, b8, b9)) → wpX_settleAll ψ (h, r, f, ab, fu, a1, a2, a3, a4, a5, c6, c7, c8, c9))
    (hstl : ∀ (c6 c7 c8 c9 : Nat → Int32) (ψ : Int32 → Prop), ψ (nI 1) → wpX_settling ψ (h, r, f, ab, fu, a1, a2, a3, a4, a5, c6, c7, c8, c9) (nI b))
    (huse : ∀ (c6 c7 c8 c9 : Nat → Int32) (ψ : Int32 → St2 → Prop), (∀ b6 b7 b8 b9 : Nat → Int32, ψ (nI w) (h, r, f, ab, fu, a1, a2, a3, a4, a5, b6, b7, b8, b9)) → wpX_useless ψ (h, r, f, ab, fu, a1, a2, a3, a4, a5, c6, c7, c8, c9))
    (hfs : first + sm ≤ 65536) (hv8 : v8 = 65536 - first - sm) (h4 : a4 1 = nI y) (h3 : a3 1 = nI l) (hw0 : x12 = 0 → w = 0) (hw1 : ¬ x12 = 0 → w = if x = y then 1 else 0)
    (Hf : ∀ (z : Int32) (b6 b7 b8 b9 : Nat → Int32), wL_lawOf_222 post mc ms p1 (nI x) (nI y) x12 z z kc ks h r f ab fu a1 a2 a3 a4 a5 b6 b7 b8 b9) :
    wL_lawOf_154 post mc ms p1 (nI l) (nI x) (nI y) (nI sm) x12 (nI first) z z kc ks h r f ab fu a1 a2 a3 a4 a5 a6 a7 a8 a9 := by
  have e8 : nI v8 = (65536 - nI first) - nI sm := by rw [show (65536 : Int32) = nI 65536 from rfl, pk_sub (by omega), pk_sub (by omega), hv8]
  unfold wL_lawOf_154
  refine br_t rfl (pr_owned_no (hset _ _ _ _) (fun b6 b7 b8 b9 => br_t e8 (pr_owner eb (q := 1) (by decide) (hstl _ _ _ _) ?_)))
  rw [h4]
  refine br_t rfl (pr_length eb (q := 1) (by decide) (hstl _ _ _ _) ?_)
  rw [h3]
  refine br_t rfl (huse _ _ _ _ _ (fun c6 c7 c8 c9 => br_c (fun e => ?_) (fun e => pk_eq x y (fun g => ?_) (fun g => ?_))))
  · unfold wL_lawOf_221
    rw [hw0 e]
    exact Hf (nI 0) c6 c7 c8 c9
  · rw [hw1 e, if_pos g]
    exact Hf (nI 1) c6 c7 c8 c9
  · unfold wL_lawOf_221
    rw [hw1 e, if_neg g]
    exact Hf (nI 0) c6 c7 c8 c9
theorem pr_127 {post : Int32 → St0 → Prop} {mc ms kc ks l x y b vx v8 t0 t1 bg sm first w : Nat} {u1 p1 x12 z0 : Int32} (eb : p1 &&& 65535 = nI b) (hx : x < 8) (hy : y < 8)
    (hset : ∀ (c6 c7 c8 c9 : Nat → Int32) (ψ : St2 → Prop), (∀ b6 b7 b8 b9 : Nat → Int32, pr_F x vx v8 t0 t1 u1 b6 b7 b8 → ψ (h, r, f, ab, fu, a1, a2, a3, a4, a5, b6, b7, b8, b9)) → wpX_settleAll ψ (h, r, f, ab, fu, a1, a2, a3, a4, a5, c6, c7, c8, c9))
    (hstl : ∀ (c6 c7 c8 c9 : Nat → Int32) (ψ : Int32 → Prop), ψ (nI 1) → wpX_settling ψ (h, r, f, ab, fu, a1, a2, a3, a4, a5, c6, c7, c8, c9) (nI b))
    (huse : ∀ (c6 c7 c8 c9 : Nat → Int32) (ψ : Int32 → St2 → Prop), (∀ b6 b7 b8 b9 : Nat → Int32, ψ (nI w) (h, r, f, ab, fu, a1, a2, a3, a4, a5, b6, b7, b8, b9)) → wpX_useless ψ (h, r, f, ab, fu, a1, a2, a3, a4, a5, c6, c7, c8, c9))
    (hfs : first + sm ≤ 65536) (hz0 : nI bg - z0 = nI first) (hv1 : x = y → vx = first + sm) (hv2 : x ≠ y → vx = first) (hv8 : v8 = 65536 - first - sm) (h4 : a4 1 = nI y) (h3 : a3 1 = nI l) (hw0 : x12 = 0 → w = 0) (hw1 : ¬ x12 = 0 → w = if x = y then 1 else 0)
    (Hf : ∀ (z : Int32) (b6 b7 b8 b9 : Nat → Int32), wL_lawOf_222 post mc ms p1 (nI x) (nI y) x12 z z kc ks h r f ab fu a1 a2 a3 a4 a5 b6 b7 b8 b9) :
    wL_lawOf_127 post mc ms p1 (nI l) (nI x) (nI y) (nI sm) x12 z0 (nI bg) kc ks h r f ab fu a1 a2 a3 a4 a5 a6 a7 a8 a9 := by
  unfold wL_lawOf_127
  refine nm_r hz0 (pr_owned hx (hset _ _ _ _) (fun b6 b7 b8 b9 => pk_eq x y (fun e => ?_) (fun e => ?_)))
  · rw [hv1 e, nI_add]
    exact pr_154 eb hx hy hset hstl huse hfs hv8 h4 h3 hw0 hw1 Hf
  · rw [hv2 e]
    exact pr_154 eb hx hy hset hstl huse hfs hv8 h4 h3 hw0 hw1 Hf
theorem pr_112_I {post : Int32 → St0 → Prop} {mc ms kc ks k l x y P Q b : Nat} {p1 : Int32} (hp : post 1 ()) (hb : b < 65536) (eb : p1 &&& 65535 = nI b) (hkl : k < l) (hl : l ≤ 16) (hx : x < 8) (hy : y < 8) (hP : pr_ct b k = P) (hQ : pr_ct b l = Q) (pic : pr_I k l x y P Q a1 a2 a3 a4 a5) :
    wL_lawOf_112 post mc ms p1 (nI l) (nI x) (nI y) (nI (2 ^ (16 - k))) (nI (2 ^ (16 - l))) 1 kc ks h (nI 0) f ab fu a1 a2 a3 a4 a5 a6 a7 a8 a9 := by
  have s1 := pr_sz_le k
  have s2 := pr_sz_lt hkl hl
  unfold wL_lawOf_112
  refine br_f (by decide) (pr_127 (first := 2 ^ (16 - k) - 2 ^ (16 - l)) eb hx hy (fun c6 c7 c8 c9 ψ hψ => pr_settle_I hkl hl hx hy pic hψ) (fun c6 c7 c8 c9 ψ hψ => pr_settling_I hkl hl hx hy hb hP hQ pic hψ) (fun c6 c7 c8 c9 ψ hψ => pr_useless_I hkl hl hx hy pic hψ)
    (by omega) (pk_sub (by omega)) (fun e => ?_) (fun e => ?_) (by omega) pic.2.2.2.1.2 pic.2.2.1.2 (fun e => absurd e (by decide)) (fun _ => rfl) (fun z b6 b7 b8 b9 => pr_222_I hp hb eb hkl hl hx hy hP hQ pic))
  · rw [if_pos e]
    omega
  · rw [if_neg e]
theorem pr_112_O {post : Int32 → St0 → Prop} {mc ms kc ks k l s x y P Q b : Nat} {p1 : Int32} (hp : post 1 ()) (hb : b < 65536) (eb : p1 &&& 65535 = nI b) (hs : s < k) (hkl : k < l) (hl : l ≤ 16) (hx : x < 8) (hy : y < 8) (hP' : P < 65536) (hPP : pr_ct P k = P) (hP : pr_ct b k ≠ P) (hQ : pr_ct b l = Q)
    (hbt : pr_bt Q s ≠ pr_bt P s) (hPQ : pr_ct P s = pr_ct Q s) (pic : pr_O k l s x y P Q a1 a2 a3 a4 a5) :
    wL_lawOf_112 post mc ms p1 (nI l) (nI x) (nI y) (nI (2 ^ (16 - k))) (nI (2 ^ (16 - l))) 0 kc ks h (nI 2) f ab fu a1 a2 a3 a4 a5 a6 a7 a8 a9 := by
  have s1 : 2 ^ (16 - k) ≤ 2 ^ 15 := Nat.pow_le_pow_right (by decide) (by omega)
  have s2 := pr_sz_lt hkl hl
  have s3 : (2 : Nat) ^ 15 = 32768 := by decide
  unfold wL_lawOf_112
  refine br_t rfl (pr_127 (first := 2 ^ (16 - k)) eb hx hy (fun c6 c7 c8 c9 ψ hψ => pr_settle_O (by omega) hkl hl hx hy hbt pic hψ) (fun c6 c7 c8 c9 ψ hψ => pr_settling_O hs hkl hl hx hy hb hQ pic hψ) (fun c6 c7 c8 c9 ψ hψ => pr_useless_O (by omega) hkl hl hx hy hbt pic hψ)
    (by omega) (by rw [Int32.sub_zero]) (fun e => ?_) (fun e => ?_) rfl pic.2.2.2.1.2.1 pic.2.2.1.2.1 (fun _ => rfl) (fun e => absurd rfl e) (fun z b6 b7 b8 b9 => pr_222_O hp hb eb hs hkl hl hx hy hP' hPP hP hQ hbt hPQ pic))
  · rw [if_pos e]
  · rw [if_neg e]
end
theorem pr_lawOf {post : Int32 → St0 → Prop} (hp : post 1 ()) (p0 p1 p2 p3 p4 : Int32) : wpL_lawOf post 10 599 () p0 p1 p2 p3 p4 := by
  obtain ⟨k, hk, ek⟩ := pk_andE p2 (m := 15) 4 (by decide)
  obtain ⟨m, hm, em⟩ := pk_andE p3 (m := 255) 8 (by decide)
  obtain ⟨x, hx, ex⟩ := pk_andE p4 (m := 7) 3 (by decide)
  obtain ⟨y, hy, ey⟩ := pk_andE (p4 >>> ((3 : Int32) &&& 31)) (m := 7) 3 (by decide)
  obtain ⟨a, ha, ea⟩ := pk_andE p0 (m := 65535) 16 (by decide)
  obtain ⟨b, hb, eb⟩ := pk_andE p1 (m := 65535) 16 (by decide)
  have hk : k < 16 := hk
  have hm : m < 256 := hm
  have hx : x < 8 := hx
  have hy : y < 8 := hy
  have ha : a < 65536 := ha
  have hb : b < 65536 := hb
  have e16 : (16 : Int32) - nI k = nI (16 - k) := pk_sub (a := 16) (by omega)
  have hmm : m % (16 - k) < 16 - k := Nat.mod_lt _ (by omega)
  obtain ⟨l, el⟩ : ∃ l, l = k + 1 + m % (16 - k) := ⟨_, rfl⟩
  have hkl : k < l := by omega
  have hl : l ≤ 16 := by omega
  have s1 := pr_sz_le k
  have s2 := pr_sz_pos k
  have hP' := pr_ct_le a k
  have hPP : pr_ct (pr_ct a k) k = pr_ct a k := pr_ct_ct a (Nat.le_refl k)
  unfold wpL_lawOf
  refine ⟨by decide, by decide, 9, 585, by decide, by decide, pr_init (by decide) (by decide) (fun c hc => nm_r ek ⟨?_, nm_r (e' := nI l) ?_ (nm_r ex (nm_r ey (pr_allow1 ha ea (by omega) hx (hc 0 (by decide)) ?_)))⟩)⟩
  · rw [e16]
    exact nI_ne0 (by omega) (by omega)
  · rw [em, e16, pk_rem (by omega) (by omega) (by omega), nI_1, nI_add, el]
  · by_cases hin : a / 2 ^ (16 - k) = b / 2 ^ (16 - k)
    · refine pr_allow2_I (P := pr_ct a k) hb eb hkl hl hx hy (pr_ct_eq hin.symm) (hc 1 (by decide)) (fun f' ab' fu' b1 b2 b3 b4 b5 pic => br_t rfl (nm_r (pr_shr k (by omega)) (nm_r (pr_shr l (by omega)) ⟨nI_ne0 s2 (by omega), nI_ne0 s2 (by omega), br_t ?_ ?_⟩)))
      · rw [ea, eb, pk_div (by omega) s2 (by omega), pk_div (by omega) s2 (by omega), hin]
      · exact pr_112_I hp hb eb hkl hl hx hy (pr_ct_eq hin.symm) rfl pic
    · refine pr_allow2_O (P := pr_ct a k) hb eb hkl hl hx hy (by omega) hPP (fun e => pr_ct_ne hin e.symm) (hc 1 (by decide)) (fun s f' ab' fu' b1 b2 b3 b4 b5 g1 g2 g3 pic => br_t rfl (nm_r (pr_shr k (by omega)) (nm_r (pr_shr l (by omega)) ⟨nI_ne0 s2 (by omega), nI_ne0 s2 (by omega), br_f ?_ ?_⟩)))
      · have d1 : a / 2 ^ (16 - k) ≤ a := Nat.div_le_self _ _
        have d2 : b / 2 ^ (16 - k) ≤ b := Nat.div_le_self _ _
        rw [ea, eb, pk_div (by omega) s2 (by omega), pk_div (by omega) s2 (by omega), nI_eq (by omega) (by omega)]
        exact hin
      · exact pr_112_O hp hb eb g1 hkl hl hx hy (by omega) hPP (fun e => pr_ct_ne hin e.symm) rfl g3 g2 pic
theorem pr_cell {post : Int32 → Prop} {L : Nat} {xs : Nat → Int32} (j : Nat) (hj : j < 5) (hL : L ≤ 5) (H : ∀ v, post v) : wpL_cellAt post L xs () (nI j) := by
  unfold wpL_cellAt
  exact pk_le L j (fun _ => H _) (fun z => ⟨vp_in_nI z (by omega), H _⟩)
theorem i_vc (xs : Nat → Int32) (L : Nat) (hL : L ≤ 5) : wpL_law (fun r => r = 1) L xs := by
  unfold wpL_law
  exact pr_cell 0 (by decide) hL (fun v1 => pr_cell 1 (by decide) hL (fun v2 => pr_cell 2 (by decide) hL (fun v3 => pr_cell 3 (by decide) hL (fun v4 => pr_cell 4 (by decide) hL (fun v5 => ⟨10, 599, by decide, by decide, pr_lawOf rfl v1 v2 v3 v4 v5⟩)))))
end
