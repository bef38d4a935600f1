section
/-! rows of kit/rows (pk_us .. nx_xor), then tables of bits, the relation, and who is a player or a coalition -/
theorem pk_us {f : Nat → Int32} {k : Nat} {x : Int32} : upd f k x k = x := if_pos rfl
theorem pk_un {f : Nat → Int32} {k j : Nat} {x : Int32} (h : j ≠ k) : upd f k x j = f j := if_neg h
theorem pk_sub {a b : Nat} (h : b ≤ a) : nI a - nI b = nI (a - b) := by
  obtain ⟨c, rfl⟩ : ∃ c, a = c + b := ⟨a - b, by omega⟩
  rw [← nI_add, Int32.add_sub_cancel, Nat.add_sub_cancel]
theorem pk_m1 (n : Nat) : nI (n + 1) + (-1) = nI n := by
  rw [← nI_1, Int32.add_assoc, show (1 : Int32) + (-1) = 0 from rfl, Int32.add_zero]
theorem pk_mul (a b : Nat) : nI a * nI b = nI (a * b) := (Int32.ofNat_mul a b).symm
theorem pk_div {a d : Nat} (ha : a < 2 ^ 31) (h0 : 0 < d) (hd : d < 2 ^ 31) : nI a / nI d = nI (a / d) := by
  apply Int32.toInt_inj.mp
  rw [lg_idiv_nonneg (by rw [nI_toInt ha]; omega) (by rw [nI_toInt hd]; omega), nI_toInt ha, nI_toInt hd, nI_toInt (Nat.lt_of_le_of_lt (Nat.div_le_self a d) ha)]
  first | rfl | exact (Int.natCast_ediv _ _).symm
theorem pk_rem {a d : Nat} (ha : a < 2 ^ 31) (h0 : 0 < d) (hd : d < 2 ^ 31) : nI a - nI a / nI d * nI d = nI (a % d) := by
  rw [pk_div ha h0 hd, pk_mul, pk_sub (Nat.div_mul_le_self a d)]
  exact congrArg nI (by have := Nat.div_add_mod' a d; omega)
theorem nx_and (a b : Nat) : nI a &&& nI b = nI (a &&& b) := by
  apply Int32.toBitVec_inj.1
  show BitVec.ofNat 32 a &&& BitVec.ofNat 32 b = BitVec.ofNat 32 (a &&& b)
  apply BitVec.eq_of_getLsbD_eq
  intro i hi
  simp [hi]
theorem nx_xor (a b : Nat) : nI a ^^^ nI b = nI (a ^^^ b) := by
  apply Int32.toBitVec_inj.1
  show BitVec.ofNat 32 a ^^^ BitVec.ofNat 32 b = BitVec.ofNat 32 (a ^^^ b)
  apply BitVec.eq_of_getLsbD_eq
  intro i hi
  simp [hi]
theorem zz_or (a b : Nat) : nI a ||| nI b = nI (a ||| b) := by
  apply Int32.toBitVec_inj.1
  show BitVec.ofNat 32 a ||| BitVec.ofNat 32 b = BitVec.ofNat 32 (a ||| b)
  apply BitVec.eq_of_getLsbD_eq
  intro i hi
  simp [hi]
/-- tables -/
theorem zt_bit : ∀ s, s < 32 → ∀ p, p < 5 → ((nI s >>> (nI p &&& 31)) &&& 1) = (if s.testBit p = true then 1 else 0) := by decide +kernel
theorem zt_one : ∀ p, p < 5 → (1 : Int32) <<< (nI p &&& 31) = nI (2 ^ p) := by decide +kernel
theorem zt_or : ∀ a, a < 32 → ∀ b, b < 32 → a ||| b < 32 := by decide +kernel
theorem zt_and : ∀ a, a < 32 → ∀ b, b < 32 → a &&& b < 32 := by decide +kernel
theorem zt_xor : ∀ a, a < 32 → ∀ b, b < 32 → a ^^^ b < 32 := by decide +kernel
theorem zt_pow : ∀ p, p < 5 → 2 ^ p < 32 := by decide +kernel
theorem zt_b1 {s p : Nat} (hs : s < 32) (hp : p < 5) (h : s.testBit p = true) : ((nI s >>> (nI p &&& 31)) &&& 1) = 1 := by
  rw [zt_bit s hs p hp, if_pos h]
theorem zt_b1n {s p : Nat} (hs : s < 32) (hp : p < 5) (h : s.testBit p = false) : ¬ ((nI s >>> (nI p &&& 31)) &&& 1) = 1 := by
  rw [zt_bit s hs p hp, if_neg (by rw [h]; decide)]; decide
theorem zt_b0 {s p : Nat} (hs : s < 32) (hp : p < 5) (h : s.testBit p = false) : ((nI s >>> (nI p &&& 31)) &&& 1) = 0 := by
  rw [zt_bit s hs p hp, if_neg (by rw [h]; decide)]
theorem zt_b0n {s p : Nat} (hs : s < 32) (hp : p < 5) (h : s.testBit p = true) : ¬ ((nI s >>> (nI p &&& 31)) &&& 1) = 0 := by
  rw [zt_bit s hs p hp, if_pos h]; decide
theorem zz_5f {p : Nat} (h : p < 5) : ¬ (5 : Int32) ≤ nI p := nI_ge (b := 5) h (by decide)
theorem zz_5t : (5 : Int32) ≤ nI 5 := nI_le (a := 5) (b := 5) (by decide) (by decide)
theorem zz_31f {p : Nat} (h : p < 31) : ¬ (31 : Int32) ≤ nI p := nI_ge (b := 31) h (by decide)
theorem zz_31t : (31 : Int32) ≤ nI 31 := nI_le (a := 31) (b := 31) (by decide) (by decide)
theorem zz_32f {p : Nat} (h : p < 32) : ¬ (32 : Int32) ≤ nI p := nI_ge (b := 32) h (by decide)
theorem zz_32t : (32 : Int32) ≤ nI 32 := nI_le (a := 32) (b := 32) (by decide) (by decide)
theorem zz_120f {p : Nat} (h : p < 120) : ¬ (120 : Int32) ≤ nI p := nI_ge (b := 120) h (by decide)
theorem zz_120t : (120 : Int32) ≤ nI 120 := nI_le (a := 120) (b := 120) (by decide) (by decide)
theorem zz_1024f {p : Nat} (h : p < 1024) : ¬ (1024 : Int32) ≤ nI p := nI_ge (b := 1024) h (by decide)
theorem zz_1024t : (1024 : Int32) ≤ nI 1024 := nI_le (a := 1024) (b := 1024) (by decide) (by decide)
theorem zz_3125f {p : Nat} (h : p < 3125) : ¬ (3125 : Int32) ≤ nI p := nI_ge (b := 3125) h (by decide)
theorem zz_3125t : (3125 : Int32) ≤ nI 3125 := nI_le (a := 3125) (b := 3125) (by decide) (by decide)
theorem zz_in5 {p : Nat} (h : p < 5) : vp_in (nI p) 5 := vp_in_nI h (by decide)
theorem zz_in {p : Nat} (h : p < 32) : vp_in (nI p) 32 := vp_in_nI h (by decide)
theorem zz_cl {p : Nat} (h : p < 4096) : (nI p).toNatClampNeg = p := nI_clamp (by omega)
/-- worths: nothing for nobody, and within a thousand -/
def zz_ok (w : Nat → Int32) : Prop := w 0 = 0 ∧ ∀ j, j < 32 → -1000 ≤ (w j).toInt ∧ (w j).toInt ≤ 1000
/-- the relation at the head of a turn: the same worths, the same amounts -/
def i_Rel (_ : Nat) (u : SX) (v : SY) : Prop := ∃ w am pt mo sp mo2 pa : Nat → Int32, u = (w, am, pt, mo, sp) ∧ v = (w, mo2, pa, am) ∧ zz_ok w
theorem i_up {k : Nat} {u : SX} {v : SY} (h : i_Rel k u v) : i_Rel (k + 3) u v := h
theorem zz_rel {k : Nat} {w am pt mo sp mo2 pa : Nat → Int32} (h : zz_ok w) : i_Rel k (w, am, pt, mo, sp) (w, mo2, pa, am) := ⟨w, am, pt, mo, sp, mo2, pa, rfl, rfl, h⟩
theorem zz_i0 : (0 : Int32).toInt = 0 := by decide
theorem zz_i1 : (1 : Int32).toInt = 1 := by decide
theorem i_vc0 : wpX_init (fun u => wpY_init (fun v => i_Rel 0 u v)) := by
  intro a ea
  have e : a = fun _ => 0 := by
    rw [ea]
    funext j
    show (if j = 0 then (0 : Int32) else 0) = 0
    by_cases h : j = 0
    · exact if_pos h
    · exact if_neg h
  rw [e]
  exact zz_rel (k := 0) ⟨rfl, fun j _ => ⟨by show -1000 ≤ (0 : Int32).toInt; rw [zz_i0]; decide, by show (0 : Int32).toInt ≤ 1000; rw [zz_i0]; decide⟩⟩
/-- players -/
def zz_bad (x : Int32) : Prop := x < 0 ∨ (¬ x < 0 ∧ ¬ x < 5 ∧ (5 : Int32) ≤ x)
theorem zz_pl (x : Int32) : zz_bad x ∨ ∃ j, j < 5 ∧ x = nI j := by
  by_cases h : x < 0
  · exact Or.inl (Or.inl h)
  · obtain ⟨j, hj, rfl⟩ := nI_of h
    by_cases h2 : j < 5
    · exact Or.inr ⟨j, h2, rfl⟩
    · exact Or.inl (Or.inr ⟨h, nI_nlt (b := 5) (by omega) hj, nI_le (a := 5) (by omega) hj⟩)
theorem zx_bp0 {post : Int32 → Prop} {j : Nat} (h : j < 5) (K : post 0) : wpX_badPlayer post (nI j) :=
  br_f (nI_pos (by omega)) (br_t (nI_lt (b := 5) h (by decide)) K)
theorem zx_bp1 {post : Int32 → Prop} {x : Int32} (h : zz_bad x) (K : post 1) : wpX_badPlayer post x := by
  rcases h with h | ⟨h1, h2, _⟩
  · exact br_t h K
  · exact br_f h1 (br_f h2 K)
theorem zy_ip1 {post : Int32 → Prop} {a b c d : Nat → Int32} {j : Nat} (h : j < 5) (K : post 1) : wpY_isPlayer post (a, b, c, d) (nI j) :=
  br_f (nI_pos (by omega)) (br_f (zz_5f h) K)
theorem zy_ip0 {post : Int32 → Prop} {a b c d : Nat → Int32} {x : Int32} (h : zz_bad x) (K : post 0) : wpY_isPlayer post (a, b, c, d) x := by
  rcases h with h | ⟨h1, _, h2⟩
  · exact br_t h K
  · exact br_f h1 (br_t h2 K)
/-- coalitions -/
def zz_bads (x : Int32) : Prop := x < 1 ∨ (¬ x < 1 ∧ ¬ x < 32 ∧ ¬ x ≤ 31)
theorem zz_st (x : Int32) : zz_bads x ∨ ∃ j, 1 ≤ j ∧ j < 32 ∧ x = nI j := by
  by_cases h : x < 0
  · refine Or.inl (Or.inl ?_)
    rw [Int32.lt_iff_toInt_lt, zz_i0] at h
    rw [Int32.lt_iff_toInt_lt, zz_i1]
    omega
  · obtain ⟨j, hj, rfl⟩ := nI_of h
    by_cases h1 : j < 1
    · exact Or.inl (Or.inl (nI_lt (b := 1) h1 (by decide)))
    · by_cases h2 : j < 32
      · exact Or.inr ⟨j, by omega, h2, rfl⟩
      · exact Or.inl (Or.inr ⟨nI_nlt (b := 1) (by omega) hj, nI_nlt (b := 32) (by omega) hj, nI_ge (a := 31) (by omega) hj⟩)
theorem zx_bs0 {post : Int32 → Prop} {j : Nat} (h1 : 1 ≤ j) (h : j < 32) (K : post 0) : wpX_badSet post (nI j) :=
  br_f (nI_nlt (b := 1) h1 (by omega)) (br_t (nI_lt (b := 32) h (by decide)) K)
theorem zx_bs1 {post : Int32 → Prop} {x : Int32} (h : zz_bads x) (K : post 1) : wpX_badSet post x := by
  rcases h with h | ⟨h1, h2, _⟩
  · exact br_t h K
  · exact br_f h1 (br_f h2 K)
theorem zy_bs {A B : Prop} {x : Int32} (h : zz_bads x) (K : A) : (x < 1 → A) ∧ (¬ x < 1 → ((x ≤ 31 → B) ∧ (¬ x ≤ 31 → A))) := by
  rcases h with h | ⟨h1, _, h2⟩
  · exact br_t h K
  · exact br_f h1 (br_f h2 K)
theorem zy_gs {A B : Prop} {j : Nat} (h1 : 1 ≤ j) (h : j < 32) (K : B) : (nI j < 1 → A) ∧ (¬ nI j < 1 → ((nI j ≤ 31 → B) ∧ (¬ nI j ≤ 31 → A))) :=
  br_f (nI_nlt (b := 1) h1 (by omega)) (br_t (nI_le (b := 31) (by omega) (by decide)) K)
theorem zz_10 : ¬ (1 : Int32) = 0 := by decide
end
section
/-! worth, pay, shares, complaint, inCore -/
theorem zz_okU {w : Nat → Int32} {j : Nat} {x : Int32} (h : zz_ok w) (hj : 1 ≤ j) (h1 : ¬ x < -1000) (h2 : x ≤ 1000) : zz_ok (upd w j x) := by
  rw [Int32.lt_iff_toInt_lt, show (-1000 : Int32).toInt = -1000 from by decide] at h1
  rw [Int32.le_iff_toInt_le, show (1000 : Int32).toInt = 1000 from by decide] at h2
  refine ⟨(pk_un (by omega)).trans h.1, fun i hi => ?_⟩
  by_cases e : i = j
  · subst e
    rw [pk_us]
    omega
  · rw [pk_un e]
    exact h.2 i hi
section
variable {w am pt mo sp mo2 pa : Nat → Int32}
theorem zx_worth0 {post : Int32 → SX → Prop} {x y : Int32} (h : zz_bads x) (K : post (-1) (w, am, pt, mo, sp)) : wpX_worth post (w, am, pt, mo, sp) x y := by
  unfold wpX_worth
  exact zx_bs1 h (br_f zz_10 K)
theorem zx_worth1 {post : Int32 → SX → Prop} {j : Nat} {y : Int32} (h1 : 1 ≤ j) (h : j < 32) (K0 : (y < -1000 ∨ ¬ y ≤ 1000) → post (-2) (w, am, pt, mo, sp)) (K1 : ¬ y < -1000 → y ≤ 1000 → post (w j) (upd w j y, am, pt, mo, sp)) : wpX_worth post (w, am, pt, mo, sp) (nI j) y := by
  unfold wpX_worth
  exact zx_bs0 h1 h (br_t rfl (br_c (fun a => K0 (Or.inl a)) fun a => br_c (fun b => ⟨zz_in h, nm_r (congrArg w (zz_cl (by omega))) ⟨zz_in h, nm_r (congrArg (fun i => upd w i y) (zz_cl (by omega))) (K1 a b)⟩⟩) fun b => K0 (Or.inr b)))
theorem zy_worth0 {post : Int32 → SY → Prop} {x y : Int32} (h : zz_bads x) (K : post (-1) (w, mo2, pa, am)) : wpY_worth post (w, mo2, pa, am) x y :=
  zy_bs h K
theorem zy_worth1 {post : Int32 → SY → Prop} {j : Nat} {y : Int32} (h1 : 1 ≤ j) (h : j < 32) (K0 : (y < -1000 ∨ ¬ y ≤ 1000) → post (-2) (w, mo2, pa, am)) (K1 : ¬ y < -1000 → y ≤ 1000 → post (w j) (upd w j y, mo2, pa, am)) : wpY_worth post (w, mo2, pa, am) (nI j) y :=
  zy_gs h1 h (br_c (fun a => K0 (Or.inl a)) fun a => br_c (fun b => ⟨zz_in h, nm_r (congrArg w (zz_cl (by omega))) ⟨zz_in h, nm_r (congrArg (fun i => upd w i y) (zz_cl (by omega))) (K1 a b)⟩⟩) fun b => K0 (Or.inr b))
theorem zx_pay0 {post : Int32 → SX → Prop} {x y : Int32} (h : zz_bad x) (K : post (-3) (w, am, pt, mo, sp)) : wpX_pay post (w, am, pt, mo, sp) x y := by
  unfold wpX_pay
  exact zx_bp1 h (br_f zz_10 K)
theorem zx_pay1 {post : Int32 → SX → Prop} {j : Nat} {y : Int32} (h : j < 5) (K0 : (y < -10000 ∨ ¬ y ≤ 10000) → post (-2) (w, am, pt, mo, sp)) (K1 : ¬ y < -10000 → y ≤ 10000 → post 0 (w, upd am j y, pt, mo, sp)) : wpX_pay post (w, am, pt, mo, sp) (nI j) y := by
  unfold wpX_pay
  exact zx_bp0 h (br_t rfl (br_c (fun a => K0 (Or.inl a)) fun a => br_c (fun b => ⟨zz_in5 h, nm_r (congrArg (fun i => upd am i y) (zz_cl (by omega))) (K1 a b)⟩) fun b => K0 (Or.inr b)))
theorem zy_pay0 {post : Int32 → SY → Prop} {x y : Int32} (h : zz_bad x) (K : post (-3) (w, mo2, pa, am)) : wpY_pay post (w, mo2, pa, am) x y := by
  unfold wpY_pay
  exact zy_ip0 h (br_t rfl K)
theorem zy_pay1 {post : Int32 → SY → Prop} {j : Nat} {y : Int32} (h : j < 5) (K0 : (y < -10000 ∨ ¬ y ≤ 10000) → post (-2) (w, mo2, pa, am)) (K1 : ¬ y < -10000 → y ≤ 10000 → post 0 (w, mo2, pa, upd am j y)) : wpY_pay post (w, mo2, pa, am) (nI j) y := by
  unfold wpY_pay
  exact zy_ip1 h (br_f zz_10 (br_c (fun a => K0 (Or.inl a)) fun a => br_c (fun b => ⟨zz_in5 h, nm_r (congrArg (fun i => upd am i y) (zz_cl (by omega))) (K1 a b)⟩) fun b => K0 (Or.inr b)))
end
theorem i_vc_worth {k : Nat} {u : SX} {v : SY} (I : i_Rel k u v) (hk : k + 3 ≤ 1536) (v1 : Int32) (v2 : Int32) : wpX_worth (fun r u' => wpY_worth (fun r' v' => r' = r ∧ i_Rel (k + 3) u' v') v v1 v2) u v1 v2 := by
  obtain ⟨w, am, pt, mo, sp, mo2, pa, rfl, rfl, h⟩ := I
  rcases zz_st v1 with hb | ⟨j, h1, hj, rfl⟩
  · exact zx_worth0 hb (zy_worth0 hb ⟨rfl, zz_rel h⟩)
  · exact zx_worth1 h1 hj (fun c => zy_worth1 h1 hj (fun _ => ⟨rfl, zz_rel h⟩) fun a b => (c.elim a fun d => d b).elim) fun a b => zy_worth1 h1 hj (fun c => (c.elim a fun d => d b).elim) fun _ _ => ⟨rfl, zz_rel (zz_okU h h1 a b)⟩
theorem i_vc_pay {k : Nat} {u : SX} {v : SY} (I : i_Rel k u v) (hk : k + 3 ≤ 1536) (v1 : Int32) (v2 : Int32) : wpX_pay (fun r u' => wpY_pay (fun r' v' => r' = r ∧ i_Rel (k + 3) u' v') v v1 v2) u v1 v2 := by
  obtain ⟨w, am, pt, mo, sp, mo2, pa, rfl, rfl, h⟩ := I
  rcases zz_pl v1 with hb | ⟨j, hj, rfl⟩
  · exact zx_pay0 hb (zy_pay0 hb ⟨rfl, zz_rel h⟩)
  · exact zx_pay1 hj (fun c => zy_pay1 hj (fun _ => ⟨rfl, zz_rel h⟩) fun a b => (c.elim a fun d => d b).elim) fun a b => zy_pay1 hj (fun c => (c.elim a fun d => d b).elim) fun _ _ => ⟨rfl, zz_rel h⟩
/-- what g gives to the players of s, from player p on, d of them left -/
def zp_sum (s : Nat) (g : Nat → Int32) : Nat → Nat → Int32 → Int32
  | 0, _, acc => acc
  | d + 1, p, acc => zp_sum s g d (p + 1) (if s.testBit p = true then acc + g p else acc)
theorem zp_st {s : Nat} {g : Nat → Int32} {d p : Nat} {acc : Int32} (h : s.testBit p = true) : zp_sum s g (d + 1) p acc = zp_sum s g d (p + 1) (acc + g p) := by
  rw [zp_sum, if_pos h]
theorem zp_sf {s : Nat} {g : Nat → Int32} {d p : Nat} {acc : Int32} (h : s.testBit p = false) : zp_sum s g (d + 1) p acc = zp_sum s g d (p + 1) acc := by
  rw [zp_sum, if_neg (by rw [h]; decide)]
/-- the greatest of b and v from s on -/
def zp_mx (v : Nat → Int32) : Nat → Nat → Int32 → Int32
  | 0, _, b => b
  | d + 1, s, b => zp_mx v d (s + 1) (if v s ≤ b then b else v s)
theorem zp_mt {v : Nat → Int32} {d s : Nat} {b : Int32} (h : v s ≤ b) : zp_mx v (d + 1) s b = zp_mx v d (s + 1) b := by
  rw [zp_mx, if_pos h]
theorem zp_mf {v : Nat → Int32} {d s : Nat} {b : Int32} (h : ¬ v s ≤ b) : zp_mx v (d + 1) s b = zp_mx v d (s + 1) (v s) := by
  rw [zp_mx, if_neg h]
/-- a coalition's complaint -/
def zp_cv (w am : Nat → Int32) (s : Nat) : Int32 := w s - zp_sum s am 5 0 0
section
variable {w am pt mo sp mo2 pa : Nat → Int32}
theorem zx_share4 {post : Int32 → Prop} {s : Nat} (hs : s < 32) : ∀ d p acc n, p + d = 5 → d < n → post (zp_sum s am d p acc) → wX_shareOf_4 post (nI s) w am pt mo sp n acc (nI p) := by
  intro d
  induction d with
  | zero =>
    intro p acc n hp hn K
    obtain ⟨m, rfl⟩ : ∃ m, n = m + 1 := ⟨n - 1, by omega⟩
    obtain rfl : p = 5 := by omega
    exact br_t zz_5t K
  | succ d ih =>
    intro p acc n hp hn K
    obtain ⟨m, rfl⟩ : ∃ m, n = m + 1 := ⟨n - 1, by omega⟩
    have hp5 : p < 5 := by omega
    refine br_f (zz_5f hp5) ?_
    cases hb : s.testBit p with
    | true =>
      rw [zp_st hb] at K
      exact br_t (zt_b1 hs hp5 hb) ⟨zz_in5 hp5, nm_r (congrArg (fun i => acc + am i) (zz_cl (by omega))) (nm_r (nI_1 p) (ih (p + 1) _ m (by omega) (by omega) K))⟩
    | false =>
      rw [zp_sf hb] at K
      exact br_f (zt_b1n hs hp5 hb) (nm_r (nI_1 p) (ih (p + 1) _ m (by omega) (by omega) K))
theorem zy_share4 {post : Int32 → Prop} {s : Nat} (hs : s < 32) : ∀ d p acc n, p + d = 5 → d < n → post (zp_sum s am d p acc) → wY_share_4 post (nI s) w mo2 pa am n acc (nI p) := by
  intro d
  induction d with
  | zero =>
    intro p acc n hp hn K
    obtain ⟨m, rfl⟩ : ∃ m, n = m + 1 := ⟨n - 1, by omega⟩
    obtain rfl : p = 5 := by omega
    exact br_t zz_5t K
  | succ d ih =>
    intro p acc n hp hn K
    obtain ⟨m, rfl⟩ : ∃ m, n = m + 1 := ⟨n - 1, by omega⟩
    have hp5 : p < 5 := by omega
    refine br_f (zz_5f hp5) ?_
    cases hb : s.testBit p with
    | true =>
      rw [zp_st hb] at K
      exact br_f (zt_b0n hs hp5 hb) ⟨zz_in5 hp5, nm_r (congrArg (fun i => acc + am i) (zz_cl (by omega))) (nm_r (nI_1 p) (ih (p + 1) _ m (by omega) (by omega) K))⟩
    | false =>
      rw [zp_sf hb] at K
      exact br_t (zt_b0 hs hp5 hb) (nm_r (nI_1 p) (ih (p + 1) _ m (by omega) (by omega) K))
theorem zx_share {post : Int32 → Prop} {s : Nat} (hs : s < 32) (K : post (zp_sum s am 5 0 0)) : wpX_shareOf post (w, am, pt, mo, sp) (nI s) :=
  Exists.intro 6 (zx_share4 hs 5 0 0 6 (by decide) (by decide) K)
theorem zy_share {post : Int32 → Prop} {s : Nat} (hs : s < 32) (K : post (zp_sum s am 5 0 0)) : wpY_share post (w, mo2, pa, am) (nI s) :=
  Exists.intro 6 (zy_share4 hs 5 0 0 6 (by decide) (by decide) K)
theorem zx_cj {post : Int32 → Prop} {J : Int32 → Int32 → Prop} {s : Nat} (hs : s < 32) (K : J (zp_cv w am s) (nI (s + 1))) : wX_complaint_33 post J (nI s) (zp_sum s am 5 0 0) w am pt mo sp :=
  And.intro (zz_in hs) (nm_r (congrArg (fun i => w i - zp_sum s am 5 0 0) (zz_cl (by omega))) (nm_r (nI_1 s) K))
theorem zx_compl4 {post : Int32 → Prop} : ∀ d s b n, s + d = 31 → 2 ≤ s → d < n → post (zp_mx (zp_cv w am) d s b) → wX_complaint_4 post w am pt mo sp n b (nI s) := by
  intro d
  induction d with
  | zero =>
    intro s b n hs h2 hn K
    obtain ⟨m, rfl⟩ : ∃ m, n = m + 1 := ⟨n - 1, by omega⟩
    obtain rfl : s = 31 := by omega
    exact br_t zz_31t K
  | succ d ih =>
    intro s b n hs h2 hn K
    obtain ⟨m, rfl⟩ : ∃ m, n = m + 1 := ⟨n - 1, by omega⟩
    have e : (nI s).toNatClampNeg = s := zz_cl (by omega)
    refine br_f (zz_31f (by omega)) (zx_share (by omega) (br_f (fun z => ?_) ⟨zz_in (by omega), ?_⟩))
    · exact absurd ((nI_eq (b := 1) (by omega) (by decide)).mp z) (by omega)
    · rw [e]
      by_cases h : zp_cv w am s ≤ b
      · rw [zp_mt h] at K
        exact br_t h (nm_r (nI_1 s) (ih (s + 1) _ m (by omega) (by omega) (by omega) K))
      · rw [zp_mf h] at K
        exact br_f h (zx_cj (by omega) (ih (s + 1) _ m (by omega) (by omega) (by omega) K))
theorem zx_compl {post : Int32 → Prop} (K : post (zp_mx (zp_cv w am) 29 2 (zp_cv w am 1))) : wpX_complaint post (w, am, pt, mo, sp) :=
  Exists.intro 31 (br_f (zz_31f (p := 1) (by decide)) (zx_share (s := 1) (by decide) (br_t rfl (zx_cj (s := 1) (by decide) (zx_compl4 29 2 _ 30 (by decide) (by decide) (by decide) K)))))
theorem zy_compl15 {post : Int32 → Prop} : ∀ d s b n, s + d = 31 → d < n → post (zp_mx (zp_cv w am) d s b) → wY_complaint_15 post w mo2 pa am n b (nI s) := by
  intro d
  induction d with
  | zero =>
    intro s b n hs hn K
    obtain ⟨m, rfl⟩ : ∃ m, n = m + 1 := ⟨n - 1, by omega⟩
    obtain rfl : s = 31 := by omega
    exact br_t zz_31t K
  | succ d ih =>
    intro s b n hs hn K
    obtain ⟨m, rfl⟩ : ∃ m, n = m + 1 := ⟨n - 1, by omega⟩
    refine br_f (zz_31f (by omega)) ⟨zz_in (by omega), zy_share (by omega) (nm_r (e' := zp_cv w am s) (congrArg (fun i => w i - zp_sum s am 5 0 0) (zz_cl (by omega))) ?_)⟩
    by_cases h : zp_cv w am s ≤ b
    · rw [zp_mt h] at K
      exact br_t h (nm_r (nI_1 s) (ih (s + 1) _ m (by omega) (by omega) K))
    · rw [zp_mf h] at K
      exact br_f h (nm_r (nI_1 s) (ih (s + 1) _ m (by omega) (by omega) K))
theorem zy_compl {post : Int32 → Prop} (K : post (zp_mx (zp_cv w am) 29 2 (zp_cv w am 1))) : wpY_complaint post (w, mo2, pa, am) := by
  unfold wpY_complaint
  exact zy_share (s := 1) (by decide) (nm_e ⟨30, zy_compl15 29 2 _ 30 (by decide) (by decide) K⟩)
end
theorem i_vc_complaint {k : Nat} {u : SX} {v : SY} (I : i_Rel k u v) (hk : k + 3 ≤ 1536) : wpX_complaint (fun r => wpY_complaint (fun r' => r' = r ∧ i_Rel (k + 3) u v) v) u := by
  obtain ⟨w, am, pt, mo, sp, mo2, pa, rfl, rfl, h⟩ := I
  exact zx_compl (zy_compl ⟨rfl, zz_rel h⟩)
theorem i_vc_inCore {k : Nat} {u : SX} {v : SY} (I : i_Rel k u v) (hk : k + 3 ≤ 1536) : wpX_inCore (fun r => wpY_inCore (fun r' => r' = r ∧ i_Rel (k + 3) u v) v) u := by
  obtain ⟨w, am, pt, mo, sp, mo2, pa, rfl, rfl, h⟩ := I
  unfold wpX_inCore wpY_inCore
  refine zx_share (s := 31) (by decide) (zx_compl ?_)
  by_cases e : zp_sum 31 am 5 0 0 = w 31
  · refine br_t e (br_c (fun a => ?_) fun a => ?_)
    · exact zy_share (s := 31) (by decide) (br_t e.symm (zy_compl (br_t a ⟨rfl, zz_rel h⟩)))
    · exact zy_share (s := 31) (by decide) (br_t e.symm (zy_compl (br_f a ⟨rfl, zz_rel h⟩)))
  · exact br_f e (zy_share (s := 31) (by decide) (br_f (fun z => e z.symm) ⟨rfl, zz_rel h⟩))
end
section
/-! weigh -/
theorem zz_nt {b : Bool} (h : b = false) : ¬ b = true := by rw [h]; decide
theorem zz_upd0 {w : Nat → Int32} (h : w 0 = 0) : upd w 0 0 = w := by
  funext j
  by_cases e : j = 0
  · subst e
    exact pk_us.trans h.symm
  · exact pk_un e
/-- a player's weight -/
def zp_g (x1 : Int32) (p : Nat) : Int32 := (x1 >>> ((4 * nI p) &&& 31)) &&& 15
/-- a coalition's worth by weights and quota -/
def zp_wv (x1 x2 : Int32) (s : Nat) : Int32 := if zp_sum s (zp_g x1) 5 0 0 < x2 then 0 else 1
def zp_wn (x1 x2 : Int32) : Nat → Nat → Int32 → Int32
  | 0, _, acc => acc
  | d + 1, s, acc => zp_wn x1 x2 d (s + 1) (acc + zp_wv x1 x2 s)
def zp_ww (x1 x2 : Int32) : Nat → Nat → (Nat → Int32) → (Nat → Int32)
  | 0, _, w => w
  | d + 1, s, w => zp_ww x1 x2 d (s + 1) (upd w s (zp_wv x1 x2 s))
theorem zp_s0 {g : Nat → Int32} : ∀ d p acc, zp_sum 0 g d p acc = acc := by
  intro d
  induction d with
  | zero => intro p acc; rfl
  | succ d ih => intro p acc; rw [zp_sf (Nat.zero_testBit p), ih]
theorem zz_okW {x1 x2 : Int32} : ∀ d s w, 1 ≤ s → zz_ok w → zz_ok (zp_ww x1 x2 d s w) := by
  intro d
  induction d with
  | zero => intro s w _ h; exact h
  | succ d ih =>
    intro s w hs h
    refine ih (s + 1) _ (by omega) (zz_okU h hs ?_ ?_)
    · unfold zp_wv; split <;> decide
    · unfold zp_wv; split <;> decide
section
variable {am pt mo sp mo2 pa : Nat → Int32}
theorem zx_w86 {post : Int32 → SX → Prop} {J : Int32 → Int32 → (Nat → Int32) → (Nat → Int32) → (Nat → Int32) → (Nat → Int32) → (Nat → Int32) → Prop} {x1 x2 x3 z : Int32} {s : Nat} {w : Nat → Int32} (hs : s < 32) (K : J (x3 + z) (nI (s + 1)) (upd w s z) am pt mo sp) : wX_weigh_86 post J x1 x2 x3 (nI s) z (nI s) w am pt mo sp :=
  And.intro (zz_in hs) (nm_r (e' := upd w s z) (by rw [zz_cl (by omega)]) (And.intro (zz_in hs) (nm_r (e' := x3 + z) (by rw [zz_cl (by omega), pk_us]) (nm_r (nI_1 s) K))))
theorem zy_w85 {post : Int32 → SY → Prop} {J : Int32 → Int32 → (Nat → Int32) → (Nat → Int32) → (Nat → Int32) → (Nat → Int32) → Prop} {x1 x2 x3 z : Int32} {s : Nat} {w : Nat → Int32} (hs : s < 32) (K : J (x3 + z) (nI (s + 1)) (upd w s z) mo2 pa am) : wY_weigh_85 post J x1 x2 x3 (nI s) z (nI s) w mo2 pa am :=
  And.intro (zz_in hs) (nm_r (e' := upd w s z) (by rw [zz_cl (by omega)]) (And.intro (zz_in hs) (nm_r (e' := x3 + z) (by rw [zz_cl (by omega), pk_us]) (nm_r (nI_1 s) K))))
theorem zx_w32 {post : Int32 → SX → Prop} {J : Int32 → Int32 → (Nat → Int32) → (Nat → Int32) → (Nat → Int32) → (Nat → Int32) → (Nat → Int32) → Prop} {x1 x2 x3 : Int32} {s : Nat} {w : Nat → Int32} (hs : s < 32) : ∀ d p acc n, p + d = 5 → d < n → (zp_sum s (zp_g x1) d p acc < x2 → wX_weigh_86 post J x1 x2 x3 (nI s) 0 (nI s) w am pt mo sp) → (¬ zp_sum s (zp_g x1) d p acc < x2 → wX_weigh_86 post J x1 x2 x3 (nI s) 1 (nI s) w am pt mo sp) → wX_weigh_32 post J x1 x2 x3 (nI s) w am pt mo sp n acc (nI p) := by
  intro d
  induction d with
  | zero =>
    intro p acc n hp hn K0 K1
    obtain ⟨m, rfl⟩ : ∃ m, n = m + 1 := ⟨n - 1, by omega⟩
    obtain rfl : p = 5 := by omega
    exact br_t zz_5t ⟨K0, K1⟩
  | succ d ih =>
    intro p acc n hp hn K0 K1
    obtain ⟨m, rfl⟩ : ∃ m, n = m + 1 := ⟨n - 1, by omega⟩
    have hp5 : p < 5 := by omega
    refine br_f (zz_5f hp5) ?_
    cases hb : s.testBit p with
    | true =>
      rw [zp_st hb] at K0 K1
      exact br_t (zt_b1 hs hp5 hb) (nm_r (e' := acc + zp_g x1 p) rfl (nm_r (nI_1 p) (ih (p + 1) _ m (by omega) (by omega) K0 K1)))
    | false =>
      rw [zp_sf hb] at K0 K1
      exact br_f (zt_b1n hs hp5 hb) (nm_r (nI_1 p) (ih (p + 1) _ m (by omega) (by omega) K0 K1))
theorem zy_w32 {post : Int32 → SY → Prop} {J : Int32 → Int32 → (Nat → Int32) → (Nat → Int32) → (Nat → Int32) → (Nat → Int32) → Prop} {x1 x2 x3 : Int32} {s : Nat} {w : Nat → Int32} (hs : s < 32) : ∀ d p acc n, p + d = 5 → d < n → (zp_sum s (zp_g x1) d p acc < x2 → wY_weigh_85 post J x1 x2 x3 (nI s) 0 (nI s) w mo2 pa am) → (¬ zp_sum s (zp_g x1) d p acc < x2 → wY_weigh_85 post J x1 x2 x3 (nI s) 1 (nI s) w mo2 pa am) → wY_weigh_32 post J x1 x2 x3 (nI s) w mo2 pa am n acc (nI p) := by
  intro d
  induction d with
  | zero =>
    intro p acc n hp hn K0 K1
    obtain ⟨m, rfl⟩ : ∃ m, n = m + 1 := ⟨n - 1, by omega⟩
    obtain rfl : p = 5 := by omega
    exact br_t zz_5t ⟨K0, K1⟩
  | succ d ih =>
    intro p acc n hp hn K0 K1
    obtain ⟨m, rfl⟩ : ∃ m, n = m + 1 := ⟨n - 1, by omega⟩
    have hp5 : p < 5 := by omega
    refine br_f (zz_5f hp5) ?_
    cases hb : s.testBit p with
    | true =>
      rw [zp_st hb] at K0 K1
      exact br_f (zt_b0n hs hp5 hb) (nm_r (e' := acc + zp_g x1 p) rfl (nm_r (nI_1 p) (ih (p + 1) _ m (by omega) (by omega) K0 K1)))
    | false =>
      rw [zp_sf hb] at K0 K1
      exact br_t (zt_b0 hs hp5 hb) (nm_r (nI_1 p) (ih (p + 1) _ m (by omega) (by omega) K0 K1))
theorem zx_w19 {post : Int32 → SX → Prop} {x1 x2 : Int32} : ∀ d s acc n w, s + d = 32 → d < n → post (zp_wn x1 x2 d s acc) (zp_ww x1 x2 d s w, am, pt, mo, sp) → wX_weigh_19 post x1 x2 n acc (nI s) w am pt mo sp := by
  intro d
  induction d with
  | zero =>
    intro s acc n w hs hn K
    obtain ⟨m, rfl⟩ : ∃ m, n = m + 1 := ⟨n - 1, by omega⟩
    obtain rfl : s = 32 := by omega
    exact br_t zz_32t K
  | succ d ih =>
    intro s acc n w hs hn K
    obtain ⟨m, rfl⟩ : ∃ m, n = m + 1 := ⟨n - 1, by omega⟩
    have h := ih (s + 1) (acc + zp_wv x1 x2 s) m (upd w s (zp_wv x1 x2 s)) (by omega) (by omega) K
    refine br_f (zz_32f (by omega)) ⟨6, zx_w32 (by omega) 5 0 0 6 (by decide) (by decide) (fun a => ?_) fun a => ?_⟩
    · have e : zp_wv x1 x2 s = 0 := if_pos a
      rw [e] at h
      exact zx_w86 (by omega) h
    · have e : zp_wv x1 x2 s = 1 := if_neg a
      rw [e] at h
      exact zx_w86 (by omega) h
theorem zy_w19 {post : Int32 → SY → Prop} {x1 x2 : Int32} : ∀ d s acc n w, s + d = 32 → d < n → post (zp_wn x1 x2 d s acc) (zp_ww x1 x2 d s w, mo2, pa, am) → wY_weigh_19 post x1 x2 n acc (nI s) w mo2 pa am := by
  intro d
  induction d with
  | zero =>
    intro s acc n w hs hn K
    obtain ⟨m, rfl⟩ : ∃ m, n = m + 1 := ⟨n - 1, by omega⟩
    obtain rfl : s = 32 := by omega
    exact br_t zz_32t K
  | succ d ih =>
    intro s acc n w hs hn K
    obtain ⟨m, rfl⟩ : ∃ m, n = m + 1 := ⟨n - 1, by omega⟩
    have h := ih (s + 1) (acc + zp_wv x1 x2 s) m (upd w s (zp_wv x1 x2 s)) (by omega) (by omega) K
    refine br_f (zz_32f (by omega)) ⟨6, zy_w32 (by omega) 5 0 0 6 (by decide) (by decide) (fun a => ?_) fun a => ?_⟩
    · have e : zp_wv x1 x2 s = 0 := if_pos a
      rw [e] at h
      exact zy_w85 (by omega) h
    · have e : zp_wv x1 x2 s = 1 := if_neg a
      rw [e] at h
      exact zy_w85 (by omega) h
end
theorem i_vc_weigh {k : Nat} {u : SX} {v : SY} (I : i_Rel k u v) (hk : k + 3 ≤ 1536) (v1 : Int32) (v2 : Int32) : wpX_weigh (fun r u' => wpY_weigh (fun r' v' => r' = r ∧ i_Rel (k + 3) u' v') v v1 v2) u v1 v2 := by
  obtain ⟨w, am, pt, mo, sp, mo2, pa, rfl, rfl, h⟩ := I
  refine br_c (fun a => br_t a ⟨rfl, zz_rel h⟩) fun a => br_c (fun b => ?_) fun b => br_f a (br_f b ⟨rfl, zz_rel h⟩)
  have h0 : (0 : Int32) < v2 := by
    rw [Int32.lt_iff_toInt_lt, zz_i1] at a
    rw [Int32.lt_iff_toInt_lt, zz_i0]
    omega
  have e : zp_wv v1 v2 0 = 0 := by
    unfold zp_wv
    rw [zp_s0]
    exact if_pos h0
  refine ⟨32, zx_w19 31 1 0 32 w (by decide) (by decide) (br_f a (br_t b ⟨33, zy_w19 32 0 0 33 w (by decide) (by decide) ?_⟩))⟩
  show zp_wn v1 v2 31 1 (0 + zp_wv v1 v2 0) = zp_wn v1 v2 31 1 0 ∧ i_Rel (k + 3) (zp_ww v1 v2 31 1 w, am, pt, mo, sp) (zp_ww v1 v2 31 1 (upd w 0 (zp_wv v1 v2 0)), mo2, pa, am)
  rw [e, zz_upd0 h.1]
  exact ⟨rfl, zz_rel (zz_okW 31 1 w (by decide) h)⟩
end
section
/-! exchange -/
def zp_ex (a b s : Nat) : Nat := if s.testBit a = s.testBit b then s else s ^^^ 2 ^ a ^^^ 2 ^ b
def zp_ex0 (a b s : Nat) : Int32 := (nI s &&& (((1 : Int32) <<< (nI a &&& 31)) ^^^ (-1))) &&& (((1 : Int32) <<< (nI b &&& 31)) ^^^ (-1))
def zp_ex1 (a b s : Nat) : Int32 := if s.testBit a = true then zp_ex0 a b s ||| ((1 : Int32) <<< (nI b &&& 31)) else zp_ex0 a b s
def zp_ex2 (a b s : Nat) : Int32 := if s.testBit b = true then zp_ex1 a b s ||| ((1 : Int32) <<< (nI a &&& 31)) else zp_ex1 a b s
theorem zt_exl : ∀ a, a < 5 → ∀ b, b < 5 → ∀ s, s < 32 → zp_ex a b s < 32 := by decide +kernel
theorem zt_exi : ∀ a, a < 5 → ∀ b, b < 5 → ∀ s, s < 32 → zp_ex a b (zp_ex a b s) = s := by decide +kernel
theorem zt_ex0 : ∀ a, a < 5 → ∀ b, b < 5 → zp_ex a b 0 = 0 := by decide +kernel
theorem zt_ex2 : ∀ a, a < 5 → ∀ b, b < 5 → ∀ s, s < 32 → zp_ex2 a b s = nI (zp_ex a b s) := by decide +kernel
theorem zp_exj {a b : Nat} (ha : a < 5) (hb : b < 5) {s t : Nat} (hs : s < 32) (ht : t < 32) (h : zp_ex a b s = zp_ex a b t) : s = t := by
  have := congrArg (zp_ex a b) h
  rw [zt_exi a ha b hb s hs, zt_exi a ha b hb t ht] at this
  exact this
/-- the worths after an exchange -/
def zp_exw (a b : Nat) (w : Nat → Int32) : Nat → Int32 := fun j => if j < 32 then w (zp_ex a b j) else w j
theorem zz_okE {a b : Nat} {w : Nat → Int32} (ha : a < 5) (hb : b < 5) (h : zz_ok w) : zz_ok (zp_exw a b w) := by
  refine ⟨?_, fun j hj => ?_⟩
  · show (if 0 < 32 then w (zp_ex a b 0) else w 0) = 0
    rw [zt_ex0 a ha b hb, if_pos (by decide)]
    exact h.1
  · unfold zp_exw
    rw [if_pos hj]
    exact h.2 _ (zt_exl a ha b hb j hj)
theorem zz_exw {a b : Nat} (ha : a < 5) (hb : b < 5) {w w' : Nat → Int32} (h1 : ∀ j, j < 32 → w' (zp_ex a b j) = w j) (h2 : ∀ j, 32 ≤ j → w' j = w j) : w' = zp_exw a b w := by
  funext j
  unfold zp_exw
  by_cases h : j < 32
  · rw [if_pos h, ← h1 _ (zt_exl a ha b hb j h), zt_exi a ha b hb j h]
  · rw [if_neg h]
    exact h2 j (by omega)
theorem zx_exd {post : Int32 → Prop} {a b s : Nat} (ha : a < 5) (hb : b < 5) (hs : s < 32) (K : post (nI (zp_ex a b s))) : wpX_exchanged post (nI s) (nI a) (nI b) := by
  refine nm_r (zt_bit s hs a ha) (nm_r (zt_bit s hs b hb) ?_)
  by_cases h : s.testBit a = s.testBit b
  · rw [zp_ex, if_pos h] at K
    exact br_t (by rw [h]) K
  · rw [zp_ex, if_neg h] at K
    refine br_f ?_ ?_
    · intro z
      apply h
      revert z
      cases s.testBit a <;> cases s.testBit b <;> decide
    · rw [zt_one a ha, zt_one b hb, nx_xor, nx_xor]
      exact K
section
variable {am pt sp pa : Nat → Int32}
theorem zx_e50 {post : Int32 → SX → Prop} {w0 mo : Nat → Int32} (K : ∀ w' : Nat → Int32, (∀ j, j < 32 → w' j = mo j) → (∀ j, 32 ≤ j → w' j = w0 j) → post 0 (w', am, pt, mo, sp)) : ∀ d s n w, s + d = 32 → d < n → (∀ j, j < s → w j = mo j) → (∀ j, 32 ≤ j → w j = w0 j) → wX_exchange_50 post n (nI s) w am pt mo sp := by
  intro d
  induction d with
  | zero =>
    intro s n w hs hn h1 h2
    obtain ⟨m, rfl⟩ : ∃ m, n = m + 1 := ⟨n - 1, by omega⟩
    obtain rfl : s = 32 := by omega
    exact br_t zz_32t (K w h1 h2)
  | succ d ih =>
    intro s n w hs hn h1 h2
    obtain ⟨m, rfl⟩ : ∃ m, n = m + 1 := ⟨n - 1, by omega⟩
    refine br_f (zz_32f (by omega)) ⟨zz_in (by omega), zz_in (by omega), nm_r (e' := upd w s (mo s)) (by rw [zz_cl (by omega)]) (nm_r (nI_1 s) (ih (s + 1) m _ (by omega) (by omega) (fun j hj => ?_) fun j hj => ?_))⟩
    · by_cases e : j = s
      · subst e
        exact pk_us
      · exact (pk_un e).trans (h1 j (by omega))
    · exact (pk_un (by omega)).trans (h2 j hj)
theorem zx_e19 {post : Int32 → SX → Prop} {a b : Nat} (ha : a < 5) (hb : b < 5) {w : Nat → Int32} (K : ∀ mo' : Nat → Int32, post 0 (zp_exw a b w, am, pt, mo', sp)) : ∀ d s n mo, s + d = 32 → d < n → (∀ j, j < s → mo (zp_ex a b j) = w j) → wX_exchange_19 post (nI a) (nI b) n (nI s) w am pt mo sp := by
  intro d
  induction d with
  | zero =>
    intro s n mo hs hn h1
    obtain ⟨m, rfl⟩ : ∃ m, n = m + 1 := ⟨n - 1, by omega⟩
    obtain rfl : s = 32 := by omega
    refine br_t zz_32t ⟨33, zx_e50 (w0 := w) (fun w' g1 g2 => ?_) 32 0 33 w (by decide) (by decide) (fun j hj => absurd hj (Nat.not_lt_zero j)) fun j _ => rfl⟩
    rw [zz_exw ha hb (w' := w') (fun j hj => (g1 _ (zt_exl a ha b hb j hj)).trans (h1 j hj)) g2]
    exact K mo
  | succ d ih =>
    intro s n mo hs hn h1
    obtain ⟨m, rfl⟩ : ∃ m, n = m + 1 := ⟨n - 1, by omega⟩
    have hs2 : s < 32 := by omega
    have hx := zt_exl a ha b hb s hs2
    refine br_f (zz_32f hs2) (zx_exd ha hb hs2 ⟨zz_in hs2, zz_in hx, nm_r (e' := upd mo (zp_ex a b s) (w s)) (by rw [zz_cl (p := s) (by omega), zz_cl (p := zp_ex a b s) (by omega)]) (nm_r (nI_1 s) (ih (s + 1) m _ (by omega) (by omega) fun j hj => ?_))⟩)
    by_cases e : j = s
    · subst e
      exact pk_us
    · exact (pk_un fun z => e (zp_exj ha hb (by omega) hs2 z)).trans (h1 j (by omega))
theorem zy_e100 {post : Int32 → SY → Prop} {J : Int32 → (Nat → Int32) → (Nat → Int32) → (Nat → Int32) → (Nat → Int32) → Prop} {w mo2 : Nat → Int32} {a b s : Nat} {x4 : Int32} (ha : a < 5) (hb : b < 5) (hs : s < 32) (hx : x4 = nI (zp_ex a b s)) (K : J (nI (s + 1)) (upd w (zp_ex a b s) (mo2 s)) mo2 pa am) : wY_exchange_100 post J (nI a) (nI b) (nI s) x4 w mo2 pa am := by
  have h := zt_exl a ha b hb s hs
  rw [hx]
  exact And.intro (zz_in hs) (And.intro (zz_in h) (nm_r (e' := upd w (zp_ex a b s) (mo2 s)) (by rw [zz_cl (p := s) (by omega), zz_cl (p := zp_ex a b s) (by omega)]) (nm_r (nI_1 s) K)))
theorem zy_e84 {post : Int32 → SY → Prop} {J : Int32 → (Nat → Int32) → (Nat → Int32) → (Nat → Int32) → (Nat → Int32) → Prop} {w mo2 : Nat → Int32} {a b s : Nat} (ha : a < 5) (hb : b < 5) (hs : s < 32) (K : J (nI (s + 1)) (upd w (zp_ex a b s) (mo2 s)) mo2 pa am) : wY_exchange_84 post J (nI a) (nI b) (nI s) (zp_ex1 a b s) w mo2 pa am := by
  have t := zt_ex2 a ha b hb s hs
  cases eb : s.testBit b with
  | true =>
    rw [zp_ex2, if_pos eb] at t
    exact br_f (zt_b0n hs hb eb) (nm_e (zy_e100 ha hb hs t K))
  | false =>
    rw [zp_ex2, if_neg (zz_nt eb)] at t
    exact br_t (zt_b0 hs hb eb) (zy_e100 ha hb hs t K)
theorem zy_e47 {post : Int32 → SY → Prop} {a b : Nat} (ha : a < 5) (hb : b < 5) {w0 mo2 : Nat → Int32} (hm : ∀ j, j < 32 → mo2 j = w0 j) (K : post 0 (zp_exw a b w0, mo2, pa, am)) : ∀ d s n w, s + d = 32 → d < n → (∀ j, j < s → w (zp_ex a b j) = w0 j) → (∀ j, 32 ≤ j → w j = w0 j) → wY_exchange_47 post (nI a) (nI b) n (nI s) w mo2 pa am := by
  intro d
  induction d with
  | zero =>
    intro s n w hs hn h1 h2
    obtain ⟨m, rfl⟩ : ∃ m, n = m + 1 := ⟨n - 1, by omega⟩
    obtain rfl : s = 32 := by omega
    rw [← zz_exw ha hb h1 h2] at K
    exact br_t zz_32t K
  | succ d ih =>
    intro s n w hs hn h1 h2
    obtain ⟨m, rfl⟩ : ∃ m, n = m + 1 := ⟨n - 1, by omega⟩
    have hs2 : s < 32 := by omega
    have hx := zt_exl a ha b hb s hs2
    have h : wY_exchange_84 post (wY_exchange_47 post (nI a) (nI b) m) (nI a) (nI b) (nI s) (zp_ex1 a b s) w mo2 pa am := by
      refine zy_e84 ha hb hs2 (ih (s + 1) m _ (by omega) (by omega) (fun j hj => ?_) fun j hj => ?_)
      · by_cases e : j = s
        · subst e
          exact pk_us.trans (hm j hs2)
        · exact (pk_un fun z => e (zp_exj ha hb (by omega) hs2 z)).trans (h1 j (by omega))
      · exact (pk_un (by omega)).trans (h2 j hj)
    refine br_f (zz_32f hs2) (nm_r (e' := zp_ex0 a b s) rfl ?_)
    cases ea : s.testBit a with
    | true =>
      rw [zp_ex1, if_pos ea] at h
      exact br_f (zt_b0n hs2 ha ea) (nm_e h)
    | false =>
      rw [zp_ex1, if_neg (zz_nt ea)] at h
      exact br_t (zt_b0 hs2 ha ea) h
theorem zy_e21 {post : Int32 → SY → Prop} {a b : Nat} (ha : a < 5) (hb : b < 5) {w : Nat → Int32} (K : ∀ mo' : Nat → Int32, post 0 (zp_exw a b w, mo', pa, am)) : ∀ d s n mo2, s + d = 32 → d < n → (∀ j, j < s → mo2 j = w j) → wY_exchange_21 post (nI a) (nI b) n (nI s) w mo2 pa am := by
  intro d
  induction d with
  | zero =>
    intro s n mo2 hs hn h1
    obtain ⟨m, rfl⟩ : ∃ m, n = m + 1 := ⟨n - 1, by omega⟩
    obtain rfl : s = 32 := by omega
    exact br_t zz_32t ⟨33, zy_e47 ha hb h1 (K mo2) 32 0 33 w (by decide) (by decide) (fun j hj => absurd hj (Nat.not_lt_zero j)) fun j _ => rfl⟩
  | succ d ih =>
    intro s n mo2 hs hn h1
    obtain ⟨m, rfl⟩ : ∃ m, n = m + 1 := ⟨n - 1, by omega⟩
    have hs2 : s < 32 := by omega
    refine br_f (zz_32f hs2) ⟨zz_in hs2, zz_in hs2, nm_r (e' := upd mo2 s (w s)) (by rw [zz_cl (by omega)]) (nm_r (nI_1 s) (ih (s + 1) m _ (by omega) (by omega) fun j hj => ?_))⟩
    by_cases e : j = s
    · subst e
      exact pk_us
    · exact (pk_un e).trans (h1 j (by omega))
end
theorem i_vc_exchange {k : Nat} {u : SX} {v : SY} (I : i_Rel k u v) (hk : k + 3 ≤ 1536) (v1 : Int32) (v2 : Int32) : wpX_exchange (fun r u' => wpY_exchange (fun r' v' => r' = r ∧ i_Rel (k + 3) u' v') v v1 v2) u v1 v2 := by
  obtain ⟨w, am, pt, mo, sp, mo2, pa, rfl, rfl, h⟩ := I
  unfold wpX_exchange wpY_exchange
  rcases zz_pl v1 with hb | ⟨a, ha, rfl⟩
  · exact zx_bp1 hb (br_f zz_10 (zy_ip0 hb (br_t rfl ⟨rfl, zz_rel h⟩)))
  · rcases zz_pl v2 with hb | ⟨b, hb, rfl⟩
    · exact zx_bp0 ha (br_t rfl (zx_bp1 hb (br_f zz_10 (zy_ip1 ha (br_f zz_10 (zy_ip0 hb (br_t rfl ⟨rfl, zz_rel h⟩)))))))
    · refine zx_bp0 ha (br_t rfl (zx_bp0 hb (br_t rfl ⟨33, zx_e19 ha hb (fun mo' => ?_) 32 0 33 mo (by decide) (by decide) fun j hj => absurd hj (Nat.not_lt_zero j)⟩)))
      exact zy_ip1 ha (br_f zz_10 (zy_ip1 hb (br_f zz_10 ⟨33, zy_e21 ha hb (fun mo'' => ⟨rfl, zz_rel (zz_okE ha hb h)⟩) 32 0 33 mo2 (by decide) (by decide) fun j hj => absurd hj (Nat.not_lt_zero j)⟩)))
end
section
/-! alike: both scan alike -/
theorem zt_orx {s a : Nat} (ha : a < 5) : nI s ||| ((1 : Int32) <<< (nI a &&& 31)) = nI (s ||| 2 ^ a) := by
  rw [zt_one a ha, zz_or]
theorem zt_orl {s a : Nat} (hs : s < 32) (ha : a < 5) : s ||| 2 ^ a < 32 := zt_or s hs _ (zt_pow a ha)
section
variable {w am pt mo sp mo2 pa : Nat → Int32}
theorem zx_a45 {post : Int32 → Prop} {J : Int32 → Prop} {a b s : Nat} (ha : a < 5) (hb : b < 5) (hs : s < 32) (K1 : w (s ||| 2 ^ a) = w (s ||| 2 ^ b) → J (nI (s + 1))) (K0 : ¬ w (s ||| 2 ^ a) = w (s ||| 2 ^ b) → post 0) : wX_alike_45 post J (nI a) (nI b) (nI s) 1 w am pt mo sp := by
  have la := zt_orl hs ha
  have lb := zt_orl hs hb
  unfold wX_alike_45
  rw [zt_orx ha, zt_orx hb]
  refine br_f zz_10 ⟨zz_in la, zz_in lb, ?_⟩
  rw [zz_cl (p := s ||| 2 ^ a) (by omega), zz_cl (p := s ||| 2 ^ b) (by omega)]
  exact br_c (fun e => nm_r (nI_1 s) (K1 e)) K0
theorem zx_a44 {post : Int32 → Prop} {J : Int32 → Prop} {a b s : Nat} (K : J (nI (s + 1))) : wX_alike_44 post J (nI a) (nI b) (nI s) w am pt mo sp := by
  unfold wX_alike_44 wX_alike_45
  exact br_t rfl (nm_r (nI_1 s) K)
theorem zy_a47 {post : Int32 → Prop} {J : Int32 → Prop} {a b s : Nat} (ha : a < 5) (hb : b < 5) (hs : s < 32) (K1 : w (s ||| 2 ^ a) = w (s ||| 2 ^ b) → J (nI (s + 1))) (K0 : ¬ w (s ||| 2 ^ a) = w (s ||| 2 ^ b) → post 0) : wY_alike_47 post J (nI a) (nI b) (nI s) 1 w mo2 pa am := by
  have la := zt_orl hs ha
  have lb := zt_orl hs hb
  unfold wY_alike_47
  rw [zt_orx ha, zt_orx hb]
  refine br_f zz_10 ⟨zz_in la, zz_in lb, ?_⟩
  rw [zz_cl (p := s ||| 2 ^ a) (by omega), zz_cl (p := s ||| 2 ^ b) (by omega)]
  exact br_c (fun e => nm_r (nI_1 s) (K1 e)) K0
theorem zy_a46 {post : Int32 → Prop} {J : Int32 → Prop} {a b s : Nat} (K : J (nI (s + 1))) : wY_alike_46 post J (nI a) (nI b) (nI s) w mo2 pa am := by
  unfold wY_alike_46 wY_alike_47
  exact br_t rfl (nm_r (nI_1 s) K)
theorem zz_alike {a b : Nat} (ha : a < 5) (hb : b < 5) : ∀ d s, s + d = 32 → ∃ r : Int32, (∀ (post : Int32 → Prop) (n : Nat), d < n → post r → wX_alike_18 post (nI a) (nI b) w am pt mo sp n (nI s)) ∧ (∀ (post : Int32 → Prop) (n : Nat), d < n → post r → wY_alike_20 post (nI a) (nI b) w mo2 pa am n (nI s)) := by
  intro d
  induction d with
  | zero =>
    intro s hs
    obtain rfl : s = 32 := by omega
    refine ⟨1, fun post n hn K => ?_, fun post n hn K => ?_⟩
    · obtain ⟨m, rfl⟩ : ∃ m, n = m + 1 := ⟨n - 1, by omega⟩
      exact br_t zz_32t K
    · obtain ⟨m, rfl⟩ : ∃ m, n = m + 1 := ⟨n - 1, by omega⟩
      exact br_t zz_32t K
  | succ d ih =>
    intro s hs
    have hs2 : s < 32 := by omega
    obtain ⟨r, hX, hY⟩ := ih (s + 1) (by omega)
    cases ea : s.testBit a with
    | true =>
      refine ⟨r, fun post n hn K => ?_, fun post n hn K => ?_⟩
      · obtain ⟨m, rfl⟩ : ∃ m, n = m + 1 := ⟨n - 1, by omega⟩
        exact br_f (zz_32f hs2) (br_f (zt_b0n hs2 ha ea) (zx_a44 (hX post m (by omega) K)))
      · obtain ⟨m, rfl⟩ : ∃ m, n = m + 1 := ⟨n - 1, by omega⟩
        exact br_f (zz_32f hs2) (br_f (zt_b0n hs2 ha ea) (zy_a46 (hY post m (by omega) K)))
    | false =>
      cases eb : s.testBit b with
      | true =>
        refine ⟨r, fun post n hn K => ?_, fun post n hn K => ?_⟩
        · obtain ⟨m, rfl⟩ : ∃ m, n = m + 1 := ⟨n - 1, by omega⟩
          exact br_f (zz_32f hs2) (br_t (zt_b0 hs2 ha ea) (br_f (zt_b0n hs2 hb eb) (zx_a44 (hX post m (by omega) K))))
        · obtain ⟨m, rfl⟩ : ∃ m, n = m + 1 := ⟨n - 1, by omega⟩
          exact br_f (zz_32f hs2) (br_t (zt_b0 hs2 ha ea) (br_f (zt_b0n hs2 hb eb) (zy_a46 (hY post m (by omega) K))))
      | false =>
        by_cases e : w (s ||| 2 ^ a) = w (s ||| 2 ^ b)
        · refine ⟨r, fun post n hn K => ?_, fun post n hn K => ?_⟩
          · obtain ⟨m, rfl⟩ : ∃ m, n = m + 1 := ⟨n - 1, by omega⟩
            exact br_f (zz_32f hs2) (br_t (zt_b0 hs2 ha ea) (br_t (zt_b0 hs2 hb eb) (zx_a45 ha hb hs2 (fun _ => hX post m (by omega) K) fun z => absurd e z)))
          · obtain ⟨m, rfl⟩ : ∃ m, n = m + 1 := ⟨n - 1, by omega⟩
            exact br_f (zz_32f hs2) (br_t (zt_b0 hs2 ha ea) (br_t (zt_b0 hs2 hb eb) (zy_a47 ha hb hs2 (fun _ => hY post m (by omega) K) fun z => absurd e z)))
        · refine ⟨0, fun post n hn K => ?_, fun post n hn K => ?_⟩
          · obtain ⟨m, rfl⟩ : ∃ m, n = m + 1 := ⟨n - 1, by omega⟩
            exact br_f (zz_32f hs2) (br_t (zt_b0 hs2 ha ea) (br_t (zt_b0 hs2 hb eb) (zx_a45 ha hb hs2 (fun z => absurd z e) fun _ => K)))
          · obtain ⟨m, rfl⟩ : ∃ m, n = m + 1 := ⟨n - 1, by omega⟩
            exact br_f (zz_32f hs2) (br_t (zt_b0 hs2 ha ea) (br_t (zt_b0 hs2 hb eb) (zy_a47 ha hb hs2 (fun z => absurd z e) fun _ => K)))
end
theorem i_vc_alike {k : Nat} {u : SX} {v : SY} (I : i_Rel k u v) (hk : k + 3 ≤ 1536) (v1 : Int32) (v2 : Int32) : wpX_alike (fun r => wpY_alike (fun r' => r' = r ∧ i_Rel (k + 3) u v) v v1 v2) u v1 v2 := by
  obtain ⟨w, am, pt, mo, sp, mo2, pa, rfl, rfl, h⟩ := I
  unfold wpX_alike wpY_alike
  rcases zz_pl v1 with hb | ⟨a, ha, rfl⟩
  · exact zx_bp1 hb (br_f zz_10 (zy_ip0 hb (br_t rfl ⟨rfl, zz_rel h⟩)))
  · rcases zz_pl v2 with hb | ⟨b, hb, rfl⟩
    · exact zx_bp0 ha (br_t rfl (zx_bp1 hb (br_f zz_10 (zy_ip1 ha (br_f zz_10 (zy_ip0 hb (br_t rfl ⟨rfl, zz_rel h⟩)))))))
    · obtain ⟨r, hX, hY⟩ := zz_alike (w := w) (am := am) (pt := pt) (mo := mo) (sp := sp) (mo2 := mo2) (pa := pa) ha hb 32 0 (by decide)
      exact zx_bp0 ha (br_t rfl (zx_bp0 hb (br_t rfl ⟨33, hX _ 33 (by decide) (zy_ip1 ha (br_f zz_10 (zy_ip1 hb (br_f zz_10 ⟨33, hY _ 33 (by decide) ⟨rfl, zz_rel h⟩⟩))))⟩)))
end
section
/-! linear functions of the 32 worths: two that agree on the units agree everywhere -/
def zl_e (j : Nat) : Nat → Int32 := fun i => if i = j then 1 else 0
def zl_dot (c w : Nat → Int32) : Nat → Int32
  | 0 => 0
  | n + 1 => zl_dot c w n + c n * w n
def zl_Lin (F : (Nat → Int32) → Int32) : Prop := ∀ w, F w = zl_dot (fun j => F (zl_e j)) w 32
theorem zl_dotA (c d w : Nat → Int32) : ∀ n, zl_dot (fun j => c j + d j) w n = zl_dot c w n + zl_dot d w n := by
  intro n
  induction n with
  | zero => rfl
  | succ n ih =>
    simp only [zl_dot, ih]
    grind
theorem zl_dotS (c d w : Nat → Int32) : ∀ n, zl_dot (fun j => c j - d j) w n = zl_dot c w n - zl_dot d w n := by
  intro n
  induction n with
  | zero => show (0 : Int32) = 0 - 0; decide
  | succ n ih =>
    simp only [zl_dot, ih]
    grind
theorem zl_dotM (c w : Nat → Int32) (x : Int32) : ∀ n, zl_dot (fun j => c j * x) w n = zl_dot c w n * x := by
  intro n
  induction n with
  | zero => exact (Int32.zero_mul).symm
  | succ n ih =>
    simp only [zl_dot, ih]
    grind
theorem zl_dot0 (w : Nat → Int32) : ∀ n, zl_dot (fun _ => 0) w n = 0 := by
  intro n
  induction n with
  | zero => rfl
  | succ n ih =>
    simp only [zl_dot, ih]
    grind
theorem zl_dotE (w : Nat → Int32) (s : Nat) : ∀ n, zl_dot (fun j => zl_e j s) w n = if s < n then w s else 0 := by
  intro n
  induction n with
  | zero => rfl
  | succ n ih =>
    simp only [zl_dot, ih]
    unfold zl_e
    by_cases h : s = n
    · subst h
      rw [if_pos rfl, if_neg (by omega), if_pos (by omega)]
      grind
    · by_cases h2 : s < n
      · rw [if_neg h, if_pos h2, if_pos (by omega)]
        grind
      · rw [if_neg h, if_neg h2, if_neg (by omega)]
        grind
theorem zl_dotC {c d w : Nat → Int32} : ∀ n, (∀ j, j < n → c j * w j = d j * w j) → zl_dot c w n = zl_dot d w n := by
  intro n
  induction n with
  | zero => intro _; rfl
  | succ n ih =>
    intro h
    simp only [zl_dot]
    rw [ih fun j hj => h j (by omega), h n (by omega)]
theorem zl_at {s : Nat} (hs : s < 32) : zl_Lin (fun w => w s) := by
  intro w
  show w s = zl_dot (fun j => zl_e j s) w 32
  rw [zl_dotE, if_pos hs]
theorem zl_zero : zl_Lin (fun _ => 0) := fun w => (zl_dot0 w 32).symm
theorem zl_add {F G : (Nat → Int32) → Int32} (f : zl_Lin F) (g : zl_Lin G) : zl_Lin (fun w => F w + G w) := by
  intro w
  show F w + G w = zl_dot (fun j => F (zl_e j) + G (zl_e j)) w 32
  rw [zl_dotA (fun j => F (zl_e j)) (fun j => G (zl_e j)), ← f w, ← g w]
theorem zl_sub {F G : (Nat → Int32) → Int32} (f : zl_Lin F) (g : zl_Lin G) : zl_Lin (fun w => F w - G w) := by
  intro w
  show F w - G w = zl_dot (fun j => F (zl_e j) - G (zl_e j)) w 32
  rw [zl_dotS (fun j => F (zl_e j)) (fun j => G (zl_e j)), ← f w, ← g w]
theorem zl_mul {F : (Nat → Int32) → Int32} (f : zl_Lin F) (x : Int32) : zl_Lin (fun w => F w * x) := by
  intro w
  show F w * x = zl_dot (fun j => F (zl_e j) * x) w 32
  rw [zl_dotM (fun j => F (zl_e j)), ← f w]
theorem zl_eq {F G : (Nat → Int32) → Int32} (f : zl_Lin F) (g : zl_Lin G) (h : ∀ j, j < 32 → j = 0 ∨ F (zl_e j) = G (zl_e j)) {w : Nat → Int32} (h0 : w 0 = 0) : F w = G w := by
  rw [f w, g w]
  refine zl_dotC 32 fun j hj => ?_
  rcases h j hj with e | e
  · subst e
    rw [h0]
    grind
  · rw [e]
/-- own parts: the players below p have been taken off -/
def zp_mb (w : Nat → Int32) : Nat → Nat → Int32
  | 0, s => w s
  | p + 1, s => if s.testBit p = true then zp_mb w p s - zp_mb w p (s ^^^ 2 ^ p) else zp_mb w p s
theorem zp_mbt {w : Nat → Int32} {p s : Nat} (h : s.testBit p = true) : zp_mb w (p + 1) s = zp_mb w p s - zp_mb w p (s ^^^ 2 ^ p) := by
  rw [zp_mb, if_pos h]
theorem zp_mbf {w : Nat → Int32} {p s : Nat} (h : s.testBit p = false) : zp_mb w (p + 1) s = zp_mb w p s := by
  rw [zp_mb, if_neg (zz_nt h)]
theorem zl_mb : ∀ p s, p ≤ 5 → s < 32 → zl_Lin (fun w => zp_mb w p s) := by
  intro p
  induction p with
  | zero => intro s _ hs; exact zl_at hs
  | succ p ih =>
    intro s hp hs
    cases hb : s.testBit p with
    | true =>
      have e : (fun w => zp_mb w (p + 1) s) = fun w => zp_mb w p s - zp_mb w p (s ^^^ 2 ^ p) := by
        funext w
        exact zp_mbt hb
      rw [e]
      exact zl_sub (ih s (by omega) hs) (ih _ (by omega) (zt_xor s hs _ (zt_pow p (by omega))))
    | false =>
      have e : (fun w => zp_mb w (p + 1) s) = fun w => zp_mb w p s := by
        funext w
        exact zp_mbf hb
      rw [e]
      exact ih s (by omega) hs
end
section
/-! findParts and size -/
theorem zt_off : ∀ s, s < 32 → ∀ p, p < 5 → s.testBit p = true → s ^^^ 2 ^ p < s ∧ (s ^^^ 2 ^ p).testBit p = false := by decide +kernel
def zp_sz (s : Nat) : Nat → Nat → Int32 → Int32
  | 0, _, acc => acc
  | d + 1, p, acc => zp_sz s d (p + 1) (acc + if s.testBit p = true then 1 else 0)
theorem zx_size4 {post : Int32 → Prop} {s : Nat} (hs : s < 32) : ∀ d p acc n, p + d = 5 → d < n → post (zp_sz s d p acc) → wX_size_4 post (nI s) n acc (nI p) := by
  intro d
  induction d with
  | zero =>
    intro p acc n hp hn K
    obtain ⟨m, rfl⟩ : ∃ m, n = m + 1 := ⟨n - 1, by omega⟩
    obtain rfl : p = 5 := by omega
    exact br_t zz_5t K
  | succ d ih =>
    intro p acc n hp hn K
    obtain ⟨m, rfl⟩ : ∃ m, n = m + 1 := ⟨n - 1, by omega⟩
    have hp5 : p < 5 := by omega
    exact br_f (zz_5f hp5) (nm_r (e' := acc + if s.testBit p = true then 1 else 0) (by rw [zt_bit s hs p hp5]) (nm_r (nI_1 p) (ih (p + 1) _ m (by omega) (by omega) K)))
theorem zx_size {post : Int32 → Prop} {s : Nat} (hs : s < 32) (K : post (zp_sz s 5 0 0)) : wpX_size post (nI s) :=
  Exists.intro 6 (zx_size4 hs 5 0 0 6 (by decide) (by decide) K)
section
variable {w am mo sp : Nat → Int32}
theorem zx_f35 {post : SX → Prop} {J : Int32 → (Nat → Int32) → (Nat → Int32) → (Nat → Int32) → (Nat → Int32) → (Nat → Int32) → Prop} {p : Nat} (hp : p < 5) (K : ∀ pt' : Nat → Int32, (∀ j, j < 32 → pt' j = zp_mb w (p + 1) j) → J (nI (p + 1)) w am pt' mo sp) : ∀ d s n pt, s + d = 32 → d < n → (∀ j, j < 32 → j < s → pt j = zp_mb w (p + 1) j) → (∀ j, j < 32 → s ≤ j → pt j = zp_mb w p j) → wX_findParts_35 post J (nI p) n (nI s) w am pt mo sp := by
  intro d
  induction d with
  | zero =>
    intro s n pt hs hn h1 h2
    obtain ⟨m, rfl⟩ : ∃ m, n = m + 1 := ⟨n - 1, by omega⟩
    obtain rfl : s = 32 := by omega
    exact br_t zz_32t (nm_r (nI_1 p) (K pt fun j hj => h1 j hj hj))
  | succ d ih =>
    intro s n pt hs hn h1 h2
    obtain ⟨m, rfl⟩ : ∃ m, n = m + 1 := ⟨n - 1, by omega⟩
    have hs2 : s < 32 := by omega
    refine br_f (zz_32f hs2) ?_
    cases hb : s.testBit p with
    | true =>
      obtain ⟨t1, t2⟩ := zt_off s hs2 p hp hb
      have hx : nI s ^^^ ((1 : Int32) <<< (nI p &&& 31)) = nI (s ^^^ 2 ^ p) := by rw [zt_one p hp, nx_xor]
      rw [hx]
      refine br_t (zt_b1 hs2 hp hb) ⟨zz_in hs2, zz_in (by omega), zz_in hs2, nm_r (e' := upd pt s (zp_mb w (p + 1) s)) ?_ (nm_r (nI_1 s) (ih (s + 1) m _ (by omega) (by omega) (fun j hj hj2 => ?_) fun j hj hj2 => ?_))⟩
      · rw [zz_cl (p := s) (by omega), zz_cl (p := s ^^^ 2 ^ p) (by omega), h2 s hs2 (Nat.le_refl s), h1 _ (by omega) t1, zp_mbf t2, zp_mbt hb]
      · by_cases e : j = s
        · subst e
          exact pk_us
        · exact (pk_un e).trans (h1 j hj (by omega))
      · exact (pk_un (by omega)).trans (h2 j hj (by omega))
    | false =>
      refine br_f (zt_b1n hs2 hp hb) (nm_r (nI_1 s) (ih (s + 1) m _ (by omega) (by omega) (fun j hj hj2 => ?_) fun j hj hj2 => h2 j hj (by omega)))
      by_cases e : j = s
      · subst e
        rw [zp_mbf hb]
        exact h2 j hj (Nat.le_refl j)
      · exact h1 j hj (by omega)
theorem zx_f28 {post : SX → Prop} (K : ∀ pt' : Nat → Int32, (∀ j, j < 32 → pt' j = zp_mb w 5 j) → post (w, am, pt', mo, sp)) : ∀ d p n pt, p + d = 5 → d < n → (∀ j, j < 32 → pt j = zp_mb w p j) → wX_findParts_28 post n (nI p) w am pt mo sp := by
  intro d
  induction d with
  | zero =>
    intro p n pt hp hn h
    obtain ⟨m, rfl⟩ : ∃ m, n = m + 1 := ⟨n - 1, by omega⟩
    obtain rfl : p = 5 := by omega
    exact br_t zz_5t (K pt h)
  | succ d ih =>
    intro p n pt hp hn h
    obtain ⟨m, rfl⟩ : ∃ m, n = m + 1 := ⟨n - 1, by omega⟩
    exact br_f (zz_5f (by omega)) ⟨33, zx_f35 (by omega) (fun pt' h' => ih (p + 1) m pt' (by omega) (by omega) h') 32 0 33 pt (by decide) (by decide) (fun j _ hj => absurd hj (Nat.not_lt_zero j)) fun j hj _ => h j hj⟩
theorem zx_f2 {post : SX → Prop} (K : ∀ pt' : Nat → Int32, (∀ j, j < 32 → pt' j = zp_mb w 5 j) → post (w, am, pt', mo, sp)) : ∀ d s n pt, s + d = 32 → d < n → (∀ j, j < s → pt j = w j) → wX_findParts_2 post n (nI s) w am pt mo sp := by
  intro d
  induction d with
  | zero =>
    intro s n pt hs hn h
    obtain ⟨m, rfl⟩ : ∃ m, n = m + 1 := ⟨n - 1, by omega⟩
    obtain rfl : s = 32 := by omega
    exact br_t zz_32t ⟨6, zx_f28 K 5 0 6 pt (by decide) (by decide) h⟩
  | succ d ih =>
    intro s n pt hs hn h
    obtain ⟨m, rfl⟩ : ∃ m, n = m + 1 := ⟨n - 1, by omega⟩
    have hs2 : s < 32 := by omega
    refine br_f (zz_32f hs2) ⟨zz_in hs2, zz_in hs2, nm_r (e' := upd pt s (w s)) (by rw [zz_cl (by omega)]) (nm_r (nI_1 s) (ih (s + 1) m _ (by omega) (by omega) fun j hj => ?_))⟩
    by_cases e : j = s
    · subst e
      exact pk_us
    · exact (pk_un e).trans (h j (by omega))
theorem zx_find {post : SX → Prop} {pt : Nat → Int32} (K : ∀ pt' : Nat → Int32, (∀ j, j < 32 → pt' j = zp_mb w 5 j) → post (w, am, pt', mo, sp)) : wpX_findParts post (w, am, pt, mo, sp) :=
  Exists.intro 33 (zx_f2 K 32 0 33 pt (by decide) (by decide) fun j hj => absurd hj (Nat.not_lt_zero j))
end
end
section
/-! own -/
def zp_ow (g : Nat → Int32) (s : Nat) : Nat → Nat → Int32 → Int32
  | 0, _, acc => acc
  | d + 1, t, acc => zp_ow g s d (t + 1) (if t &&& s = t then acc - g t else acc)
theorem zp_owt {g : Nat → Int32} {s d t : Nat} {acc : Int32} (h : t &&& s = t) : zp_ow g s (d + 1) t acc = zp_ow g s d (t + 1) (acc - g t) := by
  rw [zp_ow, if_pos h]
theorem zp_owf {g : Nat → Int32} {s d t : Nat} {acc : Int32} (h : ¬ t &&& s = t) : zp_ow g s (d + 1) t acc = zp_ow g s d (t + 1) acc := by
  rw [zp_ow, if_neg h]
theorem zl_ow {s : Nat} : ∀ d t (A : (Nat → Int32) → Int32), zl_Lin A → t + d ≤ 32 → zl_Lin (fun w => zp_ow (zp_mb w 5) s d t (A w)) := by
  intro d
  induction d with
  | zero => intro t A hA _; exact hA
  | succ d ih =>
    intro t A hA ht
    by_cases h : t &&& s = t
    · have e : (fun w => zp_ow (zp_mb w 5) s (d + 1) t (A w)) = fun w => zp_ow (zp_mb w 5) s d (t + 1) (A w - zp_mb w 5 t) := by
        funext w
        exact zp_owt h
      rw [e]
      exact ih (t + 1) (fun w => A w - zp_mb w 5 t) (zl_sub hA (zl_mb 5 t (Nat.le_refl 5) (by omega))) (by omega)
    · have e : (fun w => zp_ow (zp_mb w 5) s (d + 1) t (A w)) = fun w => zp_ow (zp_mb w 5) s d (t + 1) (A w) := by
        funext w
        exact zp_owf h
      rw [e]
      exact ih (t + 1) A hA (by omega)
theorem zt_own : ∀ s, s < 32 → s = 0 ∨ ∀ j, j < 32 → j = 0 ∨ zp_ow (zp_mb (zl_e j) 5) s (s - 1) 1 (zl_e j s) = zp_mb (zl_e j) 5 s := by decide +kernel
theorem zl_own {w : Nat → Int32} (h0 : w 0 = 0) {s : Nat} (h1 : 1 ≤ s) (hs : s < 32) : zp_ow (zp_mb w 5) s (s - 1) 1 (w s) = zp_mb w 5 s :=
  zl_eq (F := fun w => zp_ow (zp_mb w 5) s (s - 1) 1 (w s)) (G := fun w => zp_mb w 5 s) (zl_ow (s - 1) 1 (fun w => w s) (zl_at hs) (by omega)) (zl_mb 5 s (Nat.le_refl 5) hs) (fun j hj => ((zt_own s hs).resolve_left (by omega)) j hj) h0
section
variable {w am pt mo sp mo2 : Nat → Int32}
theorem zx_own {post : Int32 → SX → Prop} {i : Nat} (h1 : 1 ≤ i) (hi : i < 32) (K : ∀ pt' : Nat → Int32, post (zp_mb w 5 i) (w, am, pt', mo, sp)) : wpX_own post (w, am, pt, mo, sp) (nI i) := by
  unfold wpX_own
  refine zx_bs0 h1 hi (br_t rfl (zx_find fun pt' h => And.intro (zz_in hi) ?_))
  rw [zz_cl (by omega), h i hi]
  exact K pt'
theorem zy_own31 {post : Int32 → SY → Prop} {J : Int32 → (Nat → Int32) → (Nat → Int32) → (Nat → Int32) → (Nat → Int32) → Prop} {x1 : Int32} {s : Nat} {pa : Nat → Int32} (hs : s < 32) (hp : ∀ j, 1 ≤ j → j < s → pa j = zp_mb w 5 j) : ∀ d t acc n, t + d = s → 1 ≤ t → d < n → J (nI (s + 1)) w mo2 (upd pa s (zp_ow (zp_mb w 5) s d t acc)) am → wY_own_31 post J x1 (nI s) w mo2 pa am n acc (nI t) := by
  intro d
  induction d with
  | zero =>
    intro t acc n ht h1 hn K
    obtain ⟨m, rfl⟩ : ∃ m, n = m + 1 := ⟨n - 1, by omega⟩
    obtain rfl : t = s := by omega
    exact br_t (nI_le (Nat.le_refl t) (by omega)) ⟨zz_in hs, nm_r (e' := upd pa t acc) (by rw [zz_cl (by omega)]) (nm_r (nI_1 t) K)⟩
  | succ d ih =>
    intro t acc n ht h1 hn K
    obtain ⟨m, rfl⟩ : ∃ m, n = m + 1 := ⟨n - 1, by omega⟩
    refine br_f (nI_ge (by omega) (by omega)) ?_
    by_cases e : t &&& s = t
    · rw [zp_owt e] at K
      exact br_t (by rw [nx_and, e]) ⟨zz_in (by omega), nm_r (e' := acc - zp_mb w 5 t) (by rw [zz_cl (by omega), hp t h1 (by omega)]) (nm_r (nI_1 t) (ih (t + 1) _ m (by omega) (by omega) (by omega) K))⟩
    · rw [zp_owf e] at K
      refine br_f (fun z => e ?_) (nm_r (nI_1 t) (ih (t + 1) _ m (by omega) (by omega) (by omega) K))
      rw [nx_and] at z
      have l := zt_and t (by omega) s hs
      exact (nI_eq (by omega) (by omega)).mp z
theorem zy_own15 {post : Int32 → SY → Prop} {i : Nat} (h0 : w 0 = 0) (h1 : 1 ≤ i) (hi : i < 32) (K : ∀ pa' : Nat → Int32, post (zp_mb w 5 i) (w, mo2, pa', am)) : ∀ d s n pa, s + d = 32 → 1 ≤ s → d < n → (∀ j, 1 ≤ j → j < s → pa j = zp_mb w 5 j) → wY_own_15 post (nI i) n (nI s) w mo2 pa am := by
  intro d
  induction d with
  | zero =>
    intro s n pa hs hs1 hn h
    obtain ⟨m, rfl⟩ : ∃ m, n = m + 1 := ⟨n - 1, by omega⟩
    obtain rfl : s = 32 := by omega
    refine br_t zz_32t ⟨zz_in hi, ?_⟩
    rw [zz_cl (by omega), h i h1 hi]
    exact K pa
  | succ d ih =>
    intro s n pa hs hs1 hn h
    obtain ⟨m, rfl⟩ : ∃ m, n = m + 1 := ⟨n - 1, by omega⟩
    have hs2 : s < 32 := by omega
    refine br_f (zz_32f hs2) ⟨zz_in hs2, nm_r (congrArg w (zz_cl (by omega))) ⟨33, zy_own31 hs2 h (s - 1) 1 (w s) 33 (by omega) (by decide) (by omega) ?_⟩⟩
    rw [zl_own h0 hs1 hs2]
    refine ih (s + 1) m _ (by omega) (by omega) (by omega) fun j hj1 hj => ?_
    by_cases e : j = s
    · subst e
      exact pk_us
    · exact (pk_un e).trans (h j hj1 (by omega))
theorem zy_own {post : Int32 → SY → Prop} {i : Nat} {pa : Nat → Int32} (h0 : w 0 = 0) (h1 : 1 ≤ i) (hi : i < 32) (K : ∀ pa' : Nat → Int32, post (zp_mb w 5 i) (w, mo2, pa', am)) : wpY_own post (w, mo2, pa, am) (nI i) :=
  zy_gs h1 hi ⟨32, zy_own15 h0 h1 hi K 31 1 32 pa (by decide) (by decide) (by decide) fun j h h' => absurd h' (by omega)⟩
end
theorem i_vc_own {k : Nat} {u : SX} {v : SY} (I : i_Rel k u v) (hk : k + 3 ≤ 1536) (v1 : Int32) : wpX_own (fun r u' => wpY_own (fun r' v' => r' = r ∧ i_Rel (k + 3) u' v') v v1) u v1 := by
  obtain ⟨w, am, pt, mo, sp, mo2, pa, rfl, rfl, h⟩ := I
  rcases zz_st v1 with hb | ⟨j, h1, hj, rfl⟩
  · unfold wpX_own
    exact zx_bs1 hb (br_f zz_10 (zy_bs hb ⟨rfl, zz_rel h⟩))
  · exact zx_own h1 hj fun pt' => zy_own h.1 h1 hj fun pa' => ⟨rfl, zz_rel h⟩
end
section
/-! orderValue -/
def zp_co (s : Nat) : Int32 := 120 / zp_sz s 5 0 0
/-- shares of own parts that fall to pl -/
def zp_fo (c g : Nat → Int32) (pl : Nat) : Nat → Nat → Int32 → Int32
  | 0, _, acc => acc
  | d + 1, s, acc => zp_fo c g pl d (s + 1) (if s.testBit pl = true then acc + g s * c s else acc)
theorem zp_fot {c g : Nat → Int32} {pl d s : Nat} {acc : Int32} (h : s.testBit pl = true) : zp_fo c g pl (d + 1) s acc = zp_fo c g pl d (s + 1) (acc + g s * c s) := by
  rw [zp_fo, if_pos h]
theorem zp_fof {c g : Nat → Int32} {pl d s : Nat} {acc : Int32} (h : s.testBit pl = false) : zp_fo c g pl (d + 1) s acc = zp_fo c g pl d (s + 1) acc := by
  rw [zp_fo, if_neg (zz_nt h)]
theorem zl_fo {c : Nat → Int32} {pl : Nat} : ∀ d s (A : (Nat → Int32) → Int32), zl_Lin A → s + d ≤ 32 → zl_Lin (fun w => zp_fo c (zp_mb w 5) pl d s (A w)) := by
  intro d
  induction d with
  | zero => intro s A hA _; exact hA
  | succ d ih =>
    intro s A hA hs
    cases h : s.testBit pl with
    | true =>
      have e : (fun w => zp_fo c (zp_mb w 5) pl (d + 1) s (A w)) = fun w => zp_fo c (zp_mb w 5) pl d (s + 1) (A w + zp_mb w 5 s * c s) := by
        funext w
        exact zp_fot h
      rw [e]
      exact ih (s + 1) (fun w => A w + zp_mb w 5 s * c s) (zl_add hA (zl_mul (zl_mb 5 s (Nat.le_refl 5) (by omega)) (c s))) (by omega)
    | false =>
      have e : (fun w => zp_fo c (zp_mb w 5) pl (d + 1) s (A w)) = fun w => zp_fo c (zp_mb w 5) pl d (s + 1) (A w) := by
        funext w
        exact zp_fof h
      rw [e]
      exact ih (s + 1) A hA (by omega)
theorem zt_sz : ∀ s, s < 32 → s = 0 ∨ (¬ zp_sz s 5 0 0 ≤ 0 ∧ ¬ zp_sz s 5 0 0 = 0) := by decide +kernel
section
variable {w am pt mo sp : Nat → Int32}
theorem zx_o18 {post : Int32 → SX → Prop} {pl : Nat} (hpl : pl < 5) (hpt : ∀ j, j < 32 → pt j = zp_mb w 5 j) : ∀ d s acc n, s + d = 32 → 1 ≤ s → d < n → post (zp_fo zp_co (zp_mb w 5) pl d s acc) (w, am, pt, mo, sp) → wX_orderValue_18 post (nI pl) w am pt mo sp n acc (nI s) := by
  intro d
  induction d with
  | zero =>
    intro s acc n hs h1 hn K
    obtain ⟨m, rfl⟩ : ∃ m, n = m + 1 := ⟨n - 1, by omega⟩
    obtain rfl : s = 32 := by omega
    exact br_t zz_32t K
  | succ d ih =>
    intro s acc n hs h1 hn K
    obtain ⟨m, rfl⟩ : ∃ m, n = m + 1 := ⟨n - 1, by omega⟩
    have hs2 : s < 32 := by omega
    obtain ⟨z1, z2⟩ := (zt_sz s hs2).resolve_left (by omega)
    refine br_f (zz_32f hs2) (zx_size hs2 ?_)
    cases hb : s.testBit pl with
    | true =>
      rw [zp_fot hb] at K
      exact br_t (zt_b1 hs2 hpl hb) (br_f z1 ⟨zz_in hs2, z2, nm_r (e' := acc + zp_mb w 5 s * zp_co s) (by rw [zz_cl (by omega), hpt s hs2]; rfl) (nm_r (nI_1 s) (ih (s + 1) _ m (by omega) (by omega) (by omega) K))⟩)
    | false =>
      rw [zp_fof hb] at K
      exact br_f (zt_b1n hs2 hpl hb) (nm_r (nI_1 s) (ih (s + 1) _ m (by omega) (by omega) (by omega) K))
end
/-- the reference: the first free player behind skip others -/
def zm_find (c : Nat) : Nat → Nat → Nat → Nat
  | 0, _, p => p
  | d + 1, skip, p => if c.testBit p = true then zm_find c d skip (p + 1) else if skip = 0 then p else zm_find c d (skip - 1) (p + 1)
/-- who has come when pl comes -/
def zm_go (pl : Nat) : Nat → Nat → Nat → Option Nat
  | 0, _, _ => none
  | d + 1, rest, c => if zm_find c 5 (rest % (d + 1)) 0 = pl then some c else if zm_find c 5 (rest % (d + 1)) 0 < 5 then zm_go pl d (rest / (d + 1)) (c ||| 2 ^ zm_find c 5 (rest % (d + 1)) 0) else none
section
variable {w am mo2 pa : Nat → Int32}
theorem zy_m72a {post : Int32 → Prop} {J : Int32 → Int32 → Int32 → Prop} {c pl : Nat} {x3 x5 : Int32} (hc : c < 32) (hpl : pl < 5) (K : post (w (c ||| 2 ^ pl) - w c)) : wY_marginIn_72 post J (nI pl) x3 (nI c) x5 (nI pl) w mo2 pa am := by
  have l := zt_orl hc hpl
  unfold wY_marginIn_72
  rw [zt_orx hpl]
  refine br_t rfl ⟨zz_in l, zz_in hc, ?_⟩
  rw [zz_cl (p := c ||| 2 ^ pl) (by omega), zz_cl (p := c) (by omega)]
  exact K
theorem zy_m72b {post : Int32 → Prop} {J : Int32 → Int32 → Int32 → Prop} {c pl p place : Nat} {x3 : Int32} (hp : p < 5) (hpl : pl < 5) (hne : ¬ p = pl) (K : J x3 (nI (c ||| 2 ^ p)) (nI (place + 1))) : wY_marginIn_72 post J (nI pl) x3 (nI c) (nI place) (nI p) w mo2 pa am :=
  br_f (fun z => hne ((nI_eq (by omega) (by omega)).mp z)) (nm_r (zt_orx hp) (nm_r (nI_1 place) K))
theorem zy_m32 {post : Int32 → Prop} {J : Int32 → Int32 → Int32 → Prop} {c : Nat} {x2 x3 x5 : Int32} (hc : c < 32) : ∀ d p skip n, p + d = 5 → d < n → skip < 1000 → wY_marginIn_72 post J x2 x3 (nI c) x5 (nI (zm_find c d skip p)) w mo2 pa am → wY_marginIn_32 post J x2 x3 (nI c) x5 w mo2 pa am n (nI skip) (nI p) := by
  intro d
  induction d with
  | zero =>
    intro p skip n hp hn hk K
    obtain ⟨m, rfl⟩ : ∃ m, n = m + 1 := ⟨n - 1, by omega⟩
    obtain rfl : p = 5 := by omega
    exact br_t zz_5t K
  | succ d ih =>
    intro p skip n hp hn hk K
    obtain ⟨m, rfl⟩ : ∃ m, n = m + 1 := ⟨n - 1, by omega⟩
    have hp5 : p < 5 := by omega
    refine br_f (zz_5f hp5) ?_
    cases hb : c.testBit p with
    | true =>
      rw [zm_find, if_pos hb] at K
      exact br_f (zt_b0n hc hp5 hb) (br_f (zt_b0n hc hp5 hb) (nm_r (nI_1 p) (ih (p + 1) skip m (by omega) (by omega) hk K)))
    | false =>
      rw [zm_find, if_neg (zz_nt hb)] at K
      by_cases e : skip = 0
      · subst e
        rw [if_pos rfl] at K
        exact br_t (zt_b0 hc hp5 hb) (br_t (by decide) K)
      · rw [if_neg e] at K
        have e2 : nI skip + (-1) = nI (skip - 1) := by
          obtain ⟨t, rfl⟩ : ∃ t, skip = t + 1 := ⟨skip - 1, by omega⟩
          exact pk_m1 t
        exact br_t (zt_b0 hc hp5 hb) (br_f (nI_nle (by omega) (by omega)) (br_t (zt_b0 hc hp5 hb) (nm_r e2 (nm_r (nI_1 p) (ih (p + 1) (skip - 1) m (by omega) (by omega) (by omega) K)))))
theorem zy_m8 {post : Int32 → Prop} {pl r : Nat} (hpl : pl < 5) (K : post (w (r ||| 2 ^ pl) - w r)) : ∀ d place rest c n, place + d = 5 → d < n → c < 32 → rest < 1000 → zm_go pl d rest c = some r → wY_marginIn_8 post (nI pl) w mo2 pa am n (nI rest) (nI c) (nI place) := by
  intro d
  induction d with
  | zero =>
    intro place rest c n hp hn hc hr hg
    exact nomatch hg
  | succ d ih =>
    intro place rest c n hp hn hc hr hg
    obtain ⟨m, rfl⟩ : ∃ m, n = m + 1 := ⟨n - 1, by omega⟩
    have e5 : (5 : Int32) - nI place = nI (d + 1) := by
      show nI 5 - nI place = _
      rw [pk_sub (by omega)]
      exact congrArg nI (by omega)
    have hz : ¬ nI (d + 1) = 0 := nI_ne0 (by omega) (by omega)
    have hm : rest % (d + 1) ≤ rest := Nat.mod_le _ _
    have hd : rest / (d + 1) ≤ rest := Nat.div_le_self _ _
    refine br_f (zz_5f (by omega)) ?_
    rw [e5]
    refine ⟨hz, nm_r (pk_rem (by omega) (by omega) (by omega)) ⟨hz, nm_r (pk_div (by omega) (by omega) (by omega)) ⟨6, zy_m32 hc 5 0 (rest % (d + 1)) 6 (by decide) (by decide) (by omega) ?_⟩⟩⟩
    by_cases h1 : zm_find c 5 (rest % (d + 1)) 0 = pl
    · rw [zm_go, if_pos h1] at hg
      cases hg
      rw [h1]
      exact zy_m72a hc hpl K
    · rw [zm_go, if_neg h1] at hg
      by_cases h2 : zm_find c 5 (rest % (d + 1)) 0 < 5
      · rw [if_pos h2] at hg
        exact zy_m72b h2 hpl h1 (ih (place + 1) (rest / (d + 1)) _ m (by omega) (by omega) (zt_orl hc h2) (by omega) hg)
      · rw [if_neg h2] at hg
        exact nomatch hg
theorem zy_margin {post : Int32 → Prop} {pl r k : Nat} (hpl : pl < 5) (hk : k < 120) (hg : zm_go pl 5 k 0 = some r) (K : post (w (r ||| 2 ^ pl) - w r)) : wpY_marginIn post (w, mo2, pa, am) (nI k) (nI pl) :=
  Exists.intro 6 (zy_m8 hpl K 5 0 k 0 6 (by decide) (by decide) (by decide) (by omega) hg)
end
def zm_L : Nat → List Nat
  | 0 => [0, 2, 4, 8, 16, 0, 6, 6, 10, 18, 0, 10, 12, 12, 20, 0, 18, 20, 24, 24, 0, 2, 4, 8, 16, 0, 14, 14, 14, 22, 0, 14, 14, 14, 22, 0, 22, 22, 26, 26, 0, 2, 4, 8, 16, 0, 22, 22, 26, 26, 0, 26, 28, 28, 28, 0, 26, 28, 28, 28, 0, 2, 4, 8, 16, 0, 6, 6, 10, 18, 0, 10, 12, 12, 20, 0, 18, 20, 24, 24, 0, 2, 4, 8, 16, 0, 30, 30, 30, 30, 0, 30, 30, 30, 30, 0, 30, 30, 30, 30, 0, 2, 4, 8, 16, 0, 30, 30, 30, 30, 0, 30, 30, 30, 30, 0, 30, 30, 30, 30]
  | 1 => [1, 0, 5, 9, 17, 5, 0, 4, 8, 16, 9, 0, 13, 13, 21, 17, 0, 21, 25, 25, 1, 0, 13, 13, 21, 13, 0, 4, 8, 16, 13, 0, 12, 12, 20, 21, 0, 20, 24, 24, 1, 0, 21, 25, 25, 21, 0, 4, 8, 16, 25, 0, 29, 29, 29, 25, 0, 29, 29, 29, 1, 0, 5, 9, 17, 5, 0, 4, 8, 16, 9, 0, 29, 29, 29, 17, 0, 29, 29, 29, 1, 0, 29, 29, 29, 29, 0, 4, 8, 16, 29, 0, 12, 12, 20, 29, 0, 20, 24, 24, 1, 0, 29, 29, 29, 29, 0, 4, 8, 16, 29, 0, 28, 28, 28, 29, 0, 28, 28, 28]
  | 2 => [3, 3, 0, 11, 19, 1, 2, 0, 11, 19, 11, 11, 0, 8, 16, 19, 19, 0, 27, 27, 11, 11, 0, 9, 17, 1, 2, 0, 10, 18, 9, 10, 0, 8, 16, 17, 18, 0, 27, 27, 19, 19, 0, 27, 27, 1, 2, 0, 27, 27, 27, 27, 0, 8, 16, 27, 27, 0, 24, 24, 3, 3, 0, 27, 27, 1, 2, 0, 27, 27, 27, 27, 0, 8, 16, 27, 27, 0, 25, 25, 27, 27, 0, 9, 17, 1, 2, 0, 10, 18, 9, 10, 0, 8, 16, 17, 18, 0, 26, 26, 27, 27, 0, 25, 25, 1, 2, 0, 26, 26, 25, 26, 0, 8, 16, 25, 26, 0, 24, 24]
  | 3 => [7, 7, 7, 0, 23, 7, 7, 7, 0, 23, 1, 2, 4, 0, 23, 23, 23, 23, 0, 16, 3, 3, 5, 0, 23, 5, 6, 6, 0, 23, 1, 2, 4, 0, 23, 23, 23, 23, 0, 16, 23, 23, 23, 0, 17, 23, 23, 23, 0, 18, 1, 2, 4, 0, 20, 17, 18, 20, 0, 16, 23, 23, 23, 0, 19, 23, 23, 23, 0, 19, 1, 2, 4, 0, 21, 19, 19, 21, 0, 16, 3, 3, 5, 0, 21, 5, 6, 6, 0, 22, 1, 2, 4, 0, 22, 21, 22, 22, 0, 16, 19, 19, 21, 0, 17, 21, 22, 22, 0, 18, 1, 2, 4, 0, 20, 17, 18, 20, 0, 16]
  | _ => [15, 15, 15, 15, 0, 15, 15, 15, 15, 0, 15, 15, 15, 15, 0, 1, 2, 4, 8, 0, 15, 15, 15, 15, 0, 15, 15, 15, 15, 0, 15, 15, 15, 15, 0, 1, 2, 4, 8, 0, 3, 3, 5, 9, 0, 5, 6, 6, 10, 0, 9, 10, 12, 12, 0, 1, 2, 4, 8, 0, 7, 7, 7, 11, 0, 7, 7, 7, 11, 0, 11, 11, 13, 13, 0, 1, 2, 4, 8, 0, 11, 11, 13, 13, 0, 13, 14, 14, 14, 0, 13, 14, 14, 14, 0, 1, 2, 4, 8, 0, 3, 3, 5, 9, 0, 5, 6, 6, 10, 0, 9, 10, 12, 12, 0, 1, 2, 4, 8, 0]
def zm_chk (pl : Nat) : List Nat → Nat → Bool
  | [], _ => true
  | c :: l, k => decide (zm_go pl 5 k 0 = some c) && decide (c < 32) && zm_chk pl l (k + 1)
theorem zt_chk : ∀ pl, pl < 5 → zm_chk pl (zm_L pl) 0 = true ∧ (zm_L pl).length = 120 := by decide +kernel
/-- the sum of the player's margins -/
def zp_yl (w : Nat → Int32) (pl : Nat) : List Nat → Int32 → Int32
  | [], acc => acc
  | c :: l, acc => zp_yl w pl l (acc + (w (c ||| 2 ^ pl) - w c))
theorem zm_c {pl c k : Nat} {l : List Nat} (h : zm_chk pl (c :: l) k = true) : zm_go pl 5 k 0 = some c ∧ c < 32 ∧ zm_chk pl l (k + 1) = true := by
  rw [zm_chk, Bool.and_eq_true, Bool.and_eq_true, decide_eq_true_eq, decide_eq_true_eq] at h
  exact ⟨h.1.1, h.1.2, h.2⟩
theorem zl_yl {pl : Nat} (hpl : pl < 5) : ∀ (l : List Nat) k (A : (Nat → Int32) → Int32), zm_chk pl l k = true → zl_Lin A → zl_Lin (fun w => zp_yl w pl l (A w)) := by
  intro l
  induction l with
  | nil => intro k A _ hA; exact hA
  | cons c l ih =>
    intro k A h hA
    obtain ⟨_, hc, h2⟩ := zm_c h
    exact ih (k + 1) (fun w => A w + (w (c ||| 2 ^ pl) - w c)) h2 (zl_add hA (zl_sub (zl_at (zt_orl hc hpl)) (zl_at hc)))
theorem zy_o15 {post : Int32 → Prop} {w mo2 pa am : Nat → Int32} {pl : Nat} (hpl : pl < 5) : ∀ (l : List Nat) k acc n, k + l.length = 120 → l.length < n → zm_chk pl l k = true → post (zp_yl w pl l acc) → wY_orderValue_15 post (nI pl) w mo2 pa am n acc (nI k) := by
  intro l
  induction l with
  | nil =>
    intro k acc n hk hn h K
    obtain ⟨m, rfl⟩ : ∃ m, n = m + 1 := ⟨n - 1, by omega⟩
    obtain rfl : k = 120 := hk
    exact br_t zz_120t K
  | cons c l ih =>
    intro k acc n hk hn h K
    rw [List.length_cons] at hk hn
    obtain ⟨m, rfl⟩ : ∃ m, n = m + 1 := ⟨n - 1, by omega⟩
    obtain ⟨hg, _, h2⟩ := zm_c h
    exact br_f (zz_120f (by omega)) (zy_margin hpl (by omega) hg (nm_e (nm_r (nI_1 k) (ih (k + 1) _ m (by omega) (by omega) h2 K))))
theorem zt_order : ∀ pl, pl < 5 → ∀ j, j < 32 → zp_fo zp_co (zp_mb (zl_e j) 5) pl 31 1 0 = zp_yl (zl_e j) pl (zm_L pl) 0 := by decide +kernel
theorem zl_order {w : Nat → Int32} (h0 : w 0 = 0) {pl : Nat} (hpl : pl < 5) : zp_fo zp_co (zp_mb w 5) pl 31 1 0 = zp_yl w pl (zm_L pl) 0 :=
  zl_eq (F := fun w => zp_fo zp_co (zp_mb w 5) pl 31 1 0) (G := fun w => zp_yl w pl (zm_L pl) 0) (zl_fo 31 1 (fun _ => 0) zl_zero (by decide)) (zl_yl hpl (zm_L pl) 0 (fun _ => 0) (zt_chk pl hpl).1 zl_zero) (fun j hj => Or.inr (zt_order pl hpl j hj)) h0
theorem i_vc_orderValue {k : Nat} {u : SX} {v : SY} (I : i_Rel k u v) (hk : k + 3 ≤ 1536) (v1 : Int32) : wpX_orderValue (fun r u' => wpY_orderValue (fun r' => r' = r ∧ i_Rel (k + 3) u' v) v v1) u v1 := by
  obtain ⟨w, am, pt, mo, sp, mo2, pa, rfl, rfl, h⟩ := I
  unfold wpX_orderValue wpY_orderValue
  rcases zz_pl v1 with hb | ⟨pl, hpl, rfl⟩
  · exact zx_bp1 hb (br_f zz_10 (zy_ip0 hb (br_t rfl ⟨rfl, zz_rel h⟩)))
  · refine zx_bp0 hpl (br_t rfl (zx_find fun pt' hpt => Exists.intro 32 (zx_o18 hpl hpt 31 1 0 32 (by decide) (by decide) (by decide) ?_)))
    refine zy_ip1 hpl (br_f zz_10 ⟨121, zy_o15 hpl (zm_L pl) 0 0 121 ?_ ?_ (zt_chk pl hpl).1 ⟨(zl_order h.1 hpl).symm, zz_rel h⟩⟩)
    · rw [(zt_chk pl hpl).2]
    · rw [(zt_chk pl hpl).2]; decide
end
section
/-! swingValue -/
def zp_cs (s : Nat) : Int32 := (1 : Int32) <<< ((5 - zp_sz s 5 0 0) &&& 31)
def zp_ys (w : Nat → Int32) (pl : Nat) : Nat → Nat → Int32 → Int32
  | 0, _, acc => acc
  | d + 1, s, acc => zp_ys w pl d (s + 1) (if s.testBit pl = true then acc else acc + (w (s ||| 2 ^ pl) - w s))
theorem zp_yst {w : Nat → Int32} {pl d s : Nat} {acc : Int32} (h : s.testBit pl = true) : zp_ys w pl (d + 1) s acc = zp_ys w pl d (s + 1) acc := by
  rw [zp_ys, if_pos h]
theorem zp_ysf {w : Nat → Int32} {pl d s : Nat} {acc : Int32} (h : s.testBit pl = false) : zp_ys w pl (d + 1) s acc = zp_ys w pl d (s + 1) (acc + (w (s ||| 2 ^ pl) - w s)) := by
  rw [zp_ys, if_neg (zz_nt h)]
theorem zl_ys {pl : Nat} (hpl : pl < 5) : ∀ d s (A : (Nat → Int32) → Int32), zl_Lin A → s + d ≤ 32 → zl_Lin (fun w => zp_ys w pl d s (A w)) := by
  intro d
  induction d with
  | zero => intro s A hA _; exact hA
  | succ d ih =>
    intro s A hA hs
    cases h : s.testBit pl with
    | true =>
      have e : (fun w => zp_ys w pl (d + 1) s (A w)) = fun w => zp_ys w pl d (s + 1) (A w) := by
        funext w
        exact zp_yst h
      rw [e]
      exact ih (s + 1) A hA (by omega)
    | false =>
      have e : (fun w => zp_ys w pl (d + 1) s (A w)) = fun w => zp_ys w pl d (s + 1) (A w + (w (s ||| 2 ^ pl) - w s)) := by
        funext w
        exact zp_ysf h
      rw [e]
      exact ih (s + 1) (fun w => A w + (w (s ||| 2 ^ pl) - w s)) (zl_add hA (zl_sub (zl_at (zt_orl (by omega) hpl)) (zl_at (by omega)))) (by omega)
theorem zt_swing : ∀ pl, pl < 5 → ∀ j, j < 32 → zp_fo zp_cs (zp_mb (zl_e j) 5) pl 31 1 0 = zp_ys (zl_e j) pl 32 0 0 := by decide +kernel
theorem zl_swing {w : Nat → Int32} (h0 : w 0 = 0) {pl : Nat} (hpl : pl < 5) : zp_fo zp_cs (zp_mb w 5) pl 31 1 0 = zp_ys w pl 32 0 0 :=
  zl_eq (F := fun w => zp_fo zp_cs (zp_mb w 5) pl 31 1 0) (G := fun w => zp_ys w pl 32 0 0) (zl_fo 31 1 (fun _ => 0) zl_zero (by decide)) (zl_ys hpl 32 0 (fun _ => 0) zl_zero (by decide)) (fun j hj => Or.inr (zt_swing pl hpl j hj)) h0
theorem zx_s18 {post : Int32 → SX → Prop} {w am pt mo sp : Nat → Int32} {pl : Nat} (hpl : pl < 5) (hpt : ∀ j, j < 32 → pt j = zp_mb w 5 j) : ∀ d s acc n, s + d = 32 → d < n → post (zp_fo zp_cs (zp_mb w 5) pl d s acc) (w, am, pt, mo, sp) → wX_swingValue_18 post (nI pl) w am pt mo sp n acc (nI s) := by
  intro d
  induction d with
  | zero =>
    intro s acc n hs hn K
    obtain ⟨m, rfl⟩ : ∃ m, n = m + 1 := ⟨n - 1, by omega⟩
    obtain rfl : s = 32 := by omega
    exact br_t zz_32t K
  | succ d ih =>
    intro s acc n hs hn K
    obtain ⟨m, rfl⟩ : ∃ m, n = m + 1 := ⟨n - 1, by omega⟩
    have hs2 : s < 32 := by omega
    refine br_f (zz_32f hs2) (zx_size hs2 ?_)
    cases hb : s.testBit pl with
    | true =>
      rw [zp_fot hb] at K
      exact br_t (zt_b1 hs2 hpl hb) ⟨zz_in hs2, nm_r (e' := acc + zp_mb w 5 s * zp_cs s) (by rw [zz_cl (by omega), hpt s hs2]; rfl) (nm_r (nI_1 s) (ih (s + 1) _ m (by omega) (by omega) K))⟩
    | false =>
      rw [zp_fof hb] at K
      exact br_f (zt_b1n hs2 hpl hb) (nm_r (nI_1 s) (ih (s + 1) _ m (by omega) (by omega) K))
theorem zy_s15 {post : Int32 → Prop} {w mo2 pa am : Nat → Int32} {pl : Nat} (hpl : pl < 5) : ∀ d s acc n, s + d = 32 → d < n → post (zp_ys w pl d s acc) → wY_swingValue_15 post (nI pl) w mo2 pa am n acc (nI s) := by
  intro d
  induction d with
  | zero =>
    intro s acc n hs hn K
    obtain ⟨m, rfl⟩ : ∃ m, n = m + 1 := ⟨n - 1, by omega⟩
    obtain rfl : s = 32 := by omega
    exact br_t zz_32t K
  | succ d ih =>
    intro s acc n hs hn K
    obtain ⟨m, rfl⟩ : ∃ m, n = m + 1 := ⟨n - 1, by omega⟩
    have hs2 : s < 32 := by omega
    have l := zt_orl hs2 hpl
    refine br_f (zz_32f hs2) ?_
    rw [zt_orx hpl]
    cases hb : s.testBit pl with
    | true =>
      rw [zp_yst hb] at K
      exact br_f (zt_b0n hs2 hpl hb) (nm_r (nI_1 s) (ih (s + 1) _ m (by omega) (by omega) K))
    | false =>
      rw [zp_ysf hb] at K
      exact br_t (zt_b0 hs2 hpl hb) ⟨zz_in l, zz_in hs2, nm_r (e' := acc + (w (s ||| 2 ^ pl) - w s)) (by rw [zz_cl (p := s) (by omega), zz_cl (p := s ||| 2 ^ pl) (by omega)]) (nm_r (nI_1 s) (ih (s + 1) _ m (by omega) (by omega) K))⟩
theorem i_vc_swingValue {k : Nat} {u : SX} {v : SY} (I : i_Rel k u v) (hk : k + 3 ≤ 1536) (v1 : Int32) : wpX_swingValue (fun r u' => wpY_swingValue (fun r' => r' = r ∧ i_Rel (k + 3) u' v) v v1) u v1 := by
  obtain ⟨w, am, pt, mo, sp, mo2, pa, rfl, rfl, h⟩ := I
  unfold wpX_swingValue wpY_swingValue
  rcases zz_pl v1 with hb | ⟨pl, hpl, rfl⟩
  · exact zx_bp1 hb (br_f zz_10 (zy_ip0 hb (br_t rfl ⟨rfl, zz_rel h⟩)))
  · refine zx_bp0 hpl (br_t rfl (zx_find fun pt' hpt => Exists.intro 32 (zx_s18 hpl hpt 31 1 0 32 (by decide) (by decide) ?_)))
    exact zy_ip1 hpl (br_f zz_10 ⟨33, zy_s15 hpl 32 0 0 33 (by decide) (by decide) ⟨(zl_swing h.1 hpl).symm, zz_rel h⟩⟩)
end
section
/-! convex: the walks -/
theorem zz_d32 {k : Nat} (h : k < 4096) : nI k / 32 = nI (k / 32) := pk_div (d := 32) (by omega) (by decide) (by decide)
theorem zz_m32 {k : Nat} (h : k < 4096) : nI k - nI k / 32 * 32 = nI (k % 32) := pk_rem (d := 32) (by omega) (by decide) (by decide)
theorem zz_d5 {k : Nat} (h : k < 4096) : nI k / 5 = nI (k / 5) := pk_div (d := 5) (by omega) (by decide) (by decide)
theorem zz_m5 {k : Nat} (h : k < 4096) : nI k - nI k / 5 * 5 = nI (k % 5) := pk_rem (d := 5) (by omega) (by decide) (by decide)
theorem zz_n32 : ¬ (32 : Int32) = 0 := by decide
theorem zz_n5 : ¬ (5 : Int32) = 0 := by decide
def zc_C (w : Nat → Int32) (a b s : Nat) : Prop := w (s ||| 2 ^ a) + w (s ||| 2 ^ b) ≤ w ((s ||| 2 ^ a) ||| 2 ^ b) + w s
def zc_G (w : Nat → Int32) (a b : Nat) : Prop := ∀ s, s < 32 → s &&& (2 ^ a ||| 2 ^ b) = 0 → zc_C w a b s
def zc_Y (w : Nat → Int32) (k : Nat) : Prop := w (k / 32) + w (k % 32) ≤ w (k / 32 ||| k % 32) + w (k / 32 &&& k % 32)
section
variable {w am pt mo sp mo2 pa : Nat → Int32}
theorem zx_pg12 {post : Int32 → Prop} {a b : Nat} (ha : a < 5) (hb : b < 5) : ∀ d s n, s + d = 32 → d < n → ((∀ j, s ≤ j → j < 32 → j &&& (2 ^ a ||| 2 ^ b) = 0 → zc_C w a b j) → post 1) → ((¬ ∀ j, s ≤ j → j < 32 → j &&& (2 ^ a ||| 2 ^ b) = 0 → zc_C w a b j) → post 0) → wX_pairGains_12 post (nI (2 ^ a)) (nI (2 ^ b)) w am pt mo sp n (nI s) := by
  intro d
  induction d with
  | zero =>
    intro s n hs hn K1 K0
    obtain ⟨m, rfl⟩ : ∃ m, n = m + 1 := ⟨n - 1, by omega⟩
    obtain rfl : s = 32 := by omega
    exact br_t zz_32t (K1 fun j h1 h2 => absurd h2 (by omega))
  | succ d ih =>
    intro s n hs hn K1 K0
    obtain ⟨m, rfl⟩ : ∃ m, n = m + 1 := ⟨n - 1, by omega⟩
    have hs2 : s < 32 := by omega
    have la := zt_orl hs2 ha
    have lb := zt_orl hs2 hb
    have lab := zt_orl la hb
    have lx := zt_and s hs2 _ (zt_or _ (zt_pow a ha) _ (zt_pow b hb))
    have e1 : nI s &&& (nI (2 ^ a) ||| nI (2 ^ b)) = nI (s &&& (2 ^ a ||| 2 ^ b)) := by rw [zz_or, nx_and]
    have e2 : nI s ||| nI (2 ^ a) = nI (s ||| 2 ^ a) := zz_or _ _
    have e3 : nI s ||| nI (2 ^ b) = nI (s ||| 2 ^ b) := zz_or _ _
    have e4 : nI (s ||| 2 ^ a) ||| nI (2 ^ b) = nI ((s ||| 2 ^ a) ||| 2 ^ b) := zz_or _ _
    have nx (h : s &&& (2 ^ a ||| 2 ^ b) = 0 → zc_C w a b s) : wX_pairGains_12 post (nI (2 ^ a)) (nI (2 ^ b)) w am pt mo sp m (nI (s + 1)) := by
      refine ih (s + 1) m (by omega) (by omega) (fun A => K1 fun j h1 h2 h3 => ?_) fun A => K0 fun B => A fun j h1 h2 h3 => B j (by omega) h2 h3
      by_cases e : j = s
      · subst e
        exact h h3
      · exact A j (by omega) h2 h3
    refine br_f (zz_32f hs2) ?_
    rw [e1, e2, e3, e4]
    by_cases h0 : s &&& (2 ^ a ||| 2 ^ b) = 0
    · refine br_t (by rw [h0]; rfl) ⟨zz_in lab, zz_in hs2, zz_in la, zz_in lb, ?_⟩
      rw [zz_cl (p := s ||| 2 ^ a) (by omega), zz_cl (p := s ||| 2 ^ b) (by omega), zz_cl (p := (s ||| 2 ^ a) ||| 2 ^ b) (by omega), zz_cl (p := s) (by omega)]
      by_cases hC : zc_C w a b s
      · exact br_t hC (nm_r (nI_1 s) (nx fun _ => hC))
      · exact br_f hC (K0 fun B => hC (B s (Nat.le_refl s) hs2 h0))
    · exact br_f (fun z => h0 ((nI_eq (b := 0) (by omega) (by decide)).mp z)) (nm_r (nI_1 s) (nx fun z => absurd z h0))
theorem zx_pg {post : Int32 → Prop} {a b : Nat} (ha : a < 5) (hb : b < 5) (K1 : zc_G w a b → post 1) (K0 : ¬ zc_G w a b → post 0) : wpX_pairGains post (w, am, pt, mo, sp) (nI a) (nI b) := by
  unfold wpX_pairGains
  refine nm_r (zt_one a ha) (nm_r (zt_one b hb) ⟨33, zx_pg12 ha hb 32 0 33 (by decide) (by decide) (fun A => K1 fun s h1 h2 => A s (Nat.zero_le s) h1 h2) fun A => K0 fun B => A fun j _ h1 h2 => B j h1 h2⟩)
theorem zx_c11 {post : Int32 → Prop} {J : Int32 → Prop} {a : Nat} (ha : a < 5) : ∀ d b n, b + d = 5 → d < n → ((∀ j, b ≤ j → j < 5 → zc_G w a j) → J (nI (a + 1))) → ((¬ ∀ j, b ≤ j → j < 5 → zc_G w a j) → post 0) → wX_convex_11 post J (nI a) w am pt mo sp n (nI b) := by
  intro d
  induction d with
  | zero =>
    intro b n hb hn K1 K0
    obtain ⟨m, rfl⟩ : ∃ m, n = m + 1 := ⟨n - 1, by omega⟩
    obtain rfl : b = 5 := by omega
    exact br_t zz_5t (nm_r (nI_1 a) (K1 fun j h1 h2 => absurd h2 (by omega)))
  | succ d ih =>
    intro b n hb hn K1 K0
    obtain ⟨m, rfl⟩ : ∃ m, n = m + 1 := ⟨n - 1, by omega⟩
    refine br_f (zz_5f (by omega)) (zx_pg ha (by omega) (fun G => br_f zz_10 (nm_r (nI_1 b) (ih (b + 1) m (by omega) (by omega) (fun A => K1 fun j h1 h2 => ?_) fun A => K0 fun B => A fun j h1 h2 => B j (by omega) h2))) fun G => br_t rfl (K0 fun B => G (B b (Nat.le_refl b) (by omega))))
    by_cases e : j = b
    · subst e
      exact G
    · exact A j (by omega) h2
theorem zx_c2 {post : Int32 → Prop} : ∀ d a n, a + d = 5 → d < n → ((∀ i j, a ≤ i → i < j → j < 5 → zc_G w i j) → post 1) → ((¬ ∀ i j, a ≤ i → i < j → j < 5 → zc_G w i j) → post 0) → wX_convex_2 post w am pt mo sp n (nI a) := by
  intro d
  induction d with
  | zero =>
    intro a n ha hn K1 K0
    obtain ⟨m, rfl⟩ : ∃ m, n = m + 1 := ⟨n - 1, by omega⟩
    obtain rfl : a = 5 := by omega
    exact br_t zz_5t (K1 fun i j h1 h2 h3 => absurd h3 (by omega))
  | succ d ih =>
    intro a n ha hn K1 K0
    obtain ⟨m, rfl⟩ : ∃ m, n = m + 1 := ⟨n - 1, by omega⟩
    refine br_f (zz_5f (by omega)) (nm_r (nI_1 a) ⟨6, zx_c11 (by omega) d (a + 1) 6 (by omega) (by omega) (fun G => ih (a + 1) m (by omega) (by omega) (fun A => K1 fun i j h1 h2 h3 => ?_) fun A => K0 fun B => A fun i j h1 h2 h3 => B i j (by omega) h2 h3) fun G => K0 fun B => G fun j h1 h2 => B a j (Nat.le_refl a) (by omega) h2⟩)
    by_cases e : i = a
    · subst e
      exact G j (by omega) h3
    · exact A i j (by omega) h2 h3
theorem zx_convex {post : Int32 → Prop} (K1 : (∀ i j, i < j → j < 5 → zc_G w i j) → post 1) (K0 : (¬ ∀ i j, i < j → j < 5 → zc_G w i j) → post 0) : wpX_convex post (w, am, pt, mo, sp) :=
  Exists.intro 6 (zx_c2 5 0 6 (by decide) (by decide) (fun A => K1 fun i j h1 h2 => A i j (Nat.zero_le i) h1 h2) fun A => K0 fun B => A fun i j _ h1 h2 => B i j h1 h2)
theorem zy_c2 {post : Int32 → Prop} : ∀ d k n, k + d = 1024 → d < n → ((∀ j, k ≤ j → j < 1024 → zc_Y w j) → post 1) → ((¬ ∀ j, k ≤ j → j < 1024 → zc_Y w j) → post 0) → wY_convex_2 post w mo2 pa am n (nI k) := by
  intro d
  induction d with
  | zero =>
    intro k n hk hn K1 K0
    obtain ⟨m, rfl⟩ : ∃ m, n = m + 1 := ⟨n - 1, by omega⟩
    obtain rfl : k = 1024 := by omega
    exact br_t zz_1024t (K1 fun j h1 h2 => absurd h2 (by omega))
  | succ d ih =>
    intro k n hk hn K1 K0
    obtain ⟨m, rfl⟩ : ∃ m, n = m + 1 := ⟨n - 1, by omega⟩
    have l1 : k / 32 < 32 := by omega
    have l2 : k % 32 < 32 := by omega
    have l3 := zt_or _ l1 _ l2
    have l4 := zt_and _ l1 _ l2
    refine br_f (zz_1024f (by omega)) ⟨zz_n32, nm_r (zz_d32 (by omega)) ⟨zz_n32, nm_r (zz_m32 (by omega)) ?_⟩⟩
    rw [zz_or, nx_and]
    refine ⟨zz_in l3, zz_in l4, zz_in l1, zz_in l2, ?_⟩
    rw [zz_cl (p := k / 32 ||| k % 32) (by omega), zz_cl (p := k / 32 &&& k % 32) (by omega), zz_cl (p := k / 32) (by omega), zz_cl (p := k % 32) (by omega)]
    by_cases hC : zc_Y w k
    · refine br_t hC (nm_r (nI_1 k) (ih (k + 1) m (by omega) (by omega) (fun A => K1 fun j h1 h2 => ?_) fun A => K0 fun B => A fun j h1 h2 => B j (by omega) h2))
      by_cases e : j = k
      · subst e
        exact hC
      · exact A j (by omega) h2
    · exact br_f hC (K0 fun B => hC (B k (Nat.le_refl k) (by omega)))
theorem zy_convex {post : Int32 → Prop} (K1 : (∀ j, j < 1024 → zc_Y w j) → post 1) (K0 : (¬ ∀ j, j < 1024 → zc_Y w j) → post 0) : wpY_convex post (w, mo2, pa, am) :=
  Exists.intro 1025 (zy_c2 1024 0 1025 (by decide) (by decide) (fun A => K1 fun j h => A j (Nat.zero_le j) h) fun A => K0 fun B => A fun j _ h => B j h)
end
end
section
/-! convex: looking at pairs of players is enough -/
theorem zz_addI {x y : Int32} (h1 : -1000000 ≤ x.toInt) (h2 : x.toInt ≤ 1000000) (h3 : -1000000 ≤ y.toInt) (h4 : y.toInt ≤ 1000000) : (x + y).toInt = x.toInt + y.toInt := by
  rw [Int32.toInt_add]
  exact Int.bmod_eq_of_le (by omega) (by omega)
theorem zz_addW {w : Nat → Int32} (h : zz_ok w) {a b : Nat} (ha : a < 32) (hb : b < 32) : (w a + w b).toInt = (w a).toInt + (w b).toInt := by
  have := h.2 a ha
  have := h.2 b hb
  exact zz_addI (by omega) (by omega) (by omega) (by omega)
theorem zz_leW {w : Nat → Int32} (h : zz_ok w) {a b c d : Nat} (ha : a < 32) (hb : b < 32) (hc : c < 32) (hd : d < 32) : w a + w b ≤ w c + w d ↔ (w a).toInt + (w b).toInt ≤ (w c).toInt + (w d).toInt := by
  rw [Int32.le_iff_toInt_le, zz_addW h ha hb, zz_addW h hc hd]
/-- the place of the lowest player -/
def zc_lo (d : Nat) : Nat := if d.testBit 0 = true then 0 else if d.testBit 1 = true then 1 else if d.testBit 2 = true then 2 else if d.testBit 3 = true then 3 else 4
def zc_pc (d : Nat) : Nat := d % 2 + d / 2 % 2 + d / 4 % 2 + d / 8 % 2 + d / 16 % 2
def zc_one (s t a b : Nat) : Bool := decide (a < 5 ∧ b < 5 ∧ ¬ a = b ∧ (s &&& t) ||| 2 ^ a = s ∧ (s &&& t) ||| 2 ^ b = t ∧ (s &&& t) &&& (2 ^ a ||| 2 ^ b) = 0 ∧ ((s &&& t) ||| 2 ^ a) ||| 2 ^ b = s ||| t)
def zc_rd (s t u v : Nat) : Bool := decide (u < 32 ∧ v < 32 ∧ zc_pc (s ^^^ u) < zc_pc (s ^^^ t) ∧ zc_pc (v ^^^ t) < zc_pc (s ^^^ t) ∧ s ||| u = v ∧ s &&& u = s &&& t ∧ v ||| t = s ||| t ∧ v &&& t = u)
def zc_tab (s t : Nat) : Bool :=
  decide (s ||| t = t ∧ s &&& t = s) || decide (s ||| t = s ∧ s &&& t = t) || zc_one s t (zc_lo (s ^^^ (s &&& t))) (zc_lo (t ^^^ (s &&& t)))
    || zc_rd s t ((s &&& t) ||| 2 ^ zc_lo (t ^^^ (s &&& t))) (s ||| 2 ^ zc_lo (t ^^^ (s &&& t)))
    || zc_rd t s ((s &&& t) ||| 2 ^ zc_lo (s ^^^ (s &&& t))) (t ||| 2 ^ zc_lo (s ^^^ (s &&& t)))
theorem zt_cx : ∀ s, s < 32 → ∀ t, t < 32 → zc_tab s t = true := by decide +kernel
theorem zt_cm : ∀ s, s < 32 → ∀ t, t < 32 → t ||| s = s ||| t ∧ t &&& s = s &&& t ∧ t ^^^ s = s ^^^ t := by decide +kernel
theorem zt_oc : ∀ s, s < 32 → ∀ a, a < 5 → ∀ b, b < 5 → (s ||| 2 ^ b) ||| 2 ^ a = (s ||| 2 ^ a) ||| 2 ^ b ∧ s &&& (2 ^ b ||| 2 ^ a) = s &&& (2 ^ a ||| 2 ^ b) := by decide +kernel
theorem zt_ca : ∀ s, s < 32 → ∀ a, a < 5 → ∀ b, b < 5 → (a < b ∧ s &&& (2 ^ a ||| 2 ^ b) = 0) → (s ||| 2 ^ a) ||| (s ||| 2 ^ b) = (s ||| 2 ^ a) ||| 2 ^ b ∧ (s ||| 2 ^ a) &&& (s ||| 2 ^ b) = s := by decide +kernel
theorem zl_cpair {w : Nat → Int32} (h : zz_ok w) (P : ∀ i j, i < j → j < 5 → zc_G w i j) {a b s : Nat} (ha : a < 5) (hb : b < 5) (hn : ¬ a = b) (hs : s < 32) (h0 : s &&& (2 ^ a ||| 2 ^ b) = 0) : (w (s ||| 2 ^ a)).toInt + (w (s ||| 2 ^ b)).toInt ≤ (w ((s ||| 2 ^ a) ||| 2 ^ b)).toInt + (w s).toInt := by
  have la := zt_orl hs ha
  have lb := zt_orl hs hb
  have lab := zt_orl la hb
  have lba := zt_orl lb ha
  by_cases g : a < b
  · exact (zz_leW h la lb lab hs).mp (P a b g hb s hs h0)
  · obtain ⟨c1, c2⟩ := zt_oc s hs a ha b hb
    have := (zz_leW h lb la lba hs).mp (P b a (by omega) ha s hs (c2.trans h0))
    rw [c1] at this
    omega
theorem zl_cx {w : Nat → Int32} (h : zz_ok w) (P : ∀ i j, i < j → j < 5 → zc_G w i j) : ∀ n s t, s < 32 → t < 32 → zc_pc (s ^^^ t) < n → (w s).toInt + (w t).toInt ≤ (w (s ||| t)).toInt + (w (s &&& t)).toInt := by
  intro n
  induction n with
  | zero => intro s t _ _ z; exact absurd z (Nat.not_lt_zero _)
  | succ n ih =>
    intro s t hs ht hn
    have T := zt_cx s hs t ht
    unfold zc_tab at T
    rw [Bool.or_eq_true, Bool.or_eq_true, Bool.or_eq_true, Bool.or_eq_true] at T
    rcases T with (((T | T) | T) | T) | T
    · obtain ⟨e1, e2⟩ := of_decide_eq_true T
      rw [e1, e2]
      omega
    · obtain ⟨e1, e2⟩ := of_decide_eq_true T
      rw [e1, e2]
      omega
    · generalize zc_lo (s ^^^ (s &&& t)) = a at T
      generalize zc_lo (t ^^^ (s &&& t)) = b at T
      obtain ⟨ha, hb, hab, e1, e2, e3, e4⟩ := of_decide_eq_true T
      have l := zt_and s hs t ht
      have q := zl_cpair h P ha hb hab l e3
      rw [e4, e1, e2] at q
      exact q
    · generalize (s &&& t) ||| 2 ^ zc_lo (t ^^^ (s &&& t)) = u at T
      generalize s ||| 2 ^ zc_lo (t ^^^ (s &&& t)) = v at T
      obtain ⟨hu, hv, m1, m2, e1, e2, e3, e4⟩ := of_decide_eq_true T
      have q1 := ih s u hs hu (by omega)
      have q2 := ih v t hv ht (by omega)
      rw [e1, e2] at q1
      rw [e3, e4] at q2
      omega
    · generalize (s &&& t) ||| 2 ^ zc_lo (s ^^^ (s &&& t)) = u at T
      generalize t ||| 2 ^ zc_lo (s ^^^ (s &&& t)) = v at T
      obtain ⟨hu, hv, m1, m2, e1, e2, e3, e4⟩ := of_decide_eq_true T
      obtain ⟨c1, c2, c3⟩ := zt_cm s hs t ht
      rw [c3] at m1 m2
      rw [c2] at e2
      rw [c1] at e3
      have q1 := ih t u ht hu (by omega)
      have q2 := ih v s hv hs (by omega)
      rw [e1, e2] at q1
      rw [e3, e4] at q2
      omega
theorem zl_convex {w : Nat → Int32} (h : zz_ok w) : (∀ i j, i < j → j < 5 → zc_G w i j) ↔ ∀ k, k < 1024 → zc_Y w k := by
  constructor
  · intro P k hk
    have l1 : k / 32 < 32 := by omega
    have l2 : k % 32 < 32 := by omega
    exact (zz_leW h l1 l2 (zt_or _ l1 _ l2) (zt_and _ l1 _ l2)).mpr (zl_cx h P _ _ _ l1 l2 (Nat.lt_succ_self _))
  · intro Q i j hij hj s hs h0
    have li := zt_orl hs (show i < 5 by omega)
    have lj := zt_orl hs hj
    obtain ⟨c1, c2⟩ := zt_ca s hs i (by omega) j hj ⟨hij, h0⟩
    have q := Q (32 * (s ||| 2 ^ i) + (s ||| 2 ^ j)) (by omega)
    unfold zc_Y at q
    rw [show (32 * (s ||| 2 ^ i) + (s ||| 2 ^ j)) / 32 = s ||| 2 ^ i by omega, show (32 * (s ||| 2 ^ i) + (s ||| 2 ^ j)) % 32 = s ||| 2 ^ j by omega, c1, c2] at q
    exact q
theorem i_vc_convex {k : Nat} {u : SX} {v : SY} (I : i_Rel k u v) (hk : k + 3 ≤ 1536) : wpX_convex (fun r => wpY_convex (fun r' => r' = r ∧ i_Rel (k + 3) u v) v) u := by
  obtain ⟨w, am, pt, mo, sp, mo2, pa, rfl, rfl, h⟩ := I
  exact zx_convex (fun P => zy_convex (fun _ => ⟨rfl, zz_rel h⟩) fun Q => absurd ((zl_convex h).mp P) Q) fun P => zy_convex (fun Q => absurd ((zl_convex h).mpr Q) P) fun _ => ⟨rfl, zz_rel h⟩
end
section
/-! superadditive -/
theorem zt_suba : ∀ s, s < 32 → ∀ t, t < 32 → (¬ t = 0 ∧ t &&& s = t) → (t - 1) &&& s < t ∧ ((t - 1) &&& s) &&& s = (t - 1) &&& s := by decide +kernel
theorem zt_subb : ∀ s, s < 32 → ∀ t, t < 32 → t = 0 ∨ ¬ t &&& s = t ∨ ∀ u, u < 32 → (u < t ∧ u &&& s = u) → u ≤ (t - 1) &&& s := by decide +kernel
theorem zt_sub (s : Nat) (hs : s < 32) (t : Nat) (ht : t < 32) (h : ¬ t = 0 ∧ t &&& s = t) : (t - 1) &&& s < t ∧ ((t - 1) &&& s) &&& s = (t - 1) &&& s ∧ ∀ u, u < 32 → (u < t ∧ u &&& s = u) → u ≤ (t - 1) &&& s := by
  obtain ⟨h1, h2⟩ := zt_suba s hs t ht h
  refine ⟨h1, h2, ?_⟩
  rcases zt_subb s hs t ht with z | z | z
  · exact absurd z h.1
  · exact absurd h.2 z
  · exact z
theorem zt_sp1 : ∀ a, a < 32 → ∀ b, b < 32 → (¬ a = 0 ∧ ¬ b = 0 ∧ a &&& b = 0) → 1 ≤ a ||| b ∧ a ≤ ((a ||| b) - 1) &&& (a ||| b) ∧ a &&& (a ||| b) = a ∧ (a ||| b) ^^^ a = b := by decide +kernel
theorem zt_sp2 : ∀ s, s < 32 → ∀ u, u < 32 → u &&& s = u → u &&& (s ^^^ u) = 0 ∧ u ||| (s ^^^ u) = s := by decide +kernel
def zs_C (w : Nat → Int32) (s u : Nat) : Prop := w u + w (s ^^^ u) ≤ w s
def zs_B (w : Nat → Int32) (s t : Nat) : Prop := ∀ u, 0 < u → u ≤ t → u &&& s = u → zs_C w s u
def zs_Y (w : Nat → Int32) (k : Nat) : Prop := k / 32 &&& k % 32 = 0 → w (k / 32) + w (k % 32) ≤ w (k / 32 ||| k % 32)
theorem zz_dec {t s : Nat} (h : ¬ t = 0) : (nI t - 1) &&& nI s = nI ((t - 1) &&& s) := by
  obtain ⟨q, rfl⟩ : ∃ q, t = q + 1 := ⟨t - 1, by omega⟩
  rw [nI_pred, nx_and, Nat.add_sub_cancel]
section
variable {w am pt mo sp mo2 pa : Nat → Int32}
theorem zx_s16 {post : Int32 → Prop} {J : Int32 → Prop} {s : Nat} (hs : s < 32) : ∀ d t i n, t ≤ d → i + t ≤ 31 → d < n → t &&& s = t → (zs_B w s t → J (nI (s + 1))) → (¬ zs_B w s t → post 0) → wX_superadditive_16 post J (nI s) w am pt mo sp n (nI t) (nI i) := by
  intro d
  induction d with
  | zero =>
    intro t i n ht hi hn hts K1 K0
    obtain ⟨m, rfl⟩ : ∃ m, n = m + 1 := ⟨n - 1, by omega⟩
    obtain rfl : t = 0 := by omega
    exact br_f (zz_32f (by omega)) (br_t (by decide) (nm_r (nI_1 s) (K1 fun u h1 h2 => absurd h1 (by omega))))
  | succ d ih =>
    intro t i n ht hi hn hts K1 K0
    obtain ⟨m, rfl⟩ : ∃ m, n = m + 1 := ⟨n - 1, by omega⟩
    by_cases h0 : t = 0
    · subst h0
      exact br_f (zz_32f (by omega)) (br_t (by decide) (nm_r (nI_1 s) (K1 fun u h1 h2 => absurd h1 (by omega))))
    · have ht2 : t < 32 := by omega
      have lx := zt_xor s hs t ht2
      obtain ⟨c1, c2, c3⟩ := zt_sub s hs t ht2 ⟨h0, hts⟩
      refine br_f (zz_32f (by omega)) (br_f (nI_nle (by omega) (by omega)) ?_)
      rw [nx_xor, zz_dec h0]
      refine ⟨zz_in hs, zz_in ht2, zz_in lx, ?_⟩
      rw [zz_cl (p := s ^^^ t) (by omega), zz_cl (p := s) (by omega), zz_cl (p := t) (by omega)]
      by_cases hC : zs_C w s t
      · refine br_t hC (nm_e (nm_r (nI_1 i) (ih _ (i + 1) m (by omega) (by omega) (by omega) c2 (fun A => K1 fun u h1 h2 h3 => ?_) fun A => K0 fun B => A fun u h1 h2 h3 => B u h1 (by omega) h3)))
        by_cases e : u = t
        · subst e
          exact hC
        · exact A u h1 (c3 u (by omega) ⟨by omega, h3⟩) h3
      · exact br_f hC (K0 fun B => hC (B t (by omega) (Nat.le_refl t) hts))
theorem zx_s2 {post : Int32 → Prop} : ∀ d s n, s + d = 32 → 1 ≤ s → d < n → ((∀ j, s ≤ j → j < 32 → zs_B w j ((j - 1) &&& j)) → post 1) → ((¬ ∀ j, s ≤ j → j < 32 → zs_B w j ((j - 1) &&& j)) → post 0) → wX_superadditive_2 post w am pt mo sp n (nI s) := by
  intro d
  induction d with
  | zero =>
    intro s n hs h1 hn K1 K0
    obtain ⟨m, rfl⟩ : ∃ m, n = m + 1 := ⟨n - 1, by omega⟩
    obtain rfl : s = 32 := by omega
    exact br_t zz_32t (K1 fun j h1 h2 => absurd h2 (by omega))
  | succ d ih =>
    intro s n hs h1 hn K1 K0
    obtain ⟨m, rfl⟩ : ∃ m, n = m + 1 := ⟨n - 1, by omega⟩
    have hs2 : s < 32 := by omega
    obtain ⟨c1, c2, _⟩ := zt_sub s hs2 s hs2 ⟨by omega, Nat.and_self s⟩
    refine br_f (zz_32f hs2) (nm_r (zz_dec (by omega)) ⟨32, zx_s16 hs2 31 _ 0 32 (by omega) (by omega) (by decide) c2 (fun G => ih (s + 1) m (by omega) (by omega) (by omega) (fun A => K1 fun j g1 g2 => ?_) fun A => K0 fun B => A fun j g1 g2 => B j (by omega) g2) fun G => K0 fun B => G (B s (Nat.le_refl s) hs2)⟩)
    by_cases e : j = s
    · subst e
      exact G
    · exact A j (by omega) g2
theorem zx_super {post : Int32 → Prop} (K1 : (∀ j, 1 ≤ j → j < 32 → zs_B w j ((j - 1) &&& j)) → post 1) (K0 : (¬ ∀ j, 1 ≤ j → j < 32 → zs_B w j ((j - 1) &&& j)) → post 0) : wpX_superadditive post (w, am, pt, mo, sp) :=
  Exists.intro 32 (zx_s2 31 1 32 (by decide) (by decide) (by decide) K1 K0)
theorem zy_s2 {post : Int32 → Prop} : ∀ d k n, k + d = 1024 → d < n → ((∀ j, k ≤ j → j < 1024 → zs_Y w j) → post 1) → ((¬ ∀ j, k ≤ j → j < 1024 → zs_Y w j) → post 0) → wY_superadditive_2 post w mo2 pa am n (nI k) := by
  intro d
  induction d with
  | zero =>
    intro k n hk hn K1 K0
    obtain ⟨m, rfl⟩ : ∃ m, n = m + 1 := ⟨n - 1, by omega⟩
    obtain rfl : k = 1024 := by omega
    exact br_t zz_1024t (K1 fun j h1 h2 => absurd h2 (by omega))
  | succ d ih =>
    intro k n hk hn K1 K0
    obtain ⟨m, rfl⟩ : ∃ m, n = m + 1 := ⟨n - 1, by omega⟩
    have l1 : k / 32 < 32 := by omega
    have l2 : k % 32 < 32 := by omega
    have l3 := zt_or _ l1 _ l2
    have l4 := zt_and _ l1 _ l2
    have nx (hC : zs_Y w k) : wY_superadditive_2 post w mo2 pa am m (nI (k + 1)) := by
      refine ih (k + 1) m (by omega) (by omega) (fun A => K1 fun j h1 h2 => ?_) fun A => K0 fun B => A fun j h1 h2 => B j (by omega) h2
      by_cases e : j = k
      · subst e
        exact hC
      · exact A j (by omega) h2
    refine br_f (zz_1024f (by omega)) ⟨zz_n32, nm_r (zz_d32 (by omega)) ⟨zz_n32, nm_r (zz_m32 (by omega)) ?_⟩⟩
    rw [zz_or, nx_and]
    by_cases h0 : k / 32 &&& k % 32 = 0
    · refine br_t (by rw [h0]; rfl) ⟨zz_in l3, zz_in l1, zz_in l2, ?_⟩
      rw [zz_cl (p := k / 32 ||| k % 32) (by omega), zz_cl (p := k / 32) (by omega), zz_cl (p := k % 32) (by omega)]
      by_cases hC : w (k / 32) + w (k % 32) ≤ w (k / 32 ||| k % 32)
      · exact br_t hC (nm_r (nI_1 k) (nx fun _ => hC))
      · exact br_f hC (K0 fun B => hC (B k (Nat.le_refl k) (by omega) h0))
    · exact br_f (fun z => h0 ((nI_eq (b := 0) (by omega) (by decide)).mp z)) (nm_r (nI_1 k) (nx fun z => absurd z h0))
theorem zy_super {post : Int32 → Prop} (K1 : (∀ j, j < 1024 → zs_Y w j) → post 1) (K0 : (¬ ∀ j, j < 1024 → zs_Y w j) → post 0) : wpY_superadditive post (w, mo2, pa, am) :=
  Exists.intro 1025 (zy_s2 1024 0 1025 (by decide) (by decide) (fun A => K1 fun j h => A j (Nat.zero_le j) h) fun A => K0 fun B => A fun j _ h => B j h)
end
theorem zt_o0 : ∀ b, b < 32 → 0 ||| b = b ∧ b ||| 0 = b := by decide +kernel
theorem zl_super {w : Nat → Int32} (h0 : w 0 = 0) : (∀ j, 1 ≤ j → j < 32 → zs_B w j ((j - 1) &&& j)) ↔ ∀ k, k < 1024 → zs_Y w k := by
  constructor
  · intro P k hk hd
    have l1 : k / 32 < 32 := by omega
    have l2 : k % 32 < 32 := by omega
    revert hd l1 l2
    generalize k / 32 = a
    generalize k % 32 = b
    intro hd ha hb
    by_cases za : a = 0
    · subst za
      rw [(zt_o0 b hb).1, h0, Int32.zero_add]
      exact Int32.le_refl _
    · by_cases zb : b = 0
      · subst zb
        rw [(zt_o0 a ha).2, h0, Int32.add_zero]
        exact Int32.le_refl _
      · obtain ⟨c1, c2, c3, c4⟩ := zt_sp1 a ha b hb ⟨za, zb, hd⟩
        have q := P (a ||| b) c1 (zt_or a ha b hb) a (by omega) c2 c3
        unfold zs_C at q
        rw [c4] at q
        exact q
  · intro Q s h1 hs u hu hle hus
    have hu2 : u < 32 := by
      have := zt_and (s - 1) (by omega) s hs
      omega
    have lx := zt_xor s hs u hu2
    obtain ⟨c1, c2⟩ := zt_sp2 s hs u hu2 hus
    have q := Q (32 * u + (s ^^^ u)) (by omega)
    unfold zs_Y at q
    rw [show (32 * u + (s ^^^ u)) / 32 = u by omega, show (32 * u + (s ^^^ u)) % 32 = s ^^^ u by omega, c1, c2] at q
    exact q rfl
theorem i_vc_superadditive {k : Nat} {u : SX} {v : SY} (I : i_Rel k u v) (hk : k + 3 ≤ 1536) : wpX_superadditive (fun r => wpY_superadditive (fun r' => r' = r ∧ i_Rel (k + 3) u v) v) u := by
  obtain ⟨w, am, pt, mo, sp, mo2, pa, rfl, rfl, h⟩ := I
  exact zx_super (fun P => zy_super (fun _ => ⟨rfl, zz_rel h⟩) fun Q => absurd ((zl_super h.1).mp P) Q) fun P => zy_super (fun Q => absurd ((zl_super h.1).mpr Q) P) fun _ => ⟨rfl, zz_rel h⟩
end
section
/-! bestSplit: the walks -/
/-- r is the greatest of b and of g at the parts of rest up to t -/
def zb_M (g : Nat → Int32) (rest t : Nat) (b r : Int32) : Prop := b ≤ r ∧ (∀ u, 0 < u → u ≤ t → u &&& rest = u → g u ≤ r) ∧ (r = b ∨ ∃ u, 0 < u ∧ u ≤ t ∧ u &&& rest = u ∧ r = g u)
theorem zb_Mc {g g' : Nat → Int32} {rest t : Nat} {b r : Int32} (e : ∀ u, 0 < u → u ≤ t → g u = g' u) (h : zb_M g rest t b r) : zb_M g' rest t b r := by
  obtain ⟨h1, h2, h3⟩ := h
  refine ⟨h1, fun u a1 a2 a3 => ?_, ?_⟩
  · rw [← e u a1 a2]
    exact h2 u a1 a2 a3
  · rcases h3 with h3 | ⟨u, a1, a2, a3, a4⟩
    · exact Or.inl h3
    · exact Or.inr ⟨u, a1, a2, a3, a4.trans (e u a1 a2)⟩
def zb_D (w sp : Nat → Int32) (n : Nat) : Prop := sp 0 = 0 ∧ ∀ j, 1 ≤ j → j < n → zb_M (fun u => w (j ^^^ u) + sp u) ((j - 1) &&& j) ((j - 1) &&& j) (w j) (sp j)
theorem zt_rest : ∀ s, s < 32 → s = 0 ∨ nI s ^^^ (nI s &&& (-nI s)) = nI ((s - 1) &&& s) := by decide +kernel
section
variable {w am pt mo mo2 pa : Nat → Int32}
theorem zx_b38 {post : Int32 → SX → Prop} {J : Int32 → (Nat → Int32) → (Nat → Int32) → (Nat → Int32) → (Nat → Int32) → (Nat → Int32) → Prop} {sp : Nat → Int32} {s rest : Nat} (hs : s < 32) (hr : rest < 32) : ∀ d t b i n, t ≤ d → i + t ≤ 31 → d < n → t &&& rest = t → (∀ r, zb_M (fun u => w (s ^^^ u) + sp u) rest t b r → J (nI (s + 1)) w am pt mo (upd sp s r)) → wX_bestSplit_38 post J (nI s) (nI rest) w am pt mo sp n (nI t) b (nI i) := by
  intro d
  induction d with
  | zero =>
    intro t b i n ht hi hn hts K
    obtain ⟨m, rfl⟩ : ∃ m, n = m + 1 := ⟨n - 1, by omega⟩
    obtain rfl : t = 0 := by omega
    exact br_f (zz_32f (by omega)) (br_t (by decide) ⟨zz_in hs, nm_r (e' := upd sp s b) (by rw [zz_cl (by omega)]) (nm_r (nI_1 s) (K b ⟨Int32.le_refl b, fun u h1 h2 => absurd h1 (by omega), Or.inl rfl⟩))⟩)
  | succ d ih =>
    intro t b i n ht hi hn hts K
    obtain ⟨m, rfl⟩ : ∃ m, n = m + 1 := ⟨n - 1, by omega⟩
    by_cases h0 : t = 0
    · subst h0
      exact br_f (zz_32f (by omega)) (br_t (by decide) ⟨zz_in hs, nm_r (e' := upd sp s b) (by rw [zz_cl (by omega)]) (nm_r (nI_1 s) (K b ⟨Int32.le_refl b, fun u h1 h2 => absurd h1 (by omega), Or.inl rfl⟩))⟩)
    · have ht2 : t < 32 := by omega
      have lx := zt_xor s hs t ht2
      obtain ⟨c1, c2, c3⟩ := zt_sub rest hr t ht2 ⟨h0, hts⟩
      refine br_f (zz_32f (by omega)) (br_f (nI_nle (by omega) (by omega)) ?_)
      rw [nx_xor]
      refine ⟨zz_in lx, zz_in ht2, nm_r (e' := w (s ^^^ t) + sp t) (by rw [zz_cl (p := s ^^^ t) (by omega), zz_cl (p := t) (by omega)]) (br_c (fun a => ?_) fun a => ?_)⟩
      · unfold wX_bestSplit_80
        refine nm_r (zz_dec h0) (nm_r (nI_1 i) (ih _ b (i + 1) m (by omega) (by omega) (by omega) c2 fun r hM => K r ?_))
        obtain ⟨m1, m2, m3⟩ := hM
        refine ⟨m1, fun u g1 g2 g3 => ?_, ?_⟩
        · by_cases e : u = t
          · subst e
            exact Int32.le_trans a m1
          · exact m2 u g1 (c3 u (by omega) ⟨by omega, g3⟩) g3
        · rcases m3 with m3 | ⟨u, g1, g2, g3, g4⟩
          · exact Or.inl m3
          · exact Or.inr ⟨u, g1, by omega, g3, g4⟩
      · unfold wX_bestSplit_80
        refine nm_r (zz_dec h0) (nm_r (nI_1 i) (ih _ (w (s ^^^ t) + sp t) (i + 1) m (by omega) (by omega) (by omega) c2 fun r hM => K r ?_))
        obtain ⟨m1, m2, m3⟩ := hM
        refine ⟨Int32.le_trans (Int32.le_of_lt (Int32.not_le.mp a)) m1, fun u g1 g2 g3 => ?_, ?_⟩
        · by_cases e : u = t
          · subst e
            exact m1
          · exact m2 u g1 (c3 u (by omega) ⟨by omega, g3⟩) g3
        · rcases m3 with m3 | ⟨u, g1, g2, g3, g4⟩
          · exact Or.inr ⟨t, by omega, Nat.le_refl t, hts, m3⟩
          · exact Or.inr ⟨u, g1, by omega, g3, g4⟩
theorem zx_b9 {post : Int32 → SX → Prop} (K : ∀ sp' : Nat → Int32, zb_D w sp' 32 → post (sp' 31) (w, am, pt, mo, sp')) : ∀ d s n sp, s + d = 32 → 1 ≤ s → d < n → zb_D w sp s → wX_bestSplit_9 post n (nI s) w am pt mo sp := by
  intro d
  induction d with
  | zero =>
    intro s n sp hs h1 hn h
    obtain ⟨m, rfl⟩ : ∃ m, n = m + 1 := ⟨n - 1, by omega⟩
    obtain rfl : s = 32 := by omega
    exact br_t zz_32t (K sp h)
  | succ d ih =>
    intro s n sp hs h1 hn h
    obtain ⟨m, rfl⟩ : ∃ m, n = m + 1 := ⟨n - 1, by omega⟩
    have hs2 : s < 32 := by omega
    obtain ⟨c1, c2, _⟩ := zt_sub s hs2 s hs2 ⟨by omega, Nat.and_self s⟩
    refine br_f (zz_32f hs2) (nm_e (nm_r ((zt_rest s hs2).resolve_left (by omega)) ⟨zz_in hs2, nm_r (congrArg w (zz_cl (by omega))) ⟨32, zx_b38 hs2 (by omega) 31 _ (w s) 0 32 (by omega) (by omega) (by decide) (Nat.and_self _) fun r hM => ?_⟩⟩))
    refine ih (s + 1) m _ (by omega) (by omega) (by omega) ⟨(pk_un (by omega)).trans h.1, fun j g1 g2 => ?_⟩
    by_cases e : j = s
    · subst e
      rw [pk_us]
      refine zb_Mc (fun u a1 a2 => ?_) hM
      show w (j ^^^ u) + sp u = w (j ^^^ u) + upd sp j r u
      rw [pk_un (by omega)]
    · rw [pk_un e]
      obtain ⟨b1, _, _⟩ := zt_sub j (by omega) j (by omega) ⟨by omega, Nat.and_self j⟩
      refine zb_Mc (fun u a1 a2 => ?_) (h.2 j g1 (by omega))
      show w (j ^^^ u) + sp u = w (j ^^^ u) + upd sp s r u
      rw [pk_un (by omega)]
theorem zx_split {post : Int32 → SX → Prop} {sp : Nat → Int32} (K : ∀ sp' : Nat → Int32, zb_D w sp' 32 → post (sp' 31) (w, am, pt, mo, sp')) : wpX_bestSplit post (w, am, pt, mo, sp) := by
  unfold wpX_bestSplit
  exact nm_e ⟨32, zx_b9 K 31 1 32 _ (by decide) (by decide) (by decide) ⟨pk_us, fun j h1 h2 => absurd h2 (by omega)⟩⟩
/-- who is in room r -/
def zb_set (r : Nat) : Nat → Nat → Nat → Nat → Nat
  | 0, _, _, s => s
  | d + 1, k, p, s => zb_set r d (k / 5) (p + 1) (if k % 5 = r then s ||| 2 ^ p else s)
theorem zb_setL {r : Nat} : ∀ d k p s, p + d = 5 → s < 32 → zb_set r d k p s < 32 := by
  intro d
  induction d with
  | zero => intro k p s _ hs; exact hs
  | succ d ih =>
    intro k p s hp hs
    refine ih (k / 5) (p + 1) _ (by omega) ?_
    split
    · exact zt_orl hs (by omega)
    · exact hs
def zb_sum (w : Nat → Int32) (k : Nat) : Nat → Nat → Int32 → Int32
  | 0, _, acc => acc
  | d + 1, r, acc => zb_sum w k d (r + 1) (acc + w (zb_set r 5 k 0 0))
theorem zy_b18 {post : Int32 → Prop} {J : Int32 → Int32 → Prop} {x1 acc : Int32} {r : Nat} (hr : r < 5) : ∀ d k p s n, p + d = 5 → d < n → s < 32 → k < 4000 → J (acc + w (zb_set r d k p s)) (nI (r + 1)) → wY_splitWorth_18 post J x1 acc (nI r) w mo2 pa am n (nI s) (nI k) (nI p) := by
  intro d
  induction d with
  | zero =>
    intro k p s n hp hn hs hk K
    obtain ⟨m, rfl⟩ : ∃ m, n = m + 1 := ⟨n - 1, by omega⟩
    obtain rfl : p = 5 := by omega
    exact br_t zz_5t ⟨zz_in hs, nm_r (e' := acc + w s) (by rw [zz_cl (by omega)]) (nm_r (nI_1 r) K)⟩
  | succ d ih =>
    intro k p s n hp hn hs hk K
    obtain ⟨m, rfl⟩ : ∃ m, n = m + 1 := ⟨n - 1, by omega⟩
    have hp5 : p < 5 := by omega
    refine br_f (zz_5f hp5) ⟨zz_n5, ?_⟩
    rw [zz_m5 (k := k) (by omega)]
    by_cases e : k % 5 = r
    · rw [zb_set, if_pos e] at K
      exact br_t (congrArg nI e) (nm_r (zt_orx hp5) ⟨zz_n5, nm_r (zz_d5 (by omega)) (nm_r (nI_1 p) (ih (k / 5) (p + 1) _ m (by omega) (by omega) (zt_orl hs hp5) (by omega) K))⟩)
    · rw [zb_set, if_neg e] at K
      exact br_f (fun z => e ((nI_eq (by omega) (by omega)).mp z)) ⟨zz_n5, nm_r (zz_d5 (by omega)) (nm_r (nI_1 p) (ih (k / 5) (p + 1) _ m (by omega) (by omega) hs (by omega) K))⟩
theorem zy_b4 {post : Int32 → Prop} {k : Nat} (hk : k < 3125) : ∀ d r acc n, r + d = 5 → d < n → post (zb_sum w k d r acc) → wY_splitWorth_4 post (nI k) w mo2 pa am n acc (nI r) := by
  intro d
  induction d with
  | zero =>
    intro r acc n hr hn K
    obtain ⟨m, rfl⟩ : ∃ m, n = m + 1 := ⟨n - 1, by omega⟩
    obtain rfl : r = 5 := by omega
    exact br_t zz_5t K
  | succ d ih =>
    intro r acc n hr hn K
    obtain ⟨m, rfl⟩ : ∃ m, n = m + 1 := ⟨n - 1, by omega⟩
    exact br_f (zz_5f (by omega)) ⟨6, zy_b18 (by omega) 5 k 0 0 6 (by decide) (by decide) (by decide) (by omega) (ih (r + 1) _ m (by omega) (by omega) K)⟩
theorem zy_sw {post : Int32 → Prop} {k : Nat} (hk : k < 3125) (K : post (zb_sum w k 5 0 0)) : wpY_splitWorth post (w, mo2, pa, am) (nI k) :=
  Exists.intro 6 (zy_b4 hk 5 0 0 6 (by decide) (by decide) K)
theorem zy_b8 {post : Int32 → Prop} : ∀ d k b n, k + d = 3125 → d < n → (∀ r, b ≤ r → (∀ j, k ≤ j → j < 3125 → zb_sum w j 5 0 0 ≤ r) → (r = b ∨ ∃ j, k ≤ j ∧ j < 3125 ∧ r = zb_sum w j 5 0 0) → post r) → wY_bestSplit_8 post w mo2 pa am n b (nI k) := by
  intro d
  induction d with
  | zero =>
    intro k b n hk hn K
    obtain ⟨m, rfl⟩ : ∃ m, n = m + 1 := ⟨n - 1, by omega⟩
    obtain rfl : k = 3125 := by omega
    exact br_t zz_3125t (K b (Int32.le_refl b) (fun j h1 h2 => absurd h2 (by omega)) (Or.inl rfl))
  | succ d ih =>
    intro k b n hk hn K
    obtain ⟨m, rfl⟩ : ∃ m, n = m + 1 := ⟨n - 1, by omega⟩
    refine br_f (zz_3125f (by omega)) (zy_sw (by omega) (br_c (fun a => nm_r (nI_1 k) (ih (k + 1) b m (by omega) (by omega) fun r h1 h2 h3 => K r h1 (fun j g1 g2 => ?_) ?_)) fun a => nm_r (nI_1 k) (ih (k + 1) _ m (by omega) (by omega) fun r h1 h2 h3 => K r (Int32.le_trans (Int32.le_of_lt (Int32.not_le.mp a)) h1) (fun j g1 g2 => ?_) ?_)))
    · by_cases e : j = k
      · subst e
        exact Int32.le_trans a h1
      · exact h2 j (by omega) g2
    · rcases h3 with h3 | ⟨j, g1, g2, g3⟩
      · exact Or.inl h3
      · exact Or.inr ⟨j, by omega, g2, g3⟩
    · by_cases e : j = k
      · subst e
        exact h1
      · exact h2 j (by omega) g2
    · rcases h3 with h3 | ⟨j, g1, g2, g3⟩
      · exact Or.inr ⟨k, Nat.le_refl k, by omega, h3⟩
      · exact Or.inr ⟨j, by omega, g2, g3⟩
theorem zy_split {post : Int32 → Prop} (K : ∀ r, (∀ j, j < 3125 → zb_sum w j 5 0 0 ≤ r) → (∃ j, j < 3125 ∧ r = zb_sum w j 5 0 0) → post r) : wpY_bestSplit post (w, mo2, pa, am) := by
  unfold wpY_bestSplit
  refine zy_sw (k := 0) (by decide) ⟨3125, zy_b8 3124 1 _ 3125 (by decide) (by decide) fun r h1 h2 h3 => K r (fun j hj => ?_) ?_⟩
  · by_cases e : j = 0
    · subst e
      exact h1
    · exact h2 j (by omega) hj
  · rcases h3 with h3 | ⟨j, g1, g2, g3⟩
    · exact ⟨0, by decide, h3⟩
    · exact ⟨j, g2, g3⟩
end
end
section
/-! bestSplit: the best split by the first player's group is the best of all ways to go to five rooms -/
def zb_S (w : Nat → Int32) : List Nat → Int
  | [] => 0
  | b :: l => (w b).toInt + zb_S w l
def zb_val : Nat → List Nat → Bool
  | s, [] => decide (s = 0)
  | s, b :: l => decide (1 ≤ s ∧ s ^^^ b ≤ (s - 1) &&& s ∧ (s ^^^ b) &&& ((s - 1) &&& s) = s ^^^ b ∧ s ^^^ (s ^^^ b) = b) && zb_val (s ^^^ b) l
def zb_ins (b : Nat) : List Nat → List Nat
  | [] => [b]
  | c :: l => if zc_lo b < zc_lo c then b :: c :: l else c :: zb_ins b l
def zb_can : List Nat → List Nat
  | [] => []
  | b :: l => if b = 0 then zb_can l else zb_ins b (zb_can l)
def zb_L (k : Nat) : List Nat := [zb_set 0 5 k 0 0, zb_set 1 5 k 0 0, zb_set 2 5 k 0 0, zb_set 3 5 k 0 0, zb_set 4 5 k 0 0]
theorem zb_insS {w : Nat → Int32} {b : Nat} : ∀ l, zb_S w (zb_ins b l) = (w b).toInt + zb_S w l := by
  intro l
  induction l with
  | nil => rfl
  | cons c l ih =>
    rw [zb_ins]
    split
    · rfl
    · rw [zb_S, ih, zb_S]
      omega
theorem zb_canS {w : Nat → Int32} (h0 : w 0 = 0) : ∀ l, zb_S w (zb_can l) = zb_S w l := by
  intro l
  induction l with
  | nil => rfl
  | cons c l ih =>
    rw [zb_can]
    split
    · next e =>
      subst e
      rw [zb_S, ih, h0, zz_i0]
      omega
    · rw [zb_insS, ih, zb_S]
theorem zb_V {w : Nat → Int32} (h : zz_ok w) (k : Nat) : (zb_sum w k 5 0 0).toInt = zb_S w (zb_L k) := by
  have h0 := h.2 _ (zb_setL (r := 0) 5 k 0 0 (by decide) (by decide))
  have h1 := h.2 _ (zb_setL (r := 1) 5 k 0 0 (by decide) (by decide))
  have h2 := h.2 _ (zb_setL (r := 2) 5 k 0 0 (by decide) (by decide))
  have h3 := h.2 _ (zb_setL (r := 3) 5 k 0 0 (by decide) (by decide))
  have h4 := h.2 _ (zb_setL (r := 4) 5 k 0 0 (by decide) (by decide))
  show (0 + w (zb_set 0 5 k 0 0) + w (zb_set 1 5 k 0 0) + w (zb_set 2 5 k 0 0) + w (zb_set 3 5 k 0 0) + w (zb_set 4 5 k 0 0)).toInt = (w (zb_set 0 5 k 0 0)).toInt + ((w (zb_set 1 5 k 0 0)).toInt + ((w (zb_set 2 5 k 0 0)).toInt + ((w (zb_set 3 5 k 0 0)).toInt + ((w (zb_set 4 5 k 0 0)).toInt + 0))))
  generalize w (zb_set 0 5 k 0 0) = a at *
  generalize w (zb_set 1 5 k 0 0) = b at *
  generalize w (zb_set 2 5 k 0 0) = c at *
  generalize w (zb_set 3 5 k 0 0) = d at *
  generalize w (zb_set 4 5 k 0 0) = e at *
  have e1 : (0 + a).toInt = a.toInt := by rw [Int32.zero_add]
  have e2 : (0 + a + b).toInt = a.toInt + b.toInt := by rw [zz_addI (by omega) (by omega) (by omega) (by omega), e1]
  have e3 : (0 + a + b + c).toInt = a.toInt + b.toInt + c.toInt := by rw [zz_addI (by omega) (by omega) (by omega) (by omega), e2]
  have e4 : (0 + a + b + c + d).toInt = a.toInt + b.toInt + c.toInt + d.toInt := by rw [zz_addI (by omega) (by omega) (by omega) (by omega), e3]
  rw [zz_addI (by omega) (by omega) (by omega) (by omega), e4]
  omega
section
variable {w sp : Nat → Int32}
theorem zb_bd (h : zz_ok w) (hD : zb_D w sp 32) : ∀ n s : Nat, s ≤ n → s < 32 → -1000 * ((s : Int) + 1) ≤ (sp s).toInt ∧ (sp s).toInt ≤ 1000 * ((s : Int) + 1) := by
  intro n
  induction n with
  | zero =>
    intro s hs _
    obtain rfl : s = 0 := by omega
    rw [hD.1, zz_i0]
    omega
  | succ n ih =>
    intro s hs hs2
    by_cases h0 : s = 0
    · subst h0
      rw [hD.1, zz_i0]
      omega
    · obtain ⟨_, _, m3⟩ := hD.2 s (by omega) hs2
      rcases m3 with m3 | ⟨u, g1, g2, g3, g4⟩
      · have := h.2 s hs2
        rw [m3]
        omega
      · obtain ⟨c1, _, _⟩ := zt_sub s hs2 s hs2 ⟨h0, Nat.and_self s⟩
        have b1 := ih u (by omega) (by omega)
        have b2 := h.2 _ (zt_xor s hs2 u (by omega))
        have e : (sp s).toInt = (w (s ^^^ u)).toInt + (sp u).toInt := by
          rw [g4]
          exact zz_addI (by omega) (by omega) (by omega) (by omega)
        rw [e]
        omega
theorem zb_add (h : zz_ok w) (hD : zb_D w sp 32) {s u : Nat} (hs : s < 32) (hu : u < 32) : (w (s ^^^ u) + sp u).toInt = (w (s ^^^ u)).toInt + (sp u).toInt := by
  have b1 := zb_bd h hD u u (Nat.le_refl u) hu
  have b2 := h.2 _ (zt_xor s hs u hu)
  exact zz_addI (by omega) (by omega) (by omega) (by omega)
theorem zb_up (h : zz_ok w) (hD : zb_D w sp 32) : ∀ l s, s < 32 → zb_val s l = true → zb_S w l ≤ (sp s).toInt := by
  intro l
  induction l with
  | nil =>
    intro s _ hv
    obtain rfl : s = 0 := of_decide_eq_true hv
    rw [hD.1, zz_i0]
    exact Int.le_refl 0
  | cons b l ih =>
    intro s hs hv
    rw [zb_val, Bool.and_eq_true] at hv
    obtain ⟨hv, hl⟩ := hv
    obtain ⟨c1, c2, c3, c4⟩ := of_decide_eq_true hv
    obtain ⟨d1, _, _⟩ := zt_sub s hs s hs ⟨by omega, Nat.and_self s⟩
    have q := ih (s ^^^ b) (by omega) hl
    obtain ⟨m1, m2, _⟩ := hD.2 s c1 hs
    rw [zb_S]
    by_cases e : s ^^^ b = 0
    · rw [e, hD.1, zz_i0] at q
      rw [e, Nat.xor_zero] at c4
      rw [Int32.le_iff_toInt_le] at m1
      rw [← c4]
      omega
    · have g : w (s ^^^ (s ^^^ b)) + sp (s ^^^ b) ≤ sp s := m2 (s ^^^ b) (by omega) c2 c3
      rw [Int32.le_iff_toInt_le, zb_add h hD hs (by omega), c4] at g
      omega
/-- all splits of s -/
def zb_P : Nat → Nat → List (List Nat)
  | 0, _ => [[]]
  | n + 1, s => if s = 0 then [[]] else [s] :: ((List.range 32).filter (fun u => decide (0 < u ∧ u ≤ (s - 1) &&& s ∧ u &&& ((s - 1) &&& s) = u))).flatMap fun u => (zb_P n u).map fun l => (s ^^^ u) :: l
theorem zb_att (h : zz_ok w) (hD : zb_D w sp 32) : ∀ n s, s ≤ n → s < 32 → ∃ l, l ∈ zb_P n s ∧ (sp s).toInt = zb_S w l := by
  intro n
  induction n with
  | zero =>
    intro s hs _
    obtain rfl : s = 0 := by omega
    refine ⟨[], List.mem_singleton.mpr rfl, ?_⟩
    rw [hD.1, zz_i0]
    rfl
  | succ n ih =>
    intro s hs hs2
    rw [zb_P]
    by_cases h0 : s = 0
    · subst h0
      rw [if_pos rfl]
      refine ⟨[], List.mem_singleton.mpr rfl, ?_⟩
      rw [hD.1, zz_i0]
      rfl
    · rw [if_neg h0]
      obtain ⟨_, _, m3⟩ := hD.2 s (by omega) hs2
      rcases m3 with m3 | ⟨u, g1, g2, g3, g4⟩
      · refine ⟨[s], List.mem_cons_self, ?_⟩
        rw [m3]
        show (w s).toInt = (w s).toInt + 0
        omega
      · obtain ⟨c1, _, _⟩ := zt_sub s hs2 s hs2 ⟨h0, Nat.and_self s⟩
        obtain ⟨l, hl, e⟩ := ih u (by omega) (by omega)
        refine ⟨(s ^^^ u) :: l, List.mem_cons_of_mem _ (List.mem_flatMap.mpr ⟨u, List.mem_filter.mpr ⟨List.mem_range.mpr (by omega), decide_eq_true ⟨g1, g2, g3⟩⟩, List.mem_map.mpr ⟨l, hl, rfl⟩⟩), ?_⟩
        rw [g4, zb_S, ← e]
        exact zb_add h hD hs2 (by omega)
end
/-- the room numbers of a split -/
def zb_ix (p : Nat) : List Nat → Nat
  | [] => 0
  | b :: l => if b.testBit p = true then 0 else zb_ix p l + 1
def zb_kof (l : List Nat) : Nat := zb_ix 0 l + 5 * (zb_ix 1 l + 5 * (zb_ix 2 l + 5 * (zb_ix 3 l + 5 * zb_ix 4 l)))
theorem zt_kof : ((zb_P 31 31).all fun l => decide (zb_kof l < 3125) && decide (zb_can (zb_L (zb_kof l)) = l)) = true := by decide +kernel
theorem zt_val : ∀ a, a < 125 → ∀ b, b < 25 → zb_val 31 (zb_can (zb_L (25 * a + b))) = true := by decide +kernel
theorem zl_split {w sp : Nat → Int32} (h : zz_ok w) (hD : zb_D w sp 32) {r : Int32} (h1 : ∀ j, j < 3125 → zb_sum w j 5 0 0 ≤ r) (h2 : ∃ j, j < 3125 ∧ r = zb_sum w j 5 0 0) : r = sp 31 := by
  apply Int32.toInt_inj.mp
  have A : r.toInt ≤ (sp 31).toInt := by
    obtain ⟨j, hj, e⟩ := h2
    have t := zt_val (j / 25) (by omega) (j % 25) (by omega)
    rw [Nat.div_add_mod] at t
    have q := zb_up h hD _ 31 (by decide) t
    rw [zb_canS h.1, ← zb_V h, ← e] at q
    exact q
  have B : (sp 31).toInt ≤ r.toInt := by
    obtain ⟨l, hl, e⟩ := zb_att h hD 31 31 (Nat.le_refl 31) (by decide)
    have t := List.all_eq_true.mp zt_kof l hl
    rw [Bool.and_eq_true, decide_eq_true_eq, decide_eq_true_eq] at t
    have q := h1 _ t.1
    rw [Int32.le_iff_toInt_le, zb_V h, ← zb_canS h.1, t.2, ← e] at q
    exact q
  omega
end
section
/-! bestSplit: both meet -/
theorem i_vc_bestSplit {k : Nat} {u : SX} {v : SY} (I : i_Rel k u v) (hk : k + 3 ≤ 1536) : wpX_bestSplit (fun r u' => wpY_bestSplit (fun r' => r' = r ∧ i_Rel (k + 3) u' v) v) u := by
  obtain ⟨w, am, pt, mo, sp, mo2, pa, rfl, rfl, h⟩ := I
  exact zx_split fun sp' hD => zy_split fun r h1 h2 => ⟨zl_split h hD h1 h2, zz_rel h⟩
end
