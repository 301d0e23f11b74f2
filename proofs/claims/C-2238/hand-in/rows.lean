section
theorem pk_us {f : Nat → Int32} {k : Nat} {x : Int32} : upd f k x k = x := if_pos rfl
theorem pk_un {f : Nat → Int32} {k j : Nat} {x : Int32} (h : j ≠ k) : upd f k x j = f j := if_neg h
theorem pk_sub {a b : Nat} (h : b ≤ a) : nI a - nI b = nI (a - b) := by
  obtain ⟨c, rfl⟩ : ∃ c, a = c + b := ⟨a - b, by omega⟩
  rw [← nI_add, Int32.add_sub_cancel, Nat.add_sub_cancel]
theorem pk_m1 (n : Nat) : nI (n + 1) + (-1) = nI n := by
  rw [← nI_1, Int32.add_assoc, show (1 : Int32) + (-1) = 0 from rfl, Int32.add_zero]
theorem pk_mul (a b : Nat) : nI a * nI b = nI (a * b) := (Int32.ofNat_mul a b).symm
theorem pk_div {a d : Nat} (ha : a < 2 ^ 31) (h0 : 0 < d) (hd : d < 2 ^ 31) : nI a / nI d = nI (a / d) := by
  apply Int32.toInt_inj.mp
  rw [lg_idiv_nonneg (by rw [nI_toInt ha]; omega) (by rw [nI_toInt hd]; omega), nI_toInt ha, nI_toInt hd, nI_toInt (Nat.lt_of_le_of_lt (Nat.div_le_self a d) ha)]
  first | rfl | exact (Int.natCast_ediv _ _).symm
theorem pk_rem {a d : Nat} (ha : a < 2 ^ 31) (h0 : 0 < d) (hd : d < 2 ^ 31) : nI a - nI a / nI d * nI d = nI (a % d) := by
  rw [pk_div ha h0 hd, pk_mul, pk_sub (Nat.div_mul_le_self a d)]
  exact congrArg nI (by have := Nat.div_add_mod' a d; omega)
theorem pk_sub_toInt {a b : Nat} (ha : a < 2 ^ 30) (hb : b < 2 ^ 30) : (nI a - nI b).toInt = (a : Int) - b := by
  rw [Int32.toInt_sub, nI_toInt (by omega), nI_toInt (by omega)]
  exact Int.bmod_eq_of_le (by omega) (by omega)
theorem pk_sneg {a b : Nat} (hb : b < 2 ^ 30) (h : a < b) : nI a - nI b < 0 := by
  rw [Int32.lt_iff_toInt_lt, pk_sub_toInt (by omega) hb, show (0 : Int32).toInt = 0 from by decide]
  omega
theorem pk_ix (x : Int32) {n : Nat} (hn : n < 2 ^ 31) : x < 0 ∨ nI n ≤ x ∨ ∃ j : Nat, j < n ∧ x = nI j := by
  by_cases h : x < 0
  · exact Or.inl h
  · obtain ⟨j, hj, rfl⟩ := nI_of h
    by_cases h2 : j < n
    · exact Or.inr (Or.inr ⟨j, h2, rfl⟩)
    · exact Or.inr (Or.inl (nI_le (by omega) hj))
theorem pk_le {x y : Int32} {A B : Prop} (a b : Nat) (f : a ≤ b → A) (g : b < a → B) (hx : x = nI a := by rfl) (hy : y = nI b := by rfl) (ha : a < 2 ^ 31 := by omega) (hb : b < 2 ^ 31 := by omega) : (x ≤ y → A) ∧ (¬ x ≤ y → B) := by
  subst hx hy
  rw [nI_leI ha hb]
  exact ⟨f, fun z => g (by omega)⟩
theorem pk_lt {x y : Int32} {A B : Prop} (a b : Nat) (f : a < b → A) (g : b ≤ a → B) (hx : x = nI a := by rfl) (hy : y = nI b := by rfl) (ha : a < 2 ^ 31 := by omega) (hb : b < 2 ^ 31 := by omega) : (x < y → A) ∧ (¬ x < y → B) := by
  subst hx hy
  rw [nI_ltI ha hb]
  exact ⟨f, fun z => g (by omega)⟩
theorem pk_eq {x y : Int32} {A B : Prop} (a b : Nat) (f : a = b → A) (g : a ≠ b → B) (hx : x = nI a := by rfl) (hy : y = nI b := by rfl) (ha : a < 2 ^ 31 := by omega) (hb : b < 2 ^ 31 := by omega) : (x = y → A) ∧ (¬ x = y → B) := by
  subst hx hy
  rw [nI_eq ha hb]
  exact ⟨f, g⟩
theorem pk_in {x : Int32} (n N : Nat) (h : n < N) (hx : x = nI n := by rfl) (hN : N < 2 ^ 31 := by omega) : vp_in x N := by
  subst hx
  exact vp_in_nI h hN
theorem pk_cl {x : Int32} (n : Nat) (hx : x = nI n := by rfl) (h : n < 2 ^ 31 := by omega) : x.toNatClampNeg = n := by
  subst hx
  exact nI_clamp h
theorem pk_tn {n : Nat} (h : n < 2 ^ 32) : (nI n).toBitVec.toNat = n := Nat.mod_eq_of_lt h
theorem pk_and (x : Int32) {m : Int32} (k : Nat) (hm : m.toBitVec.toNat = 2 ^ k - 1) : x &&& m = nI (x.toBitVec.toNat % 2 ^ k) := by
  apply Int32.toBitVec_inj.mp
  apply BitVec.eq_of_toNat_eq
  rw [Int32.toBitVec_and, BitVec.toNat_and, hm, Nat.and_two_pow_sub_one_eq_mod]
  show _ = (BitVec.ofNat 32 _).toNat
  rw [BitVec.toNat_ofNat]
  exact (Nat.mod_eq_of_lt (Nat.lt_of_le_of_lt (Nat.mod_le _ _) x.toBitVec.isLt)).symm
theorem pk_andN {n : Nat} (h : n < 2 ^ 32) {m : Int32} (k : Nat) (hm : m.toBitVec.toNat = 2 ^ k - 1) : nI n &&& m = nI (n % 2 ^ k) := by
  rw [pk_and _ k hm, pk_tn h]
theorem pk_andE (x : Int32) {m : Int32} (k : Nat) (hm : m.toBitVec.toNat = 2 ^ k - 1) : ∃ j : Nat, j < 2 ^ k ∧ x &&& m = nI j := ⟨_, Nat.mod_lt _ (Nat.two_pow_pos k), pk_and x k hm⟩
theorem pk_andIn (x : Int32) {m : Int32} (k : Nat) (hm : m.toBitVec.toNat = 2 ^ k - 1) (hk : k ≤ 30) : vp_in (x &&& m) (2 ^ k) := by
  obtain ⟨j, hj, e⟩ := pk_andE x k hm
  rw [e]
  exact vp_in_nI hj (Nat.lt_of_le_of_lt (Nat.pow_le_pow_right (by decide) hk) (by decide))
theorem pk_shl (a s : Int32) (k : Nat) (hs : (s.toBitVec.smod 32).toNat = k) : (a <<< s).toBitVec.toNat = a.toBitVec.toNat * 2 ^ k % 2 ^ 32 := by
  show (a.toBitVec <<< (s.toBitVec.smod 32).toNat).toNat = _
  rw [hs, BitVec.toNat_shiftLeft, Nat.shiftLeft_eq]
theorem pk_shlN {n : Nat} (s : Int32) (k : Nat) (hs : (s.toBitVec.smod 32).toNat = k) (h : n * 2 ^ k < 2 ^ 32) : nI n <<< s = nI (n * 2 ^ k) := by
  apply Int32.toBitVec_inj.mp
  apply BitVec.eq_of_toNat_eq
  have hn : n < 2 ^ 32 := Nat.lt_of_le_of_lt (Nat.le_mul_of_pos_right n (Nat.two_pow_pos k)) h
  rw [pk_shl _ _ k hs, pk_tn hn, pk_tn h, Nat.mod_eq_of_lt h]
theorem pk_shr (a s : Int32) (k : Nat) (hs : (s.toBitVec.smod 32).toNat = k) : (a >>> s).toInt = a.toInt >>> k := by
  show (a.toBitVec.sshiftRight (s.toBitVec.smod 32).toNat).toInt = _
  rw [hs, BitVec.toInt_sshiftRight]
  rfl
theorem pk_shrN {n : Nat} (h : n < 2 ^ 31) (s : Int32) (k : Nat) (hs : (s.toBitVec.smod 32).toNat = k) : nI n >>> s = nI (n / 2 ^ k) := by
  apply Int32.toInt_inj.mp
  have h2 : n / 2 ^ k ≤ n := Nat.div_le_self _ _
  rw [pk_shr _ _ k hs, nI_toInt h, nI_toInt (by omega), Int.shiftRight_eq_div_pow]
  rfl
end
section
abbrev pr_PX : Type := Int32 × Int32 × Int32 × Int32
def pr_b (b : Bool) : Int32 := bif b then 1 else 0
def pr_side (px py qx qy rx ry : Int32) : Int32 := ((qx - px) * (ry - py)) - ((qy - py) * (rx - px))
def pr_w0 (T : Nat → Int32) (x y : Int32) : Int32 := pr_side (T 1) (T 4) (T 2) (T 5) ((16 * x) + 8) ((16 * y) + 8)
def pr_w1 (T : Nat → Int32) (x y : Int32) : Int32 := pr_side (T 2) (T 5) (T 0) (T 3) ((16 * x) + 8) ((16 * y) + 8)
def pr_w2 (T : Nat → Int32) (x y : Int32) : Int32 := pr_side (T 0) (T 3) (T 1) (T 4) ((16 * x) + 8) ((16 * y) + 8)
def pr_in (px py qx qy s : Int32) : Bool := if s = 0 then (if qy = py then !decide (qx ≤ px) else !decide (py ≤ qy)) else !decide (s ≤ 0)
def pr_cov (T : Nat → Int32) (x y : Int32) : Bool :=
  pr_in (T 1) (T 4) (T 2) (T 5) (pr_w0 T x y) && (pr_in (T 2) (T 5) (T 0) (T 3) (pr_w1 T x y) && pr_in (T 0) (T 3) (T 1) (T 4) (pr_w2 T x y))
def pr_mean (w0 w1 w2 a b c A : Int32) : Int32 := (((w0 * a) + (w1 * b)) + (w2 * c)) / A
def pr_mn (T : Nat → Int32) (x y a b c : Int32) : Int32 := pr_mean (pr_w0 T x y) (pr_w1 T x y) (pr_w2 T x y) a b c (T 18)
def pr_wn (b x y : Nat) : Bool := decide (b / 4096 ≤ x ∧ x ≤ b / 256 % 16 ∧ b / 16 % 16 ≤ y ∧ y ≤ b % 16)
def pr_win (T : Nat → Int32) (x y : Nat) : Bool := pr_wn (T 19).toNatClampNeg x y
def pr_pass (mt sg dt m d e : Int32) : Bool :=
  if mt = 1 ∧ ¬ m = sg then false else if mt = 2 ∧ m = sg then false else if dt = 2 then decide (d < e) else if dt = 3 then !decide (e < d) else decide (dt = 1)
def pr_mark (ch sg m : Int32) : Int32 := if ch = 1 then sg else if ch = 2 then (m + 1) &&& 15 else if ch = 3 then m ^^^ sg else m
def pr_mix (mi s t : Int32) : Int32 :=
  if mi = 0 then s else if mi = 1 then (if s + t ≤ 255 then s + t else 255) else if mi = 2 then (s + t) / 2 else if mi = 3 then (s * t) / 255 else t
def pr_sh (c sh : Int32) : Int32 := (c >>> (sh &&& 31)) &&& 255
def pr_cell (T : Nat → Int32) (x y : Int32) : Int32 := (8 * (pr_mn T x y (T 15) (T 16) (T 17) / 16)) + (pr_mn T x y (T 12) (T 13) (T 14) / 16)
def pr_cm (T : Nat → Int32) (x y sh : Int32) : Int32 := pr_mn T x y (pr_sh (T 9) sh) (pr_sh (T 10) sh) (pr_sh (T 11) sh)
def pr_own (pat T : Nat → Int32) (x y sh : Int32) : Int32 :=
  if T 27 = 1 then (pr_cm T x y sh * pr_sh (pat (pr_cell T x y).toNatClampNeg) sh) / 255 else pr_cm T x y sh
def pr_part (pat T : Nat → Int32) (x y c sh : Int32) : Int32 := pr_mix (T 22) (pr_own pat T x y sh) (pr_sh c sh)
def pr_col (pat T : Nat → Int32) (x y c : Int32) : Int32 := ((65536 * pr_part pat T x y c 16) + (256 * pr_part pat T x y c 8)) + pr_part pat T x y c 0
def pr_dep (T : Nat → Int32) (x y : Int32) : Int32 := pr_mn T x y (T 6) (T 7) (T 8)
def pr_hit (pat T : Nat → Int32) (x y : Int32) (s : pr_PX) : pr_PX :=
  (pr_col pat T x y s.1, (if T 21 = 1 then pr_dep T x y else s.2.1), pr_mark (T 24) (T 25) s.2.2.1, s.2.2.2 + 1)
def pr_ps (T : Nat → Int32) (x y : Int32) (s : pr_PX) : Bool := pr_pass (T 23) (T 25) (T 20) s.2.2.1 (pr_dep T x y) s.2.1
def pr_st (pat T : Nat → Int32) (j : Nat) (s : pr_PX) : pr_PX :=
  if (pr_win T (j % 16) (j / 16) && (pr_cov T (nI (j % 16)) (nI (j / 16)) && pr_ps T (nI (j % 16)) (nI (j / 16)) s)) = true then pr_hit pat T (nI (j % 16)) (nI (j / 16)) s else s
def pr_ap (pat : Nat → Int32) (TT : Nat → Nat → Int32) : Nat → Nat → pr_PX → pr_PX
  | 0, _, s => s
  | k + 1, j, s => pr_st pat (TT k) j (pr_ap pat TT k j s)
def pr_aq (pat : Nat → Int32) (TT : Nat → Nat → Int32) (n : Nat) (Q : Nat → pr_PX) : Nat → pr_PX := fun j => if j < 256 then pr_ap pat TT n j (Q j) else Q j
def pr_cq (Q : Nat → pr_PX) : Nat → Int32 := fun j => (Q j).1
def pr_dq (Q : Nat → pr_PX) : Nat → Int32 := fun j => (Q j).2.1
def pr_mq (Q : Nat → pr_PX) : Nat → Int32 := fun j => (Q j).2.2.1
def pr_sum (Q : Nat → pr_PX) : Nat → Int32
  | 0 => 0
  | n + 1 => pr_sum Q n + (Q n).2.2.2
def pr_sq (Q : Nat → pr_PX) : Int32 := pr_sum Q 256
def pr_uq (Q : Nat → pr_PX) (p : Nat) (s : pr_PX) : Nat → pr_PX := fun j => if j = p then s else Q j
def pr_qs (pat T : Nat → Int32) (S : Nat → Bool) (Q : Nat → pr_PX) : Nat → pr_PX := fun j => if S j = true then pr_st pat T j (Q j) else Q j
def pr_ok (T : Nat → Int32) : Prop :=
  (∀ k, k < 6 → -64 ≤ (T k).toInt ∧ (T k).toInt ≤ 319) ∧ (∀ k, 6 ≤ k → k < 9 → 0 ≤ (T k).toInt ∧ (T k).toInt ≤ 255) ∧
  (∀ k, 12 ≤ k → k < 18 → 0 ≤ (T k).toInt ∧ (T k).toInt ≤ 127) ∧ (T 18 = pr_side (T 0) (T 3) (T 1) (T 4) (T 2) (T 5) ∧ 0 < (T 18).toInt) ∧
  (∃ b : Nat, b < 65536 ∧ T 19 = nI b) ∧ (0 ≤ (T 22).toInt ∧ (T 22).toInt ≤ 4) ∧ (0 ≤ (T 24).toInt ∧ (T 24).toInt ≤ 3)
def pr_cr (c : Int32) : Prop := ∃ k : Nat, k < 16777216 ∧ c = nI k
theorem pr_uu {f : Nat → Int32} {p : Nat} : upd f p (f p) = f := by
  funext j
  unfold upd
  by_cases h : j = p
  · rw [if_pos h, h]
  · rw [if_neg h]
theorem pr_u_c {Q : Nat → pr_PX} {p : Nat} {s : pr_PX} : pr_cq (pr_uq Q p s) = upd (pr_cq Q) p s.1 := by
  funext j
  unfold pr_cq pr_uq upd
  by_cases h : j = p
  · rw [if_pos h, if_pos h]
  · rw [if_neg h, if_neg h]
theorem pr_u_d {Q : Nat → pr_PX} {p : Nat} {s : pr_PX} : pr_dq (pr_uq Q p s) = upd (pr_dq Q) p s.2.1 := by
  funext j
  unfold pr_dq pr_uq upd
  by_cases h : j = p
  · rw [if_pos h, if_pos h]
  · rw [if_neg h, if_neg h]
theorem pr_u_m {Q : Nat → pr_PX} {p : Nat} {s : pr_PX} : pr_mq (pr_uq Q p s) = upd (pr_mq Q) p s.2.2.1 := by
  funext j
  unfold pr_mq pr_uq upd
  by_cases h : j = p
  · rw [if_pos h, if_pos h]
  · rw [if_neg h, if_neg h]
theorem pr_u_id {Q : Nat → pr_PX} {p : Nat} : pr_uq Q p (Q p) = Q := by
  funext j
  unfold pr_uq
  by_cases h : j = p
  · rw [if_pos h, h]
  · rw [if_neg h]
theorem pr_sum_n {Q : Nat → pr_PX} {p : Nat} {s : pr_PX} : ∀ n, n ≤ p → pr_sum (pr_uq Q p s) n = pr_sum Q n := by
  intro n
  induction n with
  | zero => intro _; rfl
  | succ n ih =>
    intro h
    show pr_sum (pr_uq Q p s) n + (pr_uq Q p s n).2.2.2 = pr_sum Q n + (Q n).2.2.2
    rw [ih (by omega), show pr_uq Q p s n = Q n from if_neg (by omega)]
theorem pr_sum_p {Q : Nat → pr_PX} {p : Nat} {s : pr_PX} (hs : s.2.2.2 = (Q p).2.2.2 + 1) : ∀ n, p < n → pr_sum (pr_uq Q p s) n = pr_sum Q n + 1 := by
  intro n
  induction n with
  | zero => intro h; omega
  | succ n ih =>
    intro h
    show pr_sum (pr_uq Q p s) n + (pr_uq Q p s n).2.2.2 = pr_sum Q n + (Q n).2.2.2 + 1
    by_cases e : n = p
    · subst e
      rw [pr_sum_n _ (Nat.le_refl _), show pr_uq Q n s n = s from if_pos rfl, hs, Int32.add_assoc]
    · rw [ih (by omega), show pr_uq Q p s n = Q n from if_neg e, Int32.add_assoc, Int32.add_assoc, Int32.add_comm 1]
theorem pr_u_s {Q : Nat → pr_PX} {p : Nat} {s : pr_PX} (hp : p < 256) (hs : s.2.2.2 = (Q p).2.2.2 + 1) : pr_sq (pr_uq Q p s) = pr_sq Q + 1 := pr_sum_p hs 256 hp
theorem pr_sum_eq {Q R : Nat → pr_PX} : ∀ n, (∀ j, j < n → (Q j).2.2.2 = (R j).2.2.2) → pr_sum Q n = pr_sum R n := by
  intro n
  induction n with
  | zero => intro _; rfl
  | succ n ih =>
    intro h
    show pr_sum Q n + (Q n).2.2.2 = pr_sum R n + (R n).2.2.2
    rw [ih (fun j hj => h j (by omega)), h n (by omega)]
theorem pr_st_no {pat T : Nat → Int32} {j : Nat} {s : pr_PX} (h : pr_win T (j % 16) (j / 16) = false) : pr_st pat T j s = s := by
  unfold pr_st
  rw [h, Bool.false_and, if_neg (by decide)]
theorem pr_st_nc {pat T : Nat → Int32} {j : Nat} {s : pr_PX} (h : pr_cov T (nI (j % 16)) (nI (j / 16)) = false) : pr_st pat T j s = s := by
  unfold pr_st
  rw [h, Bool.false_and, Bool.and_false, if_neg (by decide)]
theorem pr_qs_eq {pat T : Nat → Int32} {S S' : Nat → Bool} {Q : Nat → pr_PX} (h : ∀ j, pr_win T (j % 16) (j / 16) = true → S j = S' j) : pr_qs pat T S Q = pr_qs pat T S' Q := by
  funext j
  unfold pr_qs
  by_cases w : pr_win T (j % 16) (j / 16) = true
  · rw [h j w]
  · rw [pr_st_no (by simpa using w)]
    by_cases a : S j = true <;> by_cases b : S' j = true <;> simp only [a, b, if_true, if_false] <;> rfl
theorem pr_qs_put {pat T : Nat → Int32} {S S' : Nat → Bool} {Q : Nat → pr_PX} {p : Nat} (h0 : S p = false) (h1 : S' p = true) (h : ∀ j, j ≠ p → S' j = S j) :
    pr_qs pat T S' Q = pr_uq (pr_qs pat T S Q) p (pr_st pat T p (pr_qs pat T S Q p)) := by
  have e : pr_qs pat T S Q p = Q p := by unfold pr_qs; rw [h0]; exact if_neg (by decide)
  rw [e]
  funext j
  unfold pr_uq pr_qs
  by_cases a : j = p
  · rw [if_pos a, a, h1, if_pos rfl]
  · rw [if_neg a, h j a]
end
section
theorem pr_mb {a b : Int} (k l m : Nat) (hm : k * l = m) (ha1 : -(k : Int) ≤ a) (ha2 : a ≤ k) (hb1 : -(l : Int) ≤ b) (hb2 : b ≤ l) : -(m : Int) ≤ a * b ∧ a * b ≤ m := by
  have h : (a * b).natAbs ≤ m := by
    rw [Int.natAbs_mul, ← hm]
    exact Nat.mul_le_mul (by omega) (by omega)
  omega
theorem pr_sideI {px py qx qy rx ry : Int32} (h1 : -64 ≤ px.toInt ∧ px.toInt ≤ 319) (h2 : -64 ≤ py.toInt ∧ py.toInt ≤ 319) (h3 : -64 ≤ qx.toInt ∧ qx.toInt ≤ 319)
    (h4 : -64 ≤ qy.toInt ∧ qy.toInt ≤ 319) (h5 : -64 ≤ rx.toInt ∧ rx.toInt ≤ 319) (h6 : -64 ≤ ry.toInt ∧ ry.toInt ≤ 319) :
    (pr_side px py qx qy rx ry).toInt = (qx.toInt - px.toInt) * (ry.toInt - py.toInt) - (qy.toInt - py.toInt) * (rx.toInt - px.toInt) ∧
    -293378 ≤ (pr_side px py qx qy rx ry).toInt ∧ (pr_side px py qx qy rx ry).toInt ≤ 293378 := by
  have e1 : (qx - px).toInt = qx.toInt - px.toInt := Jvm.Kit.i32_sub (by omega) (by omega)
  have e2 : (ry - py).toInt = ry.toInt - py.toInt := Jvm.Kit.i32_sub (by omega) (by omega)
  have e3 : (qy - py).toInt = qy.toInt - py.toInt := Jvm.Kit.i32_sub (by omega) (by omega)
  have e4 : (rx - px).toInt = rx.toInt - px.toInt := Jvm.Kit.i32_sub (by omega) (by omega)
  have m1 := pr_mb (a := qx.toInt - px.toInt) (b := ry.toInt - py.toInt) 383 383 146689 rfl (by omega) (by omega) (by omega) (by omega)
  have m2 := pr_mb (a := qy.toInt - py.toInt) (b := rx.toInt - px.toInt) 383 383 146689 rfl (by omega) (by omega) (by omega) (by omega)
  have e5 : ((qx - px) * (ry - py)).toInt = (qx.toInt - px.toInt) * (ry.toInt - py.toInt) := by
    rw [Jvm.Kit.i32_mul (by rw [e1, e2]; omega) (by rw [e1, e2]; omega), e1, e2]
  have e6 : ((qy - py) * (rx - px)).toInt = (qy.toInt - py.toInt) * (rx.toInt - px.toInt) := by
    rw [Jvm.Kit.i32_mul (by rw [e3, e4]; omega) (by rw [e3, e4]; omega), e3, e4]
  have e7 : (pr_side px py qx qy rx ry).toInt = (qx.toInt - px.toInt) * (ry.toInt - py.toInt) - (qy.toInt - py.toInt) * (rx.toInt - px.toInt) := by
    unfold pr_side
    rw [Jvm.Kit.i32_sub (by rw [e5, e6]; omega) (by rw [e5, e6]; omega), e5, e6]
  refine ⟨e7, ?_⟩
  rw [e7]
  omega
theorem pr_px (x : Nat) : (16 * nI x) + 8 = nI (16 * x + 8) := by
  show nI 16 * nI x + nI 8 = _
  rw [pk_mul, nI_add]
theorem pr_pxI {x : Nat} (h : x < 16) : ((16 * nI x) + 8).toInt = 16 * (x : Int) + 8 := by
  rw [pr_px, nI_toInt (by omega)]
  omega
theorem pr_in_nn {px py qx qy s : Int32} (h : pr_in px py qx qy s = true) : 0 ≤ s.toInt := by
  unfold pr_in at h
  by_cases e : s = 0
  · rw [e]; decide
  · rw [if_neg e, Bool.not_eq_true', decide_eq_false_iff_not, Int32.le_iff_toInt_le, Int32.toInt_zero] at h
    omega
theorem pr_in_neg {px py qx qy s : Int32} (h : s.toInt < 0) : pr_in px py qx qy s = false := by
  have n : ¬ pr_in px py qx qy s = true := fun z => by
    have := pr_in_nn z
    omega
  simpa using n
theorem pr_ws {T : Nat → Int32} {x y : Nat} (hT : pr_ok T) (hx : x < 16) (hy : y < 16) (hc : pr_cov T (nI x) (nI y) = true) :
    0 ≤ (pr_w0 T (nI x) (nI y)).toInt ∧ 0 ≤ (pr_w1 T (nI x) (nI y)).toInt ∧ 0 ≤ (pr_w2 T (nI x) (nI y)).toInt ∧
    (pr_w0 T (nI x) (nI y)).toInt + (pr_w1 T (nI x) (nI y)).toInt + (pr_w2 T (nI x) (nI y)).toInt = (T 18).toInt ∧ (T 18).toInt ≤ 293378 := by
  obtain ⟨h6, _, _, ⟨hA, _⟩, _⟩ := hT
  have k0 := h6 0 (by decide)
  have k1 := h6 1 (by decide)
  have k2 := h6 2 (by decide)
  have k3 := h6 3 (by decide)
  have k4 := h6 4 (by decide)
  have k5 := h6 5 (by decide)
  have ex := pr_pxI hx
  have ey := pr_pxI hy
  have s0 := pr_sideI (px := T 1) (py := T 4) (qx := T 2) (qy := T 5) (rx := (16 * nI x) + 8) (ry := (16 * nI y) + 8) k1 k4 k2 k5 (by omega) (by omega)
  have s1 := pr_sideI (px := T 2) (py := T 5) (qx := T 0) (qy := T 3) (rx := (16 * nI x) + 8) (ry := (16 * nI y) + 8) k2 k5 k0 k3 (by omega) (by omega)
  have s2 := pr_sideI (px := T 0) (py := T 3) (qx := T 1) (qy := T 4) (rx := (16 * nI x) + 8) (ry := (16 * nI y) + 8) k0 k3 k1 k4 (by omega) (by omega)
  have s3 := pr_sideI (px := T 0) (py := T 3) (qx := T 1) (qy := T 4) (rx := T 2) (ry := T 5) k0 k3 k1 k4 k2 k5
  unfold pr_cov at hc
  rw [Bool.and_eq_true, Bool.and_eq_true] at hc
  refine ⟨pr_in_nn hc.1, pr_in_nn hc.2.1, pr_in_nn hc.2.2, ?_, by rw [hA]; exact s3.2.2⟩
  rw [hA]
  unfold pr_w0 pr_w1 pr_w2
  rw [s0.1, s1.1, s2.1, s3.1, ex, ey]
  generalize (T 0).toInt = a0
  generalize (T 1).toInt = a1
  generalize (T 2).toInt = a2
  generalize (T 3).toInt = a3
  generalize (T 4).toInt = a4
  generalize (T 5).toInt = a5
  grind
theorem pr_meanI {w0 w1 w2 a b c A : Int32} (lo hi : Int) (h0 : 0 ≤ w0.toInt) (h1 : 0 ≤ w1.toInt) (h2 : 0 ≤ w2.toInt) (hs : w0.toInt + w1.toInt + w2.toInt = A.toInt)
    (hA : 0 < A.toInt) (hB : A.toInt ≤ 293378) (hlo : 0 ≤ lo) (hhi : hi ≤ 255) (ha : lo ≤ a.toInt ∧ a.toInt ≤ hi) (hb : lo ≤ b.toInt ∧ b.toInt ≤ hi) (hc : lo ≤ c.toInt ∧ c.toInt ≤ hi) :
    lo ≤ (pr_mean w0 w1 w2 a b c A).toInt ∧ (pr_mean w0 w1 w2 a b c A).toInt ≤ hi := by
  have m0 := pr_mb (a := w0.toInt) (b := a.toInt) 293378 255 74811390 rfl (by omega) (by omega) (by omega) (by omega)
  have m1 := pr_mb (a := w1.toInt) (b := b.toInt) 293378 255 74811390 rfl (by omega) (by omega) (by omega) (by omega)
  have m2 := pr_mb (a := w2.toInt) (b := c.toInt) 293378 255 74811390 rfl (by omega) (by omega) (by omega) (by omega)
  have e0 : (w0 * a).toInt = w0.toInt * a.toInt := Jvm.Kit.i32_mul (by omega) (by omega)
  have e1 : (w1 * b).toInt = w1.toInt * b.toInt := Jvm.Kit.i32_mul (by omega) (by omega)
  have e2 : (w2 * c).toInt = w2.toInt * c.toInt := Jvm.Kit.i32_mul (by omega) (by omega)
  have e3 : ((w0 * a) + (w1 * b)).toInt = w0.toInt * a.toInt + w1.toInt * b.toInt := by
    rw [Jvm.Kit.i32_add (by rw [e0, e1]; omega) (by rw [e0, e1]; omega), e0, e1]
  have e4 : (((w0 * a) + (w1 * b)) + (w2 * c)).toInt = w0.toInt * a.toInt + w1.toInt * b.toInt + w2.toInt * c.toInt := by
    rw [Jvm.Kit.i32_add (by rw [e3, e2]; omega) (by rw [e3, e2]; omega), e3, e2]
  have l0 := Int.mul_le_mul_of_nonneg_left ha.1 h0
  have l1 := Int.mul_le_mul_of_nonneg_left hb.1 h1
  have l2 := Int.mul_le_mul_of_nonneg_left hc.1 h2
  have u0 := Int.mul_le_mul_of_nonneg_left ha.2 h0
  have u1 := Int.mul_le_mul_of_nonneg_left hb.2 h1
  have u2 := Int.mul_le_mul_of_nonneg_left hc.2 h2
  have sl : lo * A.toInt = w0.toInt * lo + w1.toInt * lo + w2.toInt * lo := by rw [← hs, ← Int.add_mul, ← Int.add_mul, Int.mul_comm]
  have su : hi * A.toInt = w0.toInt * hi + w1.toInt * hi + w2.toInt * hi := by rw [← hs, ← Int.add_mul, ← Int.add_mul, Int.mul_comm]
  have z : 0 ≤ lo * A.toInt := Int.mul_nonneg hlo (by omega)
  have e5 : (pr_mean w0 w1 w2 a b c A).toInt = (w0.toInt * a.toInt + w1.toInt * b.toInt + w2.toInt * c.toInt) / A.toInt := by
    unfold pr_mean
    rw [lg_idiv_nonneg (by rw [e4]; omega) hA, e4]
  rw [e5]
  exact ⟨Int.le_ediv_of_mul_le hA (by omega), Int.ediv_le_of_le_mul hA (by omega)⟩
theorem pr_mnI {T : Nat → Int32} {x y : Nat} {a b c : Int32} (lo hi : Int) (hT : pr_ok T) (hx : x < 16) (hy : y < 16) (hc : pr_cov T (nI x) (nI y) = true)
    (hlo : 0 ≤ lo) (hhi : hi ≤ 255) (ha : lo ≤ a.toInt ∧ a.toInt ≤ hi) (hb : lo ≤ b.toInt ∧ b.toInt ≤ hi) (hd : lo ≤ c.toInt ∧ c.toInt ≤ hi) :
    lo ≤ (pr_mn T (nI x) (nI y) a b c).toInt ∧ (pr_mn T (nI x) (nI y) a b c).toInt ≤ hi := by
  obtain ⟨a0, a1, a2, a3, a4⟩ := pr_ws hT hx hy hc
  exact pr_meanI lo hi a0 a1 a2 a3 hT.2.2.2.1.2 a4 hlo hhi ha hb hd
theorem pr_ofI {v : Int32} {m : Nat} (h0 : 0 ≤ v.toInt) (h1 : v.toInt ≤ m) : ∃ j : Nat, j ≤ m ∧ v = nI j := by
  have hv := v.toInt_lt
  refine ⟨v.toInt.toNat, by omega, Int32.toInt_inj.mp ?_⟩
  rw [nI_toInt (by omega)]
  omega
theorem pr_mnN {T : Nat → Int32} {x y : Nat} {a b c : Int32} (m : Nat) (hm : m ≤ 255) (hT : pr_ok T) (hx : x < 16) (hy : y < 16) (hc : pr_cov T (nI x) (nI y) = true)
    (ha : 0 ≤ a.toInt ∧ a.toInt ≤ m) (hb : 0 ≤ b.toInt ∧ b.toInt ≤ m) (hd : 0 ≤ c.toInt ∧ c.toInt ≤ m) :
    ∃ j : Nat, j ≤ m ∧ pr_mn T (nI x) (nI y) a b c = nI j := by
  have h := pr_mnI 0 m hT hx hy hc (by omega) (by omega) ha hb hd
  exact pr_ofI h.1 h.2
theorem pr_shN (c sh : Int32) : ∃ j : Nat, j ≤ 255 ∧ pr_sh c sh = nI j := by
  refine ⟨_, ?_, pk_and _ 8 (by decide)⟩
  have := Nat.mod_lt (c >>> (sh &&& 31)).toBitVec.toNat (show 0 < 2 ^ 8 by decide)
  omega
theorem pr_shI (c sh : Int32) : 0 ≤ (pr_sh c sh).toInt ∧ (pr_sh c sh).toInt ≤ 255 := by
  obtain ⟨j, hj, e⟩ := pr_shN c sh
  rw [e, nI_toInt (by omega)]
  omega
theorem pr_cmN {T : Nat → Int32} {x y : Nat} (sh : Int32) (hT : pr_ok T) (hx : x < 16) (hy : y < 16) (hc : pr_cov T (nI x) (nI y) = true) :
    ∃ j : Nat, j ≤ 255 ∧ pr_cm T (nI x) (nI y) sh = nI j := pr_mnN 255 (by decide) hT hx hy hc (pr_shI _ _) (pr_shI _ _) (pr_shI _ _)
theorem pr_d255 {a b : Nat} (ha : a ≤ 255) (hb : b ≤ 255) : ∃ j : Nat, j ≤ 255 ∧ (nI a * nI b) / 255 = nI j := by
  have h : a * b ≤ 255 * 255 := Nat.mul_le_mul ha hb
  refine ⟨a * b / 255, by omega, ?_⟩
  rw [pk_mul]
  exact pk_div (by omega) (by decide) (by decide)
theorem pr_m255 {a : Nat} (ha : a ≤ 255) : (nI a * 255) / 255 = nI a := by
  show (nI a * nI 255) / nI 255 = nI a
  rw [pk_mul, pk_div (by omega) (by decide) (by decide), Nat.mul_div_cancel _ (by decide)]
theorem pr_ownN {pat T : Nat → Int32} {x y : Nat} (sh : Int32) (hT : pr_ok T) (hx : x < 16) (hy : y < 16) (hc : pr_cov T (nI x) (nI y) = true) :
    ∃ j : Nat, j ≤ 255 ∧ pr_own pat T (nI x) (nI y) sh = nI j := by
  obtain ⟨a, ha, ea⟩ := pr_cmN sh hT hx hy hc
  unfold pr_own
  by_cases h : T 27 = 1
  · rw [if_pos h, ea]
    obtain ⟨b, hb, eb⟩ := pr_shN (pat (pr_cell T (nI x) (nI y)).toNatClampNeg) sh
    rw [eb]
    exact pr_d255 ha hb
  · rw [if_neg h]
    exact ⟨a, ha, ea⟩
theorem pr_mixN {mi : Int32} {a b : Nat} (ha : a ≤ 255) (hb : b ≤ 255) : ∃ j : Nat, j ≤ 255 ∧ pr_mix mi (nI a) (nI b) = nI j := by
  unfold pr_mix
  by_cases h0 : mi = 0
  · rw [if_pos h0]; exact ⟨a, ha, rfl⟩
  rw [if_neg h0]
  by_cases h1 : mi = 1
  · rw [if_pos h1, nI_add]
    by_cases h2 : nI (a + b) ≤ 255
    · rw [if_pos h2]
      have h3 : a + b ≤ 255 := (nI_leI (a := a + b) (b := 255) (by omega) (by decide)).mp h2
      exact ⟨a + b, h3, rfl⟩
    · rw [if_neg h2]; exact ⟨255, by omega, rfl⟩
  rw [if_neg h1]
  by_cases h2 : mi = 2
  · rw [if_pos h2, nI_add]
    exact ⟨(a + b) / 2, by omega, pk_div (a := a + b) (d := 2) (by omega) (by decide) (by decide)⟩
  rw [if_neg h2]
  by_cases h3 : mi = 3
  · rw [if_pos h3]; exact pr_d255 ha hb
  rw [if_neg h3]
  exact ⟨b, hb, rfl⟩
theorem pr_partN {pat T : Nat → Int32} {x y : Nat} (c sh : Int32) (hT : pr_ok T) (hx : x < 16) (hy : y < 16) (hc : pr_cov T (nI x) (nI y) = true) :
    ∃ j : Nat, j ≤ 255 ∧ pr_part pat T (nI x) (nI y) c sh = nI j := by
  obtain ⟨a, ha, ea⟩ := pr_ownN (pat := pat) sh hT hx hy hc
  obtain ⟨b, hb, eb⟩ := pr_shN c sh
  unfold pr_part
  rw [ea, eb]
  exact pr_mixN ha hb
theorem pr_col3 (a b c : Nat) : ((65536 * nI a) + (256 * nI b)) + nI c = nI (65536 * a + 256 * b + c) := by
  show ((nI 65536 * nI a) + (nI 256 * nI b)) + nI c = _
  rw [pk_mul, pk_mul, nI_add, nI_add]
theorem pr_colR {pat T : Nat → Int32} {x y : Nat} (c : Int32) (hT : pr_ok T) (hx : x < 16) (hy : y < 16) (hc : pr_cov T (nI x) (nI y) = true) : pr_cr (pr_col pat T (nI x) (nI y) c) := by
  obtain ⟨a, ha, ea⟩ := pr_partN (pat := pat) c 16 hT hx hy hc
  obtain ⟨b, hb, eb⟩ := pr_partN (pat := pat) c 8 hT hx hy hc
  obtain ⟨d, hd, ed⟩ := pr_partN (pat := pat) c 0 hT hx hy hc
  unfold pr_col
  rw [ea, eb, ed, pr_col3]
  exact ⟨_, by omega, rfl⟩
theorem pr_or (a m : Nat) (ha : a < 65536) (hm : m < 256) : (nI a <<< ((8 : Int32) &&& 31)) ||| nI m = nI (256 * a + m) := by
  have e : nI a <<< ((8 : Int32) &&& 31) = nI (a * 2 ^ 8) := pk_shlN _ 8 (by decide) (by omega)
  rw [e]
  apply Int32.toBitVec_inj.mp
  apply BitVec.eq_of_toNat_eq
  rw [Int32.toBitVec_or, BitVec.toNat_or, pk_tn (by omega), pk_tn (by omega), pk_tn (by omega), Nat.mul_comm a, ← Nat.two_pow_add_eq_or_of_lt (i := 8) (by omega)]
theorem pr_or3 {r g b : Nat} (hr : r ≤ 255) (hg : g ≤ 255) (hb : b ≤ 255) :
    ((((((0 : Int32) <<< ((8 : Int32) &&& 31)) ||| nI r) <<< ((8 : Int32) &&& 31)) ||| nI g) <<< ((8 : Int32) &&& 31)) ||| nI b = ((65536 * nI r) + (256 * nI g)) + nI b := by
  rw [pr_col3]
  have e1 := pr_or 0 r (by omega) (by omega)
  rw [nI_0] at e1
  rw [e1, pr_or _ g (by omega) (by omega), pr_or _ b (by omega) (by omega)]
  exact congrArg nI (by omega)
theorem pr_sh16 {k : Nat} (h : k < 16777216) : pr_sh (nI k) 16 = nI (k / 65536 % 256) := by
  unfold pr_sh
  rw [pk_shrN (by omega) _ 16 (by decide)]
  exact pk_andN (by omega) 8 (by decide)
theorem pr_sh8 {k : Nat} (h : k < 16777216) : pr_sh (nI k) 8 = nI (k / 256 % 256) := by
  unfold pr_sh
  rw [pk_shrN (by omega) _ 8 (by decide)]
  exact pk_andN (by omega) 8 (by decide)
theorem pr_sh0 {k : Nat} (h : k < 16777216) : pr_sh (nI k) 0 = nI (k % 256) := by
  unfold pr_sh
  rw [pk_shrN (by omega) _ 0 (by decide), Nat.pow_zero, Nat.div_one]
  exact pk_andN (by omega) 8 (by decide)
theorem pr_col4 {pat T : Nat → Int32} {x y c : Int32} (h : T 22 = 4) (hc : pr_cr c) : pr_col pat T x y c = c := by
  obtain ⟨k, hk, rfl⟩ := hc
  have m : ∀ s t : Int32, pr_mix (T 22) s t = t := fun s t => by
    unfold pr_mix
    rw [h, if_neg (by decide), if_neg (by decide), if_neg (by decide), if_neg (by decide)]
  unfold pr_col pr_part
  rw [m, m, m, pr_sh16 hk, pr_sh8 hk, pr_sh0 hk, pr_col3]
  exact congrArg nI (by omega)
theorem pr_cellN {T : Nat → Int32} {x y : Nat} (hT : pr_ok T) (hx : x < 16) (hy : y < 16) (hc : pr_cov T (nI x) (nI y) = true) :
    ∃ j : Nat, j < 64 ∧ pr_cell T (nI x) (nI y) = nI j := by
  have h := hT.2.2.1
  obtain ⟨u, hu, eu⟩ := pr_mnN 127 (by decide) hT hx hy hc (h 12 (by decide) (by decide)) (h 13 (by decide) (by decide)) (h 14 (by decide) (by decide))
  obtain ⟨v, hv, ev⟩ := pr_mnN 127 (by decide) hT hx hy hc (h 15 (by decide) (by decide)) (h 16 (by decide) (by decide)) (h 17 (by decide) (by decide))
  refine ⟨8 * (v / 16) + u / 16, by omega, ?_⟩
  unfold pr_cell
  rw [eu, ev]
  show (nI 8 * (nI v / nI 16)) + nI u / nI 16 = _
  rw [pk_div (by omega) (by decide) (by decide), pk_div (by omega) (by decide) (by decide), pk_mul, nI_add]
theorem pr_depI {T : Nat → Int32} {x y : Nat} (hT : pr_ok T) (hx : x < 16) (hy : y < 16) (hc : pr_cov T (nI x) (nI y) = true) :
    (T 6).toInt ≤ (pr_dep T (nI x) (nI y)).toInt ∨ (T 7).toInt ≤ (pr_dep T (nI x) (nI y)).toInt ∨ (T 8).toInt ≤ (pr_dep T (nI x) (nI y)).toInt := by
  have h := hT.2.1
  have a := h 6 (by decide) (by decide)
  have b := h 7 (by decide) (by decide)
  have c := h 8 (by decide) (by decide)
  obtain ⟨lo, l1, l2, l3, l4, l5⟩ : ∃ lo : Int, 0 ≤ lo ∧ lo ≤ (T 6).toInt ∧ lo ≤ (T 7).toInt ∧ lo ≤ (T 8).toInt ∧ (lo = (T 6).toInt ∨ lo = (T 7).toInt ∨ lo = (T 8).toInt) := by
    by_cases p : (T 6).toInt ≤ (T 7).toInt
    · by_cases q : (T 6).toInt ≤ (T 8).toInt
      · exact ⟨(T 6).toInt, by omega, by omega, by omega, by omega, Or.inl rfl⟩
      · exact ⟨(T 8).toInt, by omega, by omega, by omega, by omega, Or.inr (Or.inr rfl)⟩
    · by_cases q : (T 7).toInt ≤ (T 8).toInt
      · exact ⟨(T 7).toInt, by omega, by omega, by omega, by omega, Or.inr (Or.inl rfl)⟩
      · exact ⟨(T 8).toInt, by omega, by omega, by omega, by omega, Or.inr (Or.inr rfl)⟩
  have m := (pr_mnI (a := T 6) (b := T 7) (c := T 8) lo 255 hT hx hy hc l1 (by decide) ⟨l2, a.2⟩ ⟨l3, b.2⟩ ⟨l4, c.2⟩).1
  unfold pr_dep
  rcases l5 with e | e | e
  · exact Or.inl (by omega)
  · exact Or.inr (Or.inl (by omega))
  · exact Or.inr (Or.inr (by omega))
theorem pr_stR {pat T : Nat → Int32} {j : Nat} {s : pr_PX} (hT : pr_ok T) (hj : j < 256) (hs : pr_cr s.1) : pr_cr (pr_st pat T j s).1 := by
  unfold pr_st
  split
  · rename_i h
    rw [Bool.and_eq_true, Bool.and_eq_true] at h
    exact pr_colR s.1 hT (by omega) (by omega) h.2.1
  · exact hs
theorem pr_apR {pat : Nat → Int32} {TT : Nat → Nat → Int32} {j : Nat} {s : pr_PX} (hj : j < 256) (hs : pr_cr s.1) : ∀ n, (∀ r, r < n → pr_ok (TT r)) → pr_cr (pr_ap pat TT n j s).1 := by
  intro n
  induction n with
  | zero => intro _; exact hs
  | succ n ih => intro h; exact pr_stR (h n (by omega)) hj (ih (fun r hr => h r (by omega)))
theorem pr_aqR {pat : Nat → Int32} {TT : Nat → Nat → Int32} {n : Nat} {Q : Nat → pr_PX} (h : ∀ r, r < n → pr_ok (TT r)) (hQ : ∀ j, pr_cr (Q j).1) : ∀ j, pr_cr (pr_aq pat TT n Q j).1 := by
  intro j
  unfold pr_aq
  split
  · rename_i hj; exact pr_apR hj (hQ j) n h
  · exact hQ j
end
section
def pr_te (px py qx qy : Int32) : Int32 := if qy - py < 0 then 1 else if qy - py = 0 then (if qx - px ≤ 0 then 0 else 1) else 0
def pr_ef (px py qx qy sx sy te az : Int32) : Prop :=
  sx = (-16) * (qy - py) ∧ sy = 16 * (qx - px) ∧ te = pr_te px py qx qy ∧ az = ((qx - px) * (8 - py)) - ((qy - py) * (8 - px))
def pr_ed (T sX sY tE aZ : Nat → Int32) : Prop :=
  pr_ef (T 1) (T 4) (T 2) (T 5) (sX 0) (sY 0) (tE 0) (aZ 0) ∧ pr_ef (T 2) (T 5) (T 0) (T 3) (sX 1) (sY 1) (tE 1) (aZ 1) ∧ pr_ef (T 0) (T 3) (T 1) (T 4) (sX 2) (sY 2) (tE 2) (aZ 2)
theorem pr_ef_go {px py qx qy sx sy te az : Int32} (h : pr_ef px py qx qy sx sy te az) (x y : Int32) : (az + (sx * x)) + (sy * y) = pr_side px py qx qy ((16 * x) + 8) ((16 * y) + 8) := by
  obtain ⟨h1, h2, _, h4⟩ := h
  rw [h1, h2, h4]
  unfold pr_side
  grind
theorem pr_ef_on {px py qx qy sx sy te az : Int32} (h : pr_ef px py qx qy sx sy te az) (x y : Int32) : pr_side px py qx qy ((16 * x) + 8) y + sx = pr_side px py qx qy ((16 * (x + 1)) + 8) y := by
  rw [h.1]
  unfold pr_side
  grind
theorem pr_in_lt {px py qx qy s : Int32} (h : s < 0) : pr_in px py qx qy s = false := by
  rw [Int32.lt_iff_toInt_lt, Int32.toInt_zero] at h
  exact pr_in_neg h
theorem pr_in_gt {px py qx qy s : Int32} (h : ¬ s < 0) (h0 : ¬ s = 0) : pr_in px py qx qy s = true := by
  unfold pr_in
  have h2 : ¬ s ≤ 0 := fun z => by
    rw [Int32.lt_iff_toInt_lt, Int32.toInt_zero] at h
    rw [Int32.le_iff_toInt_le, Int32.toInt_zero] at z
    exact h0 (Int32.toInt_inj.mp (by rw [Int32.toInt_zero]; omega))
  rw [if_neg h0, decide_eq_false h2]
  rfl
theorem pr_in_eq {px py qx qy s : Int32} (h1 : -64 ≤ px.toInt ∧ px.toInt ≤ 319) (h2 : -64 ≤ py.toInt ∧ py.toInt ≤ 319) (h3 : -64 ≤ qx.toInt ∧ qx.toInt ≤ 319)
    (h4 : -64 ≤ qy.toInt ∧ qy.toInt ≤ 319) (hs : s = 0) : pr_in px py qx qy s = !decide (pr_te px py qx qy = 0) := by
  have e1 : (qx - px).toInt = qx.toInt - px.toInt := Jvm.Kit.i32_sub (by omega) (by omega)
  have e2 : (qy - py).toInt = qy.toInt - py.toInt := Jvm.Kit.i32_sub (by omega) (by omega)
  unfold pr_in pr_te
  rw [if_pos hs]
  by_cases a : qy = py
  · have b1 : ¬ qy - py < 0 := by rw [Int32.lt_iff_toInt_lt, e2, Int32.toInt_zero, a]; omega
    have b2 : qy - py = 0 := Int32.toInt_inj.mp (by rw [e2, Int32.toInt_zero, a]; omega)
    rw [if_pos a, if_neg b1, if_pos b2]
    by_cases c : qx ≤ px
    · have d : qx - px ≤ 0 := by
        rw [Int32.le_iff_toInt_le] at c
        rw [Int32.le_iff_toInt_le, e1, Int32.toInt_zero]; omega
      rw [if_pos d, decide_eq_true c]; rfl
    · have d : ¬ qx - px ≤ 0 := by
        rw [Int32.le_iff_toInt_le] at c
        rw [Int32.le_iff_toInt_le, e1, Int32.toInt_zero]; omega
      rw [if_neg d, decide_eq_false c]; rfl
  · have b2 : ¬ qy - py = 0 := fun z => by
      have := congrArg Int32.toInt z
      rw [e2, Int32.toInt_zero] at this
      exact a (Int32.toInt_inj.mp (by omega))
    rw [if_neg a, if_neg b2]
    by_cases c : py ≤ qy
    · have d : ¬ qy - py < 0 := by
        rw [Int32.le_iff_toInt_le] at c
        rw [Int32.lt_iff_toInt_lt, e2, Int32.toInt_zero]; omega
      rw [if_neg d, decide_eq_true c]; rfl
    · have d : qy - py < 0 := by
        rw [Int32.le_iff_toInt_le] at c
        rw [Int32.lt_iff_toInt_lt, e2, Int32.toInt_zero]; omega
      rw [if_pos d, decide_eq_false c]; rfl
theorem pr_m3 {s : Int32} (h : -6128 ≤ s.toInt ∧ s.toInt ≤ 6128) {z : Int32} (hz : (s ≤ 0 ∧ z = 0) ∨ (¬ s ≤ 0 ∧ z = s * 3)) :
    z.toInt ≤ 18384 ∧ 0 ≤ z.toInt ∧ 3 * s.toInt ≤ z.toInt := by
  rcases hz with ⟨a, b⟩ | ⟨a, b⟩
  · rw [Int32.le_iff_toInt_le, Int32.toInt_zero] at a
    rw [b, Int32.toInt_zero]; omega
  · rw [Int32.le_iff_toInt_le, Int32.toInt_zero] at a
    have e : (s * 3).toInt = s.toInt * 3 := Jvm.Kit.i32_mul (by rw [show (3 : Int32).toInt = 3 from by decide]; omega) (by rw [show (3 : Int32).toInt = 3 from by decide]; omega)
    rw [b, e]; omega
theorem pr_lin {sx sy az : Int32} {x y : Nat} (hx : x ≤ 15) (hy : y ≤ 15) (h1 : -6128 ≤ sx.toInt ∧ sx.toInt ≤ 6128) (h2 : -6128 ≤ sy.toInt ∧ sy.toInt ≤ 6128)
    (h3 : -300000 ≤ az.toInt ∧ az.toInt ≤ 300000) : ((az + (sx * nI x)) + (sy * nI y)).toInt = az.toInt + sx.toInt * x + sy.toInt * y ∧
    -1000000 ≤ az.toInt + sx.toInt * x + sy.toInt * y ∧ az.toInt + sx.toInt * x + sy.toInt * y ≤ 1000000 := by
  have nx : (nI x).toInt = x := nI_toInt (by omega)
  have ny : (nI y).toInt = y := nI_toInt (by omega)
  have m1 := pr_mb (a := sx.toInt) (b := (x : Int)) 6128 15 91920 rfl (by omega) (by omega) (by omega) (by omega)
  have m2 := pr_mb (a := sy.toInt) (b := (y : Int)) 6128 15 91920 rfl (by omega) (by omega) (by omega) (by omega)
  have e1 : (sx * nI x).toInt = sx.toInt * x := by rw [Jvm.Kit.i32_mul (by rw [nx]; omega) (by rw [nx]; omega), nx]
  have e2 : (sy * nI y).toInt = sy.toInt * y := by rw [Jvm.Kit.i32_mul (by rw [ny]; omega) (by rw [ny]; omega), ny]
  have e3 : (az + (sx * nI x)).toInt = az.toInt + sx.toInt * x := by rw [Jvm.Kit.i32_add (by rw [e1]; omega) (by rw [e1]; omega), e1]
  refine ⟨?_, by omega, by omega⟩
  rw [Jvm.Kit.i32_add (by rw [e3, e2]; omega) (by rw [e3, e2]; omega), e3, e2]
theorem pr_i3 {s : Int} {i : Nat} {z : Int} (hi : i ≤ 3) (h0 : 0 ≤ z) (h3 : 3 * s ≤ z) : s * i ≤ z := by
  rcases (show i = 0 ∨ i = 1 ∨ i = 2 ∨ i = 3 by omega) with e | e | e | e <;> subst e <;> omega
theorem pr_out {sx sy az z1 z2 : Int32} {L K i j : Nat} (hL : L ≤ 12) (hK : K ≤ 12) (hi : i ≤ 3) (hj : j ≤ 3) (h1 : -6128 ≤ sx.toInt ∧ sx.toInt ≤ 6128)
    (h2 : -6128 ≤ sy.toInt ∧ sy.toInt ≤ 6128) (h3 : -300000 ≤ az.toInt ∧ az.toInt ≤ 300000) (hz1 : (sx ≤ 0 ∧ z1 = 0) ∨ (¬ sx ≤ 0 ∧ z1 = sx * 3)) (hz2 : (sy ≤ 0 ∧ z2 = 0) ∨ (¬ sy ≤ 0 ∧ z2 = sy * 3))
    (hm : ¬ 0 ≤ (((az + (sx * nI L)) + (sy * nI K)) + z1) + z2) : ((az + (sx * nI (L + i))) + (sy * nI (K + j))).toInt < 0 := by
  have a := pr_lin (x := L) (y := K) (by omega) (by omega) h1 h2 h3
  have b := pr_lin (x := L + i) (y := K + j) (by omega) (by omega) h1 h2 h3
  have c1 := pr_m3 h1 hz1
  have c2 := pr_m3 h2 hz2
  have e1 : (((az + (sx * nI L)) + (sy * nI K)) + z1).toInt = az.toInt + sx.toInt * L + sy.toInt * K + z1.toInt := by
    rw [Jvm.Kit.i32_add (by rw [a.1]; omega) (by rw [a.1]; omega), a.1]
  have e2 : ((((az + (sx * nI L)) + (sy * nI K)) + z1) + z2).toInt = az.toInt + sx.toInt * L + sy.toInt * K + z1.toInt + z2.toInt := by
    rw [Jvm.Kit.i32_add (by rw [e1]; omega) (by rw [e1]; omega), e1]
  rw [Int32.le_iff_toInt_le, e2, Int32.toInt_zero] at hm
  rw [b.1]
  have d1 := pr_i3 (s := sx.toInt) hi c1.2.1 c1.2.2
  have d2 := pr_i3 (s := sy.toInt) hj c2.2.1 c2.2.2
  have f1 : sx.toInt * ((L + i : Nat) : Int) = sx.toInt * L + sx.toInt * i := by rw [Int.natCast_add, Int.mul_add]
  have f2 : sy.toInt * ((K + j : Nat) : Int) = sy.toInt * K + sy.toInt * j := by rw [Int.natCast_add, Int.mul_add]
  rw [f1, f2]
  omega
theorem pr_efR {px py qx qy sx sy te az : Int32} (h1 : -64 ≤ px.toInt ∧ px.toInt ≤ 319) (h2 : -64 ≤ py.toInt ∧ py.toInt ≤ 319) (h3 : -64 ≤ qx.toInt ∧ qx.toInt ≤ 319)
    (h4 : -64 ≤ qy.toInt ∧ qy.toInt ≤ 319) (h : pr_ef px py qx qy sx sy te az) : (-6128 ≤ sx.toInt ∧ sx.toInt ≤ 6128) ∧ (-6128 ≤ sy.toInt ∧ sy.toInt ≤ 6128) ∧ (-300000 ≤ az.toInt ∧ az.toInt ≤ 300000) := by
  obtain ⟨a1, a2, _, a4⟩ := h
  have e1 : (qx - px).toInt = qx.toInt - px.toInt := Jvm.Kit.i32_sub (by omega) (by omega)
  have e2 : (qy - py).toInt = qy.toInt - py.toInt := Jvm.Kit.i32_sub (by omega) (by omega)
  have n8 : (8 : Int32).toInt = 8 := by decide
  have n16 : (16 : Int32).toInt = 16 := by decide
  have nm : (-16 : Int32).toInt = -16 := by decide
  have s := (pr_sideI (rx := 8) (ry := 8) h1 h2 h3 h4 (by rw [n8]; decide) (by rw [n8]; decide)).2
  refine ⟨?_, ?_, ?_⟩
  · have e : ((-16) * (qy - py)).toInt = -16 * (qy.toInt - py.toInt) := by rw [Jvm.Kit.i32_mul (by rw [e2, nm]; omega) (by rw [e2, nm]; omega), e2, nm]
    rw [a1, e]; omega
  · have e : (16 * (qx - px)).toInt = 16 * (qx.toInt - px.toInt) := by rw [Jvm.Kit.i32_mul (by rw [e1, n16]; omega) (by rw [e1, n16]; omega), e1, n16]
    rw [a2, e]; omega
  · rw [a4]
    unfold pr_side at s
    omega
def pr_tl (L K j : Nat) : Bool := decide (L ≤ j % 16 ∧ j % 16 ≤ L + 3 ∧ K ≤ j / 16 ∧ j / 16 ≤ K + 3)
def pr_S (L K y x j : Nat) : Bool := decide ((L ≤ j % 16 ∧ j % 16 ≤ L + 3 ∧ K ≤ j / 16 ∧ j / 16 ≤ K + 3) ∧ (j / 16 < y ∨ (j / 16 = y ∧ j % 16 < x)))
theorem pr_tl_i {L K j : Nat} : pr_tl L K j = true ↔ (L ≤ j % 16 ∧ j % 16 ≤ L + 3 ∧ K ≤ j / 16 ∧ j / 16 ≤ K + 3) := decide_eq_true_iff
theorem pr_win_i {T : Nat → Int32} {b x y : Nat} (hb : b < 65536) (e : T 19 = nI b) (h : pr_win T x y = true) : b / 4096 ≤ x ∧ x ≤ b / 256 % 16 ∧ b / 16 % 16 ≤ y ∧ y ≤ b % 16 := by
  unfold pr_win pr_wn at h
  rw [e, nI_clamp (by omega)] at h
  exact of_decide_eq_true h
theorem pr_win_t {T : Nat → Int32} {b x y : Nat} (hb : b < 65536) (e : T 19 = nI b) (h : b / 4096 ≤ x ∧ x ≤ b / 256 % 16 ∧ b / 16 % 16 ≤ y ∧ y ≤ b % 16) : pr_win T x y = true := by
  unfold pr_win pr_wn
  rw [e, nI_clamp (by omega)]
  exact decide_eq_true h
end
section
def pr_rec (rX rY rD rC rU rV rB rR rA : Nat → Int32) (r : Nat) (T : Nat → Int32) : Prop :=
  (rX (3 * r) = T 0 ∧ rX (3 * r + 1) = T 1 ∧ rX (3 * r + 2) = T 2) ∧ (rY (3 * r) = T 3 ∧ rY (3 * r + 1) = T 4 ∧ rY (3 * r + 2) = T 5) ∧
  (rD (3 * r) = T 6 ∧ rD (3 * r + 1) = T 7 ∧ rD (3 * r + 2) = T 8) ∧ (rC (3 * r) = T 9 ∧ rC (3 * r + 1) = T 10 ∧ rC (3 * r + 2) = T 11) ∧
  (rU (3 * r) = T 12 ∧ rU (3 * r + 1) = T 13 ∧ rU (3 * r + 2) = T 14) ∧ (rV (3 * r) = T 15 ∧ rV (3 * r + 1) = T 16 ∧ rV (3 * r + 2) = T 17) ∧
  (rA r = T 18 ∧ rB r = T 19) ∧
  (rR (8 * r + 0) = T 20 ∧ rR (8 * r + 1) = T 21 ∧ rR (8 * r + 2) = T 22 ∧ rR (8 * r + 3) = T 23 ∧ rR (8 * r + 4) = T 24 ∧ rR (8 * r + 5) = T 25 ∧ rR (8 * r + 6) = T 26 ∧ rR (8 * r + 7) = T 27)
theorem xi_3 (r : Nat) : 3 * nI r = nI (3 * r) := by
  show nI 3 * nI r = _
  exact pk_mul 3 r
theorem xi_3k (r k : Nat) : (3 * nI r) + nI k = nI (3 * r + k) := by rw [xi_3, nI_add]
theorem xi_8k (r k : Nat) : (8 * nI r) + nI k = nI (8 * r + k) := by
  show (nI 8 * nI r) + nI k = _
  rw [pk_mul, nI_add]
theorem xi_c3 {r : Nat} (h : r < 12) : (3 * nI r).toNatClampNeg = 3 * r := pk_cl (3 * r) (xi_3 r)
theorem xi_c31 {r : Nat} (h : r < 12) : ((3 * nI r) + 1).toNatClampNeg = 3 * r + 1 := pk_cl (3 * r + 1) (xi_3k r 1)
theorem xi_c32 {r : Nat} (h : r < 12) : ((3 * nI r) + 2).toNatClampNeg = 3 * r + 2 := pk_cl (3 * r + 2) (xi_3k r 2)
theorem xi_i3 {r : Nat} (h : r < 12) : vp_in (3 * nI r) 36 := pk_in (3 * r) 36 (by omega) (xi_3 r)
theorem xi_i31 {r : Nat} (h : r < 12) : vp_in ((3 * nI r) + 1) 36 := pk_in (3 * r + 1) 36 (by omega) (xi_3k r 1)
theorem xi_i32 {r : Nat} (h : r < 12) : vp_in ((3 * nI r) + 2) 36 := pk_in (3 * r + 2) 36 (by omega) (xi_3k r 2)
theorem xi_cr {r : Nat} (h : r < 12) : (nI r).toNatClampNeg = r := nI_clamp (by omega)
theorem xi_ir {r : Nat} (h : r < 12) : vp_in (nI r) 12 := vp_in_nI h (by decide)
theorem xi_c80 {r : Nat} (h : r < 12) : ((8 * nI r) + 0).toNatClampNeg = 8 * r + 0 := pk_cl (8 * r + 0) (xi_8k r 0)
theorem xi_i80 {r : Nat} (h : r < 12) : vp_in ((8 * nI r) + 0) 96 := pk_in (8 * r + 0) 96 (by omega) (xi_8k r 0)
theorem xi_c81 {r : Nat} (h : r < 12) : ((8 * nI r) + 1).toNatClampNeg = 8 * r + 1 := pk_cl (8 * r + 1) (xi_8k r 1)
theorem xi_i81 {r : Nat} (h : r < 12) : vp_in ((8 * nI r) + 1) 96 := pk_in (8 * r + 1) 96 (by omega) (xi_8k r 1)
theorem xi_c82 {r : Nat} (h : r < 12) : ((8 * nI r) + 2).toNatClampNeg = 8 * r + 2 := pk_cl (8 * r + 2) (xi_8k r 2)
theorem xi_i82 {r : Nat} (h : r < 12) : vp_in ((8 * nI r) + 2) 96 := pk_in (8 * r + 2) 96 (by omega) (xi_8k r 2)
theorem xi_c83 {r : Nat} (h : r < 12) : ((8 * nI r) + 3).toNatClampNeg = 8 * r + 3 := pk_cl (8 * r + 3) (xi_8k r 3)
theorem xi_i83 {r : Nat} (h : r < 12) : vp_in ((8 * nI r) + 3) 96 := pk_in (8 * r + 3) 96 (by omega) (xi_8k r 3)
theorem xi_c84 {r : Nat} (h : r < 12) : ((8 * nI r) + 4).toNatClampNeg = 8 * r + 4 := pk_cl (8 * r + 4) (xi_8k r 4)
theorem xi_i84 {r : Nat} (h : r < 12) : vp_in ((8 * nI r) + 4) 96 := pk_in (8 * r + 4) 96 (by omega) (xi_8k r 4)
theorem xi_c85 {r : Nat} (h : r < 12) : ((8 * nI r) + 5).toNatClampNeg = 8 * r + 5 := pk_cl (8 * r + 5) (xi_8k r 5)
theorem xi_i85 {r : Nat} (h : r < 12) : vp_in ((8 * nI r) + 5) 96 := pk_in (8 * r + 5) 96 (by omega) (xi_8k r 5)
theorem xi_c86 {r : Nat} (h : r < 12) : ((8 * nI r) + 6).toNatClampNeg = 8 * r + 6 := pk_cl (8 * r + 6) (xi_8k r 6)
theorem xi_i86 {r : Nat} (h : r < 12) : vp_in ((8 * nI r) + 6) 96 := pk_in (8 * r + 6) 96 (by omega) (xi_8k r 6)
theorem xi_c87 {r : Nat} (h : r < 12) : ((8 * nI r) + 7).toNatClampNeg = 8 * r + 7 := pk_cl (8 * r + 7) (xi_8k r 7)
theorem xi_i87 {r : Nat} (h : r < 12) : vp_in ((8 * nI r) + 7) 96 := pk_in (8 * r + 7) 96 (by omega) (xi_8k r 7)
section
variable {xBox xHit xRec xFar : Int32} {xCol xDep xMrk xPat xCX xCY xCD xCC xCU xCV xRul xRX xRY xRD xRC xRU xRV xRB xRR xRA xSX xSY xTE xAZ xSd xCh : Nat → Int32}
theorem xw_in1 {post : Int32 → Prop} {j n : Nat} (h : j < n) (hn : n < 2 ^ 31) (hp : post 1) : wpX_isIn post (nI j) (nI n) :=
  br_f (nI_pos (by omega)) (br_f (nI_ge h hn) hp)
theorem xw_in0 {post : Int32 → Prop} {x y : Int32} (h : x < 0 ∨ y ≤ x) (hp : post 0) : wpX_isIn post x y := by
  by_cases a : x < 0
  · exact br_t a hp
  · exact br_f a (br_t (h.resolve_left a) hp)
theorem xw_depthOf {post : Int32 → Prop} {r : Nat} {T : Nat → Int32} {x y : Int32} (hr : r < 12) (hR : pr_rec xRX xRY xRD xRC xRU xRV xRB xRR xRA r T) (hA : 0 < (T 18).toInt) (hs : (xSd 0 = pr_w0 T x y ∧ xSd 1 = pr_w1 T x y ∧ xSd 2 = pr_w2 T x y))
    (h : post (pr_dep T x y)) : wpX_depthOf post (xBox, xHit, xRec, xFar, xCol, xDep, xMrk, xPat, xCX, xCY, xCD, xCC, xCU, xCV, xRul, xRX, xRY, xRD, xRC, xRU, xRV, xRB, xRR, xRA, xSX, xSY, xTE, xAZ, xSd, xCh) (nI r) := by
  obtain ⟨_, _, ⟨d0, d1, d2⟩, _, _, _, ⟨ea, _⟩, _⟩ := hR
  have a1 : ¬ T 18 ≤ 0 := by rw [Int32.le_iff_toInt_le, Int32.toInt_zero]; omega
  have a2 : ¬ T 18 = 0 := fun z => by rw [z, Int32.toInt_zero] at hA; omega
  unfold wpX_depthOf
  dsimp only
  rw [xi_c3 hr, xi_c31 hr, xi_c32 hr, xi_cr hr, d0, d1, d2, ea, hs.1, hs.2.1, hs.2.2]
  exact ⟨xi_i3 hr, xi_i31 hr, xi_i32 hr, nm_e ⟨xi_ir hr, br_f a1 ⟨xi_ir hr, a2, h⟩⟩⟩
theorem xw_passes {post : Int32 → Prop} {r p : Nat} {T : Nat → Int32} {d : Int32} (hr : r < 12) (hp : p < 256) (hR : pr_rec xRX xRY xRD xRC xRU xRV xRB xRR xRA r T)
    (h : post (pr_b (pr_pass (T 23) (T 25) (T 20) (xMrk p) d (xDep p)))) : wpX_passes post (xBox, xHit, xRec, xFar, xCol, xDep, xMrk, xPat, xCX, xCY, xCD, xCC, xCU, xCV, xRul, xRX, xRY, xRD, xRC, xRU, xRV, xRB, xRR, xRA, xSX, xSY, xTE, xAZ, xSd, xCh) (nI r) (nI p) d := by
  obtain ⟨_, _, _, _, _, _, _, ⟨e0, _, _, e3, _, e5, _, _⟩⟩ := hR
  have ip : vp_in (nI p) 256 := vp_in_nI hp (by decide)
  have cp : (nI p).toNatClampNeg = p := nI_clamp (by omega)
  unfold pr_pass at h
  have K : ∀ (h1 : ¬ (T 23 = 1 ∧ ¬ xMrk p = T 25)) (h2 : ¬ (T 23 = 2 ∧ xMrk p = T 25)), wX_passes_64 post (nI r) (nI p) d xBox xHit xRec xFar xCol xDep xMrk xPat xCX xCY xCD xCC xCU xCV xRul xRX xRY xRD xRC xRU xRV xRB xRR xRA xSX xSY xTE xAZ xSd xCh := by
    intro h1 h2
    rw [if_neg h1, if_neg h2] at h
    unfold wX_passes_64 wX_passes_99
    rw [xi_c80 hr, e0, cp]
    refine ⟨xi_i80 hr, nm_e (br_c (fun t => ?_) (fun t => br_c (fun t2 => ⟨ip, br_c (fun u => ?_) (fun u => br_f ?_ ?_)⟩) (fun t2 => br_c (fun t3 => ⟨ip, br_c (fun u => ?_) (fun u => ?_)⟩) (fun t3 => ?_))))⟩
    · rw [t, if_neg (by decide), if_neg (by decide)] at h; exact h
    · rw [if_pos t2, decide_eq_true u] at h; exact h
    · rw [t2]; decide
    · rw [if_pos t2, decide_eq_false u] at h; exact h
    · rw [if_neg t2, if_pos t3, decide_eq_true u] at h; exact h
    · rw [if_neg t2, if_pos t3, decide_eq_false u] at h; exact h
    · rw [if_neg t2, if_neg t3, decide_eq_false t] at h; exact h
  unfold wpX_passes
  dsimp only
  unfold wX_passes_38 wX_passes_51
  rw [xi_c83 hr, xi_c85 hr, e3, e5, cp]
  refine ⟨xi_i83 hr, nm_e ⟨ip, xi_i85 hr, br_c (fun m => ?_) (fun m => ?_)⟩⟩
  · have h1 : ¬ (T 23 = 1 ∧ ¬ xMrk p = T 25) := fun z => z.2 m
    refine br_c (fun t => br_f (by decide) (br_f (by rw [t]; decide) (K h1 (fun z => absurd (t.symm.trans z.1) (by decide))))) (fun t => br_c (fun t2 => br_f (by decide) ?_) (fun t2 => K h1 (fun z => t2 z.1)))
    rw [if_neg h1, if_pos ⟨t2, m⟩] at h
    exact h
  · have h2 : ¬ (T 23 = 2 ∧ xMrk p = T 25) := fun z => m z.2
    refine br_c (fun t => br_t rfl ?_) (fun t => br_c (fun t2 => br_t rfl (K (fun z => t z.1) h2)) (fun t2 => K (fun z => t z.1) h2))
    rw [if_pos ⟨t, m⟩] at h
    exact h
theorem xw_newMark {post : Int32 → Prop} {r : Nat} {T : Nat → Int32} {m : Int32} (hr : r < 12) (hR : pr_rec xRX xRY xRD xRC xRU xRV xRB xRR xRA r T) (hc : 0 ≤ (T 24).toInt ∧ (T 24).toInt ≤ 3)
    (h : post (pr_mark (T 24) (T 25) m)) : wpX_newMark post (xBox, xHit, xRec, xFar, xCol, xDep, xMrk, xPat, xCX, xCY, xCD, xCC, xCU, xCV, xRul, xRX, xRY, xRD, xRC, xRU, xRV, xRB, xRR, xRA, xSX, xSY, xTE, xAZ, xSd, xCh) (nI r) m := by
  obtain ⟨_, _, _, _, _, _, _, ⟨_, _, _, _, e4, e5, _, _⟩⟩ := hR
  unfold pr_mark at h
  unfold wpX_newMark
  dsimp only
  rw [xi_c84 hr, xi_c85 hr, e4, e5]
  refine ⟨xi_i84 hr, nm_e ⟨xi_i85 hr, nm_e (br_c (fun t => ?_) (fun t => br_c (fun t1 => ?_) (fun t1 => br_c (fun t2 => ?_) (fun t2 => ?_))))⟩⟩
  · rw [t, if_neg (by decide), if_neg (by decide), if_neg (by decide)] at h; exact h
  · rw [if_pos t1] at h; exact h
  · rw [if_neg t1, if_pos t2] at h; exact h
  · obtain ⟨j, hj, e⟩ := pr_ofI (m := 3) hc.1 hc.2
    have t3 : T 24 = 3 := by
      rcases (show j = 0 ∨ j = 1 ∨ j = 2 ∨ j = 3 by omega) with q | q | q | q
      · exact absurd (e.trans (congrArg nI q)) t
      · exact absurd (e.trans (congrArg nI q)) t1
      · exact absurd (e.trans (congrArg nI q)) t2
      · exact e.trans (congrArg nI q)
    rw [if_neg t1, if_neg t2, if_pos t3] at h; exact h
theorem xw_mixed {post : Int32 → Prop} {mi a b : Int32} (hm : 0 ≤ mi.toInt ∧ mi.toInt ≤ 4) (h4 : ¬ mi = 4) (h : post (pr_mix mi a b)) : wpX_mixed post mi a b := by
  unfold pr_mix at h
  unfold wpX_mixed
  refine br_c (fun t => ?_) (fun t => br_c (fun t1 => br_c (fun u => ?_) (fun u => ?_)) (fun t1 => br_c (fun t2 => ⟨by decide, ?_⟩) (fun t2 => ⟨by decide, ?_⟩)))
  · rw [if_pos t] at h; exact h
  · rw [if_neg t, if_pos t1, if_pos u] at h; exact h
  · rw [if_neg t, if_pos t1, if_neg u] at h; exact h
  · rw [if_neg t, if_neg t1, if_pos t2] at h; exact h
  · obtain ⟨j, hj, e⟩ := pr_ofI (m := 4) hm.1 hm.2
    have t3 : mi = 3 := by
      rcases (show j = 0 ∨ j = 1 ∨ j = 2 ∨ j = 3 ∨ j = 4 by omega) with q | q | q | q | q
      · exact absurd (e.trans (congrArg nI q)) t
      · exact absurd (e.trans (congrArg nI q)) t1
      · exact absurd (e.trans (congrArg nI q)) t2
      · exact e.trans (congrArg nI q)
      · exact absurd (e.trans (congrArg nI q)) h4
    rw [if_neg t, if_neg t1, if_neg t2, if_pos t3] at h; exact h
theorem xw_partOf_it {post : Int32 → Prop} {r i n : Nat} {s sh : Int32} (hr : r < 12) (hi : i < 3)
    (h : wX_partOf_5 post (nI r) sh xBox xHit xRec xFar xCol xDep xMrk xPat xCX xCY xCD xCC xCU xCV xRul xRX xRY xRD xRC xRU xRV xRB xRR xRA xSX xSY xTE xAZ xSd xCh n (s + (xSd i * pr_sh (xRC (3 * r + i)) sh)) (nI (i + 1))) : wX_partOf_5 post (nI r) sh xBox xHit xRec xFar xCol xDep xMrk xPat xCX xCY xCD xCC xCU xCV xRul xRX xRY xRD xRC xRU xRV xRB xRR xRA xSX xSY xTE xAZ xSd xCh (n + 1) s (nI i) := by
  have c1 : (nI i).toNatClampNeg = i := nI_clamp (by omega)
  have c2 : ((3 * nI r) + nI i).toNatClampNeg = 3 * r + i := pk_cl (3 * r + i) (xi_3k r i)
  refine br_f (nI_ge (b := 3) hi (by decide)) ⟨vp_in_nI hi (by decide), pk_in (3 * r + i) 36 (by omega) (xi_3k r i), fun y1 e1 y2 e2 => ?_⟩
  rw [e2, nI_1, e1, c1, c2]
  exact h
theorem xw_partOf {post : Int32 → Prop} {r : Nat} {T : Nat → Int32} {x y sh : Int32} (hr : r < 12) (hR : pr_rec xRX xRY xRD xRC xRU xRV xRB xRR xRA r T) (hA : 0 < (T 18).toInt) (hs : (xSd 0 = pr_w0 T x y ∧ xSd 1 = pr_w1 T x y ∧ xSd 2 = pr_w2 T x y))
    (h : post (pr_cm T x y sh)) : wpX_partOf post (xBox, xHit, xRec, xFar, xCol, xDep, xMrk, xPat, xCX, xCY, xCD, xCC, xCU, xCV, xRul, xRX, xRY, xRD, xRC, xRU, xRV, xRB, xRR, xRA, xSX, xSY, xTE, xAZ, xSd, xCh) (nI r) sh := by
  obtain ⟨_, _, _, ⟨d0, d1, d2⟩, _, _, ⟨ea, _⟩, _⟩ := hR
  have a1 : ¬ T 18 ≤ 0 := by rw [Int32.le_iff_toInt_le, Int32.toInt_zero]; omega
  have a2 : ¬ T 18 = 0 := fun z => by rw [z, Int32.toInt_zero] at hA; omega
  refine ⟨4, xw_partOf_it (i := 0) hr (by decide) (xw_partOf_it (i := 1) hr (by decide) (xw_partOf_it (i := 2) hr (by decide) ?_))⟩
  refine br_t (by decide) ?_
  rw [xi_cr hr, ea, show 3 * r + 0 = 3 * r from rfl, d0, d1, d2, hs.1, hs.2.1, hs.2.2, Int32.zero_add]
  exact ⟨xi_ir hr, br_f a1 ⟨xi_ir hr, a2, h⟩⟩
theorem xw_cellOf_it {post : Int32 → Prop} {r i n : Nat} {s t : Int32} (hr : r < 12) (hi : i < 3)
    (h : wX_cellOf_7 post (nI r) xBox xHit xRec xFar xCol xDep xMrk xPat xCX xCY xCD xCC xCU xCV xRul xRX xRY xRD xRC xRU xRV xRB xRR xRA xSX xSY xTE xAZ xSd xCh n (s + (xSd i * xRU (3 * r + i))) (t + (xSd i * xRV (3 * r + i))) (nI (i + 1))) : wX_cellOf_7 post (nI r) xBox xHit xRec xFar xCol xDep xMrk xPat xCX xCY xCD xCC xCU xCV xRul xRX xRY xRD xRC xRU xRV xRB xRR xRA xSX xSY xTE xAZ xSd xCh (n + 1) s t (nI i) := by
  have c1 : (nI i).toNatClampNeg = i := nI_clamp (by omega)
  have c2 : ((3 * nI r) + nI i).toNatClampNeg = 3 * r + i := pk_cl (3 * r + i) (xi_3k r i)
  have i1 : vp_in (nI i) 3 := vp_in_nI hi (by decide)
  have i2 : vp_in ((3 * nI r) + nI i) 36 := pk_in (3 * r + i) 36 (by omega) (xi_3k r i)
  refine br_f (nI_ge (b := 3) hi (by decide)) ⟨i1, i2, fun y1 e1 => ⟨i1, i2, fun y2 e2 y3 e3 => ?_⟩⟩
  rw [e3, nI_1, e2, e1, c1, c2]
  exact h
theorem xw_cellOf {post : Int32 → Prop} {r : Nat} {T : Nat → Int32} {x y : Int32} (hr : r < 12) (hR : pr_rec xRX xRY xRD xRC xRU xRV xRB xRR xRA r T) (hA : 0 < (T 18).toInt) (hs : (xSd 0 = pr_w0 T x y ∧ xSd 1 = pr_w1 T x y ∧ xSd 2 = pr_w2 T x y))
    (h : post (pr_cell T x y)) : wpX_cellOf post (xBox, xHit, xRec, xFar, xCol, xDep, xMrk, xPat, xCX, xCY, xCD, xCC, xCU, xCV, xRul, xRX, xRY, xRD, xRC, xRU, xRV, xRB, xRR, xRA, xSX, xSY, xTE, xAZ, xSd, xCh) (nI r) := by
  obtain ⟨_, _, _, _, ⟨d0, d1, d2⟩, ⟨f0, f1, f2⟩, ⟨ea, _⟩, _⟩ := hR
  have a1 : ¬ T 18 ≤ 0 := by rw [Int32.le_iff_toInt_le, Int32.toInt_zero]; omega
  have a2 : ¬ T 18 = 0 := fun z => by rw [z, Int32.toInt_zero] at hA; omega
  refine ⟨4, xw_cellOf_it (i := 0) hr (by decide) (xw_cellOf_it (i := 1) hr (by decide) (xw_cellOf_it (i := 2) hr (by decide) ?_))⟩
  refine br_t (by decide) ?_
  unfold wX_cellOf_82
  rw [xi_cr hr, ea, show 3 * r + 0 = 3 * r from rfl, d0, d1, d2, f0, f1, f2, hs.1, hs.2.1, hs.2.2, Int32.zero_add, Int32.zero_add]
  exact ⟨xi_ir hr, br_f a1 ⟨xi_ir hr, a2, by decide, a2, by decide, h⟩⟩
end
end
section
section
variable {xBox xHit xRec xFar : Int32} {xCol xDep xMrk xPat xCX xCY xCD xCC xCU xCV xRul xRX xRY xRD xRC xRU xRV xRB xRR xRA xSX xSY xTE xAZ xSd xCh : Nat → Int32}
theorem xw_touch_it {post : SX → Prop} {r p n : Nat} {T : Nat → Int32} {x y cell acc sh sh' : Int32} (hr : r < 12) (hp : p < 256) (hR : pr_rec xRX xRY xRD xRC xRU xRV xRB xRR xRA r T) (hA : 0 < (T 18).toInt) (hs : (xSd 0 = pr_w0 T x y ∧ xSd 1 = pr_w1 T x y ∧ xSd 2 = pr_w2 T x y))
    (hm : 0 ≤ (T 22).toInt ∧ (T 22).toInt ≤ 4) (h4 : ¬ T 22 = 4) (hn : ¬ sh < 0) (hsh : sh + (-8) = sh')
    (h : wX_touch_126 post (nI r) (nI p) (T 22) cell xBox xHit xRec xFar xCol xDep xMrk xPat xCX xCY xCD xCC xCU xCV xRul xRX xRY xRD xRC xRU xRV xRB xRR xRA xSX xSY xTE xAZ xSd xCh n ((acc <<< ((8 : Int32) &&& 31)) ||| pr_mix (T 22) ((pr_cm T x y sh * pr_sh cell sh) / 255) (pr_sh (xCol p) sh)) sh') :
    wX_touch_126 post (nI r) (nI p) (T 22) cell xBox xHit xRec xFar xCol xDep xMrk xPat xCX xCY xCD xCC xCU xCV xRul xRX xRY xRD xRC xRU xRV xRB xRR xRA xSX xSY xTE xAZ xSd xCh (n + 1) acc sh := by
  have cp : (nI p).toNatClampNeg = p := nI_clamp (by omega)
  refine br_f hn ?_
  refine xw_partOf hr hR hA hs ?_
  refine ⟨by decide, fun y1 e1 => ⟨vp_in_nI hp (by decide), fun y2 e2 => ?_⟩⟩
  refine xw_mixed hm h4 ?_
  intro y3 e3 y4 e4
  rw [e4, e3, e1, e2, cp, hsh]
  exact h
theorem xw_touch_126 {post : SX → Prop} {r p x y : Nat} {T : Nat → Int32} {cell : Int32} (hr : r < 12) (hp : p < 256) (hx : x < 16) (hy : y < 16) (hR : pr_rec xRX xRY xRD xRC xRU xRV xRB xRR xRA r T) (hT : pr_ok T) (hs : (xSd 0 = pr_w0 T (nI x) (nI y) ∧ xSd 1 = pr_w1 T (nI x) (nI y) ∧ xSd 2 = pr_w2 T (nI x) (nI y)))
    (hc : pr_cov T (nI x) (nI y) = true) (h4 : ¬ T 22 = 4)
    (ho : ∀ sh : Int32, sh = 16 ∨ sh = 8 ∨ sh = 0 → (pr_cm T (nI x) (nI y) sh * pr_sh cell sh) / 255 = pr_own xPat T (nI x) (nI y) sh)
    (h : post (xBox, xHit, xRec, xFar, upd xCol p (pr_col xPat T (nI x) (nI y) (xCol p)), xDep, xMrk, xPat, xCX, xCY, xCD, xCC, xCU, xCV, xRul, xRX, xRY, xRD, xRC, xRU, xRV, xRB, xRR, xRA, xSX, xSY, xTE, xAZ, xSd, xCh)) : ∃ n, wX_touch_126 post (nI r) (nI p) (T 22) cell xBox xHit xRec xFar xCol xDep xMrk xPat xCX xCY xCD xCC xCU xCV xRul xRX xRY xRD xRC xRU xRV xRB xRR xRA xSX xSY xTE xAZ xSd xCh n 0 16 := by
  have cp : (nI p).toNatClampNeg = p := nI_clamp (by omega)
  have hA := hT.2.2.2.1.2
  have hm := hT.2.2.2.2.2.1
  refine ⟨4, xw_touch_it (sh' := 8) hr hp hR hA hs hm h4 (by decide) (by decide) (xw_touch_it (sh' := 0) hr hp hR hA hs hm h4 (by decide) (by decide) (xw_touch_it (sh' := -8) hr hp hR hA hs hm h4 (by decide) (by decide) ?_))⟩
  rw [ho 16 (Or.inl rfl), ho 8 (Or.inr (Or.inl rfl)), ho 0 (Or.inr (Or.inr rfl))]
  refine br_t (by decide) ⟨vp_in_nI hp (by decide), nm_r (e' := upd xCol p (pr_col xPat T (nI x) (nI y) (xCol p))) ?_ h⟩
  obtain ⟨a, ha, ea⟩ := pr_partN (pat := xPat) (xCol p) 16 hT hx hy hc
  obtain ⟨b, hb, eb⟩ := pr_partN (pat := xPat) (xCol p) 8 hT hx hy hc
  obtain ⟨d, hd, ed⟩ := pr_partN (pat := xPat) (xCol p) 0 hT hx hy hc
  unfold pr_part at ea eb ed
  unfold pr_col pr_part
  rw [cp, ea, eb, ed, pr_or3 ha hb hd]
theorem xw_touch_66 {post : SX → Prop} {r p x y : Nat} {T : Nat → Int32} (hr : r < 12) (hp : p < 256) (hx : x < 16) (hy : y < 16) (hR : pr_rec xRX xRY xRD xRC xRU xRV xRB xRR xRA r T) (hT : pr_ok T) (hs : (xSd 0 = pr_w0 T (nI x) (nI y) ∧ xSd 1 = pr_w1 T (nI x) (nI y) ∧ xSd 2 = pr_w2 T (nI x) (nI y)))
    (hc : pr_cov T (nI x) (nI y) = true) (h4 : T 22 = 4 → post (xBox, xHit, xRec, xFar, xCol, xDep, xMrk, xPat, xCX, xCY, xCD, xCC, xCU, xCV, xRul, xRX, xRY, xRD, xRC, xRU, xRV, xRB, xRR, xRA, xSX, xSY, xTE, xAZ, xSd, xCh)) (h : ¬ T 22 = 4 → post (xBox, xHit, xRec, xFar, upd xCol p (pr_col xPat T (nI x) (nI y) (xCol p)), xDep, xMrk, xPat, xCX, xCY, xCD, xCC, xCU, xCV, xRul, xRX, xRY, xRD, xRC, xRU, xRV, xRB, xRR, xRA, xSX, xSY, xTE, xAZ, xSd, xCh)) : wX_touch_66 post (nI r) (nI p) xBox xHit xRec xFar xCol xDep xMrk xPat xCX xCY xCD xCC xCU xCV xRul xRX xRY xRD xRC xRU xRV xRB xRR xRA xSX xSY xTE xAZ xSd xCh := by
  have hA := hT.2.2.2.1.2
  obtain ⟨_, _, _, _, _, _, _, ⟨_, _, e2, _, _, _, _, e7⟩⟩ := id hR
  unfold wX_touch_66
  rw [xi_c82 hr, xi_c87 hr, e2, e7]
  refine ⟨xi_i82 hr, nm_e (br_c h4 (fun t => ⟨xi_i87 hr, br_c (fun t7 => ?_) (fun t7 => ?_)⟩))⟩
  · refine xw_cellOf hr hR hA hs ?_
    obtain ⟨j, hj, ej⟩ := pr_cellN hT hx hy hc
    refine ⟨by rw [ej]; exact vp_in_nI hj (by decide), nm_e ?_⟩
    refine xw_touch_126 hr hp hx hy hR hT hs hc t (fun sh _ => ?_) (h t)
    unfold pr_own
    rw [if_pos t7]
  · refine xw_touch_126 hr hp hx hy hR hT hs hc t (fun sh hsh => ?_) (h t)
    have e : pr_sh 16777215 sh = 255 := by
      rcases hsh with q | q | q <;> subst q <;> decide
    obtain ⟨j, hj, ej⟩ := pr_cmN sh hT hx hy hc
    unfold pr_own
    rw [if_neg t7, e, ej, pr_m255 hj]
theorem xw_touch {post : SX → Prop} {r p : Nat} {T : Nat → Int32} {Q : Nat → pr_PX} (hr : r < 12) (hp : p < 256) (hR : pr_rec xRX xRY xRD xRC xRU xRV xRB xRR xRA r T) (hT : pr_ok T) (hs : (xSd 0 = pr_w0 T (nI (p % 16)) (nI (p / 16)) ∧ xSd 1 = pr_w1 T (nI (p % 16)) (nI (p / 16)) ∧ xSd 2 = pr_w2 T (nI (p % 16)) (nI (p / 16))))
    (hw : pr_win T (p % 16) (p / 16) = true) (hc : pr_cov T (nI (p % 16)) (nI (p / 16)) = true) (hq : pr_cr (Q p).1)
    (h : post (xBox, pr_sq (pr_uq Q p (pr_st xPat T p (Q p))), xRec, xFar, pr_cq (pr_uq Q p (pr_st xPat T p (Q p))), pr_dq (pr_uq Q p (pr_st xPat T p (Q p))), pr_mq (pr_uq Q p (pr_st xPat T p (Q p))), xPat, xCX, xCY, xCD, xCC, xCU, xCV, xRul, xRX, xRY, xRD, xRC, xRU, xRV, xRB, xRR, xRA, xSX, xSY, xTE, xAZ, xSd, xCh)) : wpX_touch post (xBox, pr_sq Q, xRec, xFar, pr_cq Q, pr_dq Q, pr_mq Q, xPat, xCX, xCY, xCD, xCC, xCU, xCV, xRul, xRX, xRY, xRD, xRC, xRU, xRV, xRB, xRR, xRA, xSX, xSY, xTE, xAZ, xSd, xCh) (nI r) (nI p) := by
  have cp : (nI p).toNatClampNeg = p := nI_clamp (by omega)
  have ip : vp_in (nI p) 256 := vp_in_nI hp (by decide)
  have hx : p % 16 < 16 := by omega
  have hy : p / 16 < 16 := by omega
  unfold wpX_touch
  dsimp only
  refine xw_depthOf hr hR hT.2.2.2.1.2 hs ?_
  refine xw_passes hr hp hR ?_
  by_cases g : pr_pass (T 23) (T 25) (T 20) (pr_mq Q p) (pr_dep T (nI (p % 16)) (nI (p / 16))) (pr_dq Q p) = true
  · have e : pr_st xPat T p (Q p) = pr_hit xPat T (nI (p % 16)) (nI (p / 16)) (Q p) := by
      unfold pr_st
      rw [hw, hc, Bool.true_and, Bool.true_and]
      exact if_pos g
    rw [e, pr_u_c, pr_u_d, pr_u_m, pr_u_s hp rfl] at h
    rw [g]
    refine br_f (by decide) (nm_e ⟨ip, ?_⟩)
    refine xw_newMark hr hR hT.2.2.2.2.2.2 ?_
    have e1 := hR.2.2.2.2.2.2.2.2.1
    rw [xi_c81 hr, e1, cp]
    refine ⟨ip, nm_e ⟨xi_i81 hr, br_c (fun t => ⟨ip, nm_e ?_⟩) (fun t => ?_)⟩⟩
    · have d : (pr_hit xPat T (nI (p % 16)) (nI (p / 16)) (Q p)).2.1 = pr_dep T (nI (p % 16)) (nI (p / 16)) := if_pos t
      rw [d] at h
      refine xw_touch_66 hr hp hx hy hR hT hs hc (fun t4 => ?_) (fun _ => h)
      have c : upd (pr_cq Q) p (pr_hit xPat T (nI (p % 16)) (nI (p / 16)) (Q p)).1 = pr_cq Q := by
        rw [show (pr_hit xPat T (nI (p % 16)) (nI (p / 16)) (Q p)).1 = pr_col xPat T (nI (p % 16)) (nI (p / 16)) (Q p).1 from rfl, pr_col4 t4 hq]
        exact pr_uu
      rw [c] at h
      exact h
    · have d : (pr_hit xPat T (nI (p % 16)) (nI (p / 16)) (Q p)).2.1 = pr_dq Q p := if_neg t
      rw [d, pr_uu] at h
      refine xw_touch_66 hr hp hx hy hR hT hs hc (fun t4 => ?_) (fun _ => h)
      have c : upd (pr_cq Q) p (pr_hit xPat T (nI (p % 16)) (nI (p / 16)) (Q p)).1 = pr_cq Q := by
        rw [show (pr_hit xPat T (nI (p % 16)) (nI (p / 16)) (Q p)).1 = pr_col xPat T (nI (p % 16)) (nI (p / 16)) (Q p).1 from rfl, pr_col4 t4 hq]
        exact pr_uu
      rw [c] at h
      exact h
  · have g' : pr_pass (T 23) (T 25) (T 20) (pr_mq Q p) (pr_dep T (nI (p % 16)) (nI (p / 16))) (pr_dq Q p) = false := by simpa using g
    have e : pr_st xPat T p (Q p) = Q p := by
      unfold pr_st
      rw [hw, hc, Bool.true_and, Bool.true_and]
      exact if_neg g
    rw [e, pr_u_id] at h
    rw [g']
    exact br_t rfl h
end
end
section
section
variable {xBox xHit xRec xFar : Int32} {xCol xDep xMrk xPat xCX xCY xCD xCC xCU xCV xRul xRX xRY xRD xRC xRU xRV xRB xRR xRA xSX xSY xTE xAZ xSd xCh : Nat → Int32}
theorem xw_far_it {post : SX → Prop} {L K k n : Nat} {f : Int32} (hL : L ≤ 12) (hK : K ≤ 12) (hk : k < 16)
    (h : ∀ g : Int32, f.toInt ≤ g.toInt → (xDep (16 * (K + k / 4) + L + k % 4)).toInt ≤ g.toInt → wX_findFarthest_7 post (nI L) (nI K) xBox xHit xRec xCol xDep xMrk xPat xCX xCY xCD xCC xCU xCV xRul xRX xRY xRD xRC xRU xRV xRB xRR xRA xSX xSY xTE xAZ xSd xCh n (nI (k + 1)) g) :
    wX_findFarthest_7 post (nI L) (nI K) xBox xHit xRec xCol xDep xMrk xPat xCX xCY xCD xCC xCU xCV xRul xRX xRY xRD xRC xRU xRV xRB xRR xRA xSX xSY xTE xAZ xSd xCh (n + 1) (nI k) f := by
  have s : nI k >>> ((2 : Int32) &&& 31) = nI (k / 4) := pk_shrN (by omega) _ 2 (by decide)
  have a : nI k &&& 3 = nI (k % 4) := pk_andN (by omega) 2 (by decide)
  have e : ((16 * (nI K + (nI k >>> ((2 : Int32) &&& 31)))) + nI L) + (nI k &&& 3) = nI (16 * (K + k / 4) + L + k % 4) := by
    rw [s, a, nI_add]
    show ((nI 16 * nI (K + k / 4)) + nI L) + nI (k % 4) = _
    rw [pk_mul, nI_add, nI_add]
  have c := pk_cl (16 * (K + k / 4) + L + k % 4) e
  refine br_f (nI_ge (b := 16) hk (by decide)) ⟨pk_in _ 256 (by omega) e, fun y ey => br_c (fun t z ez => ?_) (fun t z ez => ?_)⟩
  · rw [ey, c, Int32.le_iff_toInt_le] at t
    rw [ez, nI_1]
    exact h f (Int.le_refl _) t
  · rw [Int32.le_iff_toInt_le] at t
    rw [ez, nI_1]
    rw [ey, c] at t ⊢
    exact h _ (by omega) (Int.le_refl _)
theorem xw_far {post : SX → Prop} {L K : Nat} (hL : L ≤ 12) (hK : K ≤ 12)
    (h : ∀ g : Int32, (∀ j, pr_tl L K j = true → (xDep j).toInt ≤ g.toInt) → post (xBox, xHit, xRec, g, xCol, xDep, xMrk, xPat, xCX, xCY, xCD, xCC, xCU, xCV, xRul, xRX, xRY, xRD, xRC, xRU, xRV, xRB, xRR, xRA, xSX, xSY, xTE, xAZ, xSd, xCh)) : wpX_findFarthest post (xBox, xHit, xRec, xFar, xCol, xDep, xMrk, xPat, xCX, xCY, xCD, xCC, xCU, xCV, xRul, xRX, xRY, xRD, xRC, xRU, xRV, xRB, xRR, xRA, xSX, xSY, xTE, xAZ, xSd, xCh) (nI L) (nI K) := by
  have G : ∀ d k n : Nat, ∀ f : Int32, k + d = 16 → d < n → (∀ i, i < k → (xDep (16 * (K + i / 4) + L + i % 4)).toInt ≤ f.toInt) →
      wX_findFarthest_7 post (nI L) (nI K) xBox xHit xRec xCol xDep xMrk xPat xCX xCY xCD xCC xCU xCV xRul xRX xRY xRD xRC xRU xRV xRB xRR xRA xSX xSY xTE xAZ xSd xCh n (nI k) f := by
    intro d
    induction d with
    | zero =>
      intro k n f hk hn hf
      obtain ⟨m, rfl⟩ : ∃ m, n = m + 1 := ⟨n - 1, by omega⟩
      have e : k = 16 := by omega
      subst e
      refine br_t (by decide) (h f (fun j hj => ?_))
      rw [pr_tl_i] at hj
      have q := hf (4 * (j / 16 - K) + (j % 16 - L)) (by omega)
      rw [show 16 * (K + (4 * (j / 16 - K) + (j % 16 - L)) / 4) + L + (4 * (j / 16 - K) + (j % 16 - L)) % 4 = j by omega] at q
      exact q
    | succ d ih =>
      intro k n f hk hn hf
      obtain ⟨m, rfl⟩ : ∃ m, n = m + 1 := ⟨n - 1, by omega⟩
      refine xw_far_it hL hK (by omega) (fun g h1 h2 => ih (k + 1) m g (by omega) (by omega) (fun i hi => ?_))
      by_cases e : i = k
      · rw [e]; exact h2
      · exact Int.le_trans (hf i (by omega)) h1
  exact ⟨17, G 16 0 17 0 rfl (by omega) (fun i hi => by omega)⟩
theorem xw_behind {post : Int32 → Prop} {r : Nat} {T : Nat → Int32} (hr : r < 12) (hR : pr_rec xRX xRY xRD xRC xRU xRV xRB xRR xRA r T) (h0 : post 0)
    (h1 : (∀ mt sg m d e : Int32, ((T 6).toInt ≤ d.toInt ∨ (T 7).toInt ≤ d.toInt ∨ (T 8).toInt ≤ d.toInt) → e.toInt ≤ xFar.toInt → pr_pass mt sg (T 20) m d e = false) → post 1) :
    wpX_isBehindAll post (xBox, xHit, xRec, xFar, xCol, xDep, xMrk, xPat, xCX, xCY, xCD, xCC, xCU, xCV, xRul, xRX, xRY, xRD, xRC, xRU, xRV, xRB, xRR, xRA, xSX, xSY, xTE, xAZ, xSd, xCh) (nI r) := by
  obtain ⟨_, _, ⟨d0, d1, d2⟩, _, _, _, _, ⟨e0, _⟩⟩ := hR
  have P : ∀ z : Int32, z.toInt ≤ (T 6).toInt → z.toInt ≤ (T 7).toInt → z.toInt ≤ (T 8).toInt → 2 ≤ T 20 → wX_isBehindAll_93 post (T 20) z xBox xHit xRec xFar xCol xDep xMrk xPat xCX xCY xCD xCC xCU xCV xRul xRX xRY xRD xRC xRU xRV xRB xRR xRA xSX xSY xTE xAZ xSd xCh := by
    intro z a b c g
    unfold wX_isBehindAll_93
    refine br_c (fun t => br_c (fun _ => h0) (fun u => h1 (fun mt sg m d e hd he => ?_))) (fun t => br_c (fun _ => h0) (fun u => h1 (fun mt sg m d e hd he => ?_)))
    · rw [Int32.lt_iff_toInt_lt] at u
      have v : ¬ d < e := by rw [Int32.lt_iff_toInt_lt]; omega
      unfold pr_pass
      rw [t, if_pos rfl, decide_eq_false v]
      by_cases x1 : mt = 1 ∧ ¬ m = sg
      · rw [if_pos x1]
      · rw [if_neg x1]
        by_cases x2 : mt = 2 ∧ m = sg
        · rw [if_pos x2]
        · rw [if_neg x2]
    · rw [Int32.le_iff_toInt_le] at u
      have v : e < d := by rw [Int32.lt_iff_toInt_lt]; omega
      have t1 : ¬ T 20 = 1 := fun q => by rw [q] at g; revert g; decide
      unfold pr_pass
      rw [if_neg t, decide_eq_true v, decide_eq_false t1]
      by_cases x1 : mt = 1 ∧ ¬ m = sg
      · rw [if_pos x1]
      · rw [if_neg x1]
        by_cases x2 : mt = 2 ∧ m = sg
        · rw [if_pos x2]
        · rw [if_neg x2]
          by_cases t3 : T 20 = 3
          · rw [if_pos t3]; rfl
          · rw [if_neg t3]
  have P2 : ∀ z : Int32, z.toInt ≤ (T 6).toInt → z.toInt ≤ (T 7).toInt → 2 ≤ T 20 → wX_isBehindAll_64 post (nI r) (T 20) z xBox xHit xRec xFar xCol xDep xMrk xPat xCX xCY xCD xCC xCU xCV xRul xRX xRY xRD xRC xRU xRV xRB xRR xRA xSX xSY xTE xAZ xSd xCh := by
    intro z a b g
    unfold wX_isBehindAll_64
    rw [xi_c32 hr, d2]
    refine ⟨xi_i32 hr, br_c (fun t => ?_) (fun t => ⟨xi_i32 hr, ?_⟩)⟩
    · rw [Int32.le_iff_toInt_le] at t
      exact P z a b t g
    · rw [Int32.le_iff_toInt_le] at t
      exact P _ (by omega) (by omega) (Int.le_refl _) g
  unfold wpX_isBehindAll
  dsimp only
  rw [xi_c80 hr, xi_c3 hr, xi_c31 hr, d0, d1, e0]
  refine ⟨xi_i80 hr, nm_e (br_c (fun g => ⟨xi_i3 hr, nm_e ⟨xi_i31 hr, br_c (fun t => ?_) (fun t => ⟨xi_i31 hr, ?_⟩)⟩⟩) (fun g => br_c (fun t => h1 (fun mt sg m d e _ _ => ?_)) (fun _ => h0)))⟩
  · rw [Int32.le_iff_toInt_le] at t
    exact P2 _ (Int.le_refl _) t g
  · rw [Int32.le_iff_toInt_le] at t
    exact P2 _ (by omega) (Int.le_refl _) g
  · unfold pr_pass
    rw [t]
    by_cases x1 : mt = 1 ∧ ¬ m = sg
    · rw [if_pos x1]
    · rw [if_neg x1]
      by_cases x2 : mt = 2 ∧ m = sg
      · rw [if_pos x2]
      · rw [if_neg x2, if_neg (by decide), if_neg (by decide)]
        rfl
theorem xw_edge_it {post : SX → Prop} {r i p q n : Nat} (hr : r < 12) (hi : i < 3) (hp : p < 3) (hq : q < 3) (ep : (i + 1) % 3 = p) (eq : (i + 2) % 3 = q)
    (h : ∀ sx sy te az : Int32, pr_ef (xRX (3 * r + p)) (xRY (3 * r + p)) (xRX (3 * r + q)) (xRY (3 * r + q)) sx sy te az →
      wX_takeEdges_2 post (nI r) xBox xHit xRec xFar n (nI (i + 1)) xCol xDep xMrk xPat xCX xCY xCD xCC xCU xCV xRul xRX xRY xRD xRC xRU xRV xRB xRR xRA (upd xSX i sx) (upd xSY i sy) (upd xTE i te) (upd xAZ i az) xSd xCh) :
    wX_takeEdges_2 post (nI r) xBox xHit xRec xFar (n + 1) (nI i) xCol xDep xMrk xPat xCX xCY xCD xCC xCU xCV xRul xRX xRY xRD xRC xRU xRV xRB xRR xRA xSX xSY xTE xAZ xSd xCh := by
  have ci : (nI i).toNatClampNeg = i := nI_clamp (by omega)
  have ii : vp_in (nI i) 3 := vp_in_nI hi (by decide)
  have e1 : (3 * nI r) + ((nI i + 1) - (nI i + 1) / 3 * 3) = nI (3 * r + p) := by
    rw [nI_1, show nI (i + 1) - nI (i + 1) / 3 * 3 = nI ((i + 1) % 3) from pk_rem (d := 3) (by omega) (by decide) (by decide), ep, xi_3k]
  have e2 : (3 * nI r) + ((nI i + 2) - (nI i + 2) / 3 * 3) = nI (3 * r + q) := by
    rw [show nI i + 2 = nI (i + 2) from nI_add i 2, show nI (i + 2) - nI (i + 2) / 3 * 3 = nI ((i + 2) % 3) from pk_rem (d := 3) (by omega) (by decide) (by decide), eq, xi_3k]
  have ip : vp_in (nI (3 * r + p)) 36 := vp_in_nI (by omega) (by decide)
  have iq : vp_in (nI (3 * r + q)) 36 := vp_in_nI (by omega) (by decide)
  have cp : (nI (3 * r + p)).toNatClampNeg = 3 * r + p := nI_clamp (by omega)
  have cq : (nI (3 * r + q)).toNatClampNeg = 3 * r + q := nI_clamp (by omega)
  have F : ∀ z : Int32, (z = 0 ∨ z = 1) → pr_te (xRX (3 * r + p)) (xRY (3 * r + p)) (xRX (3 * r + q)) (xRY (3 * r + q)) = z →
      wX_takeEdges_107 post (wX_takeEdges_2 post (nI r) xBox xHit xRec xFar n) (nI r) (nI i) (nI (3 * r + p)) (xRX (3 * r + q) - xRX (3 * r + p)) (xRY (3 * r + q) - xRY (3 * r + p)) z (nI i)
        xBox xHit xRec xFar xCol xDep xMrk xPat xCX xCY xCD xCC xCU xCV xRul xRX xRY xRD xRC xRU xRV xRB xRR xRA (upd xSX i ((-16) * (xRY (3 * r + q) - xRY (3 * r + p)))) (upd xSY i (16 * (xRX (3 * r + q) - xRX (3 * r + p)))) xTE xAZ xSd xCh := by
    intro z hz ez
    have en : vp_nar .boolean z = z := by rcases hz with w | w <;> subst w <;> rfl
    unfold wX_takeEdges_107
    rw [en, ci, cp]
    refine ⟨ii, nm_e ⟨ip, ip, ii, nm_e (nm_r (nI_1 i) ?_)⟩⟩
    exact h _ _ _ _ ⟨rfl, rfl, ez.symm, rfl⟩
  refine br_f (nI_ge (b := 3) hi (by decide)) ⟨by decide, nm_r e1 ⟨by decide, nm_r e2 ⟨iq, ip, ?_⟩⟩⟩
  rw [cp, cq, ci]
  refine nm_e ⟨iq, ip, nm_e ⟨ii, nm_e ⟨ii, nm_e (br_c (fun t => ?_) (fun t => br_c (fun t2 => br_c (fun t3 => ?_) (fun t3 => ?_)) (fun t2 => ?_)))⟩⟩⟩
  · unfold wX_takeEdges_102
    exact F 1 (Or.inr rfl) (if_pos t)
  · unfold wX_takeEdges_106
    exact F 0 (Or.inl rfl) (by unfold pr_te; rw [if_neg t, if_pos t2, if_pos t3])
  · unfold wX_takeEdges_102
    exact F 1 (Or.inr rfl) (by unfold pr_te; rw [if_neg t, if_pos t2, if_neg t3])
  · unfold wX_takeEdges_106
    exact F 0 (Or.inl rfl) (by unfold pr_te; rw [if_neg t, if_neg t2])
theorem xw_edges {post : SX → Prop} {r : Nat} {T : Nat → Int32} (hr : r < 12) (hR : pr_rec xRX xRY xRD xRC xRU xRV xRB xRR xRA r T)
    (h : ∀ sX sY tE aZ : Nat → Int32, pr_ed T sX sY tE aZ → post (xBox, xHit, xRec, xFar, xCol, xDep, xMrk, xPat, xCX, xCY, xCD, xCC, xCU, xCV, xRul, xRX, xRY, xRD, xRC, xRU, xRV, xRB, xRR, xRA, sX, sY, tE, aZ, xSd, xCh)) : wpX_takeEdges post (xBox, xHit, xRec, xFar, xCol, xDep, xMrk, xPat, xCX, xCY, xCD, xCC, xCU, xCV, xRul, xRX, xRY, xRD, xRC, xRU, xRV, xRB, xRR, xRA, xSX, xSY, xTE, xAZ, xSd, xCh) (nI r) := by
  obtain ⟨⟨x0, x1, x2⟩, ⟨y0, y1, y2⟩, _⟩ := hR
  have x0' : xRX (3 * r + 0) = T 0 := x0
  have y0' : xRY (3 * r + 0) = T 3 := y0
  refine ⟨4, xw_edge_it (i := 0) (p := 1) (q := 2) hr (by decide) (by decide) (by decide) rfl rfl (fun sx0 sy0 te0 az0 f0 => ?_)⟩
  refine xw_edge_it (i := 1) (p := 2) (q := 0) hr (by decide) (by decide) (by decide) rfl rfl (fun sx1 sy1 te1 az1 f1 => ?_)
  refine xw_edge_it (i := 2) (p := 0) (q := 1) hr (by decide) (by decide) (by decide) rfl rfl (fun sx2 sy2 te2 az2 f2 => ?_)
  rw [x1, x2, y1, y2] at f0
  rw [x0', x2, y0', y2] at f1
  rw [x0', x1, y0', y1] at f2
  refine br_t (by decide) (h _ _ _ _ ⟨?_, ?_, ?_⟩)
  · exact f0
  · exact f1
  · exact f2
theorem xw_goTo_it {post : SX → Prop} {i n : Nat} {x y : Int32} (hi : i < 3)
    (h : wX_goTo_2 post x y xBox xHit xRec xFar n (nI (i + 1)) xCol xDep xMrk xPat xCX xCY xCD xCC xCU xCV xRul xRX xRY xRD xRC xRU xRV xRB xRR xRA xSX xSY xTE xAZ (upd xSd i ((xAZ i + (xSX i * x)) + (xSY i * y))) xCh) : wX_goTo_2 post x y xBox xHit xRec xFar (n + 1) (nI i) xCol xDep xMrk xPat xCX xCY xCD xCC xCU xCV xRul xRX xRY xRD xRC xRU xRV xRB xRR xRA xSX xSY xTE xAZ xSd xCh := by
  have ci : (nI i).toNatClampNeg = i := nI_clamp (by omega)
  have ii : vp_in (nI i) 3 := vp_in_nI hi (by decide)
  refine br_f (nI_ge (b := 3) hi (by decide)) ⟨ii, ii, ii, ii, nm_r (e' := upd xSd i ((xAZ i + (xSX i * x)) + (xSY i * y))) (by rw [ci]) (nm_r (nI_1 i) h)⟩
theorem xw_goTo {post : SX → Prop} {T : Nat → Int32} {x y : Int32} (hE : pr_ed T xSX xSY xTE xAZ)
    (h : ∀ sd : Nat → Int32, (sd 0 = pr_w0 T x y ∧ sd 1 = pr_w1 T x y ∧ sd 2 = pr_w2 T x y) → post (xBox, xHit, xRec, xFar, xCol, xDep, xMrk, xPat, xCX, xCY, xCD, xCC, xCU, xCV, xRul, xRX, xRY, xRD, xRC, xRU, xRV, xRB, xRR, xRA, xSX, xSY, xTE, xAZ, sd, xCh)) : wpX_goTo post (xBox, xHit, xRec, xFar, xCol, xDep, xMrk, xPat, xCX, xCY, xCD, xCC, xCU, xCV, xRul, xRX, xRY, xRD, xRC, xRU, xRV, xRB, xRR, xRA, xSX, xSY, xTE, xAZ, xSd, xCh) x y := by
  refine ⟨4, xw_goTo_it (i := 0) (by decide) (xw_goTo_it (i := 1) (by decide) (xw_goTo_it (i := 2) (by decide) ?_))⟩
  refine br_t (by decide) (h _ ⟨?_, ?_, ?_⟩)
  · exact pr_ef_go hE.1 x y
  · exact pr_ef_go hE.2.1 x y
  · exact pr_ef_go hE.2.2 x y
theorem xw_goOn {post : SX → Prop} {T : Nat → Int32} {x : Nat} {y : Int32} (hE : pr_ed T xSX xSY xTE xAZ) (hs : xSd 0 = pr_w0 T (nI x) y ∧ xSd 1 = pr_w1 T (nI x) y ∧ xSd 2 = pr_w2 T (nI x) y)
    (h : ∀ sd : Nat → Int32, (sd 0 = pr_w0 T (nI (x + 1)) y ∧ sd 1 = pr_w1 T (nI (x + 1)) y ∧ sd 2 = pr_w2 T (nI (x + 1)) y) → post (xBox, xHit, xRec, xFar, xCol, xDep, xMrk, xPat, xCX, xCY, xCD, xCC, xCU, xCV, xRul, xRX, xRY, xRD, xRC, xRU, xRV, xRB, xRR, xRA, xSX, xSY, xTE, xAZ, sd, xCh)) : wpX_goOn post (xBox, xHit, xRec, xFar, xCol, xDep, xMrk, xPat, xCX, xCY, xCD, xCC, xCU, xCV, xRul, xRX, xRY, xRD, xRC, xRU, xRV, xRB, xRR, xRA, xSX, xSY, xTE, xAZ, xSd, xCh) := by
  unfold wpX_goOn
  dsimp only
  refine nm_e (nm_e (nm_e (h _ ⟨?_, ?_, ?_⟩)))
  · rw [← nI_1]
    show xSd 0 + xSX 0 = _
    rw [hs.1]
    exact pr_ef_on hE.1 _ _
  · rw [← nI_1]
    show xSd 1 + xSX 1 = _
    rw [hs.2.1]
    exact pr_ef_on hE.2.1 _ _
  · rw [← nI_1]
    show xSd 2 + xSX 2 = _
    rw [hs.2.2]
    exact pr_ef_on hE.2.2 _ _
theorem xw_cov_it {post : Int32 → Prop} {px py qx qy : Int32} {i n : Nat} (hi : i < 3) (h1 : -64 ≤ px.toInt ∧ px.toInt ≤ 319) (h2 : -64 ≤ py.toInt ∧ py.toInt ≤ 319) (h3 : -64 ≤ qx.toInt ∧ qx.toInt ≤ 319)
    (h4 : -64 ≤ qy.toInt ∧ qy.toInt ≤ 319) (ht : xTE i = pr_te px py qx qy) (h0 : pr_in px py qx qy (xSd i) = false → post 0)
    (h : pr_in px py qx qy (xSd i) = true → wX_isCovered_2 post xBox xHit xRec xFar xCol xDep xMrk xPat xCX xCY xCD xCC xCU xCV xRul xRX xRY xRD xRC xRU xRV xRB xRR xRA xSX xSY xTE xAZ xSd xCh n (nI (i + 1))) : wX_isCovered_2 post xBox xHit xRec xFar xCol xDep xMrk xPat xCX xCY xCD xCC xCU xCV xRul xRX xRY xRD xRC xRU xRV xRB xRR xRA xSX xSY xTE xAZ xSd xCh (n + 1) (nI i) := by
  have ci : (nI i).toNatClampNeg = i := nI_clamp (by omega)
  have ii : vp_in (nI i) 3 := vp_in_nI hi (by decide)
  refine br_f (nI_ge (b := 3) hi (by decide)) ⟨ii, ?_⟩
  rw [ci, ht]
  refine br_c (fun t => h0 (pr_in_lt t)) (fun t => ⟨ii, br_c (fun t2 => ⟨ii, br_c (fun t3 => ?_) (fun t3 => nm_r (nI_1 i) ?_)⟩) (fun t2 => nm_r (nI_1 i) (h (pr_in_gt t t2)))⟩)
  · exact h0 (by rw [pr_in_eq h1 h2 h3 h4 t2, decide_eq_true t3]; rfl)
  · exact h (by rw [pr_in_eq h1 h2 h3 h4 t2, decide_eq_false t3]; rfl)
theorem xw_cov {post : Int32 → Prop} {T : Nat → Int32} {x y : Int32} (hT : ∀ k, k < 6 → -64 ≤ (T k).toInt ∧ (T k).toInt ≤ 319) (hE : pr_ed T xSX xSY xTE xAZ)
    (hs : xSd 0 = pr_w0 T x y ∧ xSd 1 = pr_w1 T x y ∧ xSd 2 = pr_w2 T x y) (h0 : pr_cov T x y = false → post 0) (h1 : pr_cov T x y = true → post 1) : wpX_isCovered post (xBox, xHit, xRec, xFar, xCol, xDep, xMrk, xPat, xCX, xCY, xCD, xCC, xCU, xCV, xRul, xRX, xRY, xRD, xRC, xRU, xRV, xRB, xRR, xRA, xSX, xSY, xTE, xAZ, xSd, xCh) := by
  unfold pr_cov at h0 h1
  rw [← hs.1, ← hs.2.1, ← hs.2.2] at h0 h1
  refine ⟨4, xw_cov_it (i := 0) (by decide) (hT 1 (by decide)) (hT 4 (by decide)) (hT 2 (by decide)) (hT 5 (by decide)) hE.1.2.2.1 (fun a => h0 (by rw [a]; rfl)) (fun a => ?_)⟩
  refine xw_cov_it (i := 1) (by decide) (hT 2 (by decide)) (hT 5 (by decide)) (hT 0 (by decide)) (hT 3 (by decide)) hE.2.1.2.2.1 (fun b => h0 (by rw [a, b]; rfl)) (fun b => ?_)
  refine xw_cov_it (i := 2) (by decide) (hT 0 (by decide)) (hT 3 (by decide)) (hT 1 (by decide)) (hT 4 (by decide)) hE.2.2.2.2.1 (fun c => h0 (by rw [a, b, c]; rfl)) (fun c => ?_)
  exact br_t (by decide) (h1 (by rw [a, b, c]; rfl))
theorem xw_out_it {post : Int32 → Prop} {L K i n : Nat} (hi : i < 3)
    (h1 : (∃ z1 z2 : Int32, ((xSX i ≤ 0 ∧ z1 = 0) ∨ (¬ xSX i ≤ 0 ∧ z1 = xSX i * 3)) ∧ ((xSY i ≤ 0 ∧ z2 = 0) ∨ (¬ xSY i ≤ 0 ∧ z2 = xSY i * 3)) ∧
      ¬ 0 ≤ (((xAZ i + (xSX i * nI L)) + (xSY i * nI K)) + z1) + z2) → post 1)
    (h : wX_isOutside_2 post (nI L) (nI K) xBox xHit xRec xFar xCol xDep xMrk xPat xCX xCY xCD xCC xCU xCV xRul xRX xRY xRD xRC xRU xRV xRB xRR xRA xSX xSY xTE xAZ xSd xCh n (nI (i + 1))) : wX_isOutside_2 post (nI L) (nI K) xBox xHit xRec xFar xCol xDep xMrk xPat xCX xCY xCD xCC xCU xCV xRul xRX xRY xRD xRC xRU xRV xRB xRR xRA xSX xSY xTE xAZ xSd xCh (n + 1) (nI i) := by
  have ci : (nI i).toNatClampNeg = i := nI_clamp (by omega)
  have ii : vp_in (nI i) 3 := vp_in_nI hi (by decide)
  have F : ∀ z1 z2 : Int32, ((xSX i ≤ 0 ∧ z1 = 0) ∨ (¬ xSX i ≤ 0 ∧ z1 = xSX i * 3)) → ((xSY i ≤ 0 ∧ z2 = 0) ∨ (¬ xSY i ≤ 0 ∧ z2 = xSY i * 3)) →
      wX_isOutside_82 post (wX_isOutside_2 post (nI L) (nI K) xBox xHit xRec xFar xCol xDep xMrk xPat xCX xCY xCD xCC xCU xCV xRul xRX xRY xRD xRC xRU xRV xRB xRR xRA xSX xSY xTE xAZ xSd xCh n) (nI L) (nI K) (nI i) z2 (((xAZ i + (xSX i * nI L)) + (xSY i * nI K)) + z1) xBox xHit xRec xFar xCol xDep xMrk xPat xCX xCY xCD xCC xCU xCV xRul xRX xRY xRD xRC xRU xRV xRB xRR xRA xSX xSY xTE xAZ xSd xCh := by
    intro z1 z2 a b
    exact nm_e (br_c (fun t => nm_r (nI_1 i) h) (fun t => h1 ⟨z1, z2, a, b, t⟩))
  have G : ∀ z1 : Int32, ((xSX i ≤ 0 ∧ z1 = 0) ∨ (¬ xSX i ≤ 0 ∧ z1 = xSX i * 3)) →
      wX_isOutside_56 post (wX_isOutside_2 post (nI L) (nI K) xBox xHit xRec xFar xCol xDep xMrk xPat xCX xCY xCD xCC xCU xCV xRul xRX xRY xRD xRC xRU xRV xRB xRR xRA xSX xSY xTE xAZ xSd xCh n) (nI L) (nI K) (nI i) z1 ((xAZ i + (xSX i * nI L)) + (xSY i * nI K)) xBox xHit xRec xFar xCol xDep xMrk xPat xCX xCY xCD xCC xCU xCV xRul xRX xRY xRD xRC xRU xRV xRB xRR xRA xSX xSY xTE xAZ xSd xCh := by
    intro z1 a
    unfold wX_isOutside_56
    rw [ci]
    exact nm_e ⟨ii, br_c (fun t => F z1 0 a (Or.inl ⟨t, rfl⟩)) (fun t => ⟨ii, F z1 _ a (Or.inr ⟨t, rfl⟩)⟩)⟩
  refine br_f (nI_ge (b := 3) hi (by decide)) ⟨ii, ii, ii, ?_⟩
  rw [ci]
  exact nm_e ⟨ii, br_c (fun t => G 0 (Or.inl ⟨t, rfl⟩)) (fun t => ⟨ii, G _ (Or.inr ⟨t, rfl⟩)⟩)⟩
theorem xw_out {post : Int32 → Prop} {T : Nat → Int32} {L K : Nat} (hL : L ≤ 12) (hK : K ≤ 12) (hT : ∀ k, k < 6 → -64 ≤ (T k).toInt ∧ (T k).toInt ≤ 319) (hE : pr_ed T xSX xSY xTE xAZ)
    (h0 : post 0) (h1 : (∀ i j : Nat, i ≤ 3 → j ≤ 3 → pr_cov T (nI (L + i)) (nI (K + j)) = false) → post 1) : wpX_isOutside post (xBox, xHit, xRec, xFar, xCol, xDep, xMrk, xPat, xCX, xCY, xCD, xCC, xCU, xCV, xRul, xRX, xRY, xRD, xRC, xRU, xRV, xRB, xRR, xRA, xSX, xSY, xTE, xAZ, xSd, xCh) (nI L) (nI K) := by
  refine ⟨4, xw_out_it (i := 0) (by decide) (fun hz => h1 (fun i j hi hj => ?_)) (xw_out_it (i := 1) (by decide) (fun hz => h1 (fun i j hi hj => ?_)) (xw_out_it (i := 2) (by decide) (fun hz => h1 (fun i j hi hj => ?_)) (br_t (by decide) h0)))⟩
  · obtain ⟨z1, z2, a, b, c⟩ := hz
    obtain ⟨r1, r2, r3⟩ := pr_efR (hT 1 (by decide)) (hT 4 (by decide)) (hT 2 (by decide)) (hT 5 (by decide)) hE.1
    have d := pr_out hL hK hi hj r1 r2 r3 a b c
    rw [pr_ef_go hE.1] at d
    unfold pr_cov pr_w0
    rw [pr_in_neg d]
    rfl
  · obtain ⟨z1, z2, a, b, c⟩ := hz
    obtain ⟨r1, r2, r3⟩ := pr_efR (hT 2 (by decide)) (hT 5 (by decide)) (hT 0 (by decide)) (hT 3 (by decide)) hE.2.1
    have d := pr_out hL hK hi hj r1 r2 r3 a b c
    rw [pr_ef_go hE.2.1] at d
    unfold pr_cov pr_w1
    rw [pr_in_neg d, Bool.false_and, Bool.and_false]
  · obtain ⟨z1, z2, a, b, c⟩ := hz
    obtain ⟨r1, r2, r3⟩ := pr_efR (hT 0 (by decide)) (hT 3 (by decide)) (hT 1 (by decide)) (hT 4 (by decide)) hE.2.2
    have d := pr_out hL hK hi hj r1 r2 r3 a b c
    rw [pr_ef_go hE.2.2] at d
    unfold pr_cov pr_w2
    rw [pr_in_neg d, Bool.and_false, Bool.and_false]
end
end
section
theorem pr_qs_id {pat T : Nat → Int32} {S : Nat → Bool} {Q : Nat → pr_PX} (h : ∀ j, S j = true → pr_st pat T j (Q j) = Q j) : pr_qs pat T S Q = Q := by
  funext j
  unfold pr_qs
  by_cases a : S j = true
  · rw [if_pos a, h j a]
  · rw [if_neg a]
theorem pr_qs_0 {pat T : Nat → Int32} {Q : Nat → pr_PX} : pr_qs pat T (fun _ => false) Q = Q := pr_qs_id (fun j h => nomatch h)
theorem pr_S_put {L K y x : Nat} (h1 : L ≤ x) (h2 : x ≤ L + 3) (h3 : K ≤ y) (h4 : y ≤ K + 3) (hx : x < 16) :
    pr_S L K y x (16 * y + x) = false ∧ pr_S L K y (x + 1) (16 * y + x) = true ∧ ∀ j, j ≠ 16 * y + x → pr_S L K y (x + 1) j = pr_S L K y x j := by
  unfold pr_S
  refine ⟨decide_eq_false (by omega), decide_eq_true (by omega), fun j hj => decide_eq_decide.mpr (by omega)⟩
section
variable {pat T : Nat → Int32} {Q : Nat → pr_PX} {b L K X0 X1 Y0 Y1 : Nat}
theorem pr_S_beg (hb : b < 65536) (e : T 19 = nI b) (hX : X0 = max (b / 4096) L) (hY : Y0 = max (b / 16 % 16) K) : pr_qs pat T (pr_S L K Y0 X0) Q = Q := by
  refine Eq.trans (pr_qs_eq (S' := fun _ => false) (fun j w => ?_)) pr_qs_0
  have h := pr_win_i hb e w
  exact decide_eq_false (by omega)
theorem pr_S_row {y : Nat} (hb : b < 65536) (e : T 19 = nI b) (hX : X0 = max (b / 4096) L) (hX1 : X1 = min (b / 256 % 16) (L + 3)) : pr_qs pat T (pr_S L K y (X1 + 1)) Q = pr_qs pat T (pr_S L K (y + 1) X0) Q := by
  refine pr_qs_eq (fun j w => ?_)
  have h := pr_win_i hb e w
  exact decide_eq_decide.mpr (by omega)
theorem pr_S_end (hb : b < 65536) (e : T 19 = nI b) (hX : X0 = max (b / 4096) L) (hY : Y1 = min (b % 16) (K + 3)) : pr_qs pat T (pr_S L K (Y1 + 1) X0) Q = pr_qs pat T (pr_tl L K) Q := by
  refine pr_qs_eq (fun j w => ?_)
  have h := pr_win_i hb e w
  exact decide_eq_decide.mpr (by omega)
theorem pr_S_none (hb : b < 65536) (e : T 19 = nI b) (hX : X0 = max (b / 4096) L) (hX1 : X1 = min (b / 256 % 16) (L + 3)) (hY0 : Y0 = max (b / 16 % 16) K) (hY : Y1 = min (b % 16) (K + 3))
    (hn : X1 < X0 ∨ Y1 < Y0) : pr_qs pat T (pr_tl L K) Q = Q := by
  refine Eq.trans (pr_qs_eq (S' := fun _ => false) (fun j w => ?_)) pr_qs_0
  have h := pr_win_i hb e w
  exact decide_eq_false (by omega)
end
theorem pr_dq_keep {pat T : Nat → Int32} {S : Nat → Bool} {Q : Nat → pr_PX} (h : ¬ T 21 = 1) (j : Nat) : pr_dq (pr_qs pat T S Q) j = pr_dq Q j := by
  unfold pr_dq pr_qs
  by_cases a : S j = true
  · rw [if_pos a]
    unfold pr_st
    split
    · exact if_neg h
    · rfl
  · rw [if_neg a]
theorem pr_qsR {pat T : Nat → Int32} {S : Nat → Bool} {Q : Nat → pr_PX} (hT : pr_ok T) (hS : ∀ j, S j = true → j < 256) (hQ : ∀ j, pr_cr (Q j).1) : ∀ j, pr_cr (pr_qs pat T S Q j).1 := by
  intro j
  unfold pr_qs
  by_cases a : S j = true
  · rw [if_pos a]; exact pr_stR hT (hS j a) (hQ j)
  · rw [if_neg a]; exact hQ j
section
variable {xBox xHit xRec xFar : Int32} {xCol xDep xMrk xPat xCX xCY xCD xCC xCU xCV xRul xRX xRY xRD xRC xRU xRV xRB xRR xRA xSX xSY xTE xAZ xSd xCh : Nat → Int32}
theorem xw_row {post : SX → Prop} {J : Int32 → Int32 → Int32 → Int32 → Int32 → (Nat → Int32) → (Nat → Int32) → (Nat → Int32) → (Nat → Int32) → (Nat → Int32) → (Nat → Int32) → (Nat → Int32) → (Nat → Int32) → (Nat → Int32) → (Nat → Int32) → (Nat → Int32) → (Nat → Int32) → (Nat → Int32) → (Nat → Int32) → (Nat → Int32) → (Nat → Int32) → (Nat → Int32) → (Nat → Int32) → (Nat → Int32) → (Nat → Int32) → (Nat → Int32) → (Nat → Int32) → (Nat → Int32) → (Nat → Int32) → (Nat → Int32) → (Nat → Int32) → Prop} {r L K X0 X1 Y1 y b : Nat} {T : Nat → Int32} {Q : Nat → pr_PX} (hr : r < 12) (hR : pr_rec xRX xRY xRD xRC xRU xRV xRB xRR xRA r T) (hT : pr_ok T) (hE : pr_ed T xSX xSY xTE xAZ) (hL : L ≤ 12) (hK : K ≤ 12)
    (hb : b < 65536) (eb : T 19 = nI b) (hX : X0 = max (b / 4096) L) (hX1 : X1 = min (b / 256 % 16) (L + 3)) (hy : K ≤ y ∧ y ≤ K + 3) (hw : b / 16 % 16 ≤ y ∧ y ≤ b % 16) (hQ : ∀ j, pr_cr (Q j).1)
    (h : ∀ sd, J (nI (y + 1)) xBox (pr_sq (pr_qs xPat T (pr_S L K y (X1 + 1)) Q)) xRec xFar (pr_cq (pr_qs xPat T (pr_S L K y (X1 + 1)) Q)) (pr_dq (pr_qs xPat T (pr_S L K y (X1 + 1)) Q)) (pr_mq (pr_qs xPat T (pr_S L K y (X1 + 1)) Q)) xPat xCX xCY xCD xCC xCU xCV xRul xRX xRY xRD xRC xRU xRV xRB xRR xRA xSX xSY xTE xAZ sd xCh) :
    ∀ (d x n : Nat) (sd : Nat → Int32), x + d = X1 + 1 → X0 ≤ x → d < n → (sd 0 = pr_w0 T (nI x) (nI y) ∧ sd 1 = pr_w1 T (nI x) (nI y) ∧ sd 2 = pr_w2 T (nI x) (nI y)) →
    wX_drawIn_175 post J (nI r) (nI L) (nI K) (nI X0) (nI X1) (nI Y1) (nI y) n (nI x) xBox (pr_sq (pr_qs xPat T (pr_S L K y x) Q)) xRec xFar (pr_cq (pr_qs xPat T (pr_S L K y x) Q)) (pr_dq (pr_qs xPat T (pr_S L K y x) Q)) (pr_mq (pr_qs xPat T (pr_S L K y x) Q)) xPat xCX xCY xCD xCC xCU xCV xRul xRX xRY xRD xRC xRU xRV xRB xRR xRA xSX xSY xTE xAZ sd xCh := by
  intro d
  induction d with
  | zero =>
    intro x n sd hd h0 hn hs
    obtain ⟨m, rfl⟩ : ∃ m, n = m + 1 := ⟨n - 1, by omega⟩
    have e : x = X1 + 1 := by omega
    subst e
    exact br_t (nI_lt (by omega) (by omega)) (nm_r (nI_1 y) (h sd))
  | succ d ih =>
    intro x n sd hd h0 hn hs
    obtain ⟨m, rfl⟩ : ∃ m, n = m + 1 := ⟨n - 1, by omega⟩
    have hS := pr_S_put (L := L) (K := K) (y := y) (x := x) (by omega) (by omega) hy.1 hy.2 (by omega)
    have p1 : (16 * y + x) % 16 = x := by omega
    have p2 : (16 * y + x) / 16 = y := by omega
    have ix : (16 * nI y) + nI x = nI (16 * y + x) := by
      show (nI 16 * nI y) + nI x = _
      rw [pk_mul, nI_add]
    have eq := pr_qs_put (pat := xPat) (T := T) (Q := Q) hS.1 hS.2.1 hS.2.2
    have win : pr_win T x y = true := pr_win_t hb eb (by omega)
    have cr : ∀ j, pr_cr (pr_qs xPat T (pr_S L K y x) Q j).1 := pr_qsR hT (fun j hj => by have := of_decide_eq_true hj; omega) hQ
    refine br_f (nI_nlt (by omega) (by omega)) ?_
    refine xw_cov hT.1 hE hs (fun hc => br_t rfl ?_) (fun hc => br_f (by decide) ?_)
    · have e1 : pr_st xPat T (16 * y + x) (pr_qs xPat T (pr_S L K y x) Q (16 * y + x)) = pr_qs xPat T (pr_S L K y x) Q (16 * y + x) := pr_st_nc (by rw [p1, p2]; exact hc)
      rw [e1, pr_u_id] at eq
      unfold wX_drawIn_202
      refine xw_goOn hE hs (fun sd' hs' => nm_r (nI_1 x) ?_)
      have q := ih (x + 1) m sd' (by omega) (by omega) (by omega) hs'
      rw [eq] at q
      exact q
    · rw [ix]
      refine xw_touch hr (by omega) hR hT (by rw [p1, p2]; exact hs) (by rw [p1, p2]; exact win) (by rw [p1, p2]; exact hc) (cr _) ?_
      rw [← eq]
      unfold wX_drawIn_202
      refine xw_goOn hE hs (fun sd' hs' => nm_r (nI_1 x) ?_)
      exact ih (x + 1) m sd' (by omega) (by omega) (by omega) hs'
theorem xw_rows {post : SX → Prop} {r L K X0 X1 Y0 Y1 b : Nat} {T : Nat → Int32} {Q : Nat → pr_PX} (hr : r < 12) (hR : pr_rec xRX xRY xRD xRC xRU xRV xRB xRR xRA r T) (hT : pr_ok T) (hE : pr_ed T xSX xSY xTE xAZ) (hL : L ≤ 12) (hK : K ≤ 12)
    (hb : b < 65536) (eb : T 19 = nI b) (hX : X0 = max (b / 4096) L) (hX1 : X1 = min (b / 256 % 16) (L + 3)) (hY0 : Y0 = max (b / 16 % 16) K) (hY1 : Y1 = min (b % 16) (K + 3)) (hX01 : X0 ≤ X1) (hQ : ∀ j, pr_cr (Q j).1)
    (hF : ∀ j, pr_tl L K j = true → (pr_dq Q j).toInt ≤ xFar.toInt)
    (h : ∀ (g : Int32) (sd : Nat → Int32), (∀ j, pr_tl L K j = true → (pr_dq (pr_qs xPat T (pr_tl L K) Q) j).toInt ≤ g.toInt) →
      post (xBox, pr_sq (pr_qs xPat T (pr_tl L K) Q), xRec, g, pr_cq (pr_qs xPat T (pr_tl L K) Q), pr_dq (pr_qs xPat T (pr_tl L K) Q), pr_mq (pr_qs xPat T (pr_tl L K) Q), xPat, xCX, xCY, xCD, xCC, xCU, xCV, xRul, xRX, xRY, xRD, xRC, xRU, xRV, xRB, xRR, xRA, xSX, xSY, xTE, xAZ, sd, xCh)) :
    ∀ (d y n : Nat) (sd : Nat → Int32), y + d = Y1 + 1 → Y0 ≤ y → d < n →
    wX_drawIn_156 post (nI r) (nI L) (nI K) (nI X0) (nI X1) (nI Y1) n (nI y) xBox (pr_sq (pr_qs xPat T (pr_S L K y X0) Q)) xRec xFar (pr_cq (pr_qs xPat T (pr_S L K y X0) Q)) (pr_dq (pr_qs xPat T (pr_S L K y X0) Q)) (pr_mq (pr_qs xPat T (pr_S L K y X0) Q)) xPat xCX xCY xCD xCC xCU xCV xRul xRX xRY xRD xRC xRU xRV xRB xRR xRA xSX xSY xTE xAZ sd xCh := by
  intro d
  induction d with
  | zero =>
    intro y n sd hd h0 hn
    obtain ⟨m, rfl⟩ : ∃ m, n = m + 1 := ⟨n - 1, by omega⟩
    have e : y = Y1 + 1 := by omega
    subst e
    rw [pr_S_end hb eb hX hY1]
    refine br_t (nI_lt (by omega) (by omega)) ?_
    rw [xi_c81 hr, hR.2.2.2.2.2.2.2.2.1]
    refine ⟨xi_i81 hr, br_c (fun t => ?_) (fun t => ?_)⟩
    · refine xw_far hL hK (fun g hg => ?_)
      exact h g sd hg
    · exact h xFar sd (fun j hj => by rw [pr_dq_keep t j]; exact hF j hj)
  | succ d ih =>
    intro y n sd hd h0 hn
    obtain ⟨m, rfl⟩ : ∃ m, n = m + 1 := ⟨n - 1, by omega⟩
    refine br_f (nI_nlt (by omega) (by omega)) ?_
    refine xw_goTo hE (fun sd' hs' => ⟨X1 + 1 - X0 + 1, ?_⟩)
    refine xw_row hr hR hT hE hL hK hb eb hX hX1 (by omega) (by omega) hQ (fun sd2 => ?_) (X1 + 1 - X0) X0 _ sd' (by omega) (by omega) (by omega) hs'
    rw [pr_S_row hb eb hX hX1]
    exact ih (y + 1) m sd2 (by omega) (by omega) (by omega)
theorem xw_drawIn {post : SX → Prop} {r L K : Nat} {T : Nat → Int32} {Q : Nat → pr_PX} (hr : r < 12) (hR : pr_rec xRX xRY xRD xRC xRU xRV xRB xRR xRA r T) (hT : pr_ok T) (hL : L ≤ 12) (hK : K ≤ 12) (hQ : ∀ j, pr_cr (Q j).1)
    (hF : ∀ j, pr_tl L K j = true → (pr_dq Q j).toInt ≤ xFar.toInt)
    (h : ∀ (g : Int32) (sX sY tE aZ sd : Nat → Int32), (∀ j, pr_tl L K j = true → (pr_dq (pr_qs xPat T (pr_tl L K) Q) j).toInt ≤ g.toInt) →
      post (xBox, pr_sq (pr_qs xPat T (pr_tl L K) Q), xRec, g, pr_cq (pr_qs xPat T (pr_tl L K) Q), pr_dq (pr_qs xPat T (pr_tl L K) Q), pr_mq (pr_qs xPat T (pr_tl L K) Q), xPat, xCX, xCY, xCD, xCC, xCU, xCV, xRul, xRX, xRY, xRD, xRC, xRU, xRV, xRB, xRR, xRA, sX, sY, tE, aZ, sd, xCh)) :
    wpX_drawIn post (xBox, pr_sq Q, xRec, xFar, pr_cq Q, pr_dq Q, pr_mq Q, xPat, xCX, xCY, xCD, xCC, xCU, xCV, xRul, xRX, xRY, xRD, xRC, xRU, xRV, xRB, xRR, xRA, xSX, xSY, xTE, xAZ, xSd, xCh) (nI r) (nI L) (nI K) := by
  obtain ⟨b, hb, eb⟩ := hT.2.2.2.2.1
  have tlj : ∀ j, pr_tl L K j = true → j < 256 := fun j hj => by have := pr_tl_i.mp hj; omega
  have skip : (pr_qs xPat T (pr_tl L K) Q) = Q → ∀ sX sY tE aZ : Nat → Int32, post (xBox, pr_sq Q, xRec, xFar, pr_cq Q, pr_dq Q, pr_mq Q, xPat, xCX, xCY, xCD, xCC, xCU, xCV, xRul, xRX, xRY, xRD, xRC, xRU, xRV, xRB, xRR, xRA, sX, sY, tE, aZ, xSd, xCh) := by
    intro e sX sY tE aZ
    have q := h xFar sX sY tE aZ xSd
    rw [e] at q
    exact q hF
  have H112 : ∀ X0 X1 Y0 Y1 : Nat, X0 = max (b / 4096) L → X1 = min (b / 256 % 16) (L + 3) → Y0 = max (b / 16 % 16) K → Y1 = min (b % 16) (K + 3) →
      wX_drawIn_112 post (nI r) (nI L) (nI K) (nI X0) (nI X1) (nI Y0) (nI Y1) xBox (pr_sq Q) xRec xFar (pr_cq Q) (pr_dq Q) (pr_mq Q) xPat xCX xCY xCD xCC xCU xCV xRul xRX xRY xRD xRC xRU xRV xRB xRR xRA xSX xSY xTE xAZ xSd xCh := by
    intro X0 X1 Y0 Y1 hX0 hX1 hY0 hY1
    refine pk_lt X1 X0 (fun t => ?_) (fun t => pk_lt Y1 Y0 (fun t2 => ?_) (fun t2 => ?_))
    · exact skip (pr_S_none hb eb hX0 hX1 hY0 hY1 (Or.inl t)) _ _ _ _
    · exact skip (pr_S_none hb eb hX0 hX1 hY0 hY1 (Or.inr t2)) _ _ _ _
    · refine xw_behind hr hR (br_t rfl ?_) (fun hB => br_f (by decide) (skip (pr_qs_id (fun j hj => ?_)) _ _ _ _))
      · refine xw_edges hr hR (fun sX sY tE aZ hE => ?_)
        refine xw_out hL hK hT.1 hE (br_t rfl ?_) (fun hO => br_f (by decide) (skip (pr_qs_id (fun j hj => pr_st_nc ?_)) _ _ _ _))
        · refine ⟨Y1 + 1 - Y0 + 1, ?_⟩
          have q := xw_rows (xSX := sX) (xSY := sY) (xTE := tE) (xAZ := aZ) hr hR hT hE hL hK hb eb hX0 hX1 hY0 hY1 t hQ hF (fun g sd hg => h g sX sY tE aZ sd hg) (Y1 + 1 - Y0) Y0 (Y1 + 1 - Y0 + 1) xSd (by omega) (by omega) (by omega)
          rw [pr_S_beg hb eb hX0 hY0] at q
          exact q
        · have j4 := pr_tl_i.mp hj
          have c := hO (j % 16 - L) (j / 16 - K) (by omega) (by omega)
          rw [show L + (j % 16 - L) = j % 16 by omega, show K + (j / 16 - K) = j / 16 by omega] at c
          exact c
      · have j4 := pr_tl_i.mp hj
        by_cases c : pr_cov T (nI (j % 16)) (nI (j / 16)) = true
        · have d := pr_depI hT (by omega) (by omega) c
          have n : pr_ps T (nI (j % 16)) (nI (j / 16)) (Q j) = false := hB _ _ _ _ _ d (hF j hj)
          unfold pr_st
          rw [n, Bool.and_false, Bool.and_false]
          exact if_neg (by decide)
        · exact pr_st_nc (by simpa using c)
  have s12 : nI b >>> ((12 : Int32) &&& 31) = nI (b / 4096) := pk_shrN (by omega) _ 12 (by decide)
  have s8 : (nI b >>> ((8 : Int32) &&& 31)) &&& 15 = nI (b / 256 % 16) := by
    rw [show nI b >>> ((8 : Int32) &&& 31) = nI (b / 256) from pk_shrN (by omega) _ 8 (by decide)]
    exact pk_andN (by omega) 4 (by decide)
  have s4 : (nI b >>> ((4 : Int32) &&& 31)) &&& 15 = nI (b / 16 % 16) := by
    rw [show nI b >>> ((4 : Int32) &&& 31) = nI (b / 16) from pk_shrN (by omega) _ 4 (by decide)]
    exact pk_andN (by omega) 4 (by decide)
  have s0 : nI b &&& 15 = nI (b % 16) := pk_andN (by omega) 4 (by decide)
  have l3 : (nI L + 4) - 1 = nI (L + 3) := by
    rw [show nI L + 4 = nI (L + 3 + 1) from nI_add L 4, nI_pred]
  have k3 : (nI K + 4) - 1 = nI (K + 3) := by
    rw [show nI K + 4 = nI (K + 3 + 1) from nI_add K 4, nI_pred]
  have H84 : ∀ X0 X1 Y0 : Nat, X0 = max (b / 4096) L → X1 = min (b / 256 % 16) (L + 3) → Y0 = max (b / 16 % 16) K →
      wX_drawIn_84 post (nI r) (nI L) (nI K) (nI b) (nI X0) (nI X1) (nI Y0) xBox (pr_sq Q) xRec xFar (pr_cq Q) (pr_dq Q) (pr_mq Q) xPat xCX xCY xCD xCC xCU xCV xRul xRX xRY xRD xRC xRU xRV xRB xRR xRA xSX xSY xTE xAZ xSd xCh := by
    intro X0 X1 Y0 a1 a2 a3
    unfold wX_drawIn_84
    rw [k3, s0]
    exact pk_le (K + 3) (b % 16) (fun t => H112 X0 X1 Y0 _ a1 a2 a3 (by omega)) (fun t => H112 X0 X1 Y0 _ a1 a2 a3 (by omega))
  have H60 : ∀ X0 X1 : Nat, X0 = max (b / 4096) L → X1 = min (b / 256 % 16) (L + 3) →
      wX_drawIn_60 post (nI r) (nI L) (nI K) (nI b) (nI X0) (nI X1) xBox (pr_sq Q) xRec xFar (pr_cq Q) (pr_dq Q) (pr_mq Q) xPat xCX xCY xCD xCC xCU xCV xRul xRX xRY xRD xRC xRU xRV xRB xRR xRA xSX xSY xTE xAZ xSd xCh := by
    intro X0 X1 a1 a2
    unfold wX_drawIn_60
    rw [s4]
    exact pk_le (b / 16 % 16) K (fun t => H84 X0 X1 _ a1 a2 (by omega)) (fun t => H84 X0 X1 _ a1 a2 (by omega))
  have H26 : ∀ X0 : Nat, X0 = max (b / 4096) L → wX_drawIn_26 post (nI r) (nI L) (nI K) (nI b) (nI X0) xBox (pr_sq Q) xRec xFar (pr_cq Q) (pr_dq Q) (pr_mq Q) xPat xCX xCY xCD xCC xCU xCV xRul xRX xRY xRD xRC xRU xRV xRB xRR xRA xSX xSY xTE xAZ xSd xCh := by
    intro X0 a1
    unfold wX_drawIn_26
    rw [l3, s8]
    exact pk_le (L + 3) (b / 256 % 16) (fun t => H60 X0 _ a1 (by omega)) (fun t => H60 X0 _ a1 (by omega))
  unfold wpX_drawIn
  dsimp only
  rw [xi_cr hr, hR.2.2.2.2.2.2.1.2, eb]
  refine ⟨xi_ir hr, nm_e ?_⟩
  rw [s12]
  exact pk_le (b / 4096) L (fun t => H26 _ (by omega)) (fun t => H26 _ (by omega))
end
end
section
def pr_qk (pat : Nat → Int32) (TT : Nat → Nat → Int32) (S : Nat → Bool) (k : Nat) (Q : Nat → pr_PX) : Nat → pr_PX := fun j => if S j = true then pr_ap pat TT k j (Q j) else Q j
theorem pr_qk_0 {pat : Nat → Int32} {TT : Nat → Nat → Int32} {S : Nat → Bool} {Q : Nat → pr_PX} : pr_qk pat TT S 0 Q = Q := by
  funext j
  unfold pr_qk
  by_cases a : S j = true
  · rw [if_pos a]; rfl
  · rw [if_neg a]
theorem pr_qk_s {pat : Nat → Int32} {TT : Nat → Nat → Int32} {S : Nat → Bool} {k : Nat} {Q : Nat → pr_PX} : pr_qs pat (TT k) S (pr_qk pat TT S k Q) = pr_qk pat TT S (k + 1) Q := by
  funext j
  unfold pr_qs pr_qk
  by_cases a : S j = true
  · rw [if_pos a, if_pos a, if_pos a]; rfl
  · rw [if_neg a, if_neg a, if_neg a]
theorem pr_qkR {pat : Nat → Int32} {TT : Nat → Nat → Int32} {S : Nat → Bool} {k : Nat} {Q : Nat → pr_PX} (hT : ∀ r, r < k → pr_ok (TT r)) (hS : ∀ j, S j = true → j < 256) (hQ : ∀ j, pr_cr (Q j).1) : ∀ j, pr_cr (pr_qk pat TT S k Q j).1 := by
  intro j
  unfold pr_qk
  by_cases a : S j = true
  · rw [if_pos a]; exact pr_apR (hS j a) (hQ j) k hT
  · rw [if_neg a]; exact hQ j
theorem pr_qk_2 {pat : Nat → Int32} {TT : Nat → Nat → Int32} {S S1 S2 : Nat → Bool} {k : Nat} {Q : Nat → pr_PX} (h1 : ∀ j, S1 j = true → S j = false) (h2 : ∀ j, S2 j = (S j || S1 j)) :
    pr_qk pat TT S1 k (pr_qk pat TT S k Q) = pr_qk pat TT S2 k Q := by
  funext j
  unfold pr_qk
  rw [h2 j]
  by_cases a : S1 j = true
  · rw [if_pos a, h1 j a, a, if_neg (by decide), if_pos (by decide)]
  · rw [if_neg a, show S1 j = false by simpa using a, Bool.or_false]
def pr_bt (t j : Nat) : Bool := decide (4 * (j / 64) + j % 16 / 4 < t)
theorem pr_bt_0 (j : Nat) : pr_bt 0 j = false := decide_eq_false (by omega)
theorem pr_bt_s {t : Nat} (ht : t < 16) : (∀ j, pr_tl (4 * (t % 4)) (4 * (t / 4)) j = true → pr_bt t j = false) ∧ (∀ j, pr_bt (t + 1) j = (pr_bt t j || pr_tl (4 * (t % 4)) (4 * (t / 4)) j)) := by
  refine ⟨fun j hj => ?_, fun j => ?_⟩
  · have := pr_tl_i.mp hj
    exact decide_eq_false (by omega)
  · by_cases a : 4 * (j / 64) + j % 16 / 4 < t
    · rw [show pr_bt t j = true from decide_eq_true a, show pr_bt (t + 1) j = true from decide_eq_true (by omega), Bool.true_or]
    · rw [show pr_bt t j = false from decide_eq_false a, Bool.false_or]
      exact decide_eq_decide.mpr (by omega)
theorem pr_bt_16 {pat : Nat → Int32} {TT : Nat → Nat → Int32} {k : Nat} {Q : Nat → pr_PX} : pr_qk pat TT (pr_bt 16) k Q = pr_aq pat TT k Q := by
  funext j
  unfold pr_qk pr_aq
  by_cases a : j < 256
  · rw [if_pos a, if_pos (show pr_bt 16 j = true from decide_eq_true (by omega))]
  · rw [if_neg a, if_neg (by rw [show pr_bt 16 j = false from decide_eq_false (by omega)]; decide)]
theorem pr_aq_0 {pat : Nat → Int32} {TT : Nat → Nat → Int32} {Q : Nat → pr_PX} : pr_aq pat TT 0 Q = Q := by
  funext j
  unfold pr_aq
  by_cases a : j < 256
  · rw [if_pos a]; rfl
  · rw [if_neg a]
section
variable {xBox xHit xRec xFar : Int32} {xCol xDep xMrk xPat xCX xCY xCD xCC xCU xCV xRul xRX xRY xRD xRC xRU xRV xRB xRR xRA xSX xSY xTE xAZ xSd xCh : Nat → Int32}
theorem xw_recs {post : SX → Prop} {J : Int32 → Int32 → Int32 → Int32 → Int32 → (Nat → Int32) → (Nat → Int32) → (Nat → Int32) → (Nat → Int32) → (Nat → Int32) → (Nat → Int32) → (Nat → Int32) → (Nat → Int32) → (Nat → Int32) → (Nat → Int32) → (Nat → Int32) → (Nat → Int32) → (Nat → Int32) → (Nat → Int32) → (Nat → Int32) → (Nat → Int32) → (Nat → Int32) → (Nat → Int32) → (Nat → Int32) → (Nat → Int32) → (Nat → Int32) → (Nat → Int32) → (Nat → Int32) → (Nat → Int32) → (Nat → Int32) → (Nat → Int32) → Prop} {t L K N : Nat} {TT : Nat → Nat → Int32} {Q : Nat → pr_PX} (hN : N ≤ 12) (hR : (∀ r, r < N → pr_rec xRX xRY xRD xRC xRU xRV xRB xRR xRA r (TT r) ∧ pr_ok (TT r))) (hL : L ≤ 12) (hK : K ≤ 12) (hQ : ∀ j, pr_cr (Q j).1)
    (h : ∀ (g : Int32) (sX sY tE aZ sd : Nat → Int32), J (nI (t + 1)) xBox (pr_sq (pr_qk xPat TT (pr_tl L K) N Q)) (nI N) g (pr_cq (pr_qk xPat TT (pr_tl L K) N Q)) (pr_dq (pr_qk xPat TT (pr_tl L K) N Q)) (pr_mq (pr_qk xPat TT (pr_tl L K) N Q)) xPat xCX xCY xCD xCC xCU xCV xRul xRX xRY xRD xRC xRU xRV xRB xRR xRA sX sY tE aZ sd xCh) :
    ∀ (d k n : Nat) (g : Int32) (sX sY tE aZ sd : Nat → Int32), k + d = N → d < n → (∀ j, pr_tl L K j = true → (pr_dq (pr_qk xPat TT (pr_tl L K) k Q) j).toInt ≤ g.toInt) →
    wX_flush_37 post J (nI t) (nI L) (nI K) n (nI k) xBox (pr_sq (pr_qk xPat TT (pr_tl L K) k Q)) (nI N) g (pr_cq (pr_qk xPat TT (pr_tl L K) k Q)) (pr_dq (pr_qk xPat TT (pr_tl L K) k Q)) (pr_mq (pr_qk xPat TT (pr_tl L K) k Q)) xPat xCX xCY xCD xCC xCU xCV xRul xRX xRY xRD xRC xRU xRV xRB xRR xRA sX sY tE aZ sd xCh := by
  intro d
  induction d with
  | zero =>
    intro k n g sX sY tE aZ sd hd hn hg
    obtain ⟨m, rfl⟩ : ∃ m, n = m + 1 := ⟨n - 1, by omega⟩
    have e : k = N := by omega
    subst e
    exact br_t (nI_le (by omega) (by omega)) (nm_r (nI_1 t) (h g sX sY tE aZ sd))
  | succ d ih =>
    intro k n g sX sY tE aZ sd hd hn hg
    obtain ⟨m, rfl⟩ : ∃ m, n = m + 1 := ⟨n - 1, by omega⟩
    have cr := pr_qkR (pat := xPat) (S := pr_tl L K) (k := k) (fun r hr => (hR r (by omega)).2) (fun j hj => by have := pr_tl_i.mp hj; omega) hQ
    refine br_f (nI_ge (by omega) (by omega)) ?_
    refine xw_drawIn (by omega) (hR k (by omega)).1 (hR k (by omega)).2 hL hK cr hg (fun g' sX' sY' tE' aZ' sd' hg' => nm_r (nI_1 k) ?_)
    rw [pr_qk_s] at hg' ⊢
    exact ih (k + 1) m g' sX' sY' tE' aZ' sd' (by omega) (by omega) hg'
theorem xw_tiles {post : SX → Prop} {N : Nat} {TT : Nat → Nat → Int32} {Q : Nat → pr_PX} (hN : N ≤ 12) (hR : (∀ r, r < N → pr_rec xRX xRY xRD xRC xRU xRV xRB xRR xRA r (TT r) ∧ pr_ok (TT r))) (hQ : ∀ j, pr_cr (Q j).1)
    (h : ∀ (g : Int32) (sX sY tE aZ sd : Nat → Int32), post (xBox, pr_sq (pr_aq xPat TT N Q), 0, g, pr_cq (pr_aq xPat TT N Q), pr_dq (pr_aq xPat TT N Q), pr_mq (pr_aq xPat TT N Q), xPat, xCX, xCY, xCD, xCC, xCU, xCV, xRul, xRX, xRY, xRD, xRC, xRU, xRV, xRB, xRR, xRA, sX, sY, tE, aZ, sd, xCh)) :
    ∀ (d t n : Nat) (g : Int32) (sX sY tE aZ sd : Nat → Int32), t + d = 16 → d < n →
    wX_flush_10 post n (nI t) xBox (pr_sq (pr_qk xPat TT (pr_bt t) N Q)) (nI N) g (pr_cq (pr_qk xPat TT (pr_bt t) N Q)) (pr_dq (pr_qk xPat TT (pr_bt t) N Q)) (pr_mq (pr_qk xPat TT (pr_bt t) N Q)) xPat xCX xCY xCD xCC xCU xCV xRul xRX xRY xRD xRC xRU xRV xRB xRR xRA sX sY tE aZ sd xCh := by
  intro d
  induction d with
  | zero =>
    intro t n g sX sY tE aZ sd hd hn
    obtain ⟨m, rfl⟩ : ∃ m, n = m + 1 := ⟨n - 1, by omega⟩
    have e : t = 16 := by omega
    subst e
    rw [pr_bt_16]
    exact br_t (by decide) (h g sX sY tE aZ sd)
  | succ d ih =>
    intro t n g sX sY tE aZ sd hd hn
    obtain ⟨m, rfl⟩ : ∃ m, n = m + 1 := ⟨n - 1, by omega⟩
    have ht : t < 16 := by omega
    have e1 : 4 * (nI t &&& 3) = nI (4 * (t % 4)) := by
      rw [show nI t &&& 3 = nI (t % 4) from pk_andN (by omega) 2 (by decide)]
      exact pk_mul 4 (t % 4)
    have e2 : 4 * (nI t >>> ((2 : Int32) &&& 31)) = nI (4 * (t / 4)) := by
      rw [show nI t >>> ((2 : Int32) &&& 31) = nI (t / 4) from pk_shrN (by omega) _ 2 (by decide)]
      exact pk_mul 4 (t / 4)
    have cr := pr_qkR (pat := xPat) (S := pr_bt t) (k := N) (fun r hr => (hR r hr).2) (fun j hj => by have := of_decide_eq_true hj; omega) hQ
    have q2 : pr_qk xPat TT (pr_tl (4 * (t % 4)) (4 * (t / 4))) N (pr_qk xPat TT (pr_bt t) N Q) = pr_qk xPat TT (pr_bt (t + 1)) N Q := pr_qk_2 (pr_bt_s ht).1 (pr_bt_s ht).2
    refine br_f (nI_ge (b := 16) ht (by decide)) (nm_r e1 (nm_r e2 ?_))
    refine xw_far (by omega) (by omega) (fun g' hg' => ⟨N + 1, ?_⟩)
    have q := xw_recs (post := post) (J := wX_flush_10 post m) (t := t) (Q := pr_qk xPat TT (pr_bt t) N Q) hN hR (show 4 * (t % 4) ≤ 12 by omega) (show 4 * (t / 4) ≤ 12 by omega) cr
      (fun g2 sX2 sY2 tE2 aZ2 sd2 => by rw [q2]; exact ih (t + 1) m g2 sX2 sY2 tE2 aZ2 sd2 (by omega) (by omega)) N 0 (N + 1) g' sX sY tE aZ sd (by omega) (by omega) (by rw [pr_qk_0]; exact hg')
    rw [pr_qk_0] at q
    exact q
theorem xw_flush {post : SX → Prop} {N : Nat} {TT : Nat → Nat → Int32} {Q : Nat → pr_PX} (hN : N ≤ 12) (hR : (∀ r, r < N → pr_rec xRX xRY xRD xRC xRU xRV xRB xRR xRA r (TT r) ∧ pr_ok (TT r))) (hQ : ∀ j, pr_cr (Q j).1)
    (h : ∀ (g : Int32) (sX sY tE aZ sd : Nat → Int32), post (xBox, pr_sq (pr_aq xPat TT N Q), 0, g, pr_cq (pr_aq xPat TT N Q), pr_dq (pr_aq xPat TT N Q), pr_mq (pr_aq xPat TT N Q), xPat, xCX, xCY, xCD, xCC, xCU, xCV, xRul, xRX, xRY, xRD, xRC, xRU, xRV, xRB, xRR, xRA, sX, sY, tE, aZ, sd, xCh)) :
    wpX_flush post (xBox, pr_sq Q, nI N, xFar, pr_cq Q, pr_dq Q, pr_mq Q, xPat, xCX, xCY, xCD, xCC, xCU, xCV, xRul, xRX, xRY, xRD, xRC, xRU, xRV, xRB, xRR, xRA, xSX, xSY, xTE, xAZ, xSd, xCh) := by
  by_cases z : N = 0
  · subst z
    have q := h xFar xSX xSY xTE xAZ xSd
    rw [pr_aq_0] at q
    exact br_t rfl q
  · refine br_f (nI_ne0 (by omega) (by omega)) ⟨17, ?_⟩
    have q := xw_tiles hN hR hQ h 16 0 17 xFar xSX xSY xTE xAZ xSd rfl (by omega)
    rw [show pr_qk xPat TT (pr_bt 0) N Q = Q from by funext j; unfold pr_qk; rw [pr_bt_0]; exact if_neg (by decide)] at q
    exact q
end
end
section
def pr_tri (cX cY cD cC cU cV : Nat → Int32) (box : Int32) (rul : Nat → Int32) (A B C : Nat) (v : Int32) : Nat → Int32
  | 0 => cX A
  | 1 => cX B
  | 2 => cX C
  | 3 => cY A
  | 4 => cY B
  | 5 => cY C
  | 6 => cD A
  | 7 => cD B
  | 8 => cD C
  | 9 => cC A
  | 10 => cC B
  | 11 => cC C
  | 12 => cU A
  | 13 => cU B
  | 14 => cU C
  | 15 => cV A
  | 16 => cV B
  | 17 => cV C
  | 18 => v
  | 19 => box
  | 20 => rul 0
  | 21 => rul 1
  | 22 => rul 2
  | 23 => rul 3
  | 24 => rul 4
  | 25 => rul 5
  | 26 => rul 6
  | 27 => rul 7
  | _ => 0
def pr_good (cX cY cD cU cV : Nat → Int32) (box : Int32) (rul : Nat → Int32) : Prop :=
  (∀ k, k < 6 → (-64 ≤ (cX k).toInt ∧ (cX k).toInt ≤ 319) ∧ (-64 ≤ (cY k).toInt ∧ (cY k).toInt ≤ 319) ∧ (0 ≤ (cD k).toInt ∧ (cD k).toInt ≤ 255) ∧
    (0 ≤ (cU k).toInt ∧ (cU k).toInt ≤ 127) ∧ (0 ≤ (cV k).toInt ∧ (cV k).toInt ≤ 127)) ∧
  (∃ b : Nat, b < 65536 ∧ box = nI b) ∧ (0 ≤ (rul 2).toInt ∧ (rul 2).toInt ≤ 4) ∧ (0 ≤ (rul 4).toInt ∧ (rul 4).toInt ≤ 3)
theorem pr_tri_ok {cX cY cD cC cU cV : Nat → Int32} {box : Int32} {rul : Nat → Int32} {A B C : Nat} {v : Int32} (h : pr_good cX cY cD cU cV box rul) (hA : A < 6) (hB : B < 6) (hC : C < 6)
    (hv : v = pr_side (cX A) (cY A) (cX B) (cY B) (cX C) (cY C)) (h0 : 0 < v.toInt) : pr_ok (pr_tri cX cY cD cC cU cV box rul A B C v) := by
  obtain ⟨hk, hb, h2, h4⟩ := h
  obtain ⟨a1, a2, a3, a4, a5⟩ := hk A hA
  obtain ⟨b1, b2, b3, b4, b5⟩ := hk B hB
  obtain ⟨c1, c2, c3, c4, c5⟩ := hk C hC
  refine ⟨fun k h => ?_, fun k h h' => ?_, fun k h h' => ?_, ⟨hv, h0⟩, hb, h2, h4⟩
  · rcases (show k = 0 ∨ k = 1 ∨ k = 2 ∨ k = 3 ∨ k = 4 ∨ k = 5 by omega) with e | e | e | e | e | e <;> subst e <;> assumption
  · rcases (show k = 6 ∨ k = 7 ∨ k = 8 by omega) with e | e | e <;> subst e <;> assumption
  · rcases (show k = 12 ∨ k = 13 ∨ k = 14 ∨ k = 15 ∨ k = 16 ∨ k = 17 by omega) with e | e | e | e | e | e <;> subst e <;> assumption
theorem pr_u3 {f : Nat → Int32} {r : Nat} {a b c : Int32} : (upd (upd (upd f (3 * r + 0) a) (3 * r + 1) b) (3 * r + 2) c (3 * r) = a ∧
    upd (upd (upd f (3 * r + 0) a) (3 * r + 1) b) (3 * r + 2) c (3 * r + 1) = b ∧ upd (upd (upd f (3 * r + 0) a) (3 * r + 1) b) (3 * r + 2) c (3 * r + 2) = c) ∧
    ∀ j, j < 3 * r ∨ 3 * r + 2 < j → upd (upd (upd f (3 * r + 0) a) (3 * r + 1) b) (3 * r + 2) c j = f j := by
  refine ⟨⟨?_, ?_, ?_⟩, fun j hj => ?_⟩
  · rw [pk_un (by omega), pk_un (by omega)]; exact pk_us
  · rw [pk_un (by omega)]; exact pk_us
  · exact pk_us
  · rw [pk_un (by omega), pk_un (by omega), pk_un (by omega)]
def pr_ru (rR rul : Nat → Int32) (r k : Nat) : Nat → Int32 := fun j => if 8 * r ≤ j ∧ j < 8 * r + k then rul (j - 8 * r) else rR j
theorem pr_ru_s {rR rul : Nat → Int32} {r k : Nat} : upd (pr_ru rR rul r k) (8 * r + k) (rul k) = pr_ru rR rul r (k + 1) := by
  funext j
  unfold upd pr_ru
  by_cases a : j = 8 * r + k
  · rw [if_pos a, if_pos (by omega), a, Nat.add_sub_cancel_left]
  · rw [if_neg a]
    by_cases b : 8 * r ≤ j ∧ j < 8 * r + k
    · rw [if_pos b, if_pos (by omega)]
    · rw [if_neg b, if_neg (by omega)]
theorem pr_ru_0 {rR rul : Nat → Int32} {r : Nat} : pr_ru rR rul r 0 = rR := by
  funext j
  exact if_neg (by omega)
theorem pr_ru_t {rR rul : Nat → Int32} {r : Nat} (k : Nat) (hk : k < 8) : pr_ru rR rul r 8 (8 * r + k) = rul k := by
  unfold pr_ru
  rw [if_pos (by omega), Nat.add_sub_cancel_left]
theorem pr_ru_n {rR rul : Nat → Int32} {r : Nat} (j : Nat) (hj : j < 8 * r ∨ 8 * r + 7 < j) : pr_ru rR rul r 8 j = rR j := if_neg (by omega)
section
variable {xBox xHit xRec xFar : Int32} {xCol xDep xMrk xPat xCX xCY xCD xCC xCU xCV xRul xRX xRY xRD xRC xRU xRV xRB xRR xRA xSX xSY xTE xAZ xSd xCh : Nat → Int32}
theorem xw_write_142 {post : SX → Prop} {r : Nat} (hr : r < 12) (h : post (xBox, xHit, xRec, xFar, xCol, xDep, xMrk, xPat, xCX, xCY, xCD, xCC, xCU, xCV, xRul, xRX, xRY, xRD, xRC, xRU, xRV, xRB, pr_ru xRR xRul r 8, xRA, xSX, xSY, xTE, xAZ, xSd, xCh)) :
    ∀ d k n : Nat, k + d = 8 → d < n → wX_write_142 post (nI r) xBox xHit xRec xFar n (nI k) xCol xDep xMrk xPat xCX xCY xCD xCC xCU xCV xRul xRX xRY xRD xRC xRU xRV xRB (pr_ru xRR xRul r k) xRA xSX xSY xTE xAZ xSd xCh := by
  intro d
  induction d with
  | zero =>
    intro k n hk hn
    obtain ⟨m, rfl⟩ : ∃ m, n = m + 1 := ⟨n - 1, by omega⟩
    have e : k = 8 := by omega
    subst e
    exact br_t (by decide) h
  | succ d ih =>
    intro k n hk hn
    obtain ⟨m, rfl⟩ : ∃ m, n = m + 1 := ⟨n - 1, by omega⟩
    have ck : (nI k).toNatClampNeg = k := nI_clamp (by omega)
    have c8 : ((8 * nI r) + nI k).toNatClampNeg = 8 * r + k := pk_cl (8 * r + k) (xi_8k r k)
    refine br_f (nI_ge (b := 8) (by omega) (by decide)) ⟨vp_in_nI (by omega) (by decide), pk_in (8 * r + k) 96 (by omega) (xi_8k r k), ?_⟩
    rw [ck, c8, pr_ru_s]
    exact nm_e (nm_r (nI_1 k) (ih (k + 1) m (by omega) (by omega)))
theorem xw_write_it {post : SX → Prop} {r i n A : Nat} {v : Int32} (hr : r < 12) (hi : i < 3) (hA : A < 6) (hc : xCh i = nI A)
    (h : wX_write_2 post (nI r) v xBox xHit xRec xFar n (nI (i + 1)) xCol xDep xMrk xPat xCX xCY xCD xCC xCU xCV xRul (upd xRX (3 * r + i) (xCX A)) (upd xRY (3 * r + i) (xCY A)) (upd xRD (3 * r + i) (xCD A)) (upd xRC (3 * r + i) (xCC A)) (upd xRU (3 * r + i) (xCU A)) (upd xRV (3 * r + i) (xCV A)) xRB xRR xRA xSX xSY xTE xAZ xSd xCh) :
    wX_write_2 post (nI r) v xBox xHit xRec xFar (n + 1) (nI i) xCol xDep xMrk xPat xCX xCY xCD xCC xCU xCV xRul xRX xRY xRD xRC xRU xRV xRB xRR xRA xSX xSY xTE xAZ xSd xCh := by
  have ci : (nI i).toNatClampNeg = i := nI_clamp (by omega)
  have cA : (nI A).toNatClampNeg = A := nI_clamp (by omega)
  have iA : vp_in (nI A) 6 := vp_in_nI hA (by decide)
  have c3 : ((3 * nI r) + nI i).toNatClampNeg = 3 * r + i := pk_cl (3 * r + i) (xi_3k r i)
  have i3 : vp_in ((3 * nI r) + nI i) 36 := pk_in (3 * r + i) 36 (by omega) (xi_3k r i)
  refine br_f (nI_ge (b := 3) hi (by decide)) ⟨vp_in_nI hi (by decide), nm_r (e' := nI A) (by rw [ci, hc]) ?_⟩
  rw [cA, c3]
  exact ⟨iA, i3, nm_e ⟨iA, i3, nm_e ⟨iA, i3, nm_e ⟨iA, i3, nm_e ⟨iA, i3, nm_e ⟨iA, i3, nm_e (nm_r (nI_1 i) h)⟩⟩⟩⟩⟩⟩
theorem xw_write {post : SX → Prop} {r A B C : Nat} {v : Int32} (hr : r < 12) (hA : A < 6) (hB : B < 6) (hC : C < 6) (h0 : xCh 0 = nI A) (h1 : xCh 1 = nI B) (h2 : xCh 2 = nI C)
    (h : ∀ rX rY rD rC rU rV rB rR rA : Nat → Int32, pr_rec rX rY rD rC rU rV rB rR rA r (pr_tri xCX xCY xCD xCC xCU xCV xBox xRul A B C v) →
      (∀ (q : Nat) (T : Nat → Int32), q ≠ r → pr_rec xRX xRY xRD xRC xRU xRV xRB xRR xRA q T → pr_rec rX rY rD rC rU rV rB rR rA q T) →
      post (xBox, xHit, xRec, xFar, xCol, xDep, xMrk, xPat, xCX, xCY, xCD, xCC, xCU, xCV, xRul, rX, rY, rD, rC, rU, rV, rB, rR, rA, xSX, xSY, xTE, xAZ, xSd, xCh)) : wpX_write post (xBox, xHit, xRec, xFar, xCol, xDep, xMrk, xPat, xCX, xCY, xCD, xCC, xCU, xCV, xRul, xRX, xRY, xRD, xRC, xRU, xRV, xRB, xRR, xRA, xSX, xSY, xTE, xAZ, xSd, xCh) (nI r) v := by
  refine ⟨4, xw_write_it (i := 0) hr (by decide) hA h0 (xw_write_it (i := 1) hr (by decide) hB h1 (xw_write_it (i := 2) hr (by decide) hC h2 ?_))⟩
  refine br_t (by decide) ⟨xi_ir hr, ?_⟩
  rw [xi_cr hr]
  refine nm_e ⟨xi_ir hr, nm_e ⟨9, ?_⟩⟩
  have q := xw_write_142 (post := post) (xRX := upd (upd (upd xRX (3 * r + 0) (xCX A)) (3 * r + 1) (xCX B)) (3 * r + 2) (xCX C)) (xRY := upd (upd (upd xRY (3 * r + 0) (xCY A)) (3 * r + 1) (xCY B)) (3 * r + 2) (xCY C))
    (xRD := upd (upd (upd xRD (3 * r + 0) (xCD A)) (3 * r + 1) (xCD B)) (3 * r + 2) (xCD C)) (xRC := upd (upd (upd xRC (3 * r + 0) (xCC A)) (3 * r + 1) (xCC B)) (3 * r + 2) (xCC C))
    (xRU := upd (upd (upd xRU (3 * r + 0) (xCU A)) (3 * r + 1) (xCU B)) (3 * r + 2) (xCU C)) (xRV := upd (upd (upd xRV (3 * r + 0) (xCV A)) (3 * r + 1) (xCV B)) (3 * r + 2) (xCV C))
    (xRB := upd xRB r xBox) (xRA := upd xRA r v) (xRR := xRR) (r := r) hr (h _ _ _ _ _ _ _ _ _ ?_ ?_) 8 0 9 rfl (by decide)
  · rw [pr_ru_0] at q
    exact q
  · exact ⟨pr_u3.1, pr_u3.1, pr_u3.1, pr_u3.1, pr_u3.1, pr_u3.1, ⟨pk_us, pk_us⟩, pr_ru_t 0 (by decide), pr_ru_t 1 (by decide), pr_ru_t 2 (by decide), pr_ru_t 3 (by decide), pr_ru_t 4 (by decide), pr_ru_t 5 (by decide), pr_ru_t 6 (by decide), pr_ru_t 7 (by decide)⟩
  · intro q T hq hR
    obtain ⟨⟨x0, x1, x2⟩, ⟨y0, y1, y2⟩, ⟨d0, d1, d2⟩, ⟨c0, c1, c2⟩, ⟨u0, u1, u2⟩, ⟨v0, v1, v2⟩, ⟨a0, b0⟩, ⟨e0, e1, e2, e3, e4, e5, e6, e7⟩⟩ := hR
    refine ⟨⟨?_, ?_, ?_⟩, ⟨?_, ?_, ?_⟩, ⟨?_, ?_, ?_⟩, ⟨?_, ?_, ?_⟩, ⟨?_, ?_, ?_⟩, ⟨?_, ?_, ?_⟩, ⟨?_, ?_⟩, ?_, ?_, ?_, ?_, ?_, ?_, ?_, ?_⟩
    · rw [pr_u3.2 _ (by omega)]; exact x0
    · rw [pr_u3.2 _ (by omega)]; exact x1
    · rw [pr_u3.2 _ (by omega)]; exact x2
    · rw [pr_u3.2 _ (by omega)]; exact y0
    · rw [pr_u3.2 _ (by omega)]; exact y1
    · rw [pr_u3.2 _ (by omega)]; exact y2
    · rw [pr_u3.2 _ (by omega)]; exact d0
    · rw [pr_u3.2 _ (by omega)]; exact d1
    · rw [pr_u3.2 _ (by omega)]; exact d2
    · rw [pr_u3.2 _ (by omega)]; exact c0
    · rw [pr_u3.2 _ (by omega)]; exact c1
    · rw [pr_u3.2 _ (by omega)]; exact c2
    · rw [pr_u3.2 _ (by omega)]; exact u0
    · rw [pr_u3.2 _ (by omega)]; exact u1
    · rw [pr_u3.2 _ (by omega)]; exact u2
    · rw [pr_u3.2 _ (by omega)]; exact v0
    · rw [pr_u3.2 _ (by omega)]; exact v1
    · rw [pr_u3.2 _ (by omega)]; exact v2
    · rw [pk_un hq]; exact a0
    · rw [pk_un hq]; exact b0
    · rw [pr_ru_n _ (by omega)]; exact e0
    · rw [pr_ru_n _ (by omega)]; exact e1
    · rw [pr_ru_n _ (by omega)]; exact e2
    · rw [pr_ru_n _ (by omega)]; exact e3
    · rw [pr_ru_n _ (by omega)]; exact e4
    · rw [pr_ru_n _ (by omega)]; exact e5
    · rw [pr_ru_n _ (by omega)]; exact e6
    · rw [pr_ru_n _ (by omega)]; exact e7
theorem xw_choose_80 {post : Int32 → SX → Prop} {a b c : Nat} {s : Int32} (h1 : 0 ≤ s → ∀ ch : Nat → Int32, ch 0 = nI a → ch 1 = nI b → ch 2 = nI c → post s (xBox, xHit, xRec, xFar, xCol, xDep, xMrk, xPat, xCX, xCY, xCD, xCC, xCU, xCV, xRul, xRX, xRY, xRD, xRC, xRU, xRV, xRB, xRR, xRA, xSX, xSY, xTE, xAZ, xSd, ch))
    (h2 : ¬ 0 ≤ s → ∀ ch : Nat → Int32, ch 0 = nI a → ch 1 = nI c → ch 2 = nI b → post (-s) (xBox, xHit, xRec, xFar, xCol, xDep, xMrk, xPat, xCX, xCY, xCD, xCC, xCU, xCV, xRul, xRX, xRY, xRD, xRC, xRU, xRV, xRB, xRR, xRA, xSX, xSY, xTE, xAZ, xSd, ch)) : wX_choose_80 post (nI a) (nI b) (nI c) s xBox xHit xRec xFar xCol xDep xMrk xPat xCX xCY xCD xCC xCU xCV xRul xRX xRY xRD xRC xRU xRV xRB xRR xRA xSX xSY xTE xAZ xSd xCh := by
  have i1 : vp_in (1 : Int32) 3 := vp_in_nI (n := 1) (by decide) (by decide)
  have i2 : vp_in (2 : Int32) 3 := vp_in_nI (n := 2) (by decide) (by decide)
  have t1 : (1 : Int32).toNatClampNeg = 1 := by decide
  have t2 : (2 : Int32).toNatClampNeg = 2 := by decide
  unfold wX_choose_80 wX_choose_103 wX_choose_120
  rw [t1, t2]
  refine nm_e (br_c (fun t => ⟨i1, nm_e (br_t t ⟨i2, nm_e (br_t t (h1 t _ rfl rfl rfl))⟩)⟩) (fun t => ⟨i1, nm_e (br_f t ⟨i2, nm_e (br_f t (h2 t _ rfl rfl rfl))⟩)⟩))
end
section
variable {xBox xHit xRec xFar : Int32} {xCol xDep xMrk xPat xCX xCY xCD xCC xCU xCV xRul xRX xRY xRD xRC xRU xRV xRB xRR xRA xSX xSY xTE xAZ xSd xCh : Nat → Int32} {yHit yBox yOne yTwo yThr yAre yWa yWb yWc : Int32} {yCol yDep yMrk yPat yCX yCY yCD yCC yCU yCV yRul : Nat → Int32}
theorem xy_take {j : Nat} (hj : j < 216) (hg : pr_good xCX xCY xCD xCU xCV xBox xRul) : ∃ (A B C : Nat) (v : Int32), A < 6 ∧ B < 6 ∧ C < 6 ∧
    (v = 0 ∨ (0 < v.toInt ∧ v = pr_side (xCX A) (xCY A) (xCX B) (xCY B) (xCX C) (xCY C))) ∧
    (∀ post : Int32 → SX → Prop, (v = 0 → ∀ ch : Nat → Int32, post 0 (xBox, xHit, xRec, xFar, xCol, xDep, xMrk, xPat, xCX, xCY, xCD, xCC, xCU, xCV, xRul, xRX, xRY, xRD, xRC, xRU, xRV, xRB, xRR, xRA, xSX, xSY, xTE, xAZ, xSd, ch)) → (¬ v = 0 → ∀ ch : Nat → Int32, ch 0 = nI A → ch 1 = nI B → ch 2 = nI C → post v (xBox, xHit, xRec, xFar, xCol, xDep, xMrk, xPat, xCX, xCY, xCD, xCC, xCU, xCV, xRul, xRX, xRY, xRD, xRC, xRU, xRV, xRB, xRR, xRA, xSX, xSY, xTE, xAZ, xSd, ch)) → wpX_choose post (xBox, xHit, xRec, xFar, xCol, xDep, xMrk, xPat, xCX, xCY, xCD, xCC, xCU, xCV, xRul, xRX, xRY, xRD, xRC, xRU, xRV, xRB, xRR, xRA, xSX, xSY, xTE, xAZ, xSd, xCh) (nI j)) ∧
    (∀ post : SY → Prop, post (yHit, yBox, nI A, nI B, nI C, v, yWa, yWb, yWc, yCol, yDep, yMrk, yPat, xCX, xCY, yCD, yCC, yCU, yCV, xRul) → wpY_take post (yHit, yBox, yOne, yTwo, yThr, yAre, yWa, yWb, yWc, yCol, yDep, yMrk, yPat, xCX, xCY, yCD, yCC, yCU, yCV, xRul) (nI j)) := by
  have e1 : nI j / 36 = nI (j / 36) := pk_div (d := 36) (by omega) (by decide) (by decide)
  have e6 : nI j / 6 = nI (j / 6) := pk_div (d := 6) (by omega) (by decide) (by decide)
  have e2 : (nI j / 6) - (nI j / 6) / 6 * 6 = nI (j / 6 % 6) := by
    rw [e6]
    exact pk_rem (d := 6) (by omega) (by decide) (by decide)
  have e3 : nI j - nI j / 6 * 6 = nI (j % 6) := pk_rem (d := 6) (by omega) (by decide) (by decide)
  have ha : j / 36 < 6 := by omega
  have hb : j / 6 % 6 < 6 := by omega
  have hc : j % 6 < 6 := by omega
  generalize j / 36 = a at e1 ha
  generalize j / 6 % 6 = b at e2 hb
  generalize j % 6 = c at e3 hc
  have ia : vp_in (nI a) 6 := vp_in_nI ha (by decide)
  have ib : vp_in (nI b) 6 := vp_in_nI hb (by decide)
  have ic : vp_in (nI c) 6 := vp_in_nI hc (by decide)
  have ca : (nI a).toNatClampNeg = a := nI_clamp (by omega)
  have cb : (nI b).toNatClampNeg = b := nI_clamp (by omega)
  have cc : (nI c).toNatClampNeg = c := nI_clamp (by omega)
  have WX : ∀ post : Int32 → SX → Prop, ((0 ≤ pr_side (xCX a) (xCY a) (xCX b) (xCY b) (xCX c) (xCY c) → wX_choose_80 post (nI a) (nI b) (nI c) (pr_side (xCX a) (xCY a) (xCX b) (xCY b) (xCX c) (xCY c)) xBox xHit xRec xFar xCol xDep xMrk xPat xCX xCY xCD xCC xCU xCV xRul xRX xRY xRD xRC xRU xRV xRB xRR xRA xSX xSY xTE xAZ xSd xCh) ∧
      (¬ 0 ≤ pr_side (xCX a) (xCY a) (xCX b) (xCY b) (xCX c) (xCY c) → ((xRul 6 = 1 → post 0 (xBox, xHit, xRec, xFar, xCol, xDep, xMrk, xPat, xCX, xCY, xCD, xCC, xCU, xCV, xRul, xRX, xRY, xRD, xRC, xRU, xRV, xRB, xRR, xRA, xSX, xSY, xTE, xAZ, xSd, xCh)) ∧ (¬ xRul 6 = 1 → wX_choose_80 post (nI a) (nI b) (nI c) (pr_side (xCX a) (xCY a) (xCX b) (xCY b) (xCX c) (xCY c)) xBox xHit xRec xFar xCol xDep xMrk xPat xCX xCY xCD xCC xCU xCV xRul xRX xRY xRD xRC xRU xRV xRB xRR xRA xSX xSY xTE xAZ xSd xCh)))) →
      wpX_choose post (xBox, xHit, xRec, xFar, xCol, xDep, xMrk, xPat, xCX, xCY, xCD, xCC, xCU, xCV, xRul, xRX, xRY, xRD, xRC, xRU, xRV, xRB, xRR, xRA, xSX, xSY, xTE, xAZ, xSd, xCh) (nI j) := by
    intro post h
    unfold wpX_choose
    dsimp only
    refine ⟨by decide, nm_r e1 ⟨by decide, by decide, nm_r e2 ⟨by decide, nm_r e3 ?_⟩⟩⟩
    rw [ca, cb, cc]
    exact ⟨ia, ia, ib, ib, ic, ic, h⟩
  have WY : ∀ post : SY → Prop, ((0 ≤ pr_side (xCX a) (xCY a) (xCX b) (xCY b) (xCX c) (xCY c) → post (yHit, yBox, nI a, nI b, nI c, pr_side (xCX a) (xCY a) (xCX b) (xCY b) (xCX c) (xCY c), yWa, yWb, yWc, yCol, yDep, yMrk, yPat, xCX, xCY, yCD, yCC, yCU, yCV, xRul)) ∧
      (¬ 0 ≤ pr_side (xCX a) (xCY a) (xCX b) (xCY b) (xCX c) (xCY c) → ((xRul 6 = 1 → post (yHit, yBox, nI a, nI c, nI b, 0, yWa, yWb, yWc, yCol, yDep, yMrk, yPat, xCX, xCY, yCD, yCC, yCU, yCV, xRul)) ∧
        (¬ xRul 6 = 1 → ∀ z, z = -pr_side (xCX a) (xCY a) (xCX b) (xCY b) (xCX c) (xCY c) → post (yHit, yBox, nI a, nI c, nI b, z, yWa, yWb, yWc, yCol, yDep, yMrk, yPat, xCX, xCY, yCD, yCC, yCU, yCV, xRul))))) →
      wpY_take post (yHit, yBox, yOne, yTwo, yThr, yAre, yWa, yWb, yWc, yCol, yDep, yMrk, yPat, xCX, xCY, yCD, yCC, yCU, yCV, xRul) (nI j) := by
    intro post h
    unfold wpY_take
    dsimp only
    refine ⟨by decide, nm_r e1 ⟨by decide, by decide, nm_r e2 ⟨by decide, nm_r e3 ?_⟩⟩⟩
    rw [ca, cb, cc]
    exact ⟨ia, ia, ib, ib, ic, ic, h⟩
  obtain ⟨hk, _⟩ := hg
  have sI := pr_sideI (hk a ha).1 (hk a ha).2.1 (hk b hb).1 (hk b hb).2.1 (hk c hc).1 (hk c hc).2.1
  by_cases s : 0 ≤ pr_side (xCX a) (xCY a) (xCX b) (xCY b) (xCX c) (xCY c)
  · refine ⟨a, b, c, pr_side (xCX a) (xCY a) (xCX b) (xCY b) (xCX c) (xCY c), ha, hb, hc, ?_, fun post h0 h1 => WX post (br_t s ?_), fun post h => WY post (br_t s h)⟩
    · rw [Int32.le_iff_toInt_le, Int32.toInt_zero] at s
      by_cases z : (pr_side (xCX a) (xCY a) (xCX b) (xCY b) (xCX c) (xCY c)).toInt = 0
      · exact Or.inl (Int32.toInt_inj.mp (by rw [z, Int32.toInt_zero]))
      · exact Or.inr ⟨by omega, rfl⟩
    · refine xw_choose_80 (fun _ ch q0 q1 q2 => ?_) (fun n => absurd s n)
      by_cases z : pr_side (xCX a) (xCY a) (xCX b) (xCY b) (xCX c) (xCY c) = 0
      · have q := h0 z ch
        rw [← z] at q
        exact q
      · exact h1 z ch q0 q1 q2
  · by_cases g : xRul 6 = 1
    · exact ⟨a, c, b, 0, ha, hc, hb, Or.inl rfl, fun post h0 h1 => WX post (br_f s (br_t g (h0 rfl xCh))), fun post h => WY post (br_f s (br_t g h))⟩
    · have n1 : (-pr_side (xCX a) (xCY a) (xCX b) (xCY b) (xCX c) (xCY c)).toInt = -(pr_side (xCX a) (xCY a) (xCX b) (xCY b) (xCX c) (xCY c)).toInt := Jvm.Kit.i32_neg (by omega)
      have s' := s
      rw [Int32.le_iff_toInt_le, Int32.toInt_zero] at s'
      have pos : 0 < (-pr_side (xCX a) (xCY a) (xCX b) (xCY b) (xCX c) (xCY c)).toInt := by omega
      have nz : ¬ -pr_side (xCX a) (xCY a) (xCX b) (xCY b) (xCX c) (xCY c) = 0 := fun z => by rw [z, Int32.toInt_zero] at pos; omega
      refine ⟨a, c, b, -pr_side (xCX a) (xCY a) (xCX b) (xCY b) (xCX c) (xCY c), ha, hc, hb, Or.inr ⟨pos, ?_⟩, fun post h0 h1 => WX post (br_f s (br_f g ?_)), fun post h => WY post (br_f s (br_f g (nm_e h)))⟩
      · unfold pr_side
        grind
      · exact xw_choose_80 (fun n => absurd n s) (fun _ ch q0 q1 q2 => h1 nz ch q0 q1 q2)
end
end
section
theorem pr_br {b : Bool} {A B : Prop} (f : b = false → A) (t : b = true → B) : (pr_b b = 0 → A) ∧ (¬ pr_b b = 0 → B) := by
  cases b
  · exact br_t rfl (f rfl)
  · exact br_f (by decide) (t rfl)
theorem pr_and1 {a b c : Bool} (h : a = false) : (a && (b && c)) = false := by rw [h]; rfl
theorem pr_and2 {a b c : Bool} (h : b = false) : (a && (b && c)) = false := by rw [h]; cases a <;> rfl
theorem pr_and3 {a b c : Bool} (h : c = false) : (a && (b && c)) = false := by rw [h]; cases a <;> cases b <;> rfl
theorem pr_and4 {a b c : Bool} (h : a = true) (h2 : b = true) (h3 : c = true) : (a && (b && c)) = true := by rw [h, h2, h3]; rfl
section
variable {yHit yBox yOne yTwo yThr yAre yWa yWb yWc : Int32} {yCol yDep yMrk yPat yCX yCY yCD yCC yCU yCV yRul : Nat → Int32}
theorem yw_sideOf {post : Int32 → Prop} {p q : Nat} {x y : Int32} (hp : p < 6) (hq : q < 6) (h : post (pr_side (yCX p) (yCY p) (yCX q) (yCY q) ((16 * x) + 8) ((16 * y) + 8))) :
    wpY_sideOf post (yHit, yBox, yOne, yTwo, yThr, yAre, yWa, yWb, yWc, yCol, yDep, yMrk, yPat, yCX, yCY, yCD, yCC, yCU, yCV, yRul) (nI p) (nI q) x y := by
  have ip : vp_in (nI p) 6 := vp_in_nI hp (by decide)
  have iq : vp_in (nI q) 6 := vp_in_nI hq (by decide)
  unfold wpY_sideOf
  dsimp only
  rw [nI_clamp (n := p) (by omega), nI_clamp (n := q) (by omega)]
  exact ⟨ip, ip, iq, iq, h⟩
theorem yw_isInside {post : Int32 → Prop} {p q : Nat} {s : Int32} (hp : p < 6) (hq : q < 6) (h : post (pr_b (pr_in (yCX p) (yCY p) (yCX q) (yCY q) s))) :
    wpY_isInside post (yHit, yBox, yOne, yTwo, yThr, yAre, yWa, yWb, yWc, yCol, yDep, yMrk, yPat, yCX, yCY, yCD, yCC, yCU, yCV, yRul) (nI p) (nI q) s := by
  have ip : vp_in (nI p) 6 := vp_in_nI hp (by decide)
  have iq : vp_in (nI q) 6 := vp_in_nI hq (by decide)
  unfold pr_in at h
  unfold wpY_isInside
  dsimp only
  rw [nI_clamp (n := p) (by omega), nI_clamp (n := q) (by omega)]
  refine br_c (fun e0 => ⟨iq, ip, br_c (fun e1 => ⟨iq, ip, br_c (fun e2 => ?_) (fun e2 => ?_)⟩) (fun e1 => ⟨iq, ip, br_c (fun e2 => ?_) (fun e2 => ?_)⟩)⟩) (fun e0 => br_c (fun e1 => ?_) (fun e1 => ?_))
  · rw [if_pos e0, if_pos e1, decide_eq_true e2] at h; exact h
  · rw [if_pos e0, if_pos e1, decide_eq_false e2] at h; exact h
  · rw [if_pos e0, if_neg e1, decide_eq_true e2] at h; exact h
  · rw [if_pos e0, if_neg e1, decide_eq_false e2] at h; exact h
  · rw [if_neg e0, decide_eq_true e1] at h; exact h
  · rw [if_neg e0, decide_eq_false e1] at h; exact h
theorem yw_covers {post : Int32 → SY → Prop} {A B C : Nat} {v x y : Int32} (hA : A < 6) (hB : B < 6) (hC : C < 6) (hv : ¬ v = 0)
    (h : post (pr_b (pr_cov (pr_tri yCX yCY yCD yCC yCU yCV yBox yRul A B C v) x y)) (yHit, yBox, nI A, nI B, nI C, v, pr_w0 (pr_tri yCX yCY yCD yCC yCU yCV yBox yRul A B C v) x y, pr_w1 (pr_tri yCX yCY yCD yCC yCU yCV yBox yRul A B C v) x y, pr_w2 (pr_tri yCX yCY yCD yCC yCU yCV yBox yRul A B C v) x y, yCol, yDep, yMrk, yPat, yCX, yCY, yCD, yCC, yCU, yCV, yRul)) : wpY_covers post (yHit, yBox, nI A, nI B, nI C, v, yWa, yWb, yWc, yCol, yDep, yMrk, yPat, yCX, yCY, yCD, yCC, yCU, yCV, yRul) x y := by
  unfold wpY_covers
  dsimp only
  refine br_f hv ?_
  refine yw_sideOf hB hC ?_
  refine yw_sideOf hC hA ?_
  refine yw_sideOf hA hB ?_
  refine yw_isInside hB hC ?_
  refine pr_br (fun e0 => ?_) (fun e0 => ?_)
  · have c : pr_cov (pr_tri yCX yCY yCD yCC yCU yCV yBox yRul A B C v) x y = false := pr_and1 e0
    rw [c] at h; exact h
  refine yw_isInside hC hA ?_
  refine pr_br (fun e1 => ?_) (fun e1 => ?_)
  · have c : pr_cov (pr_tri yCX yCY yCD yCC yCU yCV yBox yRul A B C v) x y = false := pr_and2 e1
    rw [c] at h; exact h
  refine yw_isInside hA hB ?_
  refine pr_br (fun e2 => ?_) (fun e2 => ?_)
  · have c : pr_cov (pr_tri yCX yCY yCD yCC yCU yCV yBox yRul A B C v) x y = false := pr_and3 e2
    rw [c] at h; exact h
  · have c : pr_cov (pr_tri yCX yCY yCD yCC yCU yCV yBox yRul A B C v) x y = true := pr_and4 e0 e1 e2
    rw [c] at h; exact h
theorem yw_mean {post : Int32 → Prop} {a b c : Int32} (hv : ¬ yAre = 0) (h : post (pr_mean yWa yWb yWc a b c yAre)) : wpY_mean post (yHit, yBox, yOne, yTwo, yThr, yAre, yWa, yWb, yWc, yCol, yDep, yMrk, yPat, yCX, yCY, yCD, yCC, yCU, yCV, yRul) a b c := by
  unfold wpY_mean wY_mean_15
  exact br_f hv ⟨hv, h⟩
theorem yw_win {post : Int32 → Prop} {b x y : Nat} (hb : b < 65536) (hx : x < 16) (hy : y < 16) (h : post (pr_b (pr_wn b x y))) : wpY_isInWindow post (yHit, nI b, yOne, yTwo, yThr, yAre, yWa, yWb, yWc, yCol, yDep, yMrk, yPat, yCX, yCY, yCD, yCC, yCU, yCV, yRul) (nI x) (nI y) := by
  have e1 : nI b / 4096 = nI (b / 4096) := pk_div (d := 4096) (by omega) (by decide) (by decide)
  have e2 : (nI b / 256) - (nI b / 256) / 16 * 16 = nI (b / 256 % 16) := by
    rw [show nI b / 256 = nI (b / 256) from pk_div (d := 256) (by omega) (by decide) (by decide)]
    exact pk_rem (d := 16) (by omega) (by decide) (by decide)
  have e3 : (nI b / 16) - (nI b / 16) / 16 * 16 = nI (b / 16 % 16) := by
    rw [show nI b / 16 = nI (b / 16) from pk_div (d := 16) (by omega) (by decide) (by decide)]
    exact pk_rem (d := 16) (by omega) (by decide) (by decide)
  have e4 : nI b - nI b / 16 * 16 = nI (b % 16) := pk_rem (d := 16) (by omega) (by decide) (by decide)
  unfold wpY_isInWindow
  dsimp only
  rw [e1, e2, e3, e4]
  refine ⟨by decide, pk_lt x (b / 4096) (fun t => ?_) (fun t => ⟨by decide, by decide, pk_lt (b / 256 % 16) x (fun t2 => ?_) (fun t2 => ⟨by decide, by decide, pk_lt y (b / 16 % 16) (fun t3 => ?_) (fun t3 => ⟨by decide, pk_lt (b % 16) y (fun t4 => ?_) (fun t4 => ?_)⟩)⟩)⟩)⟩
  · rw [show pr_wn b x y = false from decide_eq_false (by omega)] at h; exact h
  · rw [show pr_wn b x y = false from decide_eq_false (by omega)] at h; exact h
  · rw [show pr_wn b x y = false from decide_eq_false (by omega)] at h; exact h
  · rw [show pr_wn b x y = false from decide_eq_false (by omega)] at h; exact h
  · rw [show pr_wn b x y = true from decide_eq_true (by omega)] at h; exact h
theorem yw_passes {post : Int32 → Prop} {i : Nat} {d : Int32} (hi : i < 256) (h : post (pr_b (pr_pass (yRul 3) (yRul 5) (yRul 0) (yMrk i) d (yDep i)))) : wpY_passes post (yHit, yBox, yOne, yTwo, yThr, yAre, yWa, yWb, yWc, yCol, yDep, yMrk, yPat, yCX, yCY, yCD, yCC, yCU, yCV, yRul) (nI i) d := by
  have ii : vp_in (nI i) 256 := vp_in_nI hi (by decide)
  have ci : (nI i).toNatClampNeg = i := nI_clamp (by omega)
  unfold pr_pass at h
  have K : ∀ (h1 : ¬ (yRul 3 = 1 ∧ ¬ yMrk i = yRul 5)) (h2 : ¬ (yRul 3 = 2 ∧ yMrk i = yRul 5)), wY_passes_54 post (nI i) d yHit yBox yOne yTwo yThr yAre yWa yWb yWc yCol yDep yMrk yPat yCX yCY yCD yCC yCU yCV yRul := by
    intro h1 h2
    rw [if_neg h1, if_neg h2] at h
    unfold wY_passes_54
    rw [ci]
    refine br_c (fun t => ⟨ii, br_c (fun u => ?_) (fun u => ?_)⟩) (fun t => br_c (fun t3 => ⟨ii, br_c (fun u => ?_) (fun u => ?_)⟩) (fun t3 => br_c (fun t1 => ?_) (fun t1 => ?_)))
    · rw [if_pos t, decide_eq_false (Int32.not_lt.mpr u)] at h; exact h
    · rw [if_pos t, decide_eq_true (Int32.not_le.mp u)] at h; exact h
    · rw [if_neg t, if_pos t3, decide_eq_true u] at h; exact h
    · rw [if_neg t, if_pos t3, decide_eq_false u] at h; exact h
    · rw [if_neg t, if_neg t3, decide_eq_true t1] at h; exact h
    · rw [if_neg t, if_neg t3, decide_eq_false t1] at h; exact h
  unfold wpY_passes
  dsimp only
  unfold wY_passes_27
  rw [ci]
  refine br_c (fun t => ⟨ii, br_c (fun m => br_f (by rw [t]; decide) (K (fun z => z.2 m) (fun z => absurd (t.symm.trans z.1) (by decide)))) (fun m => ?_)⟩) (fun t => br_c (fun t2 => ⟨ii, br_c (fun m => ?_) (fun m => K (fun z => t z.1) (fun z => m z.2))⟩) (fun t2 => K (fun z => t z.1) (fun z => t2 z.1)))
  · rw [if_pos ⟨t, m⟩] at h; exact h
  · rw [if_neg (fun z => t z.1), if_pos ⟨t2, m⟩] at h; exact h
theorem yw_mix {post : Int32 → Prop} {a b : Int32} (h : post (pr_mix (yRul 2) a b)) : wpY_mix post (yHit, yBox, yOne, yTwo, yThr, yAre, yWa, yWb, yWc, yCol, yDep, yMrk, yPat, yCX, yCY, yCD, yCC, yCU, yCV, yRul) a b := by
  unfold pr_mix at h
  unfold wpY_mix
  dsimp only
  refine br_c (fun t => ?_) (fun t => br_c (fun t1 => br_c (fun u => ?_) (fun u => ?_)) (fun t1 => br_c (fun t2 => ⟨by decide, ?_⟩) (fun t2 => br_c (fun t3 => ⟨by decide, ?_⟩) (fun t3 => ?_))))
  · rw [if_pos t] at h; exact h
  · rw [if_neg t, if_pos t1, if_pos u] at h; exact h
  · rw [if_neg t, if_pos t1, if_neg u] at h; exact h
  · rw [if_neg t, if_neg t1, if_pos t2] at h; exact h
  · rw [if_neg t, if_neg t1, if_neg t2, if_pos t3] at h; exact h
  · rw [if_neg t, if_neg t1, if_neg t2, if_neg t3] at h; exact h
theorem yw_part {post : Int32 → Prop} {i A B C x y : Nat} {v sh : Int32} (hi : i < 256) (hA : A < 6) (hB : B < 6) (hC : C < 6) (hv : ¬ v = 0) (hT : pr_ok (pr_tri yCX yCY yCD yCC yCU yCV yBox yRul A B C v)) (hx : x < 16) (hy : y < 16)
    (hc : pr_cov (pr_tri yCX yCY yCD yCC yCU yCV yBox yRul A B C v) (nI x) (nI y) = true) (h : post (pr_part yPat (pr_tri yCX yCY yCD yCC yCU yCV yBox yRul A B C v) (nI x) (nI y) (yCol i) sh)) : wpY_part post (yHit, yBox, nI A, nI B, nI C, v, pr_w0 (pr_tri yCX yCY yCD yCC yCU yCV yBox yRul A B C v) (nI x) (nI y), pr_w1 (pr_tri yCX yCY yCD yCC yCU yCV yBox yRul A B C v) (nI x) (nI y), pr_w2 (pr_tri yCX yCY yCD yCC yCU yCV yBox yRul A B C v) (nI x) (nI y), yCol, yDep, yMrk, yPat, yCX, yCY, yCD, yCC, yCU, yCV, yRul) (nI i) sh := by
  have iA : vp_in (nI A) 6 := vp_in_nI hA (by decide)
  have iB : vp_in (nI B) 6 := vp_in_nI hB (by decide)
  have iC : vp_in (nI C) 6 := vp_in_nI hC (by decide)
  have ii : vp_in (nI i) 256 := vp_in_nI hi (by decide)
  have ci : (nI i).toNatClampNeg = i := nI_clamp (by omega)
  have ic : vp_in (pr_cell (pr_tri yCX yCY yCD yCC yCU yCV yBox yRul A B C v) (nI x) (nI y)) 64 := by
    obtain ⟨j, hj, e⟩ := pr_cellN hT hx hy hc
    rw [e]
    exact vp_in_nI hj (by decide)
  unfold pr_part at h
  unfold wpY_part
  dsimp only
  unfold wY_part_159
  rw [nI_clamp (n := A) (by omega), nI_clamp (n := B) (by omega), nI_clamp (n := C) (by omega), ci]
  refine ⟨iA, iB, iC, ?_⟩
  refine yw_mean hv ?_
  refine br_c (fun t => ⟨iA, iB, iC, ?_⟩) (fun t => ⟨ii, ?_⟩)
  · refine yw_mean hv ⟨by decide, nm_e ⟨iA, iB, iC, ?_⟩⟩
    refine yw_mean hv ⟨by decide, nm_e ⟨ic, by decide, nm_e ⟨ii, ?_⟩⟩⟩
    have o : pr_own yPat (pr_tri yCX yCY yCD yCC yCU yCV yBox yRul A B C v) (nI x) (nI y) sh = (pr_cm (pr_tri yCX yCY yCD yCC yCU yCV yBox yRul A B C v) (nI x) (nI y) sh * pr_sh (yPat (pr_cell (pr_tri yCX yCY yCD yCC yCU yCV yBox yRul A B C v) (nI x) (nI y)).toNatClampNeg) sh) / 255 := if_pos t
    rw [o] at h
    exact yw_mix h
  · have o : pr_own yPat (pr_tri yCX yCY yCD yCC yCU yCV yBox yRul A B C v) (nI x) (nI y) sh = pr_cm (pr_tri yCX yCY yCD yCC yCU yCV yBox yRul A B C v) (nI x) (nI y) sh := if_neg t
    rw [o] at h
    exact yw_mix h
theorem yw_hit {post : SY → Prop} {i A B C : Nat} {v : Int32} {Q : Nat → pr_PX} (hi : i < 256) (hA : A < 6) (hB : B < 6) (hC : C < 6) (hv : ¬ v = 0) (hT : pr_ok (pr_tri yCX yCY yCD yCC yCU yCV yBox yRul A B C v))
    (hc : pr_cov (pr_tri yCX yCY yCD yCC yCU yCV yBox yRul A B C v) (nI (i % 16)) (nI (i / 16)) = true) (h : post (pr_sq (pr_uq Q i (pr_hit yPat (pr_tri yCX yCY yCD yCC yCU yCV yBox yRul A B C v) (nI (i % 16)) (nI (i / 16)) (Q i))), yBox, nI A, nI B, nI C, v, pr_w0 (pr_tri yCX yCY yCD yCC yCU yCV yBox yRul A B C v) (nI (i % 16)) (nI (i / 16)), pr_w1 (pr_tri yCX yCY yCD yCC yCU yCV yBox yRul A B C v) (nI (i % 16)) (nI (i / 16)), pr_w2 (pr_tri yCX yCY yCD yCC yCU yCV yBox yRul A B C v) (nI (i % 16)) (nI (i / 16)), pr_cq (pr_uq Q i (pr_hit yPat (pr_tri yCX yCY yCD yCC yCU yCV yBox yRul A B C v) (nI (i % 16)) (nI (i / 16)) (Q i))), pr_dq (pr_uq Q i (pr_hit yPat (pr_tri yCX yCY yCD yCC yCU yCV yBox yRul A B C v) (nI (i % 16)) (nI (i / 16)) (Q i))), pr_mq (pr_uq Q i (pr_hit yPat (pr_tri yCX yCY yCD yCC yCU yCV yBox yRul A B C v) (nI (i % 16)) (nI (i / 16)) (Q i))), yPat, yCX, yCY, yCD, yCC, yCU, yCV, yRul)) :
    wpY_hit post (pr_sq Q, yBox, nI A, nI B, nI C, v, pr_w0 (pr_tri yCX yCY yCD yCC yCU yCV yBox yRul A B C v) (nI (i % 16)) (nI (i / 16)), pr_w1 (pr_tri yCX yCY yCD yCC yCU yCV yBox yRul A B C v) (nI (i % 16)) (nI (i / 16)), pr_w2 (pr_tri yCX yCY yCD yCC yCU yCV yBox yRul A B C v) (nI (i % 16)) (nI (i / 16)), pr_cq Q, pr_dq Q, pr_mq Q, yPat, yCX, yCY, yCD, yCC, yCU, yCV, yRul) (nI i) (pr_dep (pr_tri yCX yCY yCD yCC yCU yCV yBox yRul A B C v) (nI (i % 16)) (nI (i / 16))) := by
  have ii : vp_in (nI i) 256 := vp_in_nI hi (by decide)
  have ci : (nI i).toNatClampNeg = i := nI_clamp (by omega)
  have hx : i % 16 < 16 := by omega
  have hy : i / 16 < 16 := by omega
  rw [pr_u_c, pr_u_d, pr_u_m, pr_u_s hi rfl] at h
  have H113 : ∀ mk : Nat → Int32, mk = upd (pr_mq Q) i (pr_mark (yRul 4) (yRul 5) (pr_mq Q i)) →
      wY_hit_113 post (nI i) (pr_dep (pr_tri yCX yCY yCD yCC yCU yCV yBox yRul A B C v) (nI (i % 16)) (nI (i / 16))) (pr_part yPat (pr_tri yCX yCY yCD yCC yCU yCV yBox yRul A B C v) (nI (i % 16)) (nI (i / 16)) (pr_cq Q i) 16) (pr_part yPat (pr_tri yCX yCY yCD yCC yCU yCV yBox yRul A B C v) (nI (i % 16)) (nI (i / 16)) (pr_cq Q i) 8) (pr_part yPat (pr_tri yCX yCY yCD yCC yCU yCV yBox yRul A B C v) (nI (i % 16)) (nI (i / 16)) (pr_cq Q i) 0) (pr_sq Q + 1) yBox (nI A) (nI B) (nI C) v (pr_w0 (pr_tri yCX yCY yCD yCC yCU yCV yBox yRul A B C v) (nI (i % 16)) (nI (i / 16))) (pr_w1 (pr_tri yCX yCY yCD yCC yCU yCV yBox yRul A B C v) (nI (i % 16)) (nI (i / 16))) (pr_w2 (pr_tri yCX yCY yCD yCC yCU yCV yBox yRul A B C v) (nI (i % 16)) (nI (i / 16))) (pr_cq Q) (pr_dq Q) mk yPat yCX yCY yCD yCC yCU yCV yRul := by
    intro mk em
    subst em
    unfold wY_hit_113 wY_hit_130
    rw [ci]
    refine br_c (fun t => ⟨ii, nm_e ⟨ii, nm_e ?_⟩⟩) (fun t => ⟨ii, nm_e ?_⟩)
    · have d : (pr_hit yPat (pr_tri yCX yCY yCD yCC yCU yCV yBox yRul A B C v) (nI (i % 16)) (nI (i / 16)) (Q i)).2.1 = pr_dep (pr_tri yCX yCY yCD yCC yCU yCV yBox yRul A B C v) (nI (i % 16)) (nI (i / 16)) := if_pos t
      rw [d] at h
      exact h
    · have d : (pr_hit yPat (pr_tri yCX yCY yCD yCC yCU yCV yBox yRul A B C v) (nI (i % 16)) (nI (i / 16)) (Q i)).2.1 = pr_dq Q i := if_neg t
      rw [d, pr_uu] at h
      exact h
  unfold wpY_hit
  dsimp only
  refine nm_e ?_
  refine yw_part hi hA hB hC hv hT hx hy hc ?_
  refine yw_part hi hA hB hC hv hT hx hy hc ?_
  refine yw_part hi hA hB hC hv hT hx hy hc ?_
  unfold wY_hit_57 wY_hit_84
  rw [ci]
  refine br_c (fun t1 => ⟨ii, nm_e (br_f (by rw [t1]; decide) (br_f (by rw [t1]; decide) (H113 _ ?_)))⟩)
    (fun t1 => br_c (fun t2 => ⟨ii, ii, nm_e (br_f (by rw [t2]; decide) (H113 _ ?_))⟩) (fun t2 => br_c (fun t3 => ⟨ii, ii, nm_e (H113 _ ?_)⟩) (fun t3 => H113 _ ?_)))
  · unfold pr_mark; rw [if_pos t1]
  · unfold pr_mark; rw [if_neg t1, if_pos t2]
  · unfold pr_mark; rw [if_neg t1, if_neg t2, if_pos t3]
  · unfold pr_mark; rw [if_neg t1, if_neg t2, if_neg t3, pr_uu]
end
end
section
def pr_lt (i j : Nat) : Bool := decide (j < i)
section
variable {yHit yBox yOne yTwo yThr yAre yWa yWb yWc : Int32} {yCol yDep yMrk yPat yCX yCY yCD yCC yCU yCV yRul : Nat → Int32}
theorem yw_draw20 {post : Int32 → SY → Prop} {A B C b : Nat} {v : Int32} {Q : Nat → pr_PX} (hA : A < 6) (hB : B < 6) (hC : C < 6) (hv : ¬ v = 0) (hb : b < 65536) (hT : pr_ok (pr_tri yCX yCY yCD yCC yCU yCV (nI b) yRul A B C v))
    (h : ∀ wa wb wc : Int32, post 0 (pr_sq (pr_qs yPat (pr_tri yCX yCY yCD yCC yCU yCV (nI b) yRul A B C v) (pr_lt 256) Q), nI b, nI A, nI B, nI C, v, wa, wb, wc, pr_cq (pr_qs yPat (pr_tri yCX yCY yCD yCC yCU yCV (nI b) yRul A B C v) (pr_lt 256) Q), pr_dq (pr_qs yPat (pr_tri yCX yCY yCD yCC yCU yCV (nI b) yRul A B C v) (pr_lt 256) Q), pr_mq (pr_qs yPat (pr_tri yCX yCY yCD yCC yCU yCV (nI b) yRul A B C v) (pr_lt 256) Q), yPat, yCX, yCY, yCD, yCC, yCU, yCV, yRul)) :
    ∀ (d i n : Nat) (wa wb wc : Int32), i + d = 256 → d < n →
    wY_draw_20 post n (nI i) (pr_sq (pr_qs yPat (pr_tri yCX yCY yCD yCC yCU yCV (nI b) yRul A B C v) (pr_lt i) Q)) (nI b) (nI A) (nI B) (nI C) v wa wb wc (pr_cq (pr_qs yPat (pr_tri yCX yCY yCD yCC yCU yCV (nI b) yRul A B C v) (pr_lt i) Q)) (pr_dq (pr_qs yPat (pr_tri yCX yCY yCD yCC yCU yCV (nI b) yRul A B C v) (pr_lt i) Q)) (pr_mq (pr_qs yPat (pr_tri yCX yCY yCD yCC yCU yCV (nI b) yRul A B C v) (pr_lt i) Q)) yPat yCX yCY yCD yCC yCU yCV yRul := by
  intro d
  induction d with
  | zero =>
    intro i n wa wb wc hd hn
    obtain ⟨m, rfl⟩ : ∃ m, n = m + 1 := ⟨n - 1, by omega⟩
    have e : i = 256 := by omega
    subst e
    exact br_t (by decide) (h wa wb wc)
  | succ d ih =>
    intro i n wa wb wc hd hn
    obtain ⟨m, rfl⟩ : ∃ m, n = m + 1 := ⟨n - 1, by omega⟩
    have hi : i < 256 := by omega
    have iA : vp_in (nI A) 6 := vp_in_nI hA (by decide)
    have iB : vp_in (nI B) 6 := vp_in_nI hB (by decide)
    have iC : vp_in (nI C) 6 := vp_in_nI hC (by decide)
    have e1 : nI i - nI i / 16 * 16 = nI (i % 16) := pk_rem (d := 16) (by omega) (by decide) (by decide)
    have e2 : nI i / 16 = nI (i / 16) := pk_div (d := 16) (by omega) (by decide) (by decide)
    have eq : pr_qs yPat (pr_tri yCX yCY yCD yCC yCU yCV (nI b) yRul A B C v) (pr_lt (i + 1)) Q = pr_uq (pr_qs yPat (pr_tri yCX yCY yCD yCC yCU yCV (nI b) yRul A B C v) (pr_lt i) Q) i (pr_st yPat (pr_tri yCX yCY yCD yCC yCU yCV (nI b) yRul A B C v) i ((pr_qs yPat (pr_tri yCX yCY yCD yCC yCU yCV (nI b) yRul A B C v) (pr_lt i) Q) i)) :=
      pr_qs_put (decide_eq_false (by omega)) (decide_eq_true (by omega)) (fun j hj => decide_eq_decide.mpr (by omega))
    have ew : pr_win (pr_tri yCX yCY yCD yCC yCU yCV (nI b) yRul A B C v) (i % 16) (i / 16) = pr_wn b (i % 16) (i / 16) := by
      show pr_wn (nI b).toNatClampNeg _ _ = _
      rw [nI_clamp (by omega)]
    refine br_f (nI_ge (b := 256) hi (by decide)) ⟨by decide, nm_r e1 ⟨by decide, nm_r e2 ?_⟩⟩
    refine yw_win hb (by omega) (by omega) ?_
    refine pr_br (fun w => nm_r (nI_1 i) ?_) (fun w => ?_)
    · rw [pr_st_no (ew.trans w), pr_u_id] at eq
      have q := ih (i + 1) m wa wb wc (by omega) (by omega)
      rw [eq] at q
      exact q
    · refine yw_covers hA hB hC hv ?_
      refine pr_br (fun c => nm_r (nI_1 i) ?_) (fun c => ?_)
      · rw [pr_st_nc c, pr_u_id] at eq
        have q := ih (i + 1) m (pr_w0 (pr_tri yCX yCY yCD yCC yCU yCV (nI b) yRul A B C v) (nI (i % 16)) (nI (i / 16))) (pr_w1 (pr_tri yCX yCY yCD yCC yCU yCV (nI b) yRul A B C v) (nI (i % 16)) (nI (i / 16))) (pr_w2 (pr_tri yCX yCY yCD yCC yCU yCV (nI b) yRul A B C v) (nI (i % 16)) (nI (i / 16))) (by omega) (by omega)
        rw [eq] at q
        exact q
      · refine ⟨iA, iB, iC, ?_⟩
        rw [nI_clamp (n := A) (by omega), nI_clamp (n := B) (by omega), nI_clamp (n := C) (by omega)]
        refine yw_mean hv ?_
        refine yw_passes hi ?_
        refine pr_br (fun g => nm_r (nI_1 i) ?_) (fun g => ?_)
        · have e : pr_st yPat (pr_tri yCX yCY yCD yCC yCU yCV (nI b) yRul A B C v) i ((pr_qs yPat (pr_tri yCX yCY yCD yCC yCU yCV (nI b) yRul A B C v) (pr_lt i) Q) i) = (pr_qs yPat (pr_tri yCX yCY yCD yCC yCU yCV (nI b) yRul A B C v) (pr_lt i) Q) i := by
            unfold pr_st
            rw [show pr_ps (pr_tri yCX yCY yCD yCC yCU yCV (nI b) yRul A B C v) (nI (i % 16)) (nI (i / 16)) ((pr_qs yPat (pr_tri yCX yCY yCD yCC yCU yCV (nI b) yRul A B C v) (pr_lt i) Q) i) = false from g, Bool.and_false, Bool.and_false]
            exact if_neg (by decide)
          rw [e, pr_u_id] at eq
          have q := ih (i + 1) m (pr_w0 (pr_tri yCX yCY yCD yCC yCU yCV (nI b) yRul A B C v) (nI (i % 16)) (nI (i / 16))) (pr_w1 (pr_tri yCX yCY yCD yCC yCU yCV (nI b) yRul A B C v) (nI (i % 16)) (nI (i / 16))) (pr_w2 (pr_tri yCX yCY yCD yCC yCU yCV (nI b) yRul A B C v) (nI (i % 16)) (nI (i / 16))) (by omega) (by omega)
          rw [eq] at q
          exact q
        · have e : pr_st yPat (pr_tri yCX yCY yCD yCC yCU yCV (nI b) yRul A B C v) i ((pr_qs yPat (pr_tri yCX yCY yCD yCC yCU yCV (nI b) yRul A B C v) (pr_lt i) Q) i) = pr_hit yPat (pr_tri yCX yCY yCD yCC yCU yCV (nI b) yRul A B C v) (nI (i % 16)) (nI (i / 16)) ((pr_qs yPat (pr_tri yCX yCY yCD yCC yCU yCV (nI b) yRul A B C v) (pr_lt i) Q) i) := by
            unfold pr_st
            rw [show pr_ps (pr_tri yCX yCY yCD yCC yCU yCV (nI b) yRul A B C v) (nI (i % 16)) (nI (i / 16)) ((pr_qs yPat (pr_tri yCX yCY yCD yCC yCU yCV (nI b) yRul A B C v) (pr_lt i) Q) i) = true from g, c, ew, w]
            exact if_pos rfl
          rw [e] at eq
          refine yw_hit hi hA hB hC hv hT c (nm_r (nI_1 i) ?_)
          have q := ih (i + 1) m (pr_w0 (pr_tri yCX yCY yCD yCC yCU yCV (nI b) yRul A B C v) (nI (i % 16)) (nI (i / 16))) (pr_w1 (pr_tri yCX yCY yCD yCC yCU yCV (nI b) yRul A B C v) (nI (i % 16)) (nI (i / 16))) (pr_w2 (pr_tri yCX yCY yCD yCC yCU yCV (nI b) yRul A B C v) (nI (i % 16)) (nI (i / 16))) (by omega) (by omega)
          rw [eq] at q
          exact q
theorem yw_draw0 {post : Int32 → SY → Prop} {b : Nat} (hb : b < 65536) (h : post 0 (yHit, nI b, yOne, yTwo, yThr, 0, yWa, yWb, yWc, yCol, yDep, yMrk, yPat, yCX, yCY, yCD, yCC, yCU, yCV, yRul)) :
    ∀ (d i n : Nat), i + d = 256 → d < n → wY_draw_20 post n (nI i) yHit (nI b) yOne yTwo yThr 0 yWa yWb yWc yCol yDep yMrk yPat yCX yCY yCD yCC yCU yCV yRul := by
  intro d
  induction d with
  | zero =>
    intro i n hd hn
    obtain ⟨m, rfl⟩ : ∃ m, n = m + 1 := ⟨n - 1, by omega⟩
    have e : i = 256 := by omega
    subst e
    exact br_t (by decide) h
  | succ d ih =>
    intro i n hd hn
    obtain ⟨m, rfl⟩ : ∃ m, n = m + 1 := ⟨n - 1, by omega⟩
    have hi : i < 256 := by omega
    have e1 : nI i - nI i / 16 * 16 = nI (i % 16) := pk_rem (d := 16) (by omega) (by decide) (by decide)
    have e2 : nI i / 16 = nI (i / 16) := pk_div (d := 16) (by omega) (by decide) (by decide)
    have q := ih (i + 1) m (by omega) (by omega)
    refine br_f (nI_ge (b := 256) hi (by decide)) ⟨by decide, nm_r e1 ⟨by decide, nm_r e2 ?_⟩⟩
    refine yw_win hb (by omega) (by omega) ?_
    refine pr_br (fun w => nm_r (nI_1 i) q) (fun w => ?_)
    unfold wpY_covers
    exact br_t rfl (br_t rfl (nm_r (nI_1 i) q))
def pr_cnt (T : Nat → Int32) : Nat → Int32
  | 0 => 0
  | k + 1 => pr_cnt T k + pr_b (pr_cov T (nI (k % 16)) (nI (k / 16)))
theorem yw_cov22 {post : Int32 → SY → Prop} {A B C : Nat} {v : Int32} (hA : A < 6) (hB : B < 6) (hC : C < 6) (hv : ¬ v = 0)
    (h : ∀ wa wb wc : Int32, post (pr_cnt (pr_tri yCX yCY yCD yCC yCU yCV yBox yRul A B C v) 256) (yHit, yBox, nI A, nI B, nI C, v, wa, wb, wc, yCol, yDep, yMrk, yPat, yCX, yCY, yCD, yCC, yCU, yCV, yRul)) :
    ∀ (d i n : Nat) (wa wb wc : Int32), i + d = 256 → d < n → wY_covered_22 post n (pr_cnt (pr_tri yCX yCY yCD yCC yCU yCV yBox yRul A B C v) i) (nI i) yHit yBox (nI A) (nI B) (nI C) v wa wb wc yCol yDep yMrk yPat yCX yCY yCD yCC yCU yCV yRul := by
  intro d
  induction d with
  | zero =>
    intro i n wa wb wc hd hn
    obtain ⟨m, rfl⟩ : ∃ m, n = m + 1 := ⟨n - 1, by omega⟩
    have e : i = 256 := by omega
    subst e
    exact br_t (by decide) (h wa wb wc)
  | succ d ih =>
    intro i n wa wb wc hd hn
    obtain ⟨m, rfl⟩ : ∃ m, n = m + 1 := ⟨n - 1, by omega⟩
    have hi : i < 256 := by omega
    have e1 : nI i - nI i / 16 * 16 = nI (i % 16) := pk_rem (d := 16) (by omega) (by decide) (by decide)
    have e2 : nI i / 16 = nI (i / 16) := pk_div (d := 16) (by omega) (by decide) (by decide)
    refine br_f (nI_ge (b := 256) hi (by decide)) ⟨by decide, by decide, ?_⟩
    rw [e1, e2]
    refine yw_covers hA hB hC hv ?_
    have q := ih (i + 1) m (pr_w0 (pr_tri yCX yCY yCD yCC yCU yCV yBox yRul A B C v) (nI (i % 16)) (nI (i / 16))) (pr_w1 (pr_tri yCX yCY yCD yCC yCU yCV yBox yRul A B C v) (nI (i % 16)) (nI (i / 16))) (pr_w2 (pr_tri yCX yCY yCD yCC yCU yCV yBox yRul A B C v) (nI (i % 16)) (nI (i / 16))) (by omega) (by omega)
    have s : pr_cnt (pr_tri yCX yCY yCD yCC yCU yCV yBox yRul A B C v) (i + 1) = pr_cnt (pr_tri yCX yCY yCD yCC yCU yCV yBox yRul A B C v) i + pr_b (pr_cov (pr_tri yCX yCY yCD yCC yCU yCV yBox yRul A B C v) (nI (i % 16)) (nI (i / 16))) := rfl
    rw [s] at q
    refine pr_br (fun c => nm_r (nI_1 i) ?_) (fun c => nm_e (nm_r (nI_1 i) ?_))
    · rw [c, show pr_b false = 0 from rfl, Int32.add_zero] at q
      exact q
    · rw [c, show pr_b true = 1 from rfl] at q
      exact q
theorem yw_cov0 {post : Int32 → SY → Prop} (h : post 0 (yHit, yBox, yOne, yTwo, yThr, 0, yWa, yWb, yWc, yCol, yDep, yMrk, yPat, yCX, yCY, yCD, yCC, yCU, yCV, yRul)) : ∀ (d i n : Nat), i + d = 256 → d < n → wY_covered_22 post n 0 (nI i) yHit yBox yOne yTwo yThr 0 yWa yWb yWc yCol yDep yMrk yPat yCX yCY yCD yCC yCU yCV yRul := by
  intro d
  induction d with
  | zero =>
    intro i n hd hn
    obtain ⟨m, rfl⟩ : ∃ m, n = m + 1 := ⟨n - 1, by omega⟩
    have e : i = 256 := by omega
    subst e
    exact br_t (by decide) h
  | succ d ih =>
    intro i n hd hn
    obtain ⟨m, rfl⟩ : ∃ m, n = m + 1 := ⟨n - 1, by omega⟩
    have hi : i < 256 := by omega
    have q := ih (i + 1) m (by omega) (by omega)
    refine br_f (nI_ge (b := 256) hi (by decide)) ⟨by decide, by decide, ?_⟩
    unfold wpY_covers
    exact br_t rfl (br_t rfl (nm_r (nI_1 i) q))
def pr_dig (c d m : Nat → Int32) : Nat → Int32
  | 0 => 0
  | k + 1 => pr_dig c d m k + ((nI k + 1) * ((c k + (3 * d k)) + (7 * m k)))
theorem yw_digest {post : Int32 → Prop} (h : post (pr_dig yCol yDep yMrk 256)) : wpY_digest post (yHit, yBox, yOne, yTwo, yThr, yAre, yWa, yWb, yWc, yCol, yDep, yMrk, yPat, yCX, yCY, yCD, yCC, yCU, yCV, yRul) := by
  have G : ∀ d i n : Nat, i + d = 256 → d < n → wY_digest_4 post yHit yBox yOne yTwo yThr yAre yWa yWb yWc yCol yDep yMrk yPat yCX yCY yCD yCC yCU yCV yRul n (pr_dig yCol yDep yMrk i) (nI i) := by
    intro d
    induction d with
    | zero =>
      intro i n hd hn
      obtain ⟨m, rfl⟩ : ∃ m, n = m + 1 := ⟨n - 1, by omega⟩
      have e : i = 256 := by omega
      subst e
      exact br_t (by decide) h
    | succ d ih =>
      intro i n hd hn
      obtain ⟨m, rfl⟩ : ∃ m, n = m + 1 := ⟨n - 1, by omega⟩
      have hi : i < 256 := by omega
      have ii : vp_in (nI i) 256 := vp_in_nI hi (by decide)
      have ci : (nI i).toNatClampNeg = i := nI_clamp (by omega)
      refine br_f (nI_ge (b := 256) hi (by decide)) ⟨ii, ii, ii, nm_r (e' := pr_dig yCol yDep yMrk (i + 1)) (by rw [ci]; rfl) (nm_r (nI_1 i) (ih (i + 1) m (by omega) (by omega)))⟩
  exact ⟨257, G 256 0 257 rfl (by decide)⟩
end
section
variable {xBox xHit xRec xFar : Int32} {xCol xDep xMrk xPat xCX xCY xCD xCC xCU xCV xRul xRX xRY xRD xRC xRU xRV xRB xRR xRA xSX xSY xTE xAZ xSd xCh : Nat → Int32}
theorem xw_digest8 {post : Int32 → SX → Prop} (h : post (pr_dig xCol xDep xMrk 256) (xBox, xHit, xRec, xFar, xCol, xDep, xMrk, xPat, xCX, xCY, xCD, xCC, xCU, xCV, xRul, xRX, xRY, xRD, xRC, xRU, xRV, xRB, xRR, xRA, xSX, xSY, xTE, xAZ, xSd, xCh)) : ∃ n, wX_digest_8 post xBox xHit xRec xFar xCol xDep xMrk xPat xCX xCY xCD xCC xCU xCV xRul xRX xRY xRD xRC xRU xRV xRB xRR xRA xSX xSY xTE xAZ xSd xCh n 0 0 := by
  have G : ∀ d i n : Nat, i + d = 256 → d < n → wX_digest_8 post xBox xHit xRec xFar xCol xDep xMrk xPat xCX xCY xCD xCC xCU xCV xRul xRX xRY xRD xRC xRU xRV xRB xRR xRA xSX xSY xTE xAZ xSd xCh n (pr_dig xCol xDep xMrk i) (nI i) := by
    intro d
    induction d with
    | zero =>
      intro i n hd hn
      obtain ⟨m, rfl⟩ : ∃ m, n = m + 1 := ⟨n - 1, by omega⟩
      have e : i = 256 := by omega
      subst e
      exact br_t (by decide) h
    | succ d ih =>
      intro i n hd hn
      obtain ⟨m, rfl⟩ : ∃ m, n = m + 1 := ⟨n - 1, by omega⟩
      have hi : i < 256 := by omega
      have ii : vp_in (nI i) 256 := vp_in_nI hi (by decide)
      have ci : (nI i).toNatClampNeg = i := nI_clamp (by omega)
      refine br_f (nI_ge (b := 256) hi (by decide)) ⟨ii, ii, ii, nm_r (e' := pr_dig xCol xDep xMrk (i + 1)) (by rw [ci]; rfl) (nm_r (nI_1 i) (ih (i + 1) m (by omega) (by omega)))⟩
  exact ⟨257, G 256 0 257 rfl (by decide)⟩
theorem xw_cov61 {post : Int32 → SX → Prop} {J : Int32 → Int32 → Int32 → Int32 → Int32 → Int32 → (Nat → Int32) → (Nat → Int32) → (Nat → Int32) → (Nat → Int32) → (Nat → Int32) → (Nat → Int32) → (Nat → Int32) → (Nat → Int32) → (Nat → Int32) → (Nat → Int32) → (Nat → Int32) → (Nat → Int32) → (Nat → Int32) → (Nat → Int32) → (Nat → Int32) → (Nat → Int32) → (Nat → Int32) → (Nat → Int32) → (Nat → Int32) → (Nat → Int32) → (Nat → Int32) → (Nat → Int32) → (Nat → Int32) → (Nat → Int32) → (Nat → Int32) → (Nat → Int32) → Prop} {T : Nat → Int32} {y : Nat} (hy : y < 16) (hT : ∀ k, k < 6 → -64 ≤ (T k).toInt ∧ (T k).toInt ≤ 319) (hE : pr_ed T xSX xSY xTE xAZ)
    (h : ∀ sd : Nat → Int32, J (pr_cnt T (16 * (y + 1))) (nI (y + 1)) xBox xHit xRec xFar xCol xDep xMrk xPat xCX xCY xCD xCC xCU xCV xRul xRX xRY xRD xRC xRU xRV xRB xRR xRA xSX xSY xTE xAZ sd xCh) :
    ∀ (d x n : Nat) (sd : Nat → Int32), x + d = 16 → d < n → (sd 0 = pr_w0 T (nI x) (nI y) ∧ sd 1 = pr_w1 T (nI x) (nI y) ∧ sd 2 = pr_w2 T (nI x) (nI y)) →
    wX_covered_61 post J (nI y) n (pr_cnt T (16 * y + x)) (nI x) xBox xHit xRec xFar xCol xDep xMrk xPat xCX xCY xCD xCC xCU xCV xRul xRX xRY xRD xRC xRU xRV xRB xRR xRA xSX xSY xTE xAZ sd xCh := by
  intro d
  induction d with
  | zero =>
    intro x n sd hd hn hs
    obtain ⟨m, rfl⟩ : ∃ m, n = m + 1 := ⟨n - 1, by omega⟩
    have e : x = 16 := by omega
    subst e
    refine br_t (by decide) (nm_r (nI_1 y) ?_)
    have q := h sd
    rw [show 16 * (y + 1) = 16 * y + 16 by omega] at q
    exact q
  | succ d ih =>
    intro x n sd hd hn hs
    obtain ⟨m, rfl⟩ : ∃ m, n = m + 1 := ⟨n - 1, by omega⟩
    have s : pr_cnt T (16 * y + (x + 1)) = pr_cnt T (16 * y + x) + pr_b (pr_cov T (nI x) (nI y)) := by
      show pr_cnt T (16 * y + x) + pr_b (pr_cov T (nI ((16 * y + x) % 16)) (nI ((16 * y + x) / 16))) = _
      rw [show (16 * y + x) % 16 = x by omega, show (16 * y + x) / 16 = y by omega]
    refine br_f (nI_ge (b := 16) (by omega) (by decide)) ?_
    refine xw_cov hT hE hs (fun hc => br_t rfl ?_) (fun hc => br_f (by decide) ?_)
    · unfold wX_covered_81
      refine nm_r (e' := pr_cnt T (16 * y + (x + 1))) (by rw [s, hc]; rfl) ?_
      refine xw_goOn hE hs (fun sd' hs' => nm_r (nI_1 x) ?_)
      exact ih (x + 1) m sd' (by omega) (by omega) hs'
    · unfold wX_covered_81
      refine nm_r (e' := pr_cnt T (16 * y + (x + 1))) (by rw [s, hc]; rfl) ?_
      refine xw_goOn hE hs (fun sd' hs' => nm_r (nI_1 x) ?_)
      exact ih (x + 1) m sd' (by omega) (by omega) hs'
theorem xw_cov44 {post : Int32 → SX → Prop} {T : Nat → Int32} (hT : ∀ k, k < 6 → -64 ≤ (T k).toInt ∧ (T k).toInt ≤ 319) (hE : pr_ed T xSX xSY xTE xAZ)
    (h : ∀ sd : Nat → Int32, post (pr_cnt T 256) (xBox, xHit, xRec, xFar, xCol, xDep, xMrk, xPat, xCX, xCY, xCD, xCC, xCU, xCV, xRul, xRX, xRY, xRD, xRC, xRU, xRV, xRB, xRR, xRA, xSX, xSY, xTE, xAZ, sd, xCh)) :
    ∀ (d y n : Nat) (sd : Nat → Int32), y + d = 16 → d < n → wX_covered_44 post n (pr_cnt T (16 * y)) (nI y) xBox xHit xRec xFar xCol xDep xMrk xPat xCX xCY xCD xCC xCU xCV xRul xRX xRY xRD xRC xRU xRV xRB xRR xRA xSX xSY xTE xAZ sd xCh := by
  intro d
  induction d with
  | zero =>
    intro y n sd hd hn
    obtain ⟨m, rfl⟩ : ∃ m, n = m + 1 := ⟨n - 1, by omega⟩
    have e : y = 16 := by omega
    subst e
    exact br_t (by decide) (h sd)
  | succ d ih =>
    intro y n sd hd hn
    obtain ⟨m, rfl⟩ : ∃ m, n = m + 1 := ⟨n - 1, by omega⟩
    refine br_f (nI_ge (b := 16) (by omega) (by decide)) ?_
    refine xw_goTo hE (fun sd' hs' => ⟨17, ?_⟩)
    exact xw_cov61 (by omega) hT hE (fun sd2 => ih (y + 1) m sd2 (by omega) (by omega)) 16 0 17 sd' rfl (by decide) hs'
end
end
section
def rl_F (xBox : Int32) (xCX xCY xCD xCU xCV xRul xRX xRY xRD xRC xRU xRV xRB xRR xRA : Nat → Int32) (N : Nat) (TT : Nat → Nat → Int32) (Q : Nat → pr_PX) : Prop :=
  N ≤ 12 ∧ (∀ r, r < N → pr_rec xRX xRY xRD xRC xRU xRV xRB xRR xRA r (TT r) ∧ pr_ok (TT r)) ∧ (∀ j, pr_cr (Q j).1) ∧ pr_good xCX xCY xCD xCU xCV xBox xRul
def i_Rel (k : Nat) (u : SX) (v : SY) : Prop := ∃ (xBox : Int32) (xFar : Int32) (xPat : Nat → Int32) (xCX : Nat → Int32) (xCY : Nat → Int32) (xCD : Nat → Int32) (xCC : Nat → Int32) (xCU : Nat → Int32) (xCV : Nat → Int32) (xRul : Nat → Int32) (xRX : Nat → Int32) (xRY : Nat → Int32) (xRD : Nat → Int32) (xRC : Nat → Int32) (xRU : Nat → Int32) (xRV : Nat → Int32) (xRB : Nat → Int32) (xRR : Nat → Int32) (xRA : Nat → Int32) (xSX : Nat → Int32) (xSY : Nat → Int32) (xTE : Nat → Int32) (xAZ : Nat → Int32) (xSd : Nat → Int32) (xCh : Nat → Int32) (N : Nat) (TT : Nat → Nat → Int32) (Q : Nat → pr_PX) (yOne yTwo yThr yAre yWa yWb yWc : Int32), u = (xBox, pr_sq Q, nI N, xFar, pr_cq Q, pr_dq Q, pr_mq Q, xPat, xCX, xCY, xCD, xCC, xCU, xCV, xRul, xRX, xRY, xRD, xRC, xRU, xRV, xRB, xRR, xRA, xSX, xSY, xTE, xAZ, xSd, xCh) ∧ v = (pr_sq (pr_aq xPat TT N Q), xBox, yOne, yTwo, yThr, yAre, yWa, yWb, yWc, pr_cq (pr_aq xPat TT N Q), pr_dq (pr_aq xPat TT N Q), pr_mq (pr_aq xPat TT N Q), xPat, xCX, xCY, xCD, xCC, xCU, xCV, xRul) ∧ rl_F xBox xCX xCY xCD xCU xCV xRul xRX xRY xRD xRC xRU xRV xRB xRR xRA N TT Q
theorem rl_el {k : Nat} {u : SX} {v : SY} {P : SX → SY → Prop} (h : ∀ (xBox : Int32) (xFar : Int32) (xPat : Nat → Int32) (xCX : Nat → Int32) (xCY : Nat → Int32) (xCD : Nat → Int32) (xCC : Nat → Int32) (xCU : Nat → Int32) (xCV : Nat → Int32) (xRul : Nat → Int32) (xRX : Nat → Int32) (xRY : Nat → Int32) (xRD : Nat → Int32) (xRC : Nat → Int32) (xRU : Nat → Int32) (xRV : Nat → Int32) (xRB : Nat → Int32) (xRR : Nat → Int32) (xRA : Nat → Int32) (xSX : Nat → Int32) (xSY : Nat → Int32) (xTE : Nat → Int32) (xAZ : Nat → Int32) (xSd : Nat → Int32) (xCh : Nat → Int32) (N : Nat) (TT : Nat → Nat → Int32) (Q : Nat → pr_PX) (yOne yTwo yThr yAre yWa yWb yWc : Int32), rl_F xBox xCX xCY xCD xCU xCV xRul xRX xRY xRD xRC xRU xRV xRB xRR xRA N TT Q → P ((xBox, pr_sq Q, nI N, xFar, pr_cq Q, pr_dq Q, pr_mq Q, xPat, xCX, xCY, xCD, xCC, xCU, xCV, xRul, xRX, xRY, xRD, xRC, xRU, xRV, xRB, xRR, xRA, xSX, xSY, xTE, xAZ, xSd, xCh)) ((pr_sq (pr_aq xPat TT N Q), xBox, yOne, yTwo, yThr, yAre, yWa, yWb, yWc, pr_cq (pr_aq xPat TT N Q), pr_dq (pr_aq xPat TT N Q), pr_mq (pr_aq xPat TT N Q), xPat, xCX, xCY, xCD, xCC, xCU, xCV, xRul))) (I : i_Rel k u v) : P u v :=
  Exists.elim I fun xBox I => Exists.elim I fun xFar I => Exists.elim I fun xPat I => Exists.elim I fun xCX I => Exists.elim I fun xCY I => Exists.elim I fun xCD I => Exists.elim I fun xCC I => Exists.elim I fun xCU I => Exists.elim I fun xCV I => Exists.elim I fun xRul I => Exists.elim I fun xRX I => Exists.elim I fun xRY I => Exists.elim I fun xRD I => Exists.elim I fun xRC I => Exists.elim I fun xRU I => Exists.elim I fun xRV I => Exists.elim I fun xRB I => Exists.elim I fun xRR I => Exists.elim I fun xRA I => Exists.elim I fun xSX I => Exists.elim I fun xSY I => Exists.elim I fun xTE I => Exists.elim I fun xAZ I => Exists.elim I fun xSd I => Exists.elim I fun xCh I => Exists.elim I fun N I => Exists.elim I fun TT I => Exists.elim I fun Q I => Exists.elim I fun yOne I => Exists.elim I fun yTwo I => Exists.elim I fun yThr I => Exists.elim I fun yAre I => Exists.elim I fun yWa I => Exists.elim I fun yWb I => Exists.elim I fun yWc I => by
    rcases I with ⟨rfl, rfl, f⟩
    exact h xBox xFar xPat xCX xCY xCD xCC xCU xCV xRul xRX xRY xRD xRC xRU xRV xRB xRR xRA xSX xSY xTE xAZ xSd xCh N TT Q yOne yTwo yThr yAre yWa yWb yWc f
theorem rl_in {k : Nat} (xBox xFar : Int32) (xPat xCX xCY xCD xCC xCU xCV xRul xRX xRY xRD xRC xRU xRV xRB xRR xRA xSX xSY xTE xAZ xSd xCh : Nat → Int32) (N : Nat) (TT : Nat → Nat → Int32) (Q : Nat → pr_PX) (yOne yTwo yThr yAre yWa yWb yWc : Int32)
    (h : rl_F xBox xCX xCY xCD xCU xCV xRul xRX xRY xRD xRC xRU xRV xRB xRR xRA N TT Q) : i_Rel k ((xBox, pr_sq Q, nI N, xFar, pr_cq Q, pr_dq Q, pr_mq Q, xPat, xCX, xCY, xCD, xCC, xCU, xCV, xRul, xRX, xRY, xRD, xRC, xRU, xRV, xRB, xRR, xRA, xSX, xSY, xTE, xAZ, xSd, xCh)) ((pr_sq (pr_aq xPat TT N Q), xBox, yOne, yTwo, yThr, yAre, yWa, yWb, yWc, pr_cq (pr_aq xPat TT N Q), pr_dq (pr_aq xPat TT N Q), pr_mq (pr_aq xPat TT N Q), xPat, xCX, xCY, xCD, xCC, xCU, xCV, xRul)) := ⟨xBox, xFar, xPat, xCX, xCY, xCD, xCC, xCU, xCV, xRul, xRX, xRY, xRD, xRC, xRU, xRV, xRB, xRR, xRA, xSX, xSY, xTE, xAZ, xSd, xCh, N, TT, Q, yOne, yTwo, yThr, yAre, yWa, yWb, yWc, rfl, rfl, h⟩
theorem rl_in0 {k : Nat} (xBox xFar : Int32) (xPat xCX xCY xCD xCC xCU xCV xRul xRX xRY xRD xRC xRU xRV xRB xRR xRA xSX xSY xTE xAZ xSd xCh : Nat → Int32) (Q : Nat → pr_PX) (yOne yTwo yThr yAre yWa yWb yWc : Int32)
    (hQ : ∀ j, pr_cr (Q j).1) (hg : pr_good xCX xCY xCD xCU xCV xBox xRul) :
    i_Rel k (xBox, pr_sq Q, 0, xFar, pr_cq Q, pr_dq Q, pr_mq Q, xPat, xCX, xCY, xCD, xCC, xCU, xCV, xRul, xRX, xRY, xRD, xRC, xRU, xRV, xRB, xRR, xRA, xSX, xSY, xTE, xAZ, xSd, xCh) (pr_sq Q, xBox, yOne, yTwo, yThr, yAre, yWa, yWb, yWc, pr_cq Q, pr_dq Q, pr_mq Q, xPat, xCX, xCY, xCD, xCC, xCU, xCV, xRul) := by
  have q := rl_in (k := k) xBox xFar xPat xCX xCY xCD xCC xCU xCV xRul xRX xRY xRD xRC xRU xRV xRB xRR xRA xSX xSY xTE xAZ xSd xCh 0 (fun _ _ => 0) Q yOne yTwo yThr yAre yWa yWb yWc ⟨by decide, fun r hr => absurd hr (Nat.not_lt_zero r), hQ, hg⟩
  rw [pr_aq_0] at q
  exact q
theorem i_up {k : Nat} {u : SX} {v : SY} (h : i_Rel k u v) : i_Rel (k + 5) u v := h
theorem bd_lt1 {x y : Int32} {A B : Prop} (n : Nat) (hn : n + 1 < 2 ^ 31) (h : x < 0 ∨ nI (n + 1) ≤ x) (a : A) (hy : y = nI n := by rfl) : (x < 0 → A) ∧ (¬ x < 0 → ((y < x → A) ∧ (¬ y < x → B))) := by
  by_cases z : x < 0
  · exact br_t z a
  · obtain ⟨j, hj, rfl⟩ := nI_of z
    have h2 : n + 1 ≤ j := (nI_leI hn hj).mp (h.resolve_left z)
    exact br_f z (br_t (by rw [hy]; exact nI_lt (by omega) hj) a)
theorem bd_lt0 {y : Int32} {A B : Prop} {j : Nat} (n : Nat) (hn : n + 1 < 2 ^ 31) (h : j < n + 1) (b : B) (hy : y = nI n := by rfl) : (nI j < 0 → A) ∧ (¬ nI j < 0 → ((y < nI j → A) ∧ (¬ y < nI j → B))) :=
  br_f (nI_pos (by omega)) (br_f (by rw [hy]; exact nI_nlt (by omega) (by omega)) b)
theorem bd_le1 {x y : Int32} {A B : Prop} (n : Nat) (hn : n + 1 < 2 ^ 31) (h : x < 0 ∨ nI (n + 1) ≤ x) (a : A) (hy : y = nI n := by rfl) : (x < 0 → A) ∧ (¬ x < 0 → ((x ≤ y → B) ∧ (¬ x ≤ y → A))) := by
  by_cases z : x < 0
  · exact br_t z a
  · obtain ⟨j, hj, rfl⟩ := nI_of z
    have h2 : n + 1 ≤ j := (nI_leI hn hj).mp (h.resolve_left z)
    exact br_f z (br_f (by rw [hy]; exact nI_ge (by omega) hj) a)
theorem bd_le0 {y : Int32} {A B : Prop} {j : Nat} (n : Nat) (hn : n + 1 < 2 ^ 31) (h : j < n + 1) (b : B) (hy : y = nI n := by rfl) : (nI j < 0 → A) ∧ (¬ nI j < 0 → ((nI j ≤ y → B) ∧ (¬ nI j ≤ y → A))) :=
  br_f (nI_pos (by omega)) (br_t (by rw [hy]; exact nI_le (by omega) (by omega)) b)
def bd_no (x : Int32) (n : Nat) : Prop := x < 0 ∨ nI n ≤ x
theorem bd_ix (x : Int32) (n : Nat) (hn : n < 2 ^ 31) : bd_no x n ∨ ∃ j : Nat, j < n ∧ x = nI j := by
  rcases pk_ix x hn with a | a | a
  · exact Or.inl (Or.inl a)
  · exact Or.inl (Or.inr a)
  · exact Or.inr a
theorem pr_good_up {cX cY cD cU cV : Nat → Int32} {box : Int32} {rul : Nat → Int32} {c : Nat} {x y d : Int32} (h : pr_good cX cY cD cU cV box rul)
    (hx : -64 ≤ x.toInt ∧ x.toInt ≤ 319) (hy : -64 ≤ y.toInt ∧ y.toInt ≤ 319) (hd : 0 ≤ d.toInt ∧ d.toInt ≤ 255) : pr_good (upd cX c x) (upd cY c y) (upd cD c d) cU cV box rul := by
  obtain ⟨hk, hr⟩ := h
  refine ⟨fun k h6 => ?_, hr⟩
  obtain ⟨a, b, e, f⟩ := hk k h6
  by_cases q : k = c
  · subst q
    rw [pk_us, pk_us, pk_us]
    exact ⟨hx, hy, hd, f⟩
  · rw [pk_un q, pk_un q, pk_un q]
    exact ⟨a, b, e, f⟩
theorem pr_good_uv {cX cY cD cU cV : Nat → Int32} {box : Int32} {rul : Nat → Int32} {c : Nat} {x y : Int32} (h : pr_good cX cY cD cU cV box rul)
    (hx : 0 ≤ x.toInt ∧ x.toInt ≤ 127) (hy : 0 ≤ y.toInt ∧ y.toInt ≤ 127) : pr_good cX cY cD (upd cU c x) (upd cV c y) box rul := by
  obtain ⟨hk, hr⟩ := h
  refine ⟨fun k h6 => ?_, hr⟩
  obtain ⟨a, b, e, f, g⟩ := hk k h6
  by_cases q : k = c
  · subst q
    rw [pk_us, pk_us]
    exact ⟨a, b, e, hx, hy⟩
  · rw [pk_un q, pk_un q]
    exact ⟨a, b, e, f, g⟩
theorem pr_nR {j m : Nat} (h : j ≤ m) (hm : m < 2 ^ 31) : 0 ≤ (nI j).toInt ∧ (nI j).toInt ≤ m := by
  rw [nI_toInt (by omega)]
  omega
section
variable {yHit yBox yOne yTwo yThr yAre yWa yWb yWc : Int32} {yCol yDep yMrk yPat yCX yCY yCD yCC yCU yCV yRul : Nat → Int32}
theorem yw_badCorner1 {post : Int32 → Prop} {x : Int32} (h : bd_no x 6) (hp : post 1) : wpY_badCorner post (yHit, yBox, yOne, yTwo, yThr, yAre, yWa, yWb, yWc, yCol, yDep, yMrk, yPat, yCX, yCY, yCD, yCC, yCU, yCV, yRul) x := bd_le1 5 (by decide) h hp
theorem yw_badCorner0 {post : Int32 → Prop} {j : Nat} (h : j < 6) (hp : post 0) : wpY_badCorner post (yHit, yBox, yOne, yTwo, yThr, yAre, yWa, yWb, yWc, yCol, yDep, yMrk, yPat, yCX, yCY, yCD, yCC, yCU, yCV, yRul) (nI j) := bd_le0 5 (by decide) h hp
theorem yw_badByte1 {post : Int32 → Prop} {x : Int32} (h : bd_no x 256) (hp : post 1) : wpY_badByte post (yHit, yBox, yOne, yTwo, yThr, yAre, yWa, yWb, yWc, yCol, yDep, yMrk, yPat, yCX, yCY, yCD, yCC, yCU, yCV, yRul) x := bd_le1 255 (by decide) h hp
theorem yw_badByte0 {post : Int32 → Prop} {j : Nat} (h : j < 256) (hp : post 0) : wpY_badByte post (yHit, yBox, yOne, yTwo, yThr, yAre, yWa, yWb, yWc, yCol, yDep, yMrk, yPat, yCX, yCY, yCD, yCC, yCU, yCV, yRul) (nI j) := bd_le0 255 (by decide) h hp
theorem yw_badColour1 {post : Int32 → Prop} {x : Int32} (h : bd_no x 16777216) (hp : post 1) : wpY_badColour post (yHit, yBox, yOne, yTwo, yThr, yAre, yWa, yWb, yWc, yCol, yDep, yMrk, yPat, yCX, yCY, yCD, yCC, yCU, yCV, yRul) x := bd_le1 16777215 (by decide) h hp
theorem yw_badColour0 {post : Int32 → Prop} {j : Nat} (h : j < 16777216) (hp : post 0) : wpY_badColour post (yHit, yBox, yOne, yTwo, yThr, yAre, yWa, yWb, yWc, yCol, yDep, yMrk, yPat, yCX, yCY, yCD, yCC, yCU, yCV, yRul) (nI j) := bd_le0 16777215 (by decide) h hp
theorem yw_badPixel1 {post : Int32 → Prop} {x y : Int32} (h : bd_no x 16 ∨ (∃ j, j < 16 ∧ x = nI j) ∧ bd_no y 16) (hp : post 1) : wpY_badPixel post (yHit, yBox, yOne, yTwo, yThr, yAre, yWa, yWb, yWc, yCol, yDep, yMrk, yPat, yCX, yCY, yCD, yCC, yCU, yCV, yRul) x y := by
  rcases h with h | ⟨⟨j, hj, rfl⟩, h⟩
  · exact bd_lt1 15 (by decide) h hp
  · exact bd_lt0 15 (by decide) hj (bd_le1 15 (by decide) h hp)
theorem yw_badPixel0 {post : Int32 → Prop} {x y : Nat} (hx : x < 16) (hy : y < 16) (hp : post 0) : wpY_badPixel post (yHit, yBox, yOne, yTwo, yThr, yAre, yWa, yWb, yWc, yCol, yDep, yMrk, yPat, yCX, yCY, yCD, yCC, yCU, yCV, yRul) (nI x) (nI y) :=
  bd_lt0 15 (by decide) hx (bd_le0 15 (by decide) hy hp)
end
theorem xw_pix1 {post : Int32 → Prop} {x y : Nat} (hx : x < 16) (hy : y < 16) (hp : post 1) : wpX_isPixel post (nI x) (nI y) := by
  unfold wpX_isPixel
  refine xw_in1 (n := 16) hx (by decide) (br_f (by decide) ?_)
  exact xw_in1 (n := 16) hy (by decide) (br_f (by decide) hp)
theorem xw_pix0 {post : Int32 → Prop} {x y : Int32} (h : bd_no x 16 ∨ (∃ j, j < 16 ∧ x = nI j) ∧ bd_no y 16) (hp : post 0) : wpX_isPixel post x y := by
  unfold wpX_isPixel
  rcases h with h | ⟨⟨j, hj, rfl⟩, h⟩
  · exact xw_in0 h (br_t rfl hp)
  · refine xw_in1 (n := 16) hj (by decide) (br_f (by decide) ?_)
    exact xw_in0 h (br_t rfl hp)
end
section
theorem pr_place {p : Nat} (h : p < 147456) : (-64 ≤ ((nI p - nI p / 384 * 384) - 64).toInt ∧ ((nI p - nI p / 384 * 384) - 64).toInt ≤ 319) ∧ (-64 ≤ ((nI p / 384) - 64).toInt ∧ ((nI p / 384) - 64).toInt ≤ 319) := by
  have e1 : nI p - nI p / 384 * 384 = nI (p % 384) := pk_rem (d := 384) (by omega) (by decide) (by decide)
  have e2 : nI p / 384 = nI (p / 384) := pk_div (d := 384) (by omega) (by decide) (by decide)
  rw [e1, e2]
  have a : (nI (p % 384) - nI 64).toInt = ((p % 384 : Nat) : Int) - (64 : Nat) := pk_sub_toInt (by omega) (by decide)
  have b : (nI (p / 384) - nI 64).toInt = ((p / 384 : Nat) : Int) - (64 : Nat) := pk_sub_toInt (by omega) (by decide)
  show (-64 ≤ (nI (p % 384) - nI 64).toInt ∧ (nI (p % 384) - nI 64).toInt ≤ 319) ∧ (-64 ≤ (nI (p / 384) - nI 64).toInt ∧ (nI (p / 384) - nI 64).toInt ≤ 319)
  rw [a, b]
  omega
theorem i_vc_corner {k : Nat} {u : SX} {v : SY} (I : i_Rel k u v) (hk : k + 5 ≤ 2560) (v1 : Int32) (v2 : Int32) (v3 : Int32) (v4 : Int32) : wpX_corner (fun r u' => wpY_corner (fun r' v' => r' = r ∧ i_Rel (k + 5) u' v') v v1 v2 v3 v4) u v1 v2 v3 v4 := by
  refine rl_el (P := fun u v => wpX_corner (fun r u' => wpY_corner (fun r' v' => r' = r ∧ i_Rel (k + 5) u' v') v v1 v2 v3 v4) u v1 v2 v3 v4) ?_ I
  intro xBox xFar xPat xCX xCY xCD xCC xCU xCV xRul xRX xRY xRD xRC xRU xRV xRB xRR xRA xSX xSY xTE xAZ xSd xCh N TT Q yOne yTwo yThr yAre yWa yWb yWc F
  have R := rl_in (k := k + 5) xBox xFar xPat xCX xCY xCD xCC xCU xCV xRul xRX xRY xRD xRC xRU xRV xRB xRR xRA xSX xSY xTE xAZ xSd xCh N TT Q yOne yTwo yThr yAre yWa yWb yWc F
  unfold wpX_corner
  dsimp only
  rcases bd_ix v1 6 (by decide) with a1 | ⟨c, hc, rfl⟩
  · refine xw_in0 a1 (br_t rfl ?_)
    unfold wpY_corner
    dsimp only
    refine yw_badCorner1 a1 (br_f (by decide) ?_)
    exact ⟨rfl, R⟩
  refine xw_in1 (n := 6) hc (by decide) (br_f (by decide) ?_)
  rcases bd_ix v2 147456 (by decide) with a2 | ⟨p, hp, rfl⟩
  · refine xw_in0 a2 (br_t rfl ?_)
    unfold wpY_corner
    dsimp only
    refine yw_badCorner0 hc (br_t rfl ?_)
    exact bd_lt1 147455 (by decide) a2 ⟨rfl, R⟩
  refine xw_in1 (n := 147456) hp (by decide) (br_f (by decide) ?_)
  rcases bd_ix v3 256 (by decide) with a3 | ⟨d, hd, rfl⟩
  · refine xw_in0 a3 (br_t rfl ?_)
    unfold wpY_corner
    dsimp only
    refine yw_badCorner0 hc (br_t rfl ?_)
    refine bd_lt0 147455 (by decide) hp ?_
    refine yw_badByte1 a3 (br_f (by decide) ?_)
    exact ⟨rfl, R⟩
  refine xw_in1 (n := 256) hd (by decide) (br_f (by decide) ?_)
  rcases bd_ix v4 16777216 (by decide) with a4 | ⟨l, hl, rfl⟩
  · refine xw_in0 a4 (br_t rfl ?_)
    unfold wpY_corner
    dsimp only
    refine yw_badCorner0 hc (br_t rfl ?_)
    refine bd_lt0 147455 (by decide) hp ?_
    refine yw_badByte0 hd (br_t rfl ?_)
    refine yw_badColour1 a4 (br_f (by decide) ?_)
    exact ⟨rfl, R⟩
  refine xw_in1 (n := 16777216) hl (by decide) (br_f (by decide) ?_)
  have ic : vp_in (nI c) 6 := vp_in_nI hc (by decide)
  have cc : (nI c).toNatClampNeg = c := nI_clamp (by omega)
  rw [cc]
  refine ⟨by decide, ic, nm_e ⟨by decide, ic, nm_e ⟨ic, nm_e ⟨ic, nm_e ?_⟩⟩⟩⟩
  unfold wpY_corner
  dsimp only
  rw [cc]
  refine yw_badCorner0 hc (br_t rfl ?_)
  refine bd_lt0 147455 (by decide) hp ?_
  refine yw_badByte0 hd (br_t rfl ?_)
  refine yw_badColour0 hl (br_t rfl ?_)
  refine ⟨by decide, ic, nm_e ⟨by decide, ic, nm_e ⟨ic, nm_e ⟨ic, nm_e ⟨rfl, ?_⟩⟩⟩⟩⟩
  obtain ⟨f1, f2, f3, f4⟩ := F
  exact rl_in _ _ _ _ _ _ _ _ _ _ _ _ _ _ _ _ _ _ _ _ _ _ _ _ _ N TT Q _ _ _ _ _ _ _ ⟨f1, f2, f3, pr_good_up f4 (pr_place hp).1 (pr_place hp).2 (pr_nR (m := 255) (by omega) (by decide))⟩
theorem i_vc_aim {k : Nat} {u : SX} {v : SY} (I : i_Rel k u v) (hk : k + 5 ≤ 2560) (v1 : Int32) (v2 : Int32) (v3 : Int32) : wpX_aim (fun r u' => wpY_aim (fun r' v' => r' = r ∧ i_Rel (k + 5) u' v') v v1 v2 v3) u v1 v2 v3 := by
  refine rl_el (P := fun u v => wpX_aim (fun r u' => wpY_aim (fun r' v' => r' = r ∧ i_Rel (k + 5) u' v') v v1 v2 v3) u v1 v2 v3) ?_ I
  intro xBox xFar xPat xCX xCY xCD xCC xCU xCV xRul xRX xRY xRD xRC xRU xRV xRB xRR xRA xSX xSY xTE xAZ xSd xCh N TT Q yOne yTwo yThr yAre yWa yWb yWc F
  have R := rl_in (k := k + 5) xBox xFar xPat xCX xCY xCD xCC xCU xCV xRul xRX xRY xRD xRC xRU xRV xRB xRR xRA xSX xSY xTE xAZ xSd xCh N TT Q yOne yTwo yThr yAre yWa yWb yWc F
  unfold wpX_aim
  dsimp only
  rcases bd_ix v1 6 (by decide) with a1 | ⟨c, hc, rfl⟩
  · refine xw_in0 a1 (br_t rfl ?_)
    unfold wpY_aim
    dsimp only
    refine yw_badCorner1 a1 (br_f (by decide) ?_)
    exact ⟨rfl, R⟩
  refine xw_in1 (n := 6) hc (by decide) (br_f (by decide) ?_)
  rcases bd_ix v2 128 (by decide) with a2 | ⟨p, hp, rfl⟩
  · refine xw_in0 a2 (br_t rfl ?_)
    unfold wpY_aim
    dsimp only
    refine yw_badCorner0 hc (br_t rfl ?_)
    exact bd_lt1 127 (by decide) a2 ⟨rfl, R⟩
  refine xw_in1 (n := 128) hp (by decide) (br_f (by decide) ?_)
  rcases bd_ix v3 128 (by decide) with a3 | ⟨d, hd, rfl⟩
  · refine xw_in0 a3 (br_t rfl ?_)
    unfold wpY_aim
    dsimp only
    refine yw_badCorner0 hc (br_t rfl ?_)
    refine bd_lt0 127 (by decide) hp ?_
    exact bd_le1 127 (by decide) a3 ⟨rfl, R⟩
  refine xw_in1 (n := 128) hd (by decide) (br_f (by decide) ?_)
  have ic : vp_in (nI c) 6 := vp_in_nI hc (by decide)
  have cc : (nI c).toNatClampNeg = c := nI_clamp (by omega)
  rw [cc]
  refine ⟨ic, nm_e ⟨ic, nm_e ?_⟩⟩
  unfold wpY_aim
  dsimp only
  rw [cc]
  refine yw_badCorner0 hc (br_t rfl ?_)
  refine bd_lt0 127 (by decide) hp ?_
  refine bd_le0 127 (by decide) hd ?_
  refine ⟨ic, nm_e ⟨ic, nm_e ⟨rfl, ?_⟩⟩⟩
  obtain ⟨f1, f2, f3, f4⟩ := F
  exact rl_in _ _ _ _ _ _ _ _ _ _ _ _ _ _ _ _ _ _ _ _ _ _ _ _ _ N TT Q _ _ _ _ _ _ _ ⟨f1, f2, f3, pr_good_uv f4 (pr_nR (m := 127) (by omega) (by decide)) (pr_nR (m := 127) (by omega) (by decide))⟩
theorem i_vc_window {k : Nat} {u : SX} {v : SY} (I : i_Rel k u v) (hk : k + 5 ≤ 2560) (v1 : Int32) : wpX_window (fun r u' => wpY_window (fun r' v' => r' = r ∧ i_Rel (k + 5) u' v') v v1) u v1 := by
  refine rl_el (P := fun u v => wpX_window (fun r u' => wpY_window (fun r' v' => r' = r ∧ i_Rel (k + 5) u' v') v v1) u v1) ?_ I
  intro xBox xFar xPat xCX xCY xCD xCC xCU xCV xRul xRX xRY xRD xRC xRU xRV xRB xRR xRA xSX xSY xTE xAZ xSd xCh N TT Q yOne yTwo yThr yAre yWa yWb yWc F
  have R := rl_in (k := k + 5) xBox xFar xPat xCX xCY xCD xCC xCU xCV xRul xRX xRY xRD xRC xRU xRV xRB xRR xRA xSX xSY xTE xAZ xSd xCh N TT Q yOne yTwo yThr yAre yWa yWb yWc F
  unfold wpX_window
  dsimp only
  rcases bd_ix v1 65536 (by decide) with a1 | ⟨b, hb, rfl⟩
  · refine xw_in0 a1 (br_t rfl ?_)
    unfold wpY_window
    dsimp only
    exact bd_le1 65535 (by decide) a1 ⟨rfl, R⟩
  refine xw_in1 (n := 65536) hb (by decide) (br_f (by decide) ?_)
  unfold wpY_window
  dsimp only
  refine bd_le0 65535 (by decide) hb ⟨rfl, ?_⟩
  obtain ⟨f1, f2, f3, ⟨g1, g2, g3⟩⟩ := F
  exact rl_in _ _ _ _ _ _ _ _ _ _ _ _ _ _ _ _ _ _ _ _ _ _ _ _ _ N TT Q _ _ _ _ _ _ _ ⟨f1, f2, f3, ⟨g1, ⟨b, hb, rfl⟩, g3⟩⟩
def pr_most (w : Nat) : Nat := if w = 0 then 3 else if w = 4 then 3 else if w = 2 then 4 else if w = 3 then 2 else if w = 5 then 15 else 1
theorem xw_most {post : Int32 → Prop} {w : Nat} (hw : w < 8) (h : post (nI (pr_most w))) : wpX_mostOf post (nI w) := by
  unfold pr_most at h
  unfold wpX_mostOf
  refine pk_eq w 0 (fun t => ?_) (fun t => pk_eq w 4 (fun t4 => ?_) (fun t4 => pk_eq w 2 (fun t2 => ?_) (fun t2 => pk_eq w 3 (fun t3 => ?_) (fun t3 => pk_eq w 5 (fun t5 => ?_) (fun t5 => ?_)))))
  · rw [if_pos t] at h; exact h
  · rw [if_neg t, if_pos t4] at h; exact h
  · rw [if_neg t, if_neg t4, if_pos t2] at h; exact h
  · rw [if_neg t, if_neg t4, if_neg t2, if_pos t3] at h; exact h
  · rw [if_neg t, if_neg t4, if_neg t2, if_neg t3, if_pos t5] at h; exact h
  · rw [if_neg t, if_neg t4, if_neg t2, if_neg t3, if_neg t5] at h; exact h
theorem yw_most {yHit yBox yOne yTwo yThr yAre yWa yWb yWc : Int32} {yCol yDep yMrk yPat yCX yCY yCD yCC yCU yCV yRul : Nat → Int32} {post : Int32 → Prop} {w : Nat} (hw : w < 8) (h : post (nI (pr_most w))) : wpY_most post (yHit, yBox, yOne, yTwo, yThr, yAre, yWa, yWb, yWc, yCol, yDep, yMrk, yPat, yCX, yCY, yCD, yCC, yCU, yCV, yRul) (nI w) := by
  unfold pr_most at h
  unfold wpY_most
  dsimp only
  refine pk_eq w 0 (fun t => ?_) (fun t => pk_eq w 4 (fun t4 => ?_) (fun t4 => pk_eq w 2 (fun t2 => ?_) (fun t2 => pk_eq w 3 (fun t3 => ?_) (fun t3 => pk_eq w 5 (fun t5 => ?_) (fun t5 => ?_)))))
  · rw [if_pos t] at h; exact h
  · rw [if_neg t, if_pos t4] at h; exact h
  · rw [if_neg t, if_neg t4, if_pos t2] at h; exact h
  · rw [if_neg t, if_neg t4, if_neg t2, if_pos t3] at h; exact h
  · rw [if_neg t, if_neg t4, if_neg t2, if_neg t3, if_pos t5] at h; exact h
  · rw [if_neg t, if_neg t4, if_neg t2, if_neg t3, if_neg t5] at h; exact h
theorem pr_most15 (w : Nat) : pr_most w ≤ 15 := by
  unfold pr_most
  repeat' split
  all_goals decide
theorem i_vc_rule {k : Nat} {u : SX} {v : SY} (I : i_Rel k u v) (hk : k + 5 ≤ 2560) (v1 : Int32) (v2 : Int32) : wpX_rule (fun r u' => wpY_rule (fun r' v' => r' = r ∧ i_Rel (k + 5) u' v') v v1 v2) u v1 v2 := by
  refine rl_el (P := fun u v => wpX_rule (fun r u' => wpY_rule (fun r' v' => r' = r ∧ i_Rel (k + 5) u' v') v v1 v2) u v1 v2) ?_ I
  intro xBox xFar xPat xCX xCY xCD xCC xCU xCV xRul xRX xRY xRD xRC xRU xRV xRB xRR xRA xSX xSY xTE xAZ xSd xCh N TT Q yOne yTwo yThr yAre yWa yWb yWc F
  have R := rl_in (k := k + 5) xBox xFar xPat xCX xCY xCD xCC xCU xCV xRul xRX xRY xRD xRC xRU xRV xRB xRR xRA xSX xSY xTE xAZ xSd xCh N TT Q yOne yTwo yThr yAre yWa yWb yWc F
  unfold wpX_rule
  dsimp only
  rcases bd_ix v1 8 (by decide) with a1 | ⟨w, hw, rfl⟩
  · refine xw_in0 a1 (br_t rfl ?_)
    unfold wpY_rule
    dsimp only
    exact bd_lt1 7 (by decide) a1 ⟨rfl, R⟩
  refine xw_in1 (n := 8) hw (by decide) (br_f (by decide) ?_)
  have iw : vp_in (nI w) 8 := vp_in_nI hw (by decide)
  have cw : (nI w).toNatClampNeg = w := nI_clamp (by omega)
  have m15 := pr_most15 w
  by_cases z : v2 < 0
  · refine br_t z ?_
    unfold wpY_rule
    dsimp only
    exact bd_lt0 7 (by decide) hw (br_t z ⟨rfl, R⟩)
  refine br_f z ?_
  refine xw_most hw ?_
  obtain ⟨j, hj, rfl⟩ := nI_of z
  refine pk_le j (pr_most w) (fun t => ?_) (fun t => ?_)
  · rw [cw]
    refine ⟨iw, nm_e ⟨iw, nm_e ?_⟩⟩
    unfold wpY_rule
    dsimp only
    refine bd_lt0 7 (by decide) hw (br_f z ?_)
    refine yw_most hw ?_
    rw [cw]
    refine br_t (nI_le t (by omega)) ⟨iw, nm_e ⟨iw, nm_e ⟨rfl, ?_⟩⟩⟩
    obtain ⟨f1, f2, f3, ⟨g1, g2, g3, g4⟩⟩ := F
    refine rl_in _ _ _ _ _ _ _ _ _ _ _ _ _ _ _ _ _ _ _ _ _ _ _ _ _ N TT Q _ _ _ _ _ _ _ ⟨f1, f2, f3, ⟨g1, g2, ?_, ?_⟩⟩
    · by_cases q : 2 = w
      · subst q
        rw [pk_us]
        exact pr_nR (m := 4) t (by decide)
      · rw [pk_un q]; exact g3
    · by_cases q : 4 = w
      · subst q
        rw [pk_us]
        exact pr_nR (m := 3) t (by decide)
      · rw [pk_un q]; exact g4
  · unfold wpY_rule
    dsimp only
    refine bd_lt0 7 (by decide) hw (br_f z ?_)
    refine yw_most hw ?_
    exact br_f (nI_ge t hj) ⟨rfl, R⟩
end
section
def pr_fl (f : Nat → Int32) (c : Int32) (i : Nat) : Nat → Int32 := fun j => if j < i then c else f j
theorem pr_fl_0 {f : Nat → Int32} {c : Int32} : pr_fl f c 0 = f := by
  funext j
  exact if_neg (by omega)
theorem pr_fl_s {f : Nat → Int32} {c : Int32} {i : Nat} : upd (pr_fl f c i) i c = pr_fl f c (i + 1) := by
  funext j
  unfold upd pr_fl
  by_cases a : j = i
  · rw [if_pos a, if_pos (by omega)]
  · rw [if_neg a]
    by_cases b : j < i
    · rw [if_pos b, if_pos (by omega)]
    · rw [if_neg b, if_neg (by omega)]
def pr_fr (f : Nat → Int32) (i : Nat) : Nat → Int32 := fun j => if j < i then (if j = 0 then 2 else if j = 1 then 1 else 0) else f j
theorem pr_fr_0 {f : Nat → Int32} : pr_fr f 0 = f := by
  funext j
  exact if_neg (by omega)
theorem pr_fr_s {f : Nat → Int32} {i : Nat} {c : Int32} (hc : (if i = 0 then 2 else if i = 1 then 1 else 0) = c) : upd (pr_fr f i) i c = pr_fr f (i + 1) := by
  funext j
  unfold upd pr_fr
  by_cases a : j = i
  · rw [if_pos a, if_pos (by omega), a, hc]
  · rw [if_neg a]
    by_cases b : j < i
    · rw [if_pos b, if_pos (show j < i + 1 by omega)]
    · rw [if_neg b, if_neg (show ¬ j < i + 1 by omega)]
theorem pr_fr_8 {f : Nat → Int32} : upd (upd (pr_fl f 0 8) 0 2) 1 1 = pr_fr f 8 := by
  funext j
  unfold upd pr_fr pr_fl
  by_cases a : j = 1
  · rw [if_pos a, if_pos (by omega), if_neg (by omega), if_pos a]
  · rw [if_neg a]
    by_cases b : j = 0
    · rw [if_pos b, if_pos (by omega), if_pos b]
    · rw [if_neg b]
      by_cases c : j < 8
      · rw [if_pos c, if_pos c, if_neg b, if_neg a]
      · rw [if_neg c, if_neg c]
section
variable {xBox xHit xRec xFar : Int32} {xCol xDep xMrk xPat xCX xCY xCD xCC xCU xCV xRul xRX xRY xRD xRC xRU xRV xRB xRR xRA xSX xSY xTE xAZ xSd xCh : Nat → Int32}
theorem xw_setRules {post : SX → Prop} (h : post (3855, xHit, xRec, xFar, xCol, xDep, xMrk, xPat, xCX, xCY, xCD, xCC, xCU, xCV, pr_fr xRul 8, xRX, xRY, xRD, xRC, xRU, xRV, xRB, xRR, xRA, xSX, xSY, xTE, xAZ, xSd, xCh)) : wpX_setRules post (xBox, xHit, xRec, xFar, xCol, xDep, xMrk, xPat, xCX, xCY, xCD, xCC, xCU, xCV, xRul, xRX, xRY, xRD, xRC, xRU, xRV, xRB, xRR, xRA, xSX, xSY, xTE, xAZ, xSd, xCh) := by
  have G : ∀ d i n : Nat, i + d = 8 → d < n → wX_setRules_9 post 3855 xHit xRec xFar n (nI i) xCol xDep xMrk xPat xCX xCY xCD xCC xCU xCV (pr_fl xRul 0 i) xRX xRY xRD xRC xRU xRV xRB xRR xRA xSX xSY xTE xAZ xSd xCh := by
    intro d
    induction d with
    | zero =>
      intro i n hd hn
      obtain ⟨m, rfl⟩ : ∃ m, n = m + 1 := ⟨n - 1, by omega⟩
      have e : i = 8 := by omega
      subst e
      refine br_t (by decide) (nm_e (nm_r pr_fr_8 h))
    | succ d ih =>
      intro i n hd hn
      obtain ⟨m, rfl⟩ : ∃ m, n = m + 1 := ⟨n - 1, by omega⟩
      have hi : i < 8 := by omega
      exact br_f (nI_ge (b := 8) hi (by decide)) ⟨vp_in_nI hi (by decide), nm_r (e' := pr_fl xRul 0 (i + 1)) (by rw [nI_clamp (by omega), pr_fl_s]) (nm_r (nI_1 i) (ih (i + 1) m (by omega) (by omega)))⟩
  refine ⟨9, ?_⟩
  have q := G 8 0 9 rfl (by decide)
  rw [pr_fl_0] at q
  exact q
theorem xw_clear {post : Int32 → SX → Prop} {c d e : Int32} (h : post 0 (xBox, xHit, xRec, xFar, pr_fl xCol c 256, pr_fl xDep d 256, pr_fl xMrk e 256, xPat, xCX, xCY, xCD, xCC, xCU, xCV, xRul, xRX, xRY, xRD, xRC, xRU, xRV, xRB, xRR, xRA, xSX, xSY, xTE, xAZ, xSd, xCh)) : ∃ n, wX_clear_37 post c d e xBox xHit xRec xFar n 0 xCol xDep xMrk xPat xCX xCY xCD xCC xCU xCV xRul xRX xRY xRD xRC xRU xRV xRB xRR xRA xSX xSY xTE xAZ xSd xCh := by
  have G : ∀ q i n : Nat, i + q = 256 → q < n → wX_clear_37 post c d e xBox xHit xRec xFar n (nI i) (pr_fl xCol c i) (pr_fl xDep d i) (pr_fl xMrk e i) xPat xCX xCY xCD xCC xCU xCV xRul xRX xRY xRD xRC xRU xRV xRB xRR xRA xSX xSY xTE xAZ xSd xCh := by
    intro q
    induction q with
    | zero =>
      intro i n hd hn
      obtain ⟨m, rfl⟩ : ∃ m, n = m + 1 := ⟨n - 1, by omega⟩
      have e : i = 256 := by omega
      subst e
      exact br_t (by decide) h
    | succ q ih =>
      intro i n hd hn
      obtain ⟨m, rfl⟩ : ∃ m, n = m + 1 := ⟨n - 1, by omega⟩
      have hi : i < 256 := by omega
      have ci : (nI i).toNatClampNeg = i := nI_clamp (by omega)
      have ii : vp_in (nI i) 256 := vp_in_nI hi (by decide)
      exact br_f (nI_ge (b := 256) hi (by decide)) ⟨ii, nm_r (e' := pr_fl xCol c (i + 1)) (by rw [ci, pr_fl_s]) ⟨ii, nm_r (e' := pr_fl xDep d (i + 1)) (by rw [ci, pr_fl_s]) ⟨ii, nm_r (e' := pr_fl xMrk e (i + 1)) (by rw [ci, pr_fl_s]) (nm_r (nI_1 i) (ih (i + 1) m (by omega) (by omega)))⟩⟩⟩
  have q := G 256 0 257 rfl (by decide)
  rw [pr_fl_0, pr_fl_0, pr_fl_0] at q
  exact ⟨257, q⟩
theorem xw_reset62 {post : SX → Prop} (h : post (3855, xHit, xRec, xFar, xCol, xDep, xMrk, pr_fl xPat 0 64, xCX, xCY, xCD, xCC, xCU, xCV, pr_fr xRul 8, xRX, xRY, xRD, xRC, xRU, xRV, xRB, xRR, xRA, xSX, xSY, xTE, xAZ, xSd, xCh)) : ∃ n, wX_reset_62 post xBox xHit xRec xFar n 0 xCol xDep xMrk xPat xCX xCY xCD xCC xCU xCV xRul xRX xRY xRD xRC xRU xRV xRB xRR xRA xSX xSY xTE xAZ xSd xCh := by
  have G : ∀ q i n : Nat, i + q = 64 → q < n → wX_reset_62 post xBox xHit xRec xFar n (nI i) xCol xDep xMrk (pr_fl xPat 0 i) xCX xCY xCD xCC xCU xCV xRul xRX xRY xRD xRC xRU xRV xRB xRR xRA xSX xSY xTE xAZ xSd xCh := by
    intro q
    induction q with
    | zero =>
      intro i n hd hn
      obtain ⟨m, rfl⟩ : ∃ m, n = m + 1 := ⟨n - 1, by omega⟩
      have e : i = 64 := by omega
      subst e
      refine br_t (by decide) ?_
      exact xw_setRules h
    | succ q ih =>
      intro i n hd hn
      obtain ⟨m, rfl⟩ : ∃ m, n = m + 1 := ⟨n - 1, by omega⟩
      have hi : i < 64 := by omega
      exact br_f (nI_ge (b := 64) hi (by decide)) ⟨vp_in_nI hi (by decide), nm_r (e' := pr_fl xPat 0 (i + 1)) (by rw [nI_clamp (by omega), pr_fl_s]) (nm_r (nI_1 i) (ih (i + 1) m (by omega) (by omega)))⟩
  have q := G 64 0 65 rfl (by decide)
  rw [pr_fl_0] at q
  exact ⟨65, q⟩
theorem xw_reset6 {post : SX → Prop} (h : post (3855, xHit, xRec, xFar, xCol, xDep, xMrk, pr_fl xPat 0 64, pr_fl xCX 0 6, pr_fl xCY 0 6, pr_fl xCD 0 6, pr_fl xCC 0 6, pr_fl xCU 0 6, pr_fl xCV 0 6, pr_fr xRul 8, xRX, xRY, xRD, xRC, xRU, xRV, xRB, xRR, xRA, xSX, xSY, xTE, xAZ, xSd, xCh)) : ∃ n, wX_reset_6 post xBox xHit xRec xFar n 0 xCol xDep xMrk xPat xCX xCY xCD xCC xCU xCV xRul xRX xRY xRD xRC xRU xRV xRB xRR xRA xSX xSY xTE xAZ xSd xCh := by
  have G : ∀ q i n : Nat, i + q = 6 → q < n → wX_reset_6 post xBox xHit xRec xFar n (nI i) xCol xDep xMrk xPat (pr_fl xCX 0 i) (pr_fl xCY 0 i) (pr_fl xCD 0 i) (pr_fl xCC 0 i) (pr_fl xCU 0 i) (pr_fl xCV 0 i) xRul xRX xRY xRD xRC xRU xRV xRB xRR xRA xSX xSY xTE xAZ xSd xCh := by
    intro q
    induction q with
    | zero =>
      intro i n hd hn
      obtain ⟨m, rfl⟩ : ∃ m, n = m + 1 := ⟨n - 1, by omega⟩
      have e : i = 6 := by omega
      subst e
      refine br_t (by decide) ?_
      exact xw_reset62 h
    | succ q ih =>
      intro i n hd hn
      obtain ⟨m, rfl⟩ : ∃ m, n = m + 1 := ⟨n - 1, by omega⟩
      have hi : i < 6 := by omega
      have ci : (nI i).toNatClampNeg = i := nI_clamp (by omega)
      have ii : vp_in (nI i) 6 := vp_in_nI hi (by decide)
      exact br_f (nI_ge (b := 6) hi (by decide)) ⟨ii, nm_r (e' := pr_fl xCX 0 (i + 1)) (by rw [ci, pr_fl_s]) ⟨ii, nm_r (e' := pr_fl xCY 0 (i + 1)) (by rw [ci, pr_fl_s]) ⟨ii, nm_r (e' := pr_fl xCD 0 (i + 1)) (by rw [ci, pr_fl_s])
        ⟨ii, nm_r (e' := pr_fl xCC 0 (i + 1)) (by rw [ci, pr_fl_s]) ⟨ii, nm_r (e' := pr_fl xCU 0 (i + 1)) (by rw [ci, pr_fl_s]) ⟨ii, nm_r (e' := pr_fl xCV 0 (i + 1)) (by rw [ci, pr_fl_s]) (nm_r (nI_1 i) (ih (i + 1) m (by omega) (by omega)))⟩⟩⟩⟩⟩⟩
  have q := G 6 0 7 rfl (by decide)
  rw [pr_fl_0, pr_fl_0, pr_fl_0, pr_fl_0, pr_fl_0, pr_fl_0] at q
  exact ⟨7, q⟩
theorem xw_init211 {post : SX → Prop} (h : post (3855, xHit, xRec, xFar, xCol, pr_fl xDep 255 256, xMrk, xPat, xCX, xCY, xCD, xCC, xCU, xCV, pr_fr xRul 8, xRX, xRY, xRD, xRC, xRU, xRV, xRB, xRR, xRA, xSX, xSY, xTE, xAZ, xSd, xCh)) : ∃ n, wX_init_211 post xBox xHit xRec xFar n 0 xCol xDep xMrk xPat xCX xCY xCD xCC xCU xCV xRul xRX xRY xRD xRC xRU xRV xRB xRR xRA xSX xSY xTE xAZ xSd xCh := by
  have G : ∀ q i n : Nat, i + q = 256 → q < n → wX_init_211 post xBox xHit xRec xFar n (nI i) xCol (pr_fl xDep 255 i) xMrk xPat xCX xCY xCD xCC xCU xCV xRul xRX xRY xRD xRC xRU xRV xRB xRR xRA xSX xSY xTE xAZ xSd xCh := by
    intro q
    induction q with
    | zero =>
      intro i n hd hn
      obtain ⟨m, rfl⟩ : ∃ m, n = m + 1 := ⟨n - 1, by omega⟩
      have e : i = 256 := by omega
      subst e
      refine br_t (by decide) ?_
      exact xw_setRules h
    | succ q ih =>
      intro i n hd hn
      obtain ⟨m, rfl⟩ : ∃ m, n = m + 1 := ⟨n - 1, by omega⟩
      have hi : i < 256 := by omega
      exact br_f (nI_ge (b := 256) hi (by decide)) ⟨vp_in_nI hi (by decide), nm_r (e' := pr_fl xDep 255 (i + 1)) (by rw [nI_clamp (by omega), pr_fl_s]) (nm_r (nI_1 i) (ih (i + 1) m (by omega) (by omega)))⟩
  have q := G 256 0 257 rfl (by decide)
  rw [pr_fl_0] at q
  exact ⟨257, q⟩
end
section
variable {yHit yBox yOne yTwo yThr yAre yWa yWb yWc : Int32} {yCol yDep yMrk yPat yCX yCY yCD yCC yCU yCV yRul : Nat → Int32}
theorem yw_firstRules {post : SY → Prop} (h : post (yHit, 3855, yOne, yTwo, yThr, yAre, yWa, yWb, yWc, yCol, yDep, yMrk, yPat, yCX, yCY, yCD, yCC, yCU, yCV, pr_fr yRul 8)) : wpY_firstRules post (yHit, yBox, yOne, yTwo, yThr, yAre, yWa, yWb, yWc, yCol, yDep, yMrk, yPat, yCX, yCY, yCD, yCC, yCU, yCV, yRul) := by
  have G : ∀ d i n : Nat, i + d = 8 → d < n → wY_firstRules_9 post yHit 3855 yOne yTwo yThr yAre yWa yWb yWc n (nI i) yCol yDep yMrk yPat yCX yCY yCD yCC yCU yCV (pr_fr yRul i) := by
    intro d
    induction d with
    | zero =>
      intro i n hd hn
      obtain ⟨m, rfl⟩ : ∃ m, n = m + 1 := ⟨n - 1, by omega⟩
      have e : i = 8 := by omega
      subst e
      exact br_t (by decide) h
    | succ d ih =>
      intro i n hd hn
      obtain ⟨m, rfl⟩ : ∃ m, n = m + 1 := ⟨n - 1, by omega⟩
      have hi : i < 8 := by omega
      have ci : (nI i).toNatClampNeg = i := nI_clamp (by omega)
      have ii : vp_in (nI i) 8 := vp_in_nI hi (by decide)
      have q := ih (i + 1) m (by omega) (by omega)
      refine br_f (nI_ge (b := 8) hi (by decide)) (pk_eq i 0 (fun t => ?_) (fun t => pk_eq i 1 (fun t1 => ?_) (fun t1 => ?_)))
      · exact ⟨ii, nm_r (e' := pr_fr yRul (i + 1)) (by rw [ci]; exact pr_fr_s (if_pos t)) (nm_r (nI_1 i) q)⟩
      · exact ⟨ii, nm_r (e' := pr_fr yRul (i + 1)) (by rw [ci]; exact pr_fr_s (by rw [if_neg t, if_pos t1])) (nm_r (nI_1 i) q)⟩
      · exact ⟨ii, nm_r (e' := pr_fr yRul (i + 1)) (by rw [ci]; exact pr_fr_s (by rw [if_neg t, if_neg t1])) (nm_r (nI_1 i) q)⟩
  refine ⟨9, ?_⟩
  have q := G 8 0 9 rfl (by decide)
  rw [pr_fr_0] at q
  exact q
theorem yw_clear31 {post : Int32 → SY → Prop} {c d e : Int32} (h : post 0 (yHit, yBox, yOne, yTwo, yThr, yAre, yWa, yWb, yWc, pr_fl yCol c 256, pr_fl yDep d 256, pr_fl yMrk e 256, yPat, yCX, yCY, yCD, yCC, yCU, yCV, yRul)) : ∃ n, wY_clear_31 post c d e yHit yBox yOne yTwo yThr yAre yWa yWb yWc n 0 yCol yDep yMrk yPat yCX yCY yCD yCC yCU yCV yRul := by
  have G : ∀ q i n : Nat, i + q = 256 → q < n → wY_clear_31 post c d e yHit yBox yOne yTwo yThr yAre yWa yWb yWc n (nI i) (pr_fl yCol c i) (pr_fl yDep d i) (pr_fl yMrk e i) yPat yCX yCY yCD yCC yCU yCV yRul := by
    intro q
    induction q with
    | zero =>
      intro i n hd hn
      obtain ⟨m, rfl⟩ : ∃ m, n = m + 1 := ⟨n - 1, by omega⟩
      have e : i = 256 := by omega
      subst e
      exact br_t (by decide) h
    | succ q ih =>
      intro i n hd hn
      obtain ⟨m, rfl⟩ : ∃ m, n = m + 1 := ⟨n - 1, by omega⟩
      have hi : i < 256 := by omega
      have ci : (nI i).toNatClampNeg = i := nI_clamp (by omega)
      have ii : vp_in (nI i) 256 := vp_in_nI hi (by decide)
      exact br_f (nI_ge (b := 256) hi (by decide)) ⟨ii, nm_r (e' := pr_fl yCol c (i + 1)) (by rw [ci, pr_fl_s]) ⟨ii, nm_r (e' := pr_fl yDep d (i + 1)) (by rw [ci, pr_fl_s]) ⟨ii, nm_r (e' := pr_fl yMrk e (i + 1)) (by rw [ci, pr_fl_s]) (nm_r (nI_1 i) (ih (i + 1) m (by omega) (by omega)))⟩⟩⟩
  have q := G 256 0 257 rfl (by decide)
  rw [pr_fl_0, pr_fl_0, pr_fl_0] at q
  exact ⟨257, q⟩
theorem yw_reset27 {post : SY → Prop} (h : post (yHit, yBox, yOne, yTwo, yThr, yAre, yWa, yWb, yWc, yCol, yDep, yMrk, yPat, pr_fl yCX 0 6, pr_fl yCY 0 6, pr_fl yCD 0 6, pr_fl yCC 0 6, pr_fl yCU 0 6, pr_fl yCV 0 6, yRul)) : ∃ n, wY_reset_27 post yHit yBox yOne yTwo yThr yAre yWa yWb yWc n 0 yCol yDep yMrk yPat yCX yCY yCD yCC yCU yCV yRul := by
  have G : ∀ q i n : Nat, i + q = 6 → q < n → wY_reset_27 post yHit yBox yOne yTwo yThr yAre yWa yWb yWc n (nI i) yCol yDep yMrk yPat (pr_fl yCX 0 i) (pr_fl yCY 0 i) (pr_fl yCD 0 i) (pr_fl yCC 0 i) (pr_fl yCU 0 i) (pr_fl yCV 0 i) yRul := by
    intro q
    induction q with
    | zero =>
      intro i n hd hn
      obtain ⟨m, rfl⟩ : ∃ m, n = m + 1 := ⟨n - 1, by omega⟩
      have e : i = 6 := by omega
      subst e
      exact br_t (by decide) h
    | succ q ih =>
      intro i n hd hn
      obtain ⟨m, rfl⟩ : ∃ m, n = m + 1 := ⟨n - 1, by omega⟩
      have hi : i < 6 := by omega
      have ci : (nI i).toNatClampNeg = i := nI_clamp (by omega)
      have ii : vp_in (nI i) 6 := vp_in_nI hi (by decide)
      exact br_f (nI_ge (b := 6) hi (by decide)) ⟨ii, nm_r (e' := pr_fl yCX 0 (i + 1)) (by rw [ci, pr_fl_s]) ⟨ii, nm_r (e' := pr_fl yCY 0 (i + 1)) (by rw [ci, pr_fl_s]) ⟨ii, nm_r (e' := pr_fl yCD 0 (i + 1)) (by rw [ci, pr_fl_s])
        ⟨ii, nm_r (e' := pr_fl yCC 0 (i + 1)) (by rw [ci, pr_fl_s]) ⟨ii, nm_r (e' := pr_fl yCU 0 (i + 1)) (by rw [ci, pr_fl_s]) ⟨ii, nm_r (e' := pr_fl yCV 0 (i + 1)) (by rw [ci, pr_fl_s]) (nm_r (nI_1 i) (ih (i + 1) m (by omega) (by omega)))⟩⟩⟩⟩⟩⟩
  have q := G 6 0 7 rfl (by decide)
  rw [pr_fl_0, pr_fl_0, pr_fl_0, pr_fl_0, pr_fl_0, pr_fl_0] at q
  exact ⟨7, q⟩
theorem yw_reset6 {post : SY → Prop} (h : post (yHit, yBox, yOne, yTwo, yThr, yAre, yWa, yWb, yWc, yCol, yDep, yMrk, pr_fl yPat 0 64, pr_fl yCX 0 6, pr_fl yCY 0 6, pr_fl yCD 0 6, pr_fl yCC 0 6, pr_fl yCU 0 6, pr_fl yCV 0 6, yRul)) : ∃ n, wY_reset_6 post yHit yBox yOne yTwo yThr yAre yWa yWb yWc n 0 yCol yDep yMrk yPat yCX yCY yCD yCC yCU yCV yRul := by
  have G : ∀ q i n : Nat, i + q = 64 → q < n → wY_reset_6 post yHit yBox yOne yTwo yThr yAre yWa yWb yWc n (nI i) yCol yDep yMrk (pr_fl yPat 0 i) yCX yCY yCD yCC yCU yCV yRul := by
    intro q
    induction q with
    | zero =>
      intro i n hd hn
      obtain ⟨m, rfl⟩ : ∃ m, n = m + 1 := ⟨n - 1, by omega⟩
      have e : i = 64 := by omega
      subst e
      refine br_t (by decide) ?_
      exact yw_reset27 h
    | succ q ih =>
      intro i n hd hn
      obtain ⟨m, rfl⟩ : ∃ m, n = m + 1 := ⟨n - 1, by omega⟩
      have hi : i < 64 := by omega
      exact br_f (nI_ge (b := 64) hi (by decide)) ⟨vp_in_nI hi (by decide), nm_r (e' := pr_fl yPat 0 (i + 1)) (by rw [nI_clamp (by omega), pr_fl_s]) (nm_r (nI_1 i) (ih (i + 1) m (by omega) (by omega)))⟩
  have q := G 64 0 65 rfl (by decide)
  rw [pr_fl_0] at q
  exact ⟨65, q⟩
theorem yw_init97 {post : SY → Prop} (h : post (yHit, 3855, yOne, yTwo, yThr, yAre, yWa, yWb, yWc, yCol, pr_fl yDep 255 256, yMrk, yPat, yCX, yCY, yCD, yCC, yCU, yCV, pr_fr yRul 8)) : ∃ n, wY_init_97 post yHit yBox yOne yTwo yThr yAre yWa yWb yWc n 0 yCol yDep yMrk yPat yCX yCY yCD yCC yCU yCV yRul := by
  have G : ∀ q i n : Nat, i + q = 256 → q < n → wY_init_97 post yHit yBox yOne yTwo yThr yAre yWa yWb yWc n (nI i) yCol (pr_fl yDep 255 i) yMrk yPat yCX yCY yCD yCC yCU yCV yRul := by
    intro q
    induction q with
    | zero =>
      intro i n hd hn
      obtain ⟨m, rfl⟩ : ∃ m, n = m + 1 := ⟨n - 1, by omega⟩
      have e : i = 256 := by omega
      subst e
      refine br_t (by decide) ?_
      exact yw_firstRules h
    | succ q ih =>
      intro i n hd hn
      obtain ⟨m, rfl⟩ : ∃ m, n = m + 1 := ⟨n - 1, by omega⟩
      have hi : i < 256 := by omega
      exact br_f (nI_ge (b := 256) hi (by decide)) ⟨vp_in_nI hi (by decide), nm_r (e' := pr_fl yDep 255 (i + 1)) (by rw [nI_clamp (by omega), pr_fl_s]) (nm_r (nI_1 i) (ih (i + 1) m (by omega) (by omega)))⟩
  have q := G 256 0 257 rfl (by decide)
  rw [pr_fl_0] at q
  exact ⟨257, q⟩
end
def pr_gq (S : Nat → Bool) (col : Nat → Int32) (x y : Nat) (pat : Nat → Int32) : Nat → Int32 := fun j => if S j = true then col (16 * (y + j / 8) + x + j % 8) else pat j
def pr_gx (v u j : Nat) : Bool := decide (j < 64 ∧ (j / 8 < v ∨ (j / 8 = v ∧ j % 8 < u)))
def pr_gy (u v j : Nat) : Bool := decide (j < 64 ∧ (j % 8 < u ∨ (j % 8 = u ∧ j / 8 < v)))
theorem pr_gq_eq {S S' : Nat → Bool} {col pat : Nat → Int32} {x y : Nat} (h : ∀ j, S j = S' j) : pr_gq S col x y pat = pr_gq S' col x y pat := by
  rw [show S = S' from funext h]
theorem pr_gq_0 {S : Nat → Bool} {col pat : Nat → Int32} {x y : Nat} (h : ∀ j, S j = false) : pr_gq S col x y pat = pat := by
  funext j
  unfold pr_gq
  rw [h j]
  exact if_neg (by decide)
theorem pr_gq_s {S S' : Nat → Bool} {col pat : Nat → Int32} {x y u v : Nat} (hu : u < 8) (h1 : S' (8 * v + u) = true) (h : ∀ j, j ≠ 8 * v + u → S' j = S j) :
    upd (pr_gq S col x y pat) (8 * v + u) (col (16 * (y + v) + x + u)) = pr_gq S' col x y pat := by
  funext j
  unfold upd pr_gq
  by_cases a : j = 8 * v + u
  · rw [if_pos a, a, h1, if_pos rfl, show (8 * v + u) / 8 = v by omega, show (8 * v + u) % 8 = u by omega]
  · rw [if_neg a, h j a]
theorem pr_gi {x y u v : Nat} : ((16 * (nI y + nI v)) + nI x) + nI u = nI (16 * (y + v) + x + u) := by
  rw [nI_add]
  show ((nI 16 * nI (y + v)) + nI x) + nI u = _
  rw [pk_mul, nI_add, nI_add]
section
variable {xBox xHit xRec xFar : Int32} {xCol xDep xMrk xPat xCX xCY xCD xCC xCU xCV xRul xRX xRY xRD xRC xRU xRV xRB xRR xRA xSX xSY xTE xAZ xSd xCh : Nat → Int32}
theorem xw_grab35 {post : Int32 → SX → Prop} {J : Int32 → (Nat → Int32) → (Nat → Int32) → (Nat → Int32) → (Nat → Int32) → (Nat → Int32) → (Nat → Int32) → (Nat → Int32) → (Nat → Int32) → (Nat → Int32) → (Nat → Int32) → (Nat → Int32) → (Nat → Int32) → (Nat → Int32) → (Nat → Int32) → (Nat → Int32) → (Nat → Int32) → (Nat → Int32) → (Nat → Int32) → (Nat → Int32) → (Nat → Int32) → (Nat → Int32) → (Nat → Int32) → (Nat → Int32) → (Nat → Int32) → (Nat → Int32) → (Nat → Int32) → Prop} {x y v : Nat} (hx : x < 9) (hy : y < 9) (hv : v < 8)
    (h : J (nI (v + 1)) xCol xDep xMrk (pr_gq (pr_gx v 8) xCol x y xPat) xCX xCY xCD xCC xCU xCV xRul xRX xRY xRD xRC xRU xRV xRB xRR xRA xSX xSY xTE xAZ xSd xCh) :
    ∀ d u n : Nat, u + d = 8 → d < n → wX_grab_35 post J (nI x) (nI y) (nI v) xBox xHit xRec xFar n (nI u) xCol xDep xMrk (pr_gq (pr_gx v u) xCol x y xPat) xCX xCY xCD xCC xCU xCV xRul xRX xRY xRD xRC xRU xRV xRB xRR xRA xSX xSY xTE xAZ xSd xCh := by
  intro d
  induction d with
  | zero =>
    intro u n hd hn
    obtain ⟨m, rfl⟩ : ∃ m, n = m + 1 := ⟨n - 1, by omega⟩
    have e : u = 8 := by omega
    subst e
    exact br_t (by decide) (nm_r (nI_1 v) h)
  | succ d ih =>
    intro u n hd hn
    obtain ⟨m, rfl⟩ : ∃ m, n = m + 1 := ⟨n - 1, by omega⟩
    have hu : u < 8 := by omega
    have i1 := pk_in (16 * (y + v) + x + u) 256 (by omega) (pr_gi (x := x) (y := y) (u := u) (v := v))
    have i2 := pk_in (8 * v + u) 64 (by omega) (xi_8k v u)
    have c1 := pk_cl (16 * (y + v) + x + u) (pr_gi (x := x) (y := y) (u := u) (v := v))
    have c2 := pk_cl (8 * v + u) (xi_8k v u)
    refine br_f (nI_ge (b := 8) hu (by decide)) ⟨i1, i2, nm_r (e' := pr_gq (pr_gx v (u + 1)) xCol x y xPat) ?_ (nm_r (nI_1 u) (ih (u + 1) m (by omega) (by omega)))⟩
    rw [c1, c2]
    exact pr_gq_s hu (decide_eq_true (by omega)) (fun j hj => decide_eq_decide.mpr (by omega))
theorem xw_grab26 {post : Int32 → SX → Prop} {x y : Nat} (hx : x < 9) (hy : y < 9) (h : post 0 (xBox, xHit, xRec, xFar, xCol, xDep, xMrk, pr_gq (pr_lt 64) xCol x y xPat, xCX, xCY, xCD, xCC, xCU, xCV, xRul, xRX, xRY, xRD, xRC, xRU, xRV, xRB, xRR, xRA, xSX, xSY, xTE, xAZ, xSd, xCh)) : ∃ n, wX_grab_26 post (nI x) (nI y) xBox xHit xRec xFar n 0 xCol xDep xMrk xPat xCX xCY xCD xCC xCU xCV xRul xRX xRY xRD xRC xRU xRV xRB xRR xRA xSX xSY xTE xAZ xSd xCh := by
  have G : ∀ d v n : Nat, v + d = 8 → d < n → wX_grab_26 post (nI x) (nI y) xBox xHit xRec xFar n (nI v) xCol xDep xMrk (pr_gq (pr_gx v 0) xCol x y xPat) xCX xCY xCD xCC xCU xCV xRul xRX xRY xRD xRC xRU xRV xRB xRR xRA xSX xSY xTE xAZ xSd xCh := by
    intro d
    induction d with
    | zero =>
      intro v n hd hn
      obtain ⟨m, rfl⟩ : ∃ m, n = m + 1 := ⟨n - 1, by omega⟩
      have e : v = 8 := by omega
      subst e
      rw [pr_gq_eq (S := pr_gx 8 0) (S' := pr_lt 64) (fun j => decide_eq_decide.mpr (by omega))]
      exact br_t (by decide) h
    | succ d ih =>
      intro v n hd hn
      obtain ⟨m, rfl⟩ : ∃ m, n = m + 1 := ⟨n - 1, by omega⟩
      have hv : v < 8 := by omega
      refine br_f (nI_ge (b := 8) hv (by decide)) ⟨9, ?_⟩
      refine xw_grab35 hx hy hv ?_ 8 0 9 rfl (by decide)
      rw [pr_gq_eq (S := pr_gx v 8) (S' := pr_gx (v + 1) 0) (fun j => decide_eq_decide.mpr (by omega))]
      exact ih (v + 1) m (by omega) (by omega)
  have q := G 8 0 9 rfl (by decide)
  rw [pr_gq_0 (S := pr_gx 0 0) (fun j => decide_eq_false (by omega))] at q
  exact ⟨9, q⟩
end
section
variable {yHit yBox yOne yTwo yThr yAre yWa yWb yWc : Int32} {yCol yDep yMrk yPat yCX yCY yCD yCC yCU yCV yRul : Nat → Int32}
theorem yw_grab33 {post : Int32 → SY → Prop} {J : Int32 → (Nat → Int32) → (Nat → Int32) → (Nat → Int32) → (Nat → Int32) → (Nat → Int32) → (Nat → Int32) → (Nat → Int32) → (Nat → Int32) → (Nat → Int32) → (Nat → Int32) → (Nat → Int32) → Prop} {x y u : Nat} (hx : x < 9) (hy : y < 9) (hu : u < 8)
    (h : J (nI (u + 1)) yCol yDep yMrk (pr_gq (pr_gy u 8) yCol x y yPat) yCX yCY yCD yCC yCU yCV yRul) :
    ∀ d v n : Nat, v + d = 8 → d < n → wY_grab_33 post J (nI x) (nI y) (nI u) yHit yBox yOne yTwo yThr yAre yWa yWb yWc n (nI v) yCol yDep yMrk (pr_gq (pr_gy u v) yCol x y yPat) yCX yCY yCD yCC yCU yCV yRul := by
  intro d
  induction d with
  | zero =>
    intro v n hd hn
    obtain ⟨m, rfl⟩ : ∃ m, n = m + 1 := ⟨n - 1, by omega⟩
    have e : v = 8 := by omega
    subst e
    exact br_t (by decide) (nm_r (nI_1 u) h)
  | succ d ih =>
    intro v n hd hn
    obtain ⟨m, rfl⟩ : ∃ m, n = m + 1 := ⟨n - 1, by omega⟩
    have hv : v < 8 := by omega
    have i1 := pk_in (16 * (y + v) + x + u) 256 (by omega) (pr_gi (x := x) (y := y) (u := u) (v := v))
    have i2 := pk_in (8 * v + u) 64 (by omega) (xi_8k v u)
    have c1 := pk_cl (16 * (y + v) + x + u) (pr_gi (x := x) (y := y) (u := u) (v := v))
    have c2 := pk_cl (8 * v + u) (xi_8k v u)
    refine br_f (nI_ge (b := 8) hv (by decide)) ⟨i1, i2, nm_r (e' := pr_gq (pr_gy u (v + 1)) yCol x y yPat) ?_ (nm_r (nI_1 v) (ih (v + 1) m (by omega) (by omega)))⟩
    rw [c1, c2]
    exact pr_gq_s hu (decide_eq_true (by omega)) (fun j hj => decide_eq_decide.mpr (by omega))
theorem yw_grab24 {post : Int32 → SY → Prop} {x y : Nat} (hx : x < 9) (hy : y < 9) (h : post 0 (yHit, yBox, yOne, yTwo, yThr, yAre, yWa, yWb, yWc, yCol, yDep, yMrk, pr_gq (pr_lt 64) yCol x y yPat, yCX, yCY, yCD, yCC, yCU, yCV, yRul)) : ∃ n, wY_grab_24 post (nI x) (nI y) yHit yBox yOne yTwo yThr yAre yWa yWb yWc n 0 yCol yDep yMrk yPat yCX yCY yCD yCC yCU yCV yRul := by
  have G : ∀ d u n : Nat, u + d = 8 → d < n → wY_grab_24 post (nI x) (nI y) yHit yBox yOne yTwo yThr yAre yWa yWb yWc n (nI u) yCol yDep yMrk (pr_gq (pr_gy u 0) yCol x y yPat) yCX yCY yCD yCC yCU yCV yRul := by
    intro d
    induction d with
    | zero =>
      intro u n hd hn
      obtain ⟨m, rfl⟩ : ∃ m, n = m + 1 := ⟨n - 1, by omega⟩
      have e : u = 8 := by omega
      subst e
      rw [pr_gq_eq (S := pr_gy 8 0) (S' := pr_lt 64) (fun j => decide_eq_decide.mpr (by omega))]
      exact br_t (by decide) h
    | succ d ih =>
      intro u n hd hn
      obtain ⟨m, rfl⟩ : ∃ m, n = m + 1 := ⟨n - 1, by omega⟩
      have hu : u < 8 := by omega
      refine br_f (nI_ge (b := 8) hu (by decide)) ⟨9, ?_⟩
      refine yw_grab33 hx hy hu ?_ 8 0 9 rfl (by decide)
      rw [pr_gq_eq (S := pr_gy u 8) (S' := pr_gy (u + 1) 0) (fun j => decide_eq_decide.mpr (by omega))]
      exact ih (u + 1) m (by omega) (by omega)
  have q := G 8 0 9 rfl (by decide)
  rw [pr_gq_0 (S := pr_gy 0 0) (fun j => decide_eq_false (by omega))] at q
  exact ⟨9, q⟩
end
end
section
theorem i_vc_cell {k : Nat} {u : SX} {v : SY} (I : i_Rel k u v) (hk : k + 5 ≤ 2560) (v1 : Int32) (v2 : Int32) (v3 : Int32) : wpX_cell (fun r u' => wpY_cell (fun r' v' => r' = r ∧ i_Rel (k + 5) u' v') v v1 v2 v3) u v1 v2 v3 := by
  refine rl_el (P := fun u v => wpX_cell (fun r u' => wpY_cell (fun r' v' => r' = r ∧ i_Rel (k + 5) u' v') v v1 v2 v3) u v1 v2 v3) ?_ I
  intro xBox xFar xPat xCX xCY xCD xCC xCU xCV xRul xRX xRY xRD xRC xRU xRV xRB xRR xRA xSX xSY xTE xAZ xSd xCh N TT Q yOne yTwo yThr yAre yWa yWb yWc F
  have R := rl_in (k := k + 5) xBox xFar xPat xCX xCY xCD xCC xCU xCV xRul xRX xRY xRD xRC xRU xRV xRB xRR xRA xSX xSY xTE xAZ xSd xCh N TT Q yOne yTwo yThr yAre yWa yWb yWc F
  obtain ⟨f1, f2, f3, f4⟩ := F
  unfold wpX_cell
  dsimp only
  rcases bd_ix v1 8 (by decide) with a1 | ⟨a, ha, rfl⟩
  · refine xw_in0 a1 (br_t rfl ?_)
    unfold wpY_cell
    dsimp only
    exact bd_lt1 7 (by decide) a1 ⟨rfl, R⟩
  refine xw_in1 (n := 8) ha (by decide) (br_f (by decide) ?_)
  rcases bd_ix v2 8 (by decide) with a2 | ⟨b, hb, rfl⟩
  · refine xw_in0 a2 (br_t rfl ?_)
    unfold wpY_cell
    dsimp only
    exact bd_lt0 7 (by decide) ha (bd_lt1 7 (by decide) a2 ⟨rfl, R⟩)
  refine xw_in1 (n := 8) hb (by decide) (br_f (by decide) ?_)
  rcases bd_ix v3 16777216 (by decide) with a3 | ⟨c, hc, rfl⟩
  · refine xw_in0 a3 (br_t rfl ?_)
    unfold wpY_cell
    dsimp only
    refine bd_lt0 7 (by decide) ha (bd_lt0 7 (by decide) hb ?_)
    refine yw_badColour1 a3 (br_f (by decide) ?_)
    exact ⟨rfl, R⟩
  refine xw_in1 (n := 16777216) hc (by decide) (br_f (by decide) ?_)
  refine xw_flush f1 f2 f3 (fun g sX sY tE aZ sd => ?_)
  have i2 := pk_in (8 * b + a) 64 (by omega) (xi_8k b a)
  have c2 := pk_cl (8 * b + a) (xi_8k b a)
  dsimp only
  rw [c2]
  refine ⟨i2, nm_e ⟨i2, nm_e ?_⟩⟩
  unfold wpY_cell
  dsimp only
  refine bd_lt0 7 (by decide) ha (bd_lt0 7 (by decide) hb ?_)
  refine yw_badColour0 hc (br_t rfl ?_)
  rw [c2]
  refine ⟨i2, nm_e ⟨i2, nm_e ⟨rfl, ?_⟩⟩⟩
  exact rl_in0 _ _ _ _ _ _ _ _ _ _ _ _ _ _ _ _ _ _ _ _ _ _ _ _ _ (pr_aq xPat TT N Q) _ _ _ _ _ _ _ (pr_aqR (fun r hr => (f2 r hr).2) f3) f4
theorem i_vc_grab {k : Nat} {u : SX} {v : SY} (I : i_Rel k u v) (hk : k + 5 ≤ 2560) (v1 : Int32) (v2 : Int32) : wpX_grab (fun r u' => wpY_grab (fun r' v' => r' = r ∧ i_Rel (k + 5) u' v') v v1 v2) u v1 v2 := by
  refine rl_el (P := fun u v => wpX_grab (fun r u' => wpY_grab (fun r' v' => r' = r ∧ i_Rel (k + 5) u' v') v v1 v2) u v1 v2) ?_ I
  intro xBox xFar xPat xCX xCY xCD xCC xCU xCV xRul xRX xRY xRD xRC xRU xRV xRB xRR xRA xSX xSY xTE xAZ xSd xCh N TT Q yOne yTwo yThr yAre yWa yWb yWc F
  have R := rl_in (k := k + 5) xBox xFar xPat xCX xCY xCD xCC xCU xCV xRul xRX xRY xRD xRC xRU xRV xRB xRR xRA xSX xSY xTE xAZ xSd xCh N TT Q yOne yTwo yThr yAre yWa yWb yWc F
  obtain ⟨f1, f2, f3, f4⟩ := F
  unfold wpX_grab
  dsimp only
  rcases bd_ix v1 9 (by decide) with a1 | ⟨a, ha, rfl⟩
  · refine xw_in0 a1 (br_t rfl ?_)
    unfold wpY_grab
    dsimp only
    exact bd_lt1 8 (by decide) a1 ⟨rfl, R⟩
  refine xw_in1 (n := 9) ha (by decide) (br_f (by decide) ?_)
  rcases bd_ix v2 9 (by decide) with a2 | ⟨b, hb, rfl⟩
  · refine xw_in0 a2 (br_t rfl ?_)
    unfold wpY_grab
    dsimp only
    exact bd_lt0 8 (by decide) ha (bd_le1 8 (by decide) a2 ⟨rfl, R⟩)
  refine xw_in1 (n := 9) hb (by decide) (br_f (by decide) ?_)
  refine xw_flush f1 f2 f3 (fun g sX sY tE aZ sd => ?_)
  dsimp only
  refine xw_grab26 ha hb ?_
  unfold wpY_grab
  dsimp only
  refine bd_lt0 8 (by decide) ha (bd_le0 8 (by decide) hb ?_)
  refine yw_grab24 ha hb ⟨rfl, ?_⟩
  exact rl_in0 _ _ _ _ _ _ _ _ _ _ _ _ _ _ _ _ _ _ _ _ _ _ _ _ _ (pr_aq xPat TT N Q) _ _ _ _ _ _ _ (pr_aqR (fun r hr => (f2 r hr).2) f3) f4
def pr_cl (Q : Nat → pr_PX) (c d m : Int32) : Nat → pr_PX := fun j => if j < 256 then (c, d, m, (Q j).2.2.2) else Q j
theorem pr_cl_c {Q : Nat → pr_PX} {c d m : Int32} : pr_fl (pr_cq Q) c 256 = pr_cq (pr_cl Q c d m) := by
  funext j
  unfold pr_fl pr_cq pr_cl
  by_cases a : j < 256
  · rw [if_pos a, if_pos a]
  · rw [if_neg a, if_neg a]
theorem pr_cl_d {Q : Nat → pr_PX} {c d m : Int32} : pr_fl (pr_dq Q) d 256 = pr_dq (pr_cl Q c d m) := by
  funext j
  unfold pr_fl pr_dq pr_cl
  by_cases a : j < 256
  · rw [if_pos a, if_pos a]
  · rw [if_neg a, if_neg a]
theorem pr_cl_m {Q : Nat → pr_PX} {c d m : Int32} : pr_fl (pr_mq Q) m 256 = pr_mq (pr_cl Q c d m) := by
  funext j
  unfold pr_fl pr_mq pr_cl
  by_cases a : j < 256
  · rw [if_pos a, if_pos a]
  · rw [if_neg a, if_neg a]
theorem pr_cl_s {Q : Nat → pr_PX} {c d m : Int32} : pr_sq Q = pr_sq (pr_cl Q c d m) := pr_sum_eq 256 (fun j hj => by unfold pr_cl; rw [if_pos hj])
theorem pr_cl_R {Q : Nat → pr_PX} {c d m : Int32} (hc : pr_cr c) (hQ : ∀ j, pr_cr (Q j).1) : ∀ j, pr_cr (pr_cl Q c d m j).1 := by
  intro j
  unfold pr_cl
  by_cases a : j < 256
  · rw [if_pos a]; exact hc
  · rw [if_neg a]; exact hQ j
theorem i_vc_clear {k : Nat} {u : SX} {v : SY} (I : i_Rel k u v) (hk : k + 5 ≤ 2560) (v1 : Int32) (v2 : Int32) (v3 : Int32) : wpX_clear (fun r u' => wpY_clear (fun r' v' => r' = r ∧ i_Rel (k + 5) u' v') v v1 v2 v3) u v1 v2 v3 := by
  refine rl_el (P := fun u v => wpX_clear (fun r u' => wpY_clear (fun r' v' => r' = r ∧ i_Rel (k + 5) u' v') v v1 v2 v3) u v1 v2 v3) ?_ I
  intro xBox xFar xPat xCX xCY xCD xCC xCU xCV xRul xRX xRY xRD xRC xRU xRV xRB xRR xRA xSX xSY xTE xAZ xSd xCh N TT Q yOne yTwo yThr yAre yWa yWb yWc F
  have R := rl_in (k := k + 5) xBox xFar xPat xCX xCY xCD xCC xCU xCV xRul xRX xRY xRD xRC xRU xRV xRB xRR xRA xSX xSY xTE xAZ xSd xCh N TT Q yOne yTwo yThr yAre yWa yWb yWc F
  obtain ⟨f1, f2, f3, f4⟩ := F
  unfold wpX_clear
  dsimp only
  rcases bd_ix v1 16777216 (by decide) with a1 | ⟨a, ha, rfl⟩
  · refine xw_in0 a1 (br_t rfl ?_)
    unfold wpY_clear
    dsimp only
    refine yw_badColour1 a1 (br_f (by decide) ?_)
    exact ⟨rfl, R⟩
  refine xw_in1 (n := 16777216) ha (by decide) (br_f (by decide) ?_)
  rcases bd_ix v2 256 (by decide) with a2 | ⟨b, hb, rfl⟩
  · refine xw_in0 a2 (br_t rfl ?_)
    unfold wpY_clear
    dsimp only
    refine yw_badColour0 ha (br_t rfl ?_)
    refine yw_badByte1 a2 (br_f (by decide) ?_)
    exact ⟨rfl, R⟩
  refine xw_in1 (n := 256) hb (by decide) (br_f (by decide) ?_)
  rcases bd_ix v3 16 (by decide) with a3 | ⟨c, hc, rfl⟩
  · refine xw_in0 a3 (br_t rfl ?_)
    unfold wpY_clear
    dsimp only
    refine yw_badColour0 ha (br_t rfl ?_)
    refine yw_badByte0 hb (br_t rfl ?_)
    exact bd_le1 15 (by decide) a3 ⟨rfl, R⟩
  refine xw_in1 (n := 16) hc (by decide) (br_f (by decide) ?_)
  refine xw_flush f1 f2 f3 (fun g sX sY tE aZ sd => ?_)
  dsimp only
  refine xw_clear ?_
  unfold wpY_clear
  dsimp only
  refine yw_badColour0 ha (br_t rfl ?_)
  refine yw_badByte0 hb (br_t rfl ?_)
  refine bd_le0 15 (by decide) hc ?_
  refine yw_clear31 ⟨rfl, ?_⟩
  rw [pr_cl_c (d := nI b) (m := nI c), pr_cl_d (c := nI a) (m := nI c), pr_cl_m (c := nI a) (d := nI b), pr_cl_s (Q := pr_aq xPat TT N Q) (c := nI a) (d := nI b) (m := nI c)]
  exact rl_in0 _ _ _ _ _ _ _ _ _ _ _ _ _ _ _ _ _ _ _ _ _ _ _ _ _ (pr_cl (pr_aq xPat TT N Q) (nI a) (nI b) (nI c)) _ _ _ _ _ _ _ (pr_cl_R ⟨a, ha, rfl⟩ (pr_aqR (fun r hr => (f2 r hr).2) f3)) f4
theorem pr_good0 {cX cY cD cU cV rul : Nat → Int32} (h1 : ∀ k, k < 6 → cX k = 0) (h2 : ∀ k, k < 6 → cY k = 0) (h3 : ∀ k, k < 6 → cD k = 0) (h4 : ∀ k, k < 6 → cU k = 0) (h5 : ∀ k, k < 6 → cV k = 0) :
    pr_good cX cY cD cU cV 3855 (pr_fr rul 8) := by
  refine ⟨fun k hk => ?_, ⟨3855, by decide, rfl⟩, ?_, ?_⟩
  · rw [h1 k hk, h2 k hk, h3 k hk, h4 k hk, h5 k hk]
    decide
  · rw [show pr_fr rul 8 2 = 0 from rfl]; decide
  · rw [show pr_fr rul 8 4 = 0 from rfl]; decide
theorem pr_fl6 {f : Nat → Int32} : ∀ k, k < 6 → pr_fl f 0 6 k = 0 := fun k hk => if_pos hk
theorem i_vc_reset {k : Nat} {u : SX} {v : SY} (I : i_Rel k u v) (hk : k + 5 ≤ 2560) : wpX_reset (fun u' => wpY_reset (fun v' => i_Rel (k + 5) u' v') v) u := by
  refine rl_el (P := fun u v => wpX_reset (fun u' => wpY_reset (fun v' => i_Rel (k + 5) u' v') v) u) ?_ I
  intro xBox xFar xPat xCX xCY xCD xCC xCU xCV xRul xRX xRY xRD xRC xRU xRV xRB xRR xRA xSX xSY xTE xAZ xSd xCh N TT Q yOne yTwo yThr yAre yWa yWb yWc F
  obtain ⟨f1, f2, f3, f4⟩ := F
  unfold wpX_reset
  dsimp only
  refine xw_flush f1 f2 f3 (fun g sX sY tE aZ sd => ?_)
  dsimp only
  refine xw_reset6 ?_
  unfold wpY_reset
  dsimp only
  refine yw_firstRules ?_
  dsimp only
  refine yw_reset6 ?_
  exact rl_in0 _ _ _ _ _ _ _ _ _ _ _ _ _ _ _ _ _ _ _ _ _ _ _ _ _ (pr_aq xPat TT N Q) _ _ _ _ _ _ _ (pr_aqR (fun r hr => (f2 r hr).2) f3) (pr_good0 pr_fl6 pr_fl6 pr_fl6 pr_fl6 pr_fl6)
theorem bd_pix (x y : Int32) : (bd_no x 16 ∨ (∃ j, j < 16 ∧ x = nI j) ∧ bd_no y 16) ∨ ∃ a b : Nat, a < 16 ∧ b < 16 ∧ x = nI a ∧ y = nI b := by
  rcases bd_ix x 16 (by decide) with a1 | ⟨a, ha, ea⟩
  · exact Or.inl (Or.inl a1)
  · rcases bd_ix y 16 (by decide) with a2 | ⟨b, hb, eb⟩
    · exact Or.inl (Or.inr ⟨⟨a, ha, ea⟩, a2⟩)
    · exact Or.inr ⟨a, b, ha, hb, ea, eb⟩
theorem xi_16k (r k : Nat) : (16 * nI r) + nI k = nI (16 * r + k) := by
  show (nI 16 * nI r) + nI k = _
  rw [pk_mul, nI_add]
theorem i_vc_colour {k : Nat} {u : SX} {v : SY} (I : i_Rel k u v) (hk : k + 5 ≤ 2560) (v1 : Int32) (v2 : Int32) : wpX_colour (fun r u' => wpY_colour (fun r' => r' = r ∧ i_Rel (k + 5) u' v) v v1 v2) u v1 v2 := by
  refine rl_el (P := fun u v => wpX_colour (fun r u' => wpY_colour (fun r' => r' = r ∧ i_Rel (k + 5) u' v) v v1 v2) u v1 v2) ?_ I
  intro xBox xFar xPat xCX xCY xCD xCC xCU xCV xRul xRX xRY xRD xRC xRU xRV xRB xRR xRA xSX xSY xTE xAZ xSd xCh N TT Q yOne yTwo yThr yAre yWa yWb yWc F
  obtain ⟨f1, f2, f3, f4⟩ := F
  unfold wpX_colour
  dsimp only
  refine xw_flush f1 f2 f3 (fun g sX sY tE aZ sd => ?_)
  dsimp only
  have R : ∀ g' : Int32, i_Rel (k + 5) (xBox, pr_sq (pr_aq xPat TT N Q), 0, g, pr_cq (pr_aq xPat TT N Q), pr_dq (pr_aq xPat TT N Q), pr_mq (pr_aq xPat TT N Q), xPat, xCX, xCY, xCD, xCC, xCU, xCV, xRul, xRX, xRY, xRD, xRC, xRU, xRV, xRB, xRR, xRA, sX, sY, tE, aZ, sd, xCh) (pr_sq (pr_aq xPat TT N Q), xBox, yOne, yTwo, yThr, yAre, yWa, yWb, yWc, pr_cq (pr_aq xPat TT N Q), pr_dq (pr_aq xPat TT N Q), pr_mq (pr_aq xPat TT N Q), xPat, xCX, xCY, xCD, xCC, xCU, xCV, xRul) :=
    fun _ => rl_in0 _ _ _ _ _ _ _ _ _ _ _ _ _ _ _ _ _ _ _ _ _ _ _ _ _ (pr_aq xPat TT N Q) _ _ _ _ _ _ _ (pr_aqR (fun r hr => (f2 r hr).2) f3) f4
  unfold wpY_colour
  dsimp only
  rcases bd_pix v1 v2 with z | ⟨a, b, ha, hb, rfl, rfl⟩
  · refine xw_pix0 z (br_t rfl ?_)
    refine yw_badPixel1 z (br_f (by decide) ?_)
    exact ⟨rfl, R 0⟩
  · have i2 := pk_in (16 * b + a) 256 (by omega) (xi_16k b a)
    refine xw_pix1 ha hb (br_f (by decide) ⟨i2, ?_⟩)
    refine yw_badPixel0 ha hb (br_t rfl ⟨i2, ?_⟩)
    exact ⟨rfl, R 0⟩
theorem i_vc_depth {k : Nat} {u : SX} {v : SY} (I : i_Rel k u v) (hk : k + 5 ≤ 2560) (v1 : Int32) (v2 : Int32) : wpX_depth (fun r u' => wpY_depth (fun r' => r' = r ∧ i_Rel (k + 5) u' v) v v1 v2) u v1 v2 := by
  refine rl_el (P := fun u v => wpX_depth (fun r u' => wpY_depth (fun r' => r' = r ∧ i_Rel (k + 5) u' v) v v1 v2) u v1 v2) ?_ I
  intro xBox xFar xPat xCX xCY xCD xCC xCU xCV xRul xRX xRY xRD xRC xRU xRV xRB xRR xRA xSX xSY xTE xAZ xSd xCh N TT Q yOne yTwo yThr yAre yWa yWb yWc F
  obtain ⟨f1, f2, f3, f4⟩ := F
  unfold wpX_depth
  dsimp only
  refine xw_flush f1 f2 f3 (fun g sX sY tE aZ sd => ?_)
  dsimp only
  have R : ∀ g' : Int32, i_Rel (k + 5) (xBox, pr_sq (pr_aq xPat TT N Q), 0, g, pr_cq (pr_aq xPat TT N Q), pr_dq (pr_aq xPat TT N Q), pr_mq (pr_aq xPat TT N Q), xPat, xCX, xCY, xCD, xCC, xCU, xCV, xRul, xRX, xRY, xRD, xRC, xRU, xRV, xRB, xRR, xRA, sX, sY, tE, aZ, sd, xCh) (pr_sq (pr_aq xPat TT N Q), xBox, yOne, yTwo, yThr, yAre, yWa, yWb, yWc, pr_cq (pr_aq xPat TT N Q), pr_dq (pr_aq xPat TT N Q), pr_mq (pr_aq xPat TT N Q), xPat, xCX, xCY, xCD, xCC, xCU, xCV, xRul) :=
    fun _ => rl_in0 _ _ _ _ _ _ _ _ _ _ _ _ _ _ _ _ _ _ _ _ _ _ _ _ _ (pr_aq xPat TT N Q) _ _ _ _ _ _ _ (pr_aqR (fun r hr => (f2 r hr).2) f3) f4
  unfold wpY_depth
  dsimp only
  rcases bd_pix v1 v2 with z | ⟨a, b, ha, hb, rfl, rfl⟩
  · refine xw_pix0 z (br_t rfl ?_)
    refine yw_badPixel1 z (br_f (by decide) ?_)
    exact ⟨rfl, R 0⟩
  · have i2 := pk_in (16 * b + a) 256 (by omega) (xi_16k b a)
    refine xw_pix1 ha hb (br_f (by decide) ⟨i2, ?_⟩)
    refine yw_badPixel0 ha hb (br_t rfl ⟨i2, ?_⟩)
    exact ⟨rfl, R 0⟩
theorem i_vc_mark {k : Nat} {u : SX} {v : SY} (I : i_Rel k u v) (hk : k + 5 ≤ 2560) (v1 : Int32) (v2 : Int32) : wpX_mark (fun r u' => wpY_mark (fun r' => r' = r ∧ i_Rel (k + 5) u' v) v v1 v2) u v1 v2 := by
  refine rl_el (P := fun u v => wpX_mark (fun r u' => wpY_mark (fun r' => r' = r ∧ i_Rel (k + 5) u' v) v v1 v2) u v1 v2) ?_ I
  intro xBox xFar xPat xCX xCY xCD xCC xCU xCV xRul xRX xRY xRD xRC xRU xRV xRB xRR xRA xSX xSY xTE xAZ xSd xCh N TT Q yOne yTwo yThr yAre yWa yWb yWc F
  obtain ⟨f1, f2, f3, f4⟩ := F
  unfold wpX_mark
  dsimp only
  refine xw_flush f1 f2 f3 (fun g sX sY tE aZ sd => ?_)
  dsimp only
  have R : ∀ g' : Int32, i_Rel (k + 5) (xBox, pr_sq (pr_aq xPat TT N Q), 0, g, pr_cq (pr_aq xPat TT N Q), pr_dq (pr_aq xPat TT N Q), pr_mq (pr_aq xPat TT N Q), xPat, xCX, xCY, xCD, xCC, xCU, xCV, xRul, xRX, xRY, xRD, xRC, xRU, xRV, xRB, xRR, xRA, sX, sY, tE, aZ, sd, xCh) (pr_sq (pr_aq xPat TT N Q), xBox, yOne, yTwo, yThr, yAre, yWa, yWb, yWc, pr_cq (pr_aq xPat TT N Q), pr_dq (pr_aq xPat TT N Q), pr_mq (pr_aq xPat TT N Q), xPat, xCX, xCY, xCD, xCC, xCU, xCV, xRul) :=
    fun _ => rl_in0 _ _ _ _ _ _ _ _ _ _ _ _ _ _ _ _ _ _ _ _ _ _ _ _ _ (pr_aq xPat TT N Q) _ _ _ _ _ _ _ (pr_aqR (fun r hr => (f2 r hr).2) f3) f4
  unfold wpY_mark
  dsimp only
  rcases bd_pix v1 v2 with z | ⟨a, b, ha, hb, rfl, rfl⟩
  · refine xw_pix0 z (br_t rfl ?_)
    refine yw_badPixel1 z (br_f (by decide) ?_)
    exact ⟨rfl, R 0⟩
  · have i2 := pk_in (16 * b + a) 256 (by omega) (xi_16k b a)
    refine xw_pix1 ha hb (br_f (by decide) ⟨i2, ?_⟩)
    refine yw_badPixel0 ha hb (br_t rfl ⟨i2, ?_⟩)
    exact ⟨rfl, R 0⟩
theorem i_vc_digest {k : Nat} {u : SX} {v : SY} (I : i_Rel k u v) (hk : k + 5 ≤ 2560) : wpX_digest (fun r u' => wpY_digest (fun r' => r' = r ∧ i_Rel (k + 5) u' v) v) u := by
  refine rl_el (P := fun u v => wpX_digest (fun r u' => wpY_digest (fun r' => r' = r ∧ i_Rel (k + 5) u' v) v) u) ?_ I
  intro xBox xFar xPat xCX xCY xCD xCC xCU xCV xRul xRX xRY xRD xRC xRU xRV xRB xRR xRA xSX xSY xTE xAZ xSd xCh N TT Q yOne yTwo yThr yAre yWa yWb yWc F
  obtain ⟨f1, f2, f3, f4⟩ := F
  unfold wpX_digest
  dsimp only
  refine xw_flush f1 f2 f3 (fun g sX sY tE aZ sd => ?_)
  dsimp only
  refine xw_digest8 ?_
  refine yw_digest ⟨rfl, ?_⟩
  exact rl_in0 _ _ _ _ _ _ _ _ _ _ _ _ _ _ _ _ _ _ _ _ _ _ _ _ _ (pr_aq xPat TT N Q) _ _ _ _ _ _ _ (pr_aqR (fun r hr => (f2 r hr).2) f3) f4
theorem i_vc_hits {k : Nat} {u : SX} {v : SY} (I : i_Rel k u v) (hk : k + 5 ≤ 2560) : wpX_hits (fun r u' => wpY_hits (fun r' => r' = r ∧ i_Rel (k + 5) u' v) v) u := by
  refine rl_el (P := fun u v => wpX_hits (fun r u' => wpY_hits (fun r' => r' = r ∧ i_Rel (k + 5) u' v) v) u) ?_ I
  intro xBox xFar xPat xCX xCY xCD xCC xCU xCV xRul xRX xRY xRD xRC xRU xRV xRB xRR xRA xSX xSY xTE xAZ xSd xCh N TT Q yOne yTwo yThr yAre yWa yWb yWc F
  obtain ⟨f1, f2, f3, f4⟩ := F
  unfold wpX_hits
  dsimp only
  refine xw_flush f1 f2 f3 (fun g sX sY tE aZ sd => ?_)
  dsimp only
  unfold wpY_hits
  dsimp only
  refine ⟨rfl, ?_⟩
  exact rl_in0 _ _ _ _ _ _ _ _ _ _ _ _ _ _ _ _ _ _ _ _ _ _ _ _ _ (pr_aq xPat TT N Q) _ _ _ _ _ _ _ (pr_aqR (fun r hr => (f2 r hr).2) f3) f4
end
section
theorem pr_ap_eq {pat : Nat → Int32} {TT TT' : Nat → Nat → Int32} {j : Nat} {s : pr_PX} : ∀ n, (∀ r, r < n → TT' r = TT r) → pr_ap pat TT' n j s = pr_ap pat TT n j s := by
  intro n
  induction n with
  | zero => intro _; rfl
  | succ n ih =>
    intro h
    show pr_st pat (TT' n) j (pr_ap pat TT' n j s) = pr_st pat (TT n) j (pr_ap pat TT n j s)
    rw [ih (fun r hr => h r (by omega)), h n (by omega)]
theorem pr_aq_s {pat T : Nat → Int32} {TT TT' : Nat → Nat → Int32} {n : Nat} {Q : Nat → pr_PX} (h : ∀ r, r < n → TT' r = TT r) (hT : TT' n = T) :
    pr_qs pat T (pr_lt 256) (pr_aq pat TT n Q) = pr_aq pat TT' (n + 1) Q := by
  funext j
  unfold pr_qs pr_aq
  by_cases a : j < 256
  · rw [if_pos (show pr_lt 256 j = true from decide_eq_true a), if_pos a, if_pos a]
    show _ = pr_st pat (TT' n) j (pr_ap pat TT' n j (Q j))
    rw [hT, pr_ap_eq n h]
  · rw [if_neg (show ¬ pr_lt 256 j = true by rw [show pr_lt 256 j = false from decide_eq_false a]; decide), if_neg a, if_neg a]
def pr_app (TT : Nat → Nat → Int32) (n : Nat) (T : Nat → Int32) : Nat → Nat → Int32 := fun r => if r = n then T else TT r
theorem i_vc_draw {k : Nat} {u : SX} {v : SY} (I : i_Rel k u v) (hk : k + 5 ≤ 2560) (v1 : Int32) : wpX_draw (fun r u' => wpY_draw (fun r' v' => r' = r ∧ i_Rel (k + 5) u' v') v v1) u v1 := by
  refine rl_el (P := fun u v => wpX_draw (fun r u' => wpY_draw (fun r' v' => r' = r ∧ i_Rel (k + 5) u' v') v v1) u v1) ?_ I
  intro xBox xFar xPat xCX xCY xCD xCC xCU xCV xRul xRX xRY xRD xRC xRU xRV xRB xRR xRA xSX xSY xTE xAZ xSd xCh N TT Q yOne yTwo yThr yAre yWa yWb yWc F
  have R := rl_in (k := k + 5) xBox xFar xPat xCX xCY xCD xCC xCU xCV xRul xRX xRY xRD xRC xRU xRV xRB xRR xRA xSX xSY xTE xAZ xSd xCh N TT Q yOne yTwo yThr yAre yWa yWb yWc F
  unfold wpX_draw
  dsimp only
  rcases bd_ix v1 216 (by decide) with a1 | ⟨j, hj, rfl⟩
  · refine xw_in0 a1 (br_t rfl ?_)
    unfold wpY_draw
    dsimp only
    exact bd_le1 215 (by decide) a1 ⟨rfl, R⟩
  refine xw_in1 (n := 216) hj (by decide) (br_f (by decide) ?_)
  obtain ⟨f1, f2, f3, f4⟩ := F
  obtain ⟨b, hb, rfl⟩ := f4.2.1
  obtain ⟨A, B, C, w, hA, hB, hC, hw, WX, WY⟩ := xy_take (xFar := xFar) (xHit := pr_sq Q) (xRec := nI N) (xCol := pr_cq Q) (xDep := pr_dq Q) (xMrk := pr_mq Q) (xPat := xPat) (xCC := xCC) (xRX := xRX) (xRY := xRY) (xRD := xRD) (xRC := xRC) (xRU := xRU) (xRV := xRV) (xRB := xRB) (xRR := xRR) (xRA := xRA) (xSX := xSX) (xSY := xSY) (xTE := xTE) (xAZ := xAZ) (xSd := xSd) (xCh := xCh)
    (yHit := pr_sq (pr_aq xPat TT N Q)) (yBox := nI b) (yOne := yOne) (yTwo := yTwo) (yThr := yThr) (yAre := yAre) (yWa := yWa) (yWb := yWb) (yWc := yWc) (yCol := pr_cq (pr_aq xPat TT N Q)) (yDep := pr_dq (pr_aq xPat TT N Q)) (yMrk := pr_mq (pr_aq xPat TT N Q)) (yPat := xPat) (yCD := xCD) (yCC := xCC) (yCU := xCU) (yCV := xCV) hj f4
  refine WX _ (fun z ch => ?_) (fun z ch q0 q1 q2 => ?_)
  · dsimp only
    refine br_t rfl ?_
    unfold wpY_draw
    dsimp only
    refine bd_le0 215 (by decide) hj ?_
    refine WY _ ?_
    dsimp only
    subst z
    refine ⟨257, yw_draw0 hb ⟨rfl, ?_⟩ 256 0 257 rfl (by decide)⟩
    exact rl_in _ _ _ _ _ _ _ _ _ _ _ _ _ _ _ _ _ _ _ _ _ _ _ _ _ N TT Q _ _ _ _ _ _ _ ⟨f1, f2, f3, f4⟩
  · have hw2 := hw.resolve_left z
    have hT : pr_ok (pr_tri xCX xCY xCD xCC xCU xCV (nI b) xRul A B C w) := pr_tri_ok f4 hA hB hC hw2.2 hw2.1
    have YD : ∀ post : Int32 → SY → Prop, (∀ wa wb wc : Int32, post 0 (pr_sq (pr_qs xPat (pr_tri xCX xCY xCD xCC xCU xCV (nI b) xRul A B C w) (pr_lt 256) (pr_aq xPat TT N Q)), nI b, nI A, nI B, nI C, w, wa, wb, wc, pr_cq (pr_qs xPat (pr_tri xCX xCY xCD xCC xCU xCV (nI b) xRul A B C w) (pr_lt 256) (pr_aq xPat TT N Q)), pr_dq (pr_qs xPat (pr_tri xCX xCY xCD xCC xCU xCV (nI b) xRul A B C w) (pr_lt 256) (pr_aq xPat TT N Q)), pr_mq (pr_qs xPat (pr_tri xCX xCY xCD xCC xCU xCV (nI b) xRul A B C w) (pr_lt 256) (pr_aq xPat TT N Q)), xPat, xCX, xCY, xCD, xCC, xCU, xCV, xRul)) →
        wpY_draw post (pr_sq (pr_aq xPat TT N Q), nI b, yOne, yTwo, yThr, yAre, yWa, yWb, yWc, pr_cq (pr_aq xPat TT N Q), pr_dq (pr_aq xPat TT N Q), pr_mq (pr_aq xPat TT N Q), xPat, xCX, xCY, xCD, xCC, xCU, xCV, xRul) (nI j) := by
      intro post h
      unfold wpY_draw
      dsimp only
      refine bd_le0 215 (by decide) hj ?_
      refine WY _ ?_
      dsimp only
      have q := yw_draw20 (post := post) (Q := pr_aq xPat TT N Q) hA hB hC z hb hT h 256 0 257 yWa yWb yWc rfl (by decide)
      rw [show pr_qs xPat (pr_tri xCX xCY xCD xCC xCU xCV (nI b) xRul A B C w) (pr_lt 0) (pr_aq xPat TT N Q) = pr_aq xPat TT N Q from pr_qs_id (fun j hj => absurd (of_decide_eq_true hj) (Nat.not_lt_zero j))] at q
      exact ⟨257, q⟩
    dsimp only
    refine br_f z ?_
    refine pk_eq N 12 (fun t => ?_) (fun t => ?_)
    · refine xw_flush f1 f2 f3 (fun g sX sY tE aZ sd => ?_)
      dsimp only
      unfold wX_draw_37
      refine xw_write (r := 0) (by decide) hA hB hC q0 q1 q2 (fun rX rY rD rC rU rV rB rR rA h1 h2 => ?_)
      dsimp only
      refine nm_r (e' := nI 1) rfl ?_
      refine YD _ (fun wa wb wc => ⟨rfl, ?_⟩)
      have e := pr_aq_s (pat := xPat) (TT := TT) (TT' := fun _ => pr_tri xCX xCY xCD xCC xCU xCV (nI b) xRul A B C w) (n := 0) (Q := pr_aq xPat TT N Q) (fun r hr => absurd hr (Nat.not_lt_zero r)) rfl
      rw [pr_aq_0] at e
      rw [e]
      exact rl_in _ _ _ _ _ _ _ _ _ _ _ _ _ _ _ _ _ _ _ _ _ _ _ _ _ 1 (fun _ => pr_tri xCX xCY xCD xCC xCU xCV (nI b) xRul A B C w) (pr_aq xPat TT N Q) _ _ _ _ _ _ _
        ⟨by decide, fun r hr => by
          have e0 : r = 0 := by omega
          subst e0
          exact ⟨h1, hT⟩, pr_aqR (fun r hr => (f2 r hr).2) f3, f4⟩
    · unfold wX_draw_37
      refine xw_write (r := N) (by omega) hA hB hC q0 q1 q2 (fun rX rY rD rC rU rV rB rR rA h1 h2 => ?_)
      dsimp only
      refine nm_r (nI_1 N) ?_
      refine YD _ (fun wa wb wc => ⟨rfl, ?_⟩)
      have e := pr_aq_s (pat := xPat) (TT := TT) (TT' := pr_app TT N (pr_tri xCX xCY xCD xCC xCU xCV (nI b) xRul A B C w)) (n := N) (Q := Q) (fun r hr => if_neg (by omega)) (if_pos rfl)
      rw [e]
      exact rl_in _ _ _ _ _ _ _ _ _ _ _ _ _ _ _ _ _ _ _ _ _ _ _ _ _ (N + 1) (pr_app TT N (pr_tri xCX xCY xCD xCC xCU xCV (nI b) xRul A B C w)) Q _ _ _ _ _ _ _
        ⟨by omega, fun r hr => by
          unfold pr_app
          by_cases e0 : r = N
          · rw [if_pos e0, e0]; exact ⟨h1, hT⟩
          · rw [if_neg e0]; exact ⟨h2 r _ e0 (f2 r (by omega)).1, (f2 r (by omega)).2⟩, f3, f4⟩
theorem i_vc_covered {k : Nat} {u : SX} {v : SY} (I : i_Rel k u v) (hk : k + 5 ≤ 2560) (v1 : Int32) : wpX_covered (fun r u' => wpY_covered (fun r' v' => r' = r ∧ i_Rel (k + 5) u' v') v v1) u v1 := by
  refine rl_el (P := fun u v => wpX_covered (fun r u' => wpY_covered (fun r' v' => r' = r ∧ i_Rel (k + 5) u' v') v v1) u v1) ?_ I
  intro xBox xFar xPat xCX xCY xCD xCC xCU xCV xRul xRX xRY xRD xRC xRU xRV xRB xRR xRA xSX xSY xTE xAZ xSd xCh N TT Q yOne yTwo yThr yAre yWa yWb yWc F
  have R := rl_in (k := k + 5) xBox xFar xPat xCX xCY xCD xCC xCU xCV xRul xRX xRY xRD xRC xRU xRV xRB xRR xRA xSX xSY xTE xAZ xSd xCh N TT Q yOne yTwo yThr yAre yWa yWb yWc F
  unfold wpX_covered
  dsimp only
  rcases bd_ix v1 216 (by decide) with a1 | ⟨j, hj, rfl⟩
  · refine xw_in0 a1 (br_t rfl ?_)
    unfold wpY_covered
    dsimp only
    exact bd_le1 215 (by decide) a1 ⟨rfl, R⟩
  refine xw_in1 (n := 216) hj (by decide) (br_f (by decide) ?_)
  obtain ⟨f1, f2, f3, f4⟩ := F
  obtain ⟨A, B, C, w, hA, hB, hC, hw, WX, WY⟩ := xy_take (xFar := xFar) (xHit := pr_sq Q) (xRec := nI N) (xCol := pr_cq Q) (xDep := pr_dq Q) (xMrk := pr_mq Q) (xPat := xPat) (xCC := xCC) (xRX := xRX) (xRY := xRY) (xRD := xRD) (xRC := xRC) (xRU := xRU) (xRV := xRV) (xRB := xRB) (xRR := xRR) (xRA := xRA) (xSX := xSX) (xSY := xSY) (xTE := xTE) (xAZ := xAZ) (xSd := xSd) (xCh := xCh)
    (yHit := pr_sq (pr_aq xPat TT N Q)) (yBox := xBox) (yOne := yOne) (yTwo := yTwo) (yThr := yThr) (yAre := yAre) (yWa := yWa) (yWb := yWb) (yWc := yWc) (yCol := pr_cq (pr_aq xPat TT N Q)) (yDep := pr_dq (pr_aq xPat TT N Q)) (yMrk := pr_mq (pr_aq xPat TT N Q)) (yPat := xPat) (yCD := xCD) (yCC := xCC) (yCU := xCU) (yCV := xCV) hj f4
  refine WX _ (fun z ch => ?_) (fun z ch q0 q1 q2 => ?_)
  · dsimp only
    refine br_t rfl ?_
    unfold wpY_covered
    dsimp only
    refine bd_le0 215 (by decide) hj ?_
    refine WY _ ?_
    dsimp only
    subst z
    refine ⟨257, yw_cov0 ⟨rfl, ?_⟩ 256 0 257 rfl (by decide)⟩
    exact rl_in _ _ _ _ _ _ _ _ _ _ _ _ _ _ _ _ _ _ _ _ _ _ _ _ _ N TT Q _ _ _ _ _ _ _ ⟨f1, f2, f3, f4⟩
  · have hw2 := hw.resolve_left z
    have hT : pr_ok (pr_tri xCX xCY xCD xCC xCU xCV xBox xRul A B C w) := pr_tri_ok f4 hA hB hC hw2.2 hw2.1
    dsimp only
    refine br_f z ?_
    refine xw_flush f1 f2 f3 (fun g sX sY tE aZ sd => ?_)
    dsimp only
    refine xw_write (r := 0) (by decide) hA hB hC q0 q1 q2 (fun rX rY rD rC rU rV rB rR rA h1 h2 => ?_)
    dsimp only
    refine xw_edges (r := 0) (by decide) h1 (fun sX2 sY2 tE2 aZ2 hE => ?_)
    dsimp only
    refine ⟨17, xw_cov44 hT.1 hE (fun sd2 => ?_) 16 0 17 sd rfl (by decide)⟩
    unfold wpY_covered
    dsimp only
    refine bd_le0 215 (by decide) hj ?_
    refine WY _ ?_
    dsimp only
    refine ⟨257, yw_cov22 hA hB hC z (fun wa wb wc => ⟨rfl, ?_⟩) 256 0 257 yWa yWb yWc rfl (by decide)⟩
    exact rl_in0 _ _ _ _ _ _ _ _ _ _ _ _ _ _ _ _ _ _ _ _ _ _ _ _ _ (pr_aq xPat TT N Q) _ _ _ _ _ _ _ (pr_aqR (fun r hr => (f2 r hr).2) f3) f4
def pr_q0 : Nat → pr_PX := fun j => (0, if j < 256 then 255 else 0, 0, 0)
theorem pr_sum0 : ∀ n, pr_sum pr_q0 n = 0 := by
  intro n
  induction n with
  | zero => rfl
  | succ n ih =>
    show pr_sum pr_q0 n + 0 = 0
    rw [ih]
    rfl
theorem i_vc0 : wpX_init (fun u => wpY_init (fun v => i_Rel 0 u v)) := by
  unfold wpX_init
  refine xw_init211 ?_
  unfold wpY_init
  refine yw_init97 ?_
  have q := rl_in0 (k := 0) 3855 0 (fun _ => 0) (fun _ => 0) (fun _ => 0) (fun _ => 0) (fun _ => 0) (fun _ => 0) (fun _ => 0) (pr_fr (fun _ => 0) 8) (fun _ => 0) (fun _ => 0) (fun _ => 0) (fun _ => 0) (fun _ => 0) (fun _ => 0) (fun _ => 0) (fun _ => 0) (fun _ => 0) (fun _ => 0) (fun _ => 0) (fun _ => 0) (fun _ => 0) (fun _ => 0) (fun _ => 0)
    pr_q0 0 0 0 0 0 0 0 (fun _ => ⟨0, by decide, rfl⟩) (pr_good0 (fun _ _ => rfl) (fun _ _ => rfl) (fun _ _ => rfl) (fun _ _ => rfl) (fun _ _ => rfl))
  rw [show pr_sq pr_q0 = 0 from pr_sum0 256] at q
  exact q
end
