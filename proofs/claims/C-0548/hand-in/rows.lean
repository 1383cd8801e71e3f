section
theorem pk_us {f : Nat → Int32} {k : Nat} {x : Int32} : upd f k x k = x := if_pos rfl
theorem pk_un {f : Nat → Int32} {k j : Nat} {x : Int32} (h : j ≠ k) : upd f k x j = f j := if_neg h
theorem pk_sub {a b : Nat} (h : b ≤ a) : nI a - nI b = nI (a - b) := by
  obtain ⟨c, rfl⟩ : ∃ c, a = c + b := ⟨a - b, by omega⟩
  rw [← nI_add, Int32.add_sub_cancel, Nat.add_sub_cancel]
theorem pk_m1 (n : Nat) : nI (n + 1) + (-1) = nI n := by
  rw [← nI_1, Int32.add_assoc, show (1 : Int32) + (-1) = 0 from rfl, Int32.add_zero]
theorem pk_mul (a b : Nat) : nI a * nI b = nI (a * b) := (Int32.ofNat_mul a b).symm
theorem pk_div {a d : Nat} (ha : a < 2 ^ 31) (h0 : 0 < d) (hd : d < 2 ^ 31) : nI a / nI d = nI (a / d) := by
  apply Int32.toInt_inj.mp
  rw [lg_idiv_nonneg (by rw [nI_toInt ha]; omega) (by rw [nI_toInt hd]; omega), nI_toInt ha, nI_toInt hd, nI_toInt (Nat.lt_of_le_of_lt (Nat.div_le_self a d) ha)]
  first | rfl | exact (Int.natCast_ediv _ _).symm
theorem pk_rem {a d : Nat} (ha : a < 2 ^ 31) (h0 : 0 < d) (hd : d < 2 ^ 31) : nI a - nI a / nI d * nI d = nI (a % d) := by
  rw [pk_div ha h0 hd, pk_mul, pk_sub (Nat.div_mul_le_self a d)]
  exact congrArg nI (by have := Nat.div_add_mod' a d; omega)
theorem pk_sub_toInt {a b : Nat} (ha : a < 2 ^ 30) (hb : b < 2 ^ 30) : (nI a - nI b).toInt = (a : Int) - b := by
  rw [Int32.toInt_sub, nI_toInt (by omega), nI_toInt (by omega)]
  exact Int.bmod_eq_of_le (by omega) (by omega)
theorem pk_sneg {a b : Nat} (hb : b < 2 ^ 30) (h : a < b) : nI a - nI b < 0 := by
  rw [Int32.lt_iff_toInt_lt, pk_sub_toInt (by omega) hb, show (0 : Int32).toInt = 0 from by decide]
  omega
theorem pk_ix (x : Int32) {n : Nat} (hn : n < 2 ^ 31) : x < 0 ∨ nI n ≤ x ∨ ∃ j : Nat, j < n ∧ x = nI j := by
  by_cases h : x < 0
  · exact Or.inl h
  · obtain ⟨j, hj, rfl⟩ := nI_of h
    by_cases h2 : j < n
    · exact Or.inr (Or.inr ⟨j, h2, rfl⟩)
    · exact Or.inr (Or.inl (nI_le (by omega) hj))
theorem pk_le {x y : Int32} {A B : Prop} (a b : Nat) (f : a ≤ b → A) (g : b < a → B) (hx : x = nI a := by rfl) (hy : y = nI b := by rfl) (ha : a < 2 ^ 31 := by omega) (hb : b < 2 ^ 31 := by omega) : (x ≤ y → A) ∧ (¬ x ≤ y → B) := by
  subst hx hy
  rw [nI_leI ha hb]
  exact ⟨f, fun z => g (by omega)⟩
theorem pk_lt {x y : Int32} {A B : Prop} (a b : Nat) (f : a < b → A) (g : b ≤ a → B) (hx : x = nI a := by rfl) (hy : y = nI b := by rfl) (ha : a < 2 ^ 31 := by omega) (hb : b < 2 ^ 31 := by omega) : (x < y → A) ∧ (¬ x < y → B) := by
  subst hx hy
  rw [nI_ltI ha hb]
  exact ⟨f, fun z => g (by omega)⟩
theorem pk_eq {x y : Int32} {A B : Prop} (a b : Nat) (f : a = b → A) (g : a ≠ b → B) (hx : x = nI a := by rfl) (hy : y = nI b := by rfl) (ha : a < 2 ^ 31 := by omega) (hb : b < 2 ^ 31 := by omega) : (x = y → A) ∧ (¬ x = y → B) := by
  subst hx hy
  rw [nI_eq ha hb]
  exact ⟨f, g⟩
theorem pk_in {x : Int32} (n N : Nat) (h : n < N) (hx : x = nI n := by rfl) (hN : N < 2 ^ 31 := by omega) : vp_in x N := by
  subst hx
  exact vp_in_nI h hN
theorem pk_cl {x : Int32} (n : Nat) (hx : x = nI n := by rfl) (h : n < 2 ^ 31 := by omega) : x.toNatClampNeg = n := by
  subst hx
  exact nI_clamp h
theorem pk_tn {n : Nat} (h : n < 2 ^ 32) : (nI n).toBitVec.toNat = n := Nat.mod_eq_of_lt h
theorem pk_and (x : Int32) {m : Int32} (k : Nat) (hm : m.toBitVec.toNat = 2 ^ k - 1) : x &&& m = nI (x.toBitVec.toNat % 2 ^ k) := by
  apply Int32.toBitVec_inj.mp
  apply BitVec.eq_of_toNat_eq
  rw [Int32.toBitVec_and, BitVec.toNat_and, hm, Nat.and_two_pow_sub_one_eq_mod]
  show _ = (BitVec.ofNat 32 _).toNat
  rw [BitVec.toNat_ofNat]
  exact (Nat.mod_eq_of_lt (Nat.lt_of_le_of_lt (Nat.mod_le _ _) x.toBitVec.isLt)).symm
theorem pk_andN {n : Nat} (h : n < 2 ^ 32) {m : Int32} (k : Nat) (hm : m.toBitVec.toNat = 2 ^ k - 1) : nI n &&& m = nI (n % 2 ^ k) := by
  rw [pk_and _ k hm, pk_tn h]
theorem pk_vb (z : Int32) : vp_nar .byte z.toInt8.toInt32 = z.toInt8.toInt32 := by rw [vp_nar_byte]; simp
theorem sb_m1 {p : Nat} (h : 0 < p) : nI p + (-1) = nI (p - 1) := by
  obtain ⟨q, rfl⟩ : ∃ q, p = q + 1 := ⟨p - 1, by omega⟩
  exact pk_m1 q
end
section
/-! numbers -/
def gi (z : Int) : Int32 := Int32.ofInt z
theorem gi_n (n : Nat) : gi (n : Int) = nI n := Int32.ofInt_eq_ofNat
theorem gi_0 : gi 0 = 0 := rfl
theorem gi_add (a b : Int) : gi a + gi b = gi (a + b) := (Int32.ofInt_add a b).symm
theorem gi_sub (a b : Int) : gi a - gi b = gi (a - b) := (Int32.ofInt_sub a b).symm
theorem gi_neg (a : Int) : -gi a = gi (-a) := (Int32.ofInt_neg a).symm
theorem gi_mul (a b : Int) : gi a * gi b = gi (a * b) := (Int32.ofInt_mul a b).symm
theorem gi_t {a : Int} (h1 : -2147483648 ≤ a) (h2 : a < 2147483648) : (gi a).toInt = a := Int32.toInt_ofInt_of_le h1 h2
theorem gi_le {a b : Int} (ha : -1000000000 ≤ a ∧ a ≤ 1000000000) (hb : -1000000000 ≤ b ∧ b ≤ 1000000000) : gi a ≤ gi b ↔ a ≤ b := by
  rw [Int32.le_iff_toInt_le, gi_t (by omega) (by omega), gi_t (by omega) (by omega)]
theorem gi_lt {a b : Int} (ha : -1000000000 ≤ a ∧ a ≤ 1000000000) (hb : -1000000000 ≤ b ∧ b ≤ 1000000000) : gi a < gi b ↔ a < b := by
  rw [Int32.lt_iff_toInt_lt, gi_t (by omega) (by omega), gi_t (by omega) (by omega)]
theorem gw_m1 : (-1 : Int32) < 0 := by decide
theorem gw_n1 {n : Nat} (h : n < 2 ^ 31) : ¬ (-1 : Int32) = nI n := by
  intro e
  have := nI_pos h
  rw [← e] at this
  exact this gw_m1
/-! words -/
theorem gw_tk {w : List Nat} {i : Nat} (h : i < w.length) : w.take (i + 1) = w.take i ++ [w.getD i 0] := by
  rw [List.take_succ_eq_append_getElem h]
  simp [h]
theorem gw_dp {w : List Nat} {i : Nat} (h : i < w.length) : w.drop i = w.getD i 0 :: w.drop (i + 1) := by
  rw [List.drop_eq_getElem_cons h]
  simp [h]
theorem gw_gm {w : List Nat} {i : Nat} (h : i < w.length) : w.getD i 0 ∈ w := by
  simp [h]
/-- what letter c is after l generations -/
def gw_ex (R : Nat → List Nat) : Nat → Nat → List Nat
  | 0, c => [c]
  | l + 1, c => (R c).flatMap (gw_ex R l)
theorem gw_ex0 (R : Nat → List Nat) (c : Nat) : gw_ex R 0 c = [c] := rfl
theorem gw_exS (R : Nat → List Nat) (l c : Nat) : gw_ex R (l + 1) c = (R c).flatMap (gw_ex R l) := rfl
/-- generation n -/
def gw_G (R : Nat → List Nat) (F : List Nat) (n : Nat) : List Nat := F.flatMap (gw_ex R n)
theorem gw_exR (R : Nat → List Nat) : ∀ l c, (gw_ex R l c).flatMap R = gw_ex R (l + 1) c := by
  intro l
  induction l with
  | zero => intro c; simp [gw_ex]
  | succ l ih =>
    intro c
    rw [gw_exS R l c, List.flatMap_assoc, gw_exS R (l + 1) c]
    congr 1
    funext d
    exact ih d
theorem gw_G0 (R : Nat → List Nat) (F : List Nat) : gw_G R F 0 = F := by
  simp [gw_G, gw_ex]
theorem gw_GS (R : Nat → List Nat) (F : List Nat) (n : Nat) : gw_G R F (n + 1) = (gw_G R F n).flatMap R := by
  unfold gw_G
  rw [List.flatMap_assoc]
  congr 1
  funext d
  exact (gw_exR R n d).symm
def gw_ok (R : Nat → List Nat) (F : List Nat) (A : Nat → Nat) : Prop :=
  (∀ c, (R c).length ≤ 4 ∧ ∀ d, d ∈ R c → d < 6) ∧ (1 ≤ F.length ∧ F.length ≤ 8 ∧ ∀ d, d ∈ F → d < 6) ∧ ∀ c, A c < 4
theorem gw_fl {w : List Nat} {f : Nat → List Nat} {B : Nat} (h : ∀ d, d ∈ w → (f d).length ≤ B) : (w.flatMap f).length ≤ w.length * B := by
  induction w with
  | nil => simp
  | cons a w ih =>
    have h1 := h a (by simp)
    have h2 := ih (fun d hd => h d (by simp [hd]))
    rw [List.flatMap_cons, List.length_append, List.length_cons, Nat.add_mul]
    omega
theorem gw_exL {R : Nat → List Nat} (hR : ∀ c, (R c).length ≤ 4 ∧ ∀ d, d ∈ R c → d < 6) : ∀ l c, (gw_ex R l c).length ≤ 4 ^ l := by
  intro l
  induction l with
  | zero => intro c; simp [gw_ex]
  | succ l ih =>
    intro c
    rw [gw_exS]
    have h := gw_fl (w := R c) (f := gw_ex R l) (B := 4 ^ l) (fun d _ => ih d)
    have h2 : (R c).length * 4 ^ l ≤ 4 * 4 ^ l := Nat.mul_le_mul_right _ (hR c).1
    have h3 : 4 ^ (l + 1) = 4 * 4 ^ l := by rw [Nat.pow_succ, Nat.mul_comm]
    omega
theorem gw_exB {R : Nat → List Nat} (hR : ∀ c, (R c).length ≤ 4 ∧ ∀ d, d ∈ R c → d < 6) {l : Nat} (c : Nat) (hl : l < 13) : (gw_ex R l c).length ≤ 16777216 :=
  Nat.le_trans (gw_exL hR l c) (Nat.le_trans (Nat.pow_le_pow_right (by decide) (show l ≤ 12 by omega)) (by decide))
theorem gw_exM {R : Nat → List Nat} (hR : ∀ c, (R c).length ≤ 4 ∧ ∀ d, d ∈ R c → d < 6) : ∀ l c, c < 6 → ∀ d, d ∈ gw_ex R l c → d < 6 := by
  intro l
  induction l with
  | zero =>
    intro c hc d hd
    simp [gw_ex] at hd
    omega
  | succ l ih =>
    intro c hc d hd
    rw [gw_exS, List.mem_flatMap] at hd
    obtain ⟨a, ha, hd⟩ := hd
    exact ih a ((hR c).2 a ha) d hd
theorem gw_GM {R : Nat → List Nat} {F : List Nat} {A : Nat → Nat} (ok : gw_ok R F A) (n : Nat) : ∀ d, d ∈ gw_G R F n → d < 6 := by
  intro d hd
  unfold gw_G at hd
  rw [List.mem_flatMap] at hd
  obtain ⟨a, ha, hd⟩ := hd
  exact gw_exM ok.1 n a (ok.2.1.2.2 a ha) d hd
/-- all generations up to n are short enough -/
def gw_rc (R : Nat → List Nat) (F : List Nat) (n : Nat) : Prop := ∀ m, m ≤ n → (gw_G R F m).length ≤ 3000
/-- an array holds a word -/
def gw_hl (a : Nat → Int32) (w : List Nat) : Prop := ∀ i, i < w.length → a i = nI (w.getD i 0)
/-- what both sides keep alike -/
def gw_B (R : Nat → List Nat) (F : List Nat) (A : Nat → Nat) (fs : Int32) (rz rl ft ac : Nat → Int32) : Prop :=
  fs = nI F.length ∧ (∀ c, c < 6 → rz c = nI (R c).length) ∧ (∀ c, c < 6 → ∀ i, i < (R c).length → rl (4 * c + i) = nI ((R c).getD i 0)) ∧ gw_hl ft F ∧ ∀ c, c < 6 → ac c = nI (A c)
end
section
/-! the pen -/
def gw_dx (a t : Nat) : Int := if a = 1 then (if t = 0 then 1 else if t = 2 then -1 else 0) else 0
def gw_dy (a t : Nat) : Int := if a = 1 then (if t = 1 then 1 else if t = 3 then -1 else 0) else 0
def gw_dt (a : Nat) : Nat := if a = 2 then 1 else if a = 3 then 3 else 0
def gw_rX (x y : Int) (t : Nat) : Int := if t = 0 then x else if t = 1 then -y else if t = 2 then -x else y
def gw_rY (x y : Int) (t : Nat) : Int := if t = 0 then y else if t = 1 then x else if t = 2 then -y else -x
abbrev gw_Pen : Type := Int × Int × Nat × Int × Int × Int × Int
def gw_stp (a : Nat) : gw_Pen → gw_Pen
  | (x, y, t, lx, hx, ly, hy) => (x + gw_dx a t, y + gw_dy a t, (t + gw_dt a) % 4, min lx (x + gw_dx a t), max hx (x + gw_dx a t), min ly (y + gw_dy a t), max hy (y + gw_dy a t))
def gw_cmp : gw_Pen → gw_Pen → gw_Pen
  | (x, y, t, lx, hx, ly, hy), (qx, qy, qt, qlx, qhx, qly, qhy) =>
    (x + gw_rX qx qy t, y + gw_rY qx qy t, (t + qt) % 4,
     min (min lx (x + gw_rX qlx qly t)) (x + gw_rX qhx qhy t), max (max hx (x + gw_rX qlx qly t)) (x + gw_rX qhx qhy t),
     min (min ly (y + gw_rY qlx qly t)) (y + gw_rY qhx qhy t), max (max hy (y + gw_rY qlx qly t)) (y + gw_rY qhx qhy t))
def gw_p0 : gw_Pen := (0, 0, 0, 0, 0, 0, 0)
/-- the pen goes through a word -/
def gw_dr (A : Nat → Nat) (p : gw_Pen) (w : List Nat) : gw_Pen := w.foldl (fun p c => gw_stp (A c) p) p
/-- the pen is within its bounds, and these within N -/
def gw_bd (N : Int) : gw_Pen → Prop
  | (x, y, t, lx, hx, ly, hy) => t < 4 ∧ -N ≤ lx ∧ lx ≤ x ∧ x ≤ hx ∧ hx ≤ N ∧ -N ≤ ly ∧ ly ≤ y ∧ y ≤ hy ∧ hy ≤ N ∧ lx ≤ 0 ∧ 0 ≤ hx ∧ ly ≤ 0 ∧ 0 ≤ hy
theorem gw_t4 {t : Nat} (h : t < 4) : t = 0 ∨ t = 1 ∨ t = 2 ∨ t = 3 := by omega
theorem gw_dxy (a t : Nat) : -1 ≤ gw_dx a t ∧ gw_dx a t ≤ 1 ∧ -1 ≤ gw_dy a t ∧ gw_dy a t ≤ 1 := by
  unfold gw_dx gw_dy
  repeat' split
  all_goals omega
theorem gw_bdS {N : Int} {a : Nat} : ∀ {p : gw_Pen}, gw_bd N p → gw_bd (N + 1) (gw_stp a p)
  | (x, y, t, lx, hx, ly, hy), h => by
    unfold gw_bd at h
    unfold gw_stp gw_bd
    dsimp only at h ⊢
    have h1 := gw_dxy a t
    have h2 : (t + gw_dt a) % 4 < 4 := Nat.mod_lt _ (by decide)
    generalize gw_dx a t = dx at h1 ⊢
    generalize gw_dy a t = dy at h1 ⊢
    refine ⟨h2, ?_, ?_, ?_, ?_, ?_, ?_, ?_, ?_, ?_, ?_, ?_, ?_⟩ <;> omega
theorem gw_bd0 : gw_bd 0 gw_p0 := by
  unfold gw_bd gw_p0
  dsimp only
  omega
theorem gw_drA (A : Nat → Nat) (p : gw_Pen) (u v : List Nat) : gw_dr A p (u ++ v) = gw_dr A (gw_dr A p u) v := by
  unfold gw_dr
  rw [List.foldl_append]
theorem gw_bdD {A : Nat → Nat} : ∀ (w : List Nat) {N : Int} {p : gw_Pen}, gw_bd N p → gw_bd (N + w.length) (gw_dr A p w)
  | [], N, p, h => by
    have e : N + (([] : List Nat).length : Int) = N := by simp
    rw [e]
    exact h
  | c :: w, N, p, h => by
    have h2 := gw_bdD (A := A) w (gw_bdS (a := A c) h)
    have e : N + ((c :: w).length : Int) = N + 1 + (w.length : Int) := by
      rw [List.length_cons]
      omega
    rw [e]
    exact h2
theorem gw_rdX {a qt t : Nat} {qx qy : Int} (ht : t < 4) (hq : qt < 4) : gw_rX (qx + gw_dx a qt) (qy + gw_dy a qt) t = gw_rX qx qy t + gw_dx a ((t + qt) % 4) := by
  by_cases ha : a = 1
  · subst ha
    rcases gw_t4 ht with rfl | rfl | rfl | rfl <;> rcases gw_t4 hq with rfl | rfl | rfl | rfl <;> simp [gw_rX, gw_dx, gw_dy] <;> omega
  · simp [gw_dx, gw_dy, ha]
theorem gw_rdY {a qt t : Nat} {qx qy : Int} (ht : t < 4) (hq : qt < 4) : gw_rY (qx + gw_dx a qt) (qy + gw_dy a qt) t = gw_rY qx qy t + gw_dy a ((t + qt) % 4) := by
  by_cases ha : a = 1
  · subst ha
    rcases gw_t4 ht with rfl | rfl | rfl | rfl <;> rcases gw_t4 hq with rfl | rfl | rfl | rfl <;> simp [gw_rY, gw_dx, gw_dy] <;> omega
  · simp [gw_dx, gw_dy, ha]
theorem gw_mm1 {l x a b c : Int} (h : a ≤ b) : min (min l (x + min a c)) (x + max b c) = min (min (min l (x + a)) (x + b)) (x + c) := by omega
theorem gw_mm2 {l x a b c : Int} (h : a ≤ b) : min (min l (x + -min a c)) (x + -max b c) = min (min (min l (x + -a)) (x + -b)) (x + -c) := by omega
theorem gw_mm3 {l x a b c : Int} (h : a ≤ b) : max (max l (x + min a c)) (x + max b c) = max (max (max l (x + a)) (x + b)) (x + c) := by omega
theorem gw_mm4 {l x a b c : Int} (h : a ≤ b) : max (max l (x + -min a c)) (x + -max b c) = max (max (max l (x + -a)) (x + -b)) (x + -c) := by omega
theorem gw_cmpS {N : Int} {a : Nat} : ∀ {p q : gw_Pen}, p.2.2.1 < 4 → gw_bd N q → gw_cmp p (gw_stp a q) = gw_stp a (gw_cmp p q)
  | (x, y, t, lx, hx, ly, hy), (qx, qy, qt, qlx, qhx, qly, qhy), ht, hq => by
    unfold gw_bd at hq
    dsimp only at hq ht
    have eX := gw_rdX (a := a) (qx := qx) (qy := qy) ht hq.1
    have eY := gw_rdY (a := a) (qx := qx) (qy := qy) ht hq.1
    have e1 : (t + (qt + gw_dt a) % 4) % 4 = ((t + qt) % 4 + gw_dt a) % 4 := by omega
    have hx' : qlx ≤ qhx := by omega
    have hy' : qly ≤ qhy := by omega
    unfold gw_cmp gw_stp
    dsimp only
    rw [eX, eY, e1]
    rw [← Int.add_assoc x, ← Int.add_assoc y]
    have eX' : x + gw_rX qx qy t + gw_dx a ((t + qt) % 4) = x + gw_rX (qx + gw_dx a qt) (qy + gw_dy a qt) t := by rw [eX]; omega
    have eY' : y + gw_rY qx qy t + gw_dy a ((t + qt) % 4) = y + gw_rY (qx + gw_dx a qt) (qy + gw_dy a qt) t := by rw [eY]; omega
    rw [eX', eY']
    generalize qx + gw_dx a qt = u
    generalize qy + gw_dy a qt = v
    have f1 : min (min lx (x + gw_rX (min qlx u) (min qly v) t)) (x + gw_rX (max qhx u) (max qhy v) t) = min (min (min lx (x + gw_rX qlx qly t)) (x + gw_rX qhx qhy t)) (x + gw_rX u v t) := by
      rcases gw_t4 ht with rfl | rfl | rfl | rfl <;> simp only [gw_rX] <;> first | exact gw_mm1 hx' | exact gw_mm2 hy' | exact gw_mm2 hx' | exact gw_mm1 hy'
    have f2 : max (max hx (x + gw_rX (min qlx u) (min qly v) t)) (x + gw_rX (max qhx u) (max qhy v) t) = max (max (max hx (x + gw_rX qlx qly t)) (x + gw_rX qhx qhy t)) (x + gw_rX u v t) := by
      rcases gw_t4 ht with rfl | rfl | rfl | rfl <;> simp only [gw_rX] <;> first | exact gw_mm3 hx' | exact gw_mm4 hy' | exact gw_mm4 hx' | exact gw_mm3 hy'
    have f3 : min (min ly (y + gw_rY (min qlx u) (min qly v) t)) (y + gw_rY (max qhx u) (max qhy v) t) = min (min (min ly (y + gw_rY qlx qly t)) (y + gw_rY qhx qhy t)) (y + gw_rY u v t) := by
      rcases gw_t4 ht with rfl | rfl | rfl | rfl <;> simp only [gw_rY] <;> first | exact gw_mm1 hy' | exact gw_mm1 hx' | exact gw_mm2 hy' | exact gw_mm2 hx'
    have f4 : max (max hy (y + gw_rY (min qlx u) (min qly v) t)) (y + gw_rY (max qhx u) (max qhy v) t) = max (max (max hy (y + gw_rY qlx qly t)) (y + gw_rY qhx qhy t)) (y + gw_rY u v t) := by
      rcases gw_t4 ht with rfl | rfl | rfl | rfl <;> simp only [gw_rY] <;> first | exact gw_mm3 hy' | exact gw_mm3 hx' | exact gw_mm4 hy' | exact gw_mm4 hx'
    rw [f1, f2, f3, f4]
theorem gw_cmpT {p q : gw_Pen} : (gw_cmp p q).2.2.1 < 4 := by
  obtain ⟨x, y, t, lx, hx, ly, hy⟩ := p
  obtain ⟨qx, qy, qt, qlx, qhx, qly, qhy⟩ := q
  exact Nat.mod_lt _ (by decide)
theorem gw_cmpD {A : Nat → Nat} {p : gw_Pen} (hp : p.2.2.1 < 4) : ∀ (w : List Nat) {N : Int} {q : gw_Pen}, gw_bd N q → gw_cmp p (gw_dr A q w) = gw_dr A (gw_cmp p q) w
  | [], N, q, h => rfl
  | c :: w, N, q, h => by
    have h2 := gw_cmpD (A := A) hp w (gw_bdS (a := A c) h)
    rw [gw_cmpS hp h] at h2
    exact h2
theorem gw_cmp0 {N : Int} : ∀ {p : gw_Pen}, gw_bd N p → gw_cmp p gw_p0 = p
  | (x, y, t, lx, hx, ly, hy), h => by
    unfold gw_bd at h
    dsimp only at h
    have e1 : gw_rX 0 0 t = 0 := by unfold gw_rX; repeat' split
                                    all_goals omega
    have e2 : gw_rY 0 0 t = 0 := by unfold gw_rY; repeat' split
                                    all_goals omega
    unfold gw_cmp gw_p0
    dsimp only
    rw [e1, e2, Int.add_zero, Int.add_zero, Nat.add_zero, Nat.mod_eq_of_lt h.1]
    rw [show min (min lx x) x = lx by omega, show max (max hx x) x = hx by omega, show min (min ly y) y = ly by omega, show max (max hy y) y = hy by omega]
/-- a pen through a word: composed with what the word does from the origin -/
theorem gw_cmpW {A : Nat → Nat} {N : Int} {p : gw_Pen} (hp : gw_bd N p) (w : List Nat) : gw_cmp p (gw_dr A gw_p0 w) = gw_dr A p w := by
  have ht : p.2.2.1 < 4 := by
    obtain ⟨x, y, t, lx, hx, ly, hy⟩ := p
    exact hp.1
  rw [gw_cmpD ht w gw_bd0, gw_cmp0 hp]
end
section
/-! runs of equal letters: first letter, its run, last letter, its run, the longest run, the length -/
abbrev gw_Run : Type := Int32 × Nat × Int32 × Nat × Nat × Nat
def gw_rs (a : Int32) : gw_Run → gw_Run
  | (fl, fr, bl, br, lg, tt) => (if tt = 0 then a else fl, if tt = 0 then 1 else if fr = tt ∧ bl = a then fr + 1 else fr, a, if bl = a then br + 1 else 1, max lg (if bl = a then br + 1 else 1), tt + 1)
def gw_rj : gw_Run → gw_Run → gw_Run
  | (fl, fr, bl, br, lg, tt), (qfl, qfr, qbl, qbr, qlg, qtt) =>
    if qtt = 0 then (fl, fr, bl, br, lg, tt) else
    (if tt = 0 then qfl else fl, if tt = 0 then qfr else if fr = tt ∧ bl = qfl then fr + qfr else fr, qbl, if qbr = qtt ∧ bl = qfl then br + qbr else qbr, max (max lg (if bl = qfl then br + qfr else qfr)) qlg, tt + qtt)
def gw_r0 : gw_Run := (-1, 0, -1, 0, 0, 0)
def gw_rw (s : gw_Run) (w : List Nat) : gw_Run := w.foldl (fun s c => gw_rs (nI c) s) s
/-- what holds of the runs of a word -/
def gw_ri : gw_Run → Prop
  | (fl, fr, bl, br, lg, tt) => fr ≤ tt ∧ br ≤ tt ∧ lg ≤ tt ∧ (fr = tt ↔ br = tt) ∧ (0 < tt → 0 < br ∧ fl = bl ∨ 0 < br ∧ fr < tt) ∧ (tt = 0 → bl = -1)
theorem gw_riS {a : Int32} : ∀ {q : gw_Run}, gw_ri q → gw_ri (gw_rs a q)
  | (fl, fr, bl, br, lg, tt), h => by
    unfold gw_ri at h
    unfold gw_rs gw_ri
    dsimp only at h ⊢
    by_cases h0 : tt = 0
    · subst h0
      simp only [if_pos, true_and]
      have hb : br = 0 := by omega
      subst hb
      refine ⟨by omega, ?_, ?_, ?_, ?_, by omega⟩
      all_goals split
      all_goals first | omega | simp
    · simp only [if_neg h0]
      by_cases h1 : bl = a
      · subst h1
        simp only [if_pos, and_true]
        by_cases h2 : fr = tt
        · simp only [if_pos h2]
          refine ⟨by omega, by omega, by omega, by omega, ?_, by omega⟩
          intro _
          rcases h.2.2.2.2.1 (by omega) with h3 | h3
          · exact Or.inl ⟨by omega, h3.2⟩
          · omega
        · simp only [if_neg h2]
          refine ⟨by omega, by omega, by omega, by omega, ?_, by omega⟩
          intro _
          exact Or.inr ⟨by omega, by omega⟩
      · simp only [h1, and_false, if_false]
        refine ⟨by omega, by omega, by omega, by omega, ?_, by omega⟩
        intro _
        exact Or.inr ⟨by omega, by omega⟩
theorem gw_ri0 : gw_ri gw_r0 := by
  unfold gw_ri gw_r0
  dsimp only
  refine ⟨by omega, by omega, by omega, by omega, by omega, fun _ => rfl⟩
theorem gw_rwA (s : gw_Run) (u v : List Nat) : gw_rw s (u ++ v) = gw_rw (gw_rw s u) v := by
  unfold gw_rw
  rw [List.foldl_append]
theorem gw_riD : ∀ (w : List Nat) {q : gw_Run}, gw_ri q → gw_ri (gw_rw q w)
  | [], q, h => h
  | c :: w, q, h => gw_riD w (gw_riS (a := nI c) h)
theorem gw_rwT : ∀ (w : List Nat) {q : gw_Run}, (gw_rw q w).2.2.2.2.2 = q.2.2.2.2.2 + w.length
  | [], q => rfl
  | c :: w, q => by
    have h := gw_rwT w (q := gw_rs (nI c) q)
    have e : (gw_rs (nI c) q).2.2.2.2.2 = q.2.2.2.2.2 + 1 := by
      obtain ⟨fl, fr, bl, br, lg, tt⟩ := q
      rfl
    rw [e] at h
    rw [List.length_cons]
    show (gw_rw (gw_rs (nI c) q) w).2.2.2.2.2 = _
    omega
theorem gw_rjS {a : Int32} : ∀ {s q : gw_Run}, s.2.1 ≤ s.2.2.2.2.2 → gw_ri q → 0 < q.2.2.2.2.2 → gw_rj s (gw_rs a q) = gw_rs a (gw_rj s q)
  | (fl, fr, bl, br, lg, tt), (qfl, qfr, qbl, qbr, qlg, qtt), hs, hq, hp => by
    unfold gw_ri at hq
    dsimp only at hs hq hp
    have h0 : ¬ qtt = 0 := by omega
    have h1 : ¬ qtt + 1 = 0 := by omega
    have h2 : ¬ tt + qtt = 0 := by omega
    have hA := hq.1
    have hB := hq.2.1
    have hE := hq.2.2.2.1
    unfold gw_rs gw_rj
    dsimp only
    rw [if_neg h0, if_neg h1]
    rw [if_neg h0, if_neg h0, if_neg h2, if_neg h2]
    refine Prod.ext rfl (Prod.ext ?_ (Prod.ext rfl (Prod.ext ?_ (Prod.ext ?_ ?_))))
    · dsimp only
      by_cases t0 : tt = 0
      · subst t0
        simp only [if_pos, Nat.zero_add]
      · simp only [if_neg t0]
        by_cases m : fr = tt ∧ bl = qfl
        · rw [if_pos m, if_pos m]
          have e : (fr + qfr = tt + qtt ∧ qbl = a) ↔ (qfr = qtt ∧ qbl = a) := by
            constructor
            · rintro ⟨x, y⟩; exact ⟨by omega, y⟩
            · rintro ⟨x, y⟩; exact ⟨by omega, y⟩
          by_cases c : qfr = qtt ∧ qbl = a
          · rw [if_pos c, if_pos (e.mpr c)]; omega
          · rw [if_neg c, if_neg (fun z => c (e.mp z))]
        · rw [if_neg m, if_neg m, if_neg (fun z => by omega)]
    · dsimp only
      by_cases c : qbl = a
      · rw [if_pos c, if_pos c]
        by_cases m : qbr = qtt ∧ bl = qfl
        · rw [if_pos m, if_pos ⟨by omega, m.2⟩]; omega
        · rw [if_neg m, if_neg (fun z => m ⟨by omega, z.2⟩)]
      · rw [if_neg c, if_neg c, if_neg (fun z => by omega)]
    · dsimp only
      by_cases c : qbl = a
      · simp only [if_pos c]
        by_cases b : bl = qfl
        · simp only [if_pos b]
          by_cases w : qfr = qtt
          · rw [if_pos ⟨w, c⟩, if_pos ⟨hE.mp w, b⟩]
            have := hE.mp w
            omega
          · rw [if_neg (fun z => w z.1), if_neg (fun z => w (hE.mpr z.1))]
            omega
        · simp only [b, and_false, if_false]
          by_cases w : qfr = qtt
          · rw [if_pos ⟨w, c⟩]
            have := hE.mp w
            omega
          · rw [if_neg (fun z => w z.1)]
            omega
      · simp only [c, and_false, if_false]
        omega
    · dsimp only
      omega
theorem gw_rj1 {a : Nat} (ha : a < 6) : ∀ {s : gw_Run}, gw_rj s (gw_rs (nI a) gw_r0) = gw_rs (nI a) s
  | (fl, fr, bl, br, lg, tt) => by
    have hn : ¬ (-1 : Int32) = nI a := gw_n1 (by omega)
    unfold gw_rs gw_rj gw_r0
    dsimp only
    simp only [if_neg hn, if_pos, true_and]
    rw [if_neg (by omega)]
    refine Prod.ext rfl (Prod.ext rfl (Prod.ext rfl (Prod.ext rfl (Prod.ext ?_ rfl))))
    dsimp only
    by_cases b : bl = nI a
    · simp only [if_pos b]; omega
    · simp only [if_neg b]; omega
theorem gw_rjD {s : gw_Run} (hs : s.2.1 ≤ s.2.2.2.2.2) : ∀ (w : List Nat) {q : gw_Run}, gw_ri q → 0 < q.2.2.2.2.2 → gw_rj s (gw_rw q w) = gw_rw (gw_rj s q) w
  | [], q, h, hp => rfl
  | c :: w, q, h, hp => by
    have hp2 : 0 < (gw_rs (nI c) q).2.2.2.2.2 := by
      obtain ⟨fl, fr, bl, br, lg, tt⟩ := q
      exact Nat.succ_pos _
    have h2 := gw_rjD hs w (gw_riS (a := nI c) h) hp2
    rw [gw_rjS hs h hp] at h2
    exact h2
/-- a word behind another -/
theorem gw_rjW {s : gw_Run} (hs : gw_ri s) {w : List Nat} (hw : ∀ d, d ∈ w → d < 6) : gw_rj s (gw_rw gw_r0 w) = gw_rw s w := by
  cases w with
  | nil =>
    obtain ⟨fl, fr, bl, br, lg, tt⟩ := s
    rfl
  | cons a w =>
    have hs' : s.2.1 ≤ s.2.2.2.2.2 := by
      obtain ⟨fl, fr, bl, br, lg, tt⟩ := s
      exact hs.1
    show gw_rj s (gw_rw (gw_rs (nI a) gw_r0) w) = gw_rw (gw_rs (nI a) s) w
    rw [gw_rjD hs' w (gw_riS gw_ri0) (Nat.succ_pos _), gw_rj1 (hw a (by simp))]
end
section
/-! counting -/
def gw_cn (f : Nat → Bool) : Nat → Nat
  | 0 => 0
  | n + 1 => gw_cn f n + (if f n = true then 1 else 0)
theorem gw_cnS (f : Nat → Bool) (n : Nat) : gw_cn f (n + 1) = gw_cn f n + (if f n = true then 1 else 0) := rfl
theorem gw_cnE {f g : Nat → Bool} : ∀ n, (∀ i, i < n → f i = g i) → gw_cn f n = gw_cn g n
  | 0, _ => rfl
  | n + 1, h => by rw [gw_cnS, gw_cnS, gw_cnE n (fun i hi => h i (by omega)), h n (by omega)]
theorem gw_cnL (f : Nat → Bool) : ∀ n, gw_cn f n ≤ n
  | 0 => Nat.le_refl 0
  | n + 1 => by
    have := gw_cnL f n
    rw [gw_cnS]
    split <;> omega
theorem gw_cn0 {f : Nat → Bool} : ∀ {n : Nat}, gw_cn f n = 0 → ∀ i, i < n → f i = false
  | 0, _, i, hi => by omega
  | n + 1, h, i, hi => by
    rw [gw_cnS] at h
    by_cases e : f n = true
    · rw [if_pos e] at h; omega
    · rw [if_neg e] at h
      by_cases e2 : i = n
      · subst e2; exact Bool.eq_false_iff.mpr e
      · exact gw_cn0 (n := n) (by omega) i (by omega)
theorem gw_cnA {h : Nat → Bool} {m : Nat} (hm : 1 ≤ m) : ∀ n, gw_cn (fun j => decide (m ≤ j + 1) && h (j + 1 - m)) n = gw_cn h (n + 1 - m)
  | 0 => by
    rw [show 0 + 1 - m = 0 by omega]
    rfl
  | n + 1 => by
    rw [gw_cnS, gw_cnA hm n]
    by_cases c : m ≤ n + 1
    · rw [show n + 1 + 1 - m = (n + 1 - m) + 1 by omega, gw_cnS, decide_eq_true c, Bool.true_and]
    · rw [show n + 1 + 1 - m = 0 by omega, show n + 1 - m = 0 by omega, decide_eq_false c, Bool.false_and]
      rfl
theorem gw_cnB {h : Nat → Bool} {m N : Nat} : ∀ n, gw_cn (fun p => decide (p + m ≤ N) && h p) n = gw_cn h (min n (N + 1 - m))
  | 0 => by
    rw [Nat.zero_min]
    rfl
  | n + 1 => by
    rw [gw_cnS, gw_cnB n]
    by_cases c : n + m ≤ N
    · rw [decide_eq_true c, Bool.true_and, show min n (N + 1 - m) = n by omega, show min (n + 1) (N + 1 - m) = n + 1 by omega, gw_cnS]
    · rw [decide_eq_false c, Bool.false_and, show min (n + 1) (N + 1 - m) = min n (N + 1 - m) by omega]
      rfl
/-! the search for a word -/
def gw_dn (g : Nat → Bool) : Nat → Nat
  | 0 => 0
  | k + 1 => if g (k + 1) = true then k + 1 else gw_dn g k
theorem gw_dnS (g : Nat → Bool) (k : Nat) : gw_dn g (k + 1) = if g (k + 1) = true then k + 1 else gw_dn g k := rfl
theorem gw_dnP (g : Nat → Bool) : ∀ n, (gw_dn g n = 0 ∨ g (gw_dn g n) = true) ∧ gw_dn g n ≤ n ∧ ∀ k, 0 < k → k ≤ n → g k = true → k ≤ gw_dn g n
  | 0 => ⟨Or.inl rfl, Nat.le_refl 0, fun k h0 h1 _ => by omega⟩
  | n + 1 => by
    have ih := gw_dnP g n
    rw [gw_dnS]
    by_cases e : g (n + 1) = true
    · rw [if_pos e]
      exact ⟨Or.inr e, Nat.le_refl _, fun k _ h1 _ => h1⟩
    · rw [if_neg e]
      refine ⟨ih.1, by omega, fun k h0 h1 h2 => ?_⟩
      by_cases e2 : k = n + 1
      · subst e2; exact absurd h2 e
      · exact ih.2.2 k h0 (by omega) h2
def gw_ga (P : List Nat) (s c k : Nat) : Bool := decide (P.getD (k - 1) 0 = c ∧ ∀ i, i < k - 1 → P.getD i 0 = P.getD (s + 1 - k + i) 0)
def gw_gr (P : List Nat) (k : Nat) : Bool := decide (∀ i, i < k → P.getD i 0 = P.getD (P.length - k + i) 0)
def gw_k1 (P : List Nat) (s c : Nat) : Nat := gw_dn (gw_ga P s c) (s + 1)
def gw_rt (P : List Nat) : Nat := gw_dn (gw_gr P) (P.length - 1)
def gw_kd (P : List Nat) (s c : Nat) : Nat := if gw_k1 P s c = P.length then gw_rt P else gw_k1 P s c
def gw_k2 (P : List Nat) (s c : Nat) : Nat := if gw_k1 P s c = P.length then 1 else 0
def gw_ks (P : List Nat) (s : Nat) : List Nat → Nat
  | [] => s
  | c :: w => gw_ks P (gw_kd P s c) w
def gw_kh (P : List Nat) (s : Nat) : List Nat → Nat
  | [] => 0
  | c :: w => gw_k2 P s c + gw_kh P (gw_kd P s c) w
theorem gw_ksA (P : List Nat) : ∀ (u v : List Nat) (s : Nat), gw_ks P s (u ++ v) = gw_ks P (gw_ks P s u) v
  | [], v, s => rfl
  | c :: u, v, s => gw_ksA P u v (gw_kd P s c)
theorem gw_khA (P : List Nat) : ∀ (u v : List Nat) (s : Nat), gw_kh P s (u ++ v) = gw_kh P s u + gw_kh P (gw_ks P s u) v
  | [], v, s => (Nat.zero_add _).symm
  | c :: u, v, s => by
    have h := gw_khA P u v (gw_kd P s c)
    show gw_k2 P s c + gw_kh P (gw_kd P s c) (u ++ v) = gw_k2 P s c + gw_kh P (gw_kd P s c) u + gw_kh P (gw_ks P (gw_kd P s c) u) v
    omega
theorem gw_k2L (P : List Nat) (s c : Nat) : gw_k2 P s c ≤ 1 := by
  unfold gw_k2
  split <;> omega
theorem gw_khL (P : List Nat) : ∀ (w : List Nat) (s : Nat), gw_kh P s w ≤ w.length
  | [], s => Nat.le_refl 0
  | c :: w, s => by
    have h := gw_khL P w (gw_kd P s c)
    have h2 := gw_k2L P s c
    show gw_k2 P s c + gw_kh P (gw_kd P s c) w ≤ w.length + 1
    omega
theorem gw_k1L (P : List Nat) (s c : Nat) : gw_k1 P s c ≤ s + 1 := (gw_dnP _ _).2.1
theorem gw_rtL {P : List Nat} (h : 1 ≤ P.length) : gw_rt P < P.length := by
  have := (gw_dnP (gw_gr P) (P.length - 1)).2.1
  show gw_dn (gw_gr P) (P.length - 1) < P.length
  omega
theorem gw_kdL {P : List Nat} {s c : Nat} (hs : s < P.length) : gw_kd P s c < P.length := by
  unfold gw_kd
  have := gw_k1L P s c
  split
  · exact gw_rtL (by omega)
  · omega
theorem gw_ksL {P : List Nat} : ∀ (w : List Nat) {s : Nat}, s < P.length → gw_ks P s w < P.length
  | [], s, h => h
  | c :: w, s, h => gw_ksL w (gw_kdL h)
/-- the first k letters of P are the last ones of the first j of W -/
def gw_E (W : Nat → Nat) (P : List Nat) (k j : Nat) : Prop := k ≤ j ∧ ∀ i, i < k → W (j - k + i) = P.getD i 0
def gw_St (W : Nat → Nat) (P : List Nat) (j s : Nat) : Prop := s < P.length ∧ gw_E W P s j ∧ ∀ k, k < P.length → gw_E W P k j → k ≤ s
theorem gw_ES {W : Nat → Nat} {P : List Nat} {k j : Nat} : gw_E W P (k + 1) (j + 1) ↔ gw_E W P k j ∧ W j = P.getD k 0 := by
  unfold gw_E
  constructor
  · rintro ⟨h1, h2⟩
    refine ⟨⟨by omega, fun i hi => ?_⟩, ?_⟩
    · have := h2 i (by omega)
      rw [show j + 1 - (k + 1) + i = j - k + i by omega] at this
      exact this
    · have := h2 k (by omega)
      rw [show j + 1 - (k + 1) + k = j by omega] at this
      exact this
  · rintro ⟨⟨h1, h2⟩, h3⟩
    refine ⟨by omega, fun i hi => ?_⟩
    rw [show j + 1 - (k + 1) + i = j - k + i by omega]
    by_cases e : i = k
    · subst e
      rw [show j - i + i = j by omega]
      exact h3
    · exact h2 i (by omega)
theorem gw_E0 (W : Nat → Nat) (P : List Nat) (j : Nat) : gw_E W P 0 j := ⟨Nat.zero_le _, fun i hi => by omega⟩
theorem gw_Ega {W : Nat → Nat} {P : List Nat} {s j k : Nat} (hs : gw_E W P s j) (h0 : 0 < k) (hk : k ≤ s + 1) : gw_ga P s (W j) k = true ↔ gw_E W P k (j + 1) := by
  obtain ⟨q, rfl⟩ : ∃ q, k = q + 1 := ⟨k - 1, by omega⟩
  rw [gw_ES]
  unfold gw_ga
  rw [decide_eq_true_eq, show q + 1 - 1 = q by omega]
  have key : ∀ i, i < q → W (j - q + i) = P.getD (s + 1 - (q + 1) + i) 0 := by
    intro i hi
    have := hs.2 (s + 1 - (q + 1) + i) (by omega)
    have h1 := hs.1
    rw [show j - s + (s + 1 - (q + 1) + i) = j - q + i by omega] at this
    exact this
  constructor
  · rintro ⟨h1, h2⟩
    refine ⟨⟨by have := hs.1; omega, fun i hi => ?_⟩, h1.symm⟩
    rw [key i hi]
    exact (h2 i hi).symm
  · rintro ⟨h1, h2⟩
    refine ⟨h2.symm, fun i hi => ?_⟩
    rw [← key i hi]
    exact (h1.2 i hi).symm
theorem gw_Egr {W : Nat → Nat} {P : List Nat} {j k : Nat} (hs : gw_E W P P.length j) (hk : k ≤ P.length) : gw_gr P k = true ↔ gw_E W P k j := by
  unfold gw_gr
  rw [decide_eq_true_eq]
  have key : ∀ i, i < k → W (j - k + i) = P.getD (P.length - k + i) 0 := by
    intro i hi
    have := hs.2 (P.length - k + i) (by omega)
    have h1 := hs.1
    rw [show j - P.length + (P.length - k + i) = j - k + i by omega] at this
    exact this
  constructor
  · intro h
    refine ⟨by have := hs.1; omega, fun i hi => ?_⟩
    rw [key i hi]
    exact (h i hi).symm
  · intro h i hi
    rw [← key i hi]
    exact (h.2 i hi).symm
theorem gw_St1 {W : Nat → Nat} {P : List Nat} {j s : Nat} (h : gw_St W P j s) : gw_E W P (gw_k1 P s (W j)) (j + 1) ∧ ∀ k, k ≤ P.length → gw_E W P k (j + 1) → k ≤ gw_k1 P s (W j) := by
  have hd := gw_dnP (gw_ga P s (W j)) (s + 1)
  constructor
  · unfold gw_k1
    rcases Nat.eq_zero_or_pos (gw_dn (gw_ga P s (W j)) (s + 1)) with e | e
    · rw [e]; exact gw_E0 _ _ _
    · refine (gw_Ega h.2.1 e hd.2.1).mp ?_
      rcases hd.1 with z | z
      · omega
      · exact z
  · intro k hk hE
    rcases Nat.eq_zero_or_pos k with e | e
    · omega
    · have h1 : k ≤ s + 1 := by
        obtain ⟨q, rfl⟩ : ∃ q, k = q + 1 := ⟨k - 1, by omega⟩
        have := h.2.2 q (by omega) (gw_ES.mp hE).1
        omega
      exact hd.2.2 k e h1 ((gw_Ega h.2.1 e h1).mpr hE)
theorem gw_St2 {W : Nat → Nat} {P : List Nat} {j s : Nat} (h : gw_St W P j s) : gw_k1 P s (W j) = P.length ↔ gw_E W P P.length (j + 1) := by
  have h1 := gw_St1 h
  have h2 := gw_k1L P s (W j)
  have h3 := h.1
  constructor
  · intro e
    rw [← e]
    have := h1.1
    rw [e] at this ⊢
    exact this
  · intro e
    have := h1.2 _ (Nat.le_refl _) e
    omega
theorem gw_St3 {W : Nat → Nat} {P : List Nat} {j s : Nat} (h : gw_St W P j s) : gw_St W P (j + 1) (gw_kd P s (W j)) := by
  have h1 := gw_St1 h
  have h2 := gw_St2 h
  have h3 := gw_k1L P s (W j)
  have h4 := h.1
  refine ⟨gw_kdL h4, ?_⟩
  unfold gw_kd
  by_cases e : gw_k1 P s (W j) = P.length
  · rw [if_pos e]
    have hE := h2.mp e
    have hd := gw_dnP (gw_gr P) (P.length - 1)
    unfold gw_rt
    constructor
    · rcases Nat.eq_zero_or_pos (gw_dn (gw_gr P) (P.length - 1)) with z | z
      · rw [z]; exact gw_E0 _ _ _
      · refine (gw_Egr hE (by omega)).mp ?_
        rcases hd.1 with y | y
        · omega
        · exact y
    · intro k hk hk2
      rcases Nat.eq_zero_or_pos k with z | z
      · omega
      · exact hd.2.2 k z (by omega) ((gw_Egr hE (by omega)).mpr hk2)
  · rw [if_neg e]
    exact ⟨h1.1, fun k hk hE => h1.2 k (by omega) hE⟩
/-- the word stands at p -/
def gw_sb (w P : List Nat) (p : Nat) : Bool := decide (∀ k, k < P.length → w.getD (p + k) 0 = P.getD k 0)
theorem gw_sbE {w P : List Nat} {j : Nat} : (decide (P.length ≤ j + 1) && gw_sb w P (j + 1 - P.length)) = true ↔ gw_E (fun i => w.getD i 0) P P.length (j + 1) := by
  unfold gw_sb gw_E
  rw [Bool.and_eq_true, decide_eq_true_eq, decide_eq_true_eq]
theorem gw_ksW {w P : List Nat} (hP : 1 ≤ P.length) : ∀ j, j ≤ w.length → gw_St (fun i => w.getD i 0) P j (gw_ks P 0 (w.take j))
  | 0, _ => by
    refine ⟨by show 0 < P.length; omega, gw_E0 _ _ _, fun k _ hE => ?_⟩
    exact hE.1
  | j + 1, h => by
    have ih := gw_ksW (w := w) hP j (by omega)
    rw [gw_tk (by omega), gw_ksA]
    exact gw_St3 ih
theorem gw_khW {w P : List Nat} (hP : 1 ≤ P.length) : ∀ j, j ≤ w.length → gw_kh P 0 (w.take j) = gw_cn (fun j => decide (P.length ≤ j + 1) && gw_sb w P (j + 1 - P.length)) j
  | 0, _ => rfl
  | j + 1, h => by
    have ih := gw_khW (w := w) hP j (by omega)
    have hS := gw_St2 (gw_ksW (w := w) hP j (by omega))
    rw [gw_tk (by omega), gw_khA, ih, gw_cnS]
    congr 1
    show gw_k2 P (gw_ks P 0 (w.take j)) (w.getD j 0) + 0 = _
    unfold gw_k2
    rw [Nat.add_zero]
    by_cases e : gw_k1 P (gw_ks P 0 (w.take j)) (w.getD j 0) = P.length
    · rw [if_pos e, if_pos (gw_sbE.mpr (hS.mp e))]
    · rw [if_neg e, if_neg (fun z => e (hS.mpr (gw_sbE.mp z)))]
/-- how often a word stands in another -/
def gw_oc (w P : List Nat) : Nat := gw_cn (fun p => decide (p + P.length ≤ w.length) && gw_sb w P p) w.length
theorem gw_khO {w P : List Nat} (hP : 1 ≤ P.length) : gw_kh P 0 w = gw_oc w P := by
  have h := gw_khW (w := w) hP w.length (Nat.le_refl _)
  rw [List.take_length] at h
  rw [h, gw_cnA hP]
  unfold gw_oc
  rw [gw_cnB]
  congr 1
  omega
/-- the first place from a on at which a word stands: the answer -/
def gw_st (w P : List Nat) (p : Nat) : Prop := p + P.length ≤ w.length ∧ ∀ k, k < P.length → w.getD (p + k) 0 = P.getD k 0
def gw_fa (w P : List Nat) (a : Nat) (r : Int32) : Prop :=
  (∃ p, r = nI p ∧ a ≤ p ∧ gw_st w P p ∧ ∀ q, a ≤ q → q < p → ¬ gw_st w P q) ∨ (r = -4 ∧ ∀ q, a ≤ q → ¬ gw_st w P q)
theorem gw_faU {w P : List Nat} {a : Nat} {r r' : Int32} (h : gw_fa w P a r) (h' : gw_fa w P a r') : r' = r := by
  rcases h with ⟨p, e, h1, h2, h3⟩ | ⟨e, h1⟩
  · rcases h' with ⟨p', e', h1', h2', h3'⟩ | ⟨e', h1'⟩
    · have : p' = p := by
        rcases Nat.lt_trichotomy p p' with z | z | z
        · exact absurd h2 (h3' p h1 z)
        · exact z.symm
        · exact absurd h2' (h3 p' h1' z)
      rw [e, e', this]
    · exact absurd h2 (h1' p h1)
  · rcases h' with ⟨p', e', h1', h2', h3'⟩ | ⟨e', h1'⟩
    · exact absurd h2' (h1 p' h1')
    · rw [e, e']
theorem gw_gd {w : List Nat} {a i : Nat} : (w.drop a).getD i 0 = w.getD (a + i) 0 := by
  simp [List.getElem?_drop]
theorem gw_stE {w P : List Nat} {a q : Nat} (hP : 1 ≤ P.length) : gw_st w P (a + q) ↔ q + P.length ≤ (w.drop a).length ∧ gw_sb (w.drop a) P q = true := by
  unfold gw_st gw_sb
  rw [decide_eq_true_eq, List.length_drop]
  constructor
  · rintro ⟨h1, h2⟩
    refine ⟨by omega, fun k hk => ?_⟩
    rw [gw_gd, ← Nat.add_assoc]
    exact h2 k hk
  · rintro ⟨h1, h2⟩
    refine ⟨by omega, fun k hk => ?_⟩
    have := h2 k hk
    rw [gw_gd, ← Nat.add_assoc] at this
    exact this
/-- no occurrence ends in the first j letters behind a -/
theorem gw_no {w P : List Nat} {a j : Nat} (hP : 1 ≤ P.length) (hj : j ≤ (w.drop a).length) (h : gw_kh P 0 ((w.drop a).take j) = 0) : ∀ q, a ≤ q → q + P.length ≤ a + j → ¬ gw_st w P q := by
  intro q hq hq2 hs
  obtain ⟨d, rfl⟩ : ∃ d, q = a + d := ⟨q - a, by omega⟩
  rw [gw_khW hP j hj] at h
  have h1 := (gw_stE hP).mp hs
  have h2 := gw_cn0 h (d + P.length - 1) (by omega)
  rw [show d + P.length - 1 + 1 - P.length = d by omega, h1.2, Bool.and_true, decide_eq_false_iff_not] at h2
  omega
theorem gw_faN {w P : List Nat} {a : Nat} (hP : 1 ≤ P.length) (h : gw_kh P 0 (w.drop a) = 0) : gw_fa w P a (-4) := by
  refine Or.inr ⟨rfl, fun q hq hs => ?_⟩
  have h1 := gw_no (w := w) (a := a) (j := (w.drop a).length) hP (Nat.le_refl _) (by rw [List.take_length]; exact h) q hq
  refine h1 ?_ hs
  have := hs.1
  rw [List.length_drop]
  omega
theorem gw_faY {w P dn rs : List Nat} {a c : Nat} (hP : 1 ≤ P.length) (hw : w.drop a = dn ++ c :: rs) (h0 : gw_kh P 0 dn = 0) (h1 : gw_kh P (gw_ks P 0 dn) [c] ≠ 0) : gw_fa w P a (nI (a + dn.length + 1 - P.length)) ∧ P.length ≤ dn.length + 1 := by
  have hl : (w.drop a).length = dn.length + 1 + rs.length := by
    rw [hw, List.length_append, List.length_cons]; omega
  have ht : (w.drop a).take dn.length = dn := by
    rw [hw, List.take_left' rfl]
  have hg : (w.drop a).getD dn.length 0 = c := by
    rw [hw]; simp
  have hS := gw_St2 (gw_ksW (w := w.drop a) hP dn.length (by omega))
  rw [ht, hg] at hS
  have hk : gw_k1 P (gw_ks P 0 dn) c = P.length := by
    refine Classical.byContradiction fun z => h1 ?_
    show gw_k2 P (gw_ks P 0 dn) c + 0 = 0
    unfold gw_k2
    rw [if_neg z]
  have hE := gw_sbE.mpr (hS.mp hk)
  rw [Bool.and_eq_true, decide_eq_true_eq] at hE
  refine ⟨Or.inl ⟨_, rfl, by omega, ?_, ?_⟩, hE.1⟩
  · rw [show a + dn.length + 1 - P.length = a + (dn.length + 1 - P.length) by omega, gw_stE hP]
    exact ⟨by omega, hE.2⟩
  · intro q hq hq2
    exact gw_no (w := w) (a := a) (j := dn.length) hP (by omega) (by rw [ht]; exact h0) q hq (by omega)
end
section
/-! readers: a stack of forms (letter, level), the next one first -/
def gw_gf (R : Nat → List Nat) (L : List (Nat × Nat)) : List Nat := L.flatMap (fun f => gw_ex R f.2 f.1)
theorem gw_gfC (R : Nat → List Nat) (f : Nat × Nat) (L : List (Nat × Nat)) : gw_gf R (f :: L) = gw_ex R f.2 f.1 ++ gw_gf R L := List.flatMap_cons
theorem gw_gfA (R : Nat → List Nat) (L M : List (Nat × Nat)) : gw_gf R (L ++ M) = gw_gf R L ++ gw_gf R M := List.flatMap_append
/-- what is pushed for a word at a level: its forms that aren't empty -/
def gw_op (R : Nat → List Nat) (l : Nat) : List Nat → List (Nat × Nat)
  | [] => []
  | d :: w => if (gw_ex R l d).length = 0 then gw_op R l w else (d, l) :: gw_op R l w
theorem gw_opC (R : Nat → List Nat) (l d : Nat) (w : List Nat) : gw_op R l (d :: w) = if (gw_ex R l d).length = 0 then gw_op R l w else (d, l) :: gw_op R l w := rfl
theorem gw_opG (R : Nat → List Nat) (l : Nat) : ∀ w, gw_gf R (gw_op R l w) = w.flatMap (gw_ex R l)
  | [] => rfl
  | d :: w => by
    have ih := gw_opG R l w
    rw [gw_opC, List.flatMap_cons]
    by_cases e : (gw_ex R l d).length = 0
    · rw [if_pos e, ih, List.eq_nil_of_length_eq_zero e, List.nil_append]
    · rw [if_neg e, gw_gfC, ih]
theorem gw_opL (R : Nat → List Nat) (l : Nat) : ∀ w, (gw_op R l w).length ≤ w.length
  | [] => Nat.le_refl 0
  | d :: w => by
    have ih := gw_opL R l w
    rw [gw_opC]
    split
    · rw [List.length_cons]; omega
    · rw [List.length_cons, List.length_cons]; omega
theorem gw_opM (R : Nat → List Nat) (l : Nat) : ∀ w f, f ∈ gw_op R l w → f.2 = l
  | [], f, h => by simp [gw_op] at h
  | d :: w, f, h => by
    rw [gw_opC] at h
    split at h
    · exact gw_opM R l w f h
    · rcases List.mem_cons.mp h with e | e
      · rw [e]
      · exact gw_opM R l w f e
/-- the stack lies in an array, from b on -/
def gw_pl (a : Nat → Int32) (b : Nat) : List (Nat × Nat) → Prop
  | [] => True
  | f :: L => a (b + L.length) = nI (13 * f.1 + f.2) ∧ gw_pl a b L
theorem gw_plU {a : Nat → Int32} {b j : Nat} {v : Int32} : ∀ {L : List (Nat × Nat)}, gw_pl a b L → (j < b ∨ b + L.length ≤ j) → gw_pl (upd a j v) b L
  | [], _, _ => trivial
  | f :: L, h, hj => by
    rw [List.length_cons] at hj
    refine ⟨?_, gw_plU h.2 (by omega)⟩
    rw [pk_un (by omega)]
    exact h.1
/-- forms that are good to read, and how high the stack is -/
def gw_wf (R : Nat → List Nat) (n : Nat) : List (Nat × Nat) → Prop
  | [] => True
  | f :: L => (f.1 < 6 ∧ f.2 ≤ n ∧ 0 < (gw_ex R f.2 f.1).length ∧ L.length + 1 + 3 * f.2 ≤ 8 + 3 * n) ∧ gw_wf R n L
theorem gw_wfL {R : Nat → List Nat} {n : Nat} : ∀ {L : List (Nat × Nat)}, gw_wf R n L → L.length ≤ 8 + 3 * n
  | [], _ => Nat.zero_le _
  | f :: L, h => by
    have := h.1.2.2.2
    rw [List.length_cons]
    omega
theorem gw_wfO {R : Nat → List Nat} {n l : Nat} (hl : l ≤ n) {L : List (Nat × Nat)} (hL : gw_wf R n L) : ∀ w : List Nat, (∀ d, d ∈ w → d < 6) → w.length + L.length + 3 * l ≤ 8 + 3 * n → gw_wf R n (gw_op R l w ++ L)
  | [], _, _ => hL
  | d :: w, hd, h => by
    rw [List.length_cons] at h
    have ih := gw_wfO hl hL w (fun e he => hd e (by simp [he])) (by omega)
    rw [gw_opC]
    by_cases e : (gw_ex R l d).length = 0
    · rw [if_pos e]; exact ih
    · rw [if_neg e]
      have hp : 0 < (gw_ex R l d).length := Nat.pos_of_ne_zero e
      refine ⟨⟨hd d (by simp), hl, hp, ?_⟩, ih⟩
      have := gw_opL R l w
      show (gw_op R l w ++ L).length + 1 + 3 * l ≤ 8 + 3 * n
      rw [List.length_append]
      omega
theorem gw_wfM {R : Nat → List Nat} {n : Nat} : ∀ {L : List (Nat × Nat)}, gw_wf R n L → ∀ f, f ∈ L → f.2 ≤ n
  | [], _, f, h => by simp at h
  | g :: L, h, f, hf => by
    rcases List.mem_cons.mp hf with e | e
    · rw [e]; exact h.1.2.1
    · exact gw_wfM h.2 f e
/-- r letters are to be skipped: at most m steps -/
def gw_sk (R : Nat → List Nat) (r m : Nat) (L : List (Nat × Nat)) : Prop :=
  ∃ L1 L2 b, L = L1 ++ L2 ∧ (∀ f, f ∈ L1 → f.2 ≤ b) ∧ (L2 = [] ∨ r < (gw_gf R L1).length) ∧ L1.length + 5 * b ≤ m
theorem gw_skI {R : Nat → List Nat} {n r : Nat} {L : List (Nat × Nat)} (h : gw_wf R n L) : gw_sk R r (L.length + 5 * n) L :=
  ⟨L, [], n, (List.append_nil L).symm, gw_wfM h, Or.inl rfl, Nat.le_refl _⟩
theorem gw_skP {R : Nat → List Nat} {r m : Nat} {f : Nat × Nat} {L : List (Nat × Nat)} (h : gw_sk R r m (f :: L)) (hr : (gw_ex R f.2 f.1).length ≤ r) : ∃ m', m = m' + 1 ∧ gw_sk R (r - (gw_ex R f.2 f.1).length) m' L := by
  obtain ⟨L1, L2, b, e, h1, h2, h3⟩ := h
  cases L1 with
  | nil =>
    rw [List.nil_append] at e
    rcases h2 with h2 | h2
    · rw [h2] at e; cases e
    · exact absurd h2 (Nat.not_lt_zero r)
  | cons g L1 =>
    rw [List.cons_append] at e
    obtain ⟨e1, e2⟩ := List.cons.inj e
    subst e1
    rw [List.length_cons] at h3
    refine ⟨m - 1, by omega, L1, L2, b, e2, fun g hg => h1 g (by simp [hg]), ?_, by omega⟩
    rcases h2 with h2 | h2
    · exact Or.inl h2
    · rw [gw_gfC, List.length_append] at h2
      exact Or.inr (by omega)
theorem gw_skO {R : Nat → List Nat} {r m c l : Nat} {L : List (Nat × Nat)} (h : gw_sk R r m ((c, l + 1) :: L)) (hr : r < (gw_ex R (l + 1) c).length) (hc : (R c).length ≤ 4) : ∃ m', m = m' + 1 ∧ gw_sk R r m' (gw_op R l (R c) ++ L) := by
  obtain ⟨L1, L2, b, e, h1, h2, h3⟩ := h
  cases L1 with
  | nil =>
    rw [List.nil_append] at e
    rcases h2 with h2 | h2
    · rw [h2] at e; cases e
    · exact absurd h2 (Nat.not_lt_zero r)
  | cons g L1 =>
    rw [List.cons_append] at e
    obtain ⟨e1, e2⟩ := List.cons.inj e
    subst e1
    rw [List.length_cons] at h3
    have hb : l + 1 ≤ b := h1 (c, l + 1) (by simp)
    have ho := gw_opL R l (R c)
    refine ⟨m - 1, by omega, gw_op R l (R c), L, l, rfl, fun g hg => Nat.le_of_eq (gw_opM R l _ g hg), Or.inr ?_, by omega⟩
    rw [gw_opG, ← gw_exS]
    exact hr
/-- forms in which the word doesn't end are passed: at most m steps -/
def gw_fk (R : Nat → List Nat) (P : List Nat) (s m : Nat) (L : List (Nat × Nat)) : Prop :=
  ∃ L1 L2 b, L = L1 ++ L2 ∧ (∀ f, f ∈ L1 → f.2 ≤ b) ∧ (L2 = [] ∨ gw_kh P s (gw_gf R L1) ≠ 0) ∧ L1.length + 5 * b ≤ m
theorem gw_fkI {R : Nat → List Nat} {P : List Nat} {n s : Nat} {L : List (Nat × Nat)} (h : gw_wf R n L) : gw_fk R P s (L.length + 5 * n) L :=
  ⟨L, [], n, (List.append_nil L).symm, gw_wfM h, Or.inl rfl, Nat.le_refl _⟩
theorem gw_fkP {R : Nat → List Nat} {P : List Nat} {s m : Nat} {f : Nat × Nat} {L : List (Nat × Nat)} (h : gw_fk R P s m (f :: L)) (hr : gw_kh P s (gw_ex R f.2 f.1) = 0) : ∃ m', m = m' + 1 ∧ gw_fk R P (gw_ks P s (gw_ex R f.2 f.1)) m' L := by
  obtain ⟨L1, L2, b, e, h1, h2, h3⟩ := h
  cases L1 with
  | nil =>
    rw [List.nil_append] at e
    rcases h2 with h2 | h2
    · rw [h2] at e; cases e
    · exact absurd rfl h2
  | cons g L1 =>
    rw [List.cons_append] at e
    obtain ⟨e1, e2⟩ := List.cons.inj e
    subst e1
    rw [List.length_cons] at h3
    refine ⟨m - 1, by omega, L1, L2, b, e2, fun g hg => h1 g (by simp [hg]), ?_, by omega⟩
    rcases h2 with h2 | h2
    · exact Or.inl h2
    · rw [gw_gfC, gw_khA, hr, Nat.zero_add] at h2
      exact Or.inr h2
theorem gw_fkO {R : Nat → List Nat} {P : List Nat} {s m c l : Nat} {L : List (Nat × Nat)} (h : gw_fk R P s m ((c, l + 1) :: L)) (hr : gw_kh P s (gw_ex R (l + 1) c) ≠ 0) (hc : (R c).length ≤ 4) : ∃ m', m = m' + 1 ∧ gw_fk R P s m' (gw_op R l (R c) ++ L) := by
  obtain ⟨L1, L2, b, e, h1, h2, h3⟩ := h
  cases L1 with
  | nil =>
    rw [List.nil_append] at e
    rcases h2 with h2 | h2
    · rw [h2] at e; cases e
    · exact absurd rfl h2
  | cons g L1 =>
    rw [List.cons_append] at e
    obtain ⟨e1, e2⟩ := List.cons.inj e
    subst e1
    rw [List.length_cons] at h3
    have hb : l + 1 ≤ b := h1 (c, l + 1) (by simp)
    have ho := gw_opL R l (R c)
    refine ⟨m - 1, by omega, gw_op R l (R c), L, l, rfl, fun g hg => Nat.le_of_eq (gw_opM R l _ g hg), Or.inr ?_, by omega⟩
    rw [gw_opG, ← gw_exS]
    exact hr
/-- two readers side by side: steps -/
def gw_mu (R : Nat → List Nat) : List (Nat × Nat) → Nat
  | [] => 0
  | f :: L => (gw_ex R f.2 f.1).length * (f.2 + 1) + gw_mu R L
theorem gw_muA (R : Nat → List Nat) (M : List (Nat × Nat)) : ∀ L, gw_mu R (L ++ M) = gw_mu R L + gw_mu R M
  | [] => (Nat.zero_add _).symm
  | f :: L => by
    have ih := gw_muA R M L
    show (gw_ex R f.2 f.1).length * (f.2 + 1) + gw_mu R (L ++ M) = (gw_ex R f.2 f.1).length * (f.2 + 1) + gw_mu R L + gw_mu R M
    omega
theorem gw_muO (R : Nat → List Nat) (l : Nat) : ∀ w, gw_mu R (gw_op R l w) = (w.flatMap (gw_ex R l)).length * (l + 1)
  | [] => by simp [gw_op, gw_mu]
  | d :: w => by
    have ih := gw_muO R l w
    rw [gw_opC, List.flatMap_cons, List.length_append, Nat.add_mul]
    by_cases e : (gw_ex R l d).length = 0
    · rw [if_pos e, ih, e, Nat.zero_mul, Nat.zero_add]
    · rw [if_neg e, ← ih]
      rfl
theorem gw_muS {R : Nat → List Nat} {c l : Nat} {L : List (Nat × Nat)} (h : 0 < (gw_ex R (l + 1) c).length) : gw_mu R (gw_op R l (R c) ++ L) < gw_mu R ((c, l + 1) :: L) := by
  rw [gw_muA, gw_muO, ← gw_exS]
  show (gw_ex R (l + 1) c).length * (l + 1) + gw_mu R L < (gw_ex R (l + 1) c).length * (l + 1 + 1) + gw_mu R L
  rw [Nat.mul_succ (gw_ex R (l + 1) c).length (l + 1)]
  omega
/-- how far two words are the same -/
def gw_lc : List Nat → List Nat → Nat
  | a :: u, b :: v => if a = b then gw_lc u v + 1 else 0
  | _, _ => 0
theorem gw_lcA (u v : List Nat) : ∀ w, gw_lc (w ++ u) (w ++ v) = w.length + gw_lc u v
  | [] => (Nat.zero_add _).symm
  | a :: w => by
    have ih := gw_lcA u v w
    show (if a = a then gw_lc (w ++ u) (w ++ v) + 1 else 0) = _
    rw [if_pos rfl, ih, List.length_cons]
    omega
theorem gw_lcN (v : List Nat) : gw_lc [] v = 0 := by
  unfold gw_lc; rfl
theorem gw_lcM (u : List Nat) : gw_lc u [] = 0 := by
  cases u <;> rfl
theorem gw_lcD {a b : Nat} (u v : List Nat) (h : a ≠ b) : gw_lc (a :: u) (b :: v) = 0 := by
  show (if a = b then gw_lc u v + 1 else 0) = 0
  rw [if_neg h]
theorem gw_lcE (a : Nat) (u v : List Nat) : gw_lc (a :: u) (a :: v) = gw_lc u v + 1 := by
  show (if a = a then gw_lc u v + 1 else 0) = _
  rw [if_pos rfl]
theorem gw_lcL : ∀ u v, gw_lc u v ≤ u.length
  | [], v => by rw [gw_lcN]; exact Nat.zero_le _
  | a :: u, [] => by rw [gw_lcM]; exact Nat.zero_le _
  | a :: u, b :: v => by
    have ih := gw_lcL u v
    show (if a = b then gw_lc u v + 1 else 0) ≤ u.length + 1
    split <;> omega
end
section
/-! windows -/
def gw_cd (W : Nat → Nat) (p : Nat) : Nat → Nat
  | 0 => 0
  | i + 1 => 6 * gw_cd W p i + W (p + i)
theorem gw_cdL {W : Nat → Nat} {p : Nat} : ∀ i, (∀ j, j < i → W (p + j) < 6) → gw_cd W p i < 6 ^ i
  | 0, _ => by show 0 < 1; omega
  | i + 1, h => by
    have ih := gw_cdL i (fun j hj => h j (by omega))
    have h2 := h i (by omega)
    show 6 * gw_cd W p i + W (p + i) < 6 ^ (i + 1)
    rw [Nat.pow_succ]
    omega
theorem gw_cdM {W : Nat → Nat} {p : Nat} : ∀ k, gw_cd W 0 (p + k) = gw_cd W 0 p * 6 ^ k + gw_cd W p k
  | 0 => by
    show gw_cd W 0 p = gw_cd W 0 p * 1 + 0
    omega
  | k + 1 => by
    have ih := gw_cdM (W := W) (p := p) k
    show 6 * gw_cd W 0 (p + k) + W (0 + (p + k)) = gw_cd W 0 p * 6 ^ (k + 1) + (6 * gw_cd W p k + W (p + k))
    rw [ih, Nat.zero_add, Nat.pow_succ, ← Nat.mul_assoc]
    omega
theorem gw_cdR {W : Nat → Nat} {p k : Nat} (h : ∀ j, j < k → W (p + j) < 6) : gw_cd W 0 (p + k) % 6 ^ k = gw_cd W p k := by
  rw [gw_cdM, Nat.mul_comm, Nat.mul_add_mod, Nat.mod_eq_of_lt (gw_cdL k h)]
theorem gw_cdS {W : Nat → Nat} {i m : Nat} : (gw_cd W 0 i % m * 6 + W i) % m = gw_cd W 0 (i + 1) % m := by
  show _ = (6 * gw_cd W 0 i + W (0 + i)) % m
  rw [Nat.zero_add, Nat.add_mod, Nat.mul_mod, Nat.mod_mod, ← Nat.mul_mod, ← Nat.add_mod, Nat.mul_comm]
/-- which windows of k letters have been seen at places below p -/
def gw_yn (W : Nat → Nat) (k : Nat) : Nat → Nat → Bool
  | 0 => fun _ => false
  | p + 1 => fun c => if c = gw_cd W p k then true else gw_yn W k p c
theorem gw_ynS (W : Nat → Nat) (k p : Nat) : gw_yn W k (p + 1) = fun c => if c = gw_cd W p k then true else gw_yn W k p c := rfl
theorem gw_cnU {f : Nat → Bool} {c0 : Nat} : ∀ n, f c0 = false → gw_cn (fun c => if c = c0 then true else f c) n = gw_cn f n + (if c0 < n then 1 else 0)
  | 0, _ => by rw [if_neg (Nat.not_lt_zero _)]; rfl
  | n + 1, h => by
    rw [gw_cnS, gw_cnS, gw_cnU n h]
    by_cases e : n = c0
    · subst e
      rw [if_pos rfl, if_pos rfl, if_neg (Nat.lt_irrefl n), h, if_pos (Nat.lt_succ_self n), if_neg (by decide)]
    · rw [if_neg e]
      by_cases e2 : c0 < n
      · rw [if_pos e2, if_pos (show c0 < n + 1 by omega)]; omega
      · rw [if_neg e2, if_neg (show ¬ c0 < n + 1 by omega)]; omega
theorem gw_upT {f : Nat → Bool} {c0 : Nat} (h : f c0 = true) : (fun c => if c = c0 then true else f c) = f := by
  funext c
  by_cases e : c = c0
  · rw [if_pos e, e, h]
  · rw [if_neg e]
/-! mirrored -/
def gw_pal (w : List Nat) : Prop := ∀ p, p < w.length → w.getD p 0 = w.getD (w.length - 1 - p) 0
def gw_ma (w : List Nat) (r : Int32) : Prop := (r = 1 ∧ gw_pal w) ∨ (r = 0 ∧ ¬ gw_pal w)
theorem gw_maU {w : List Nat} {r r' : Int32} (h : gw_ma w r) (h' : gw_ma w r') : r' = r := by
  rcases h with ⟨e, h1⟩ | ⟨e, h1⟩ <;> rcases h' with ⟨e', h1'⟩ | ⟨e', h1'⟩
  · rw [e, e']
  · exact absurd h1 h1'
  · exact absurd h1' h1
  · rw [e, e']
theorem gw_palH {w : List Nat} (h : ∀ p, p < w.length / 2 → w.getD p 0 = w.getD (w.length - 1 - p) 0) : gw_pal w := by
  intro p hp
  by_cases e : p < w.length / 2
  · exact h p e
  · by_cases e2 : w.length - 1 - p < w.length / 2
    · have := h _ e2
      rw [show w.length - 1 - (w.length - 1 - p) = p by omega] at this
      exact this.symm
    · rw [show w.length - 1 - p = p by omega]
/-! counts between two places -/
theorem gw_ctW {w : List Nat} {c : Nat} : ∀ j, j ≤ w.length → (w.take j).count c = gw_cn (fun p => w.getD p 0 == c) j
  | 0, _ => by simp [gw_cn]
  | j + 1, h => by
    rw [gw_tk (by omega), List.count_append, gw_ctW j (by omega), gw_cnS]
    congr 1
    rw [List.count_singleton]
theorem gw_cnI {q : Nat → Bool} {a b : Nat} : ∀ n, gw_cn (fun p => decide (a ≤ p) && (decide (p < b) && q p)) n + gw_cn q (min a (min b n)) = gw_cn q (min b n)
  | 0 => by
    rw [show min a (min b 0) = 0 by omega, show min b 0 = 0 by omega]
    rfl
  | n + 1 => by
    have ih := gw_cnI (q := q) (a := a) (b := b) n
    rw [gw_cnS]
    by_cases h1 : n < b
    · rw [decide_eq_true h1, Bool.true_and]
      rw [show min b n = n by omega] at ih
      rw [show min b (n + 1) = n + 1 by omega, gw_cnS]
      by_cases h2 : a ≤ n
      · rw [decide_eq_true h2, Bool.true_and]
        rw [show min a n = a by omega] at ih
        rw [show min a (n + 1) = a by omega]
        omega
      · rw [decide_eq_false h2, Bool.false_and, if_neg (by decide)]
        rw [show min a n = n by omega] at ih
        rw [show min a (n + 1) = n + 1 by omega, gw_cnS]
        omega
    · rw [decide_eq_false h1, Bool.false_and, Bool.and_false, if_neg (by decide), show min b (n + 1) = min b n by omega]
      omega
/-- how often a letter stands from a on, before b -/
def gw_ct (w : List Nat) (c a b : Nat) : Nat := gw_cn (fun p => decide (a ≤ p) && (decide (p < b) && w.getD p 0 == c)) w.length
theorem gw_ctD {w : List Nat} {c a b : Nat} (h : a < min b w.length) : gw_ct w c a b = (w.take (min b w.length)).count c - (w.take a).count c := by
  have h1 := gw_cnI (q := fun p => w.getD p 0 == c) (a := a) (b := b) w.length
  rw [show min a (min b w.length) = a by omega] at h1
  rw [gw_ctW _ (by omega), gw_ctW _ (by omega)]
  unfold gw_ct
  omega
theorem gw_ct0 {w : List Nat} {c a b : Nat} (h : min b w.length ≤ a) : gw_ct w c a b = 0 := by
  have h1 := gw_cnI (q := fun p => w.getD p 0 == c) (a := a) (b := b) w.length
  rw [show min a (min b w.length) = min b w.length by omega] at h1
  unfold gw_ct
  omega
/-! ints of any sign against places -/
theorem gw_cm (x : Int32) : (x < 0 ∧ x.toNatClampNeg = 0) ∨ (¬ x < 0 ∧ x.toNatClampNeg < 2 ^ 31 ∧ x = nI x.toNatClampNeg) := by
  by_cases h : x < 0
  · refine Or.inl ⟨h, ?_⟩
    rw [Int32.lt_iff_toInt_lt] at h
    have h0 : (0 : Int32).toInt = 0 := by decide
    rw [h0] at h
    show x.toInt.toNat = 0
    omega
  · obtain ⟨j, hj, e⟩ := nI_of h
    refine Or.inr ⟨h, ?_⟩
    rw [e, nI_clamp hj]
    exact ⟨hj, rfl⟩
theorem gw_cmL {x : Int32} {p : Nat} (hp : p < 2 ^ 31) : nI p < x ↔ p < x.toNatClampNeg := by
  rcases gw_cm x with ⟨h, e⟩ | ⟨h, h2, e⟩
  · rw [e]
    constructor
    · intro z
      exact absurd (Int32.lt_trans z h) (nI_pos hp)
    · intro z
      omega
  · rw [e, nI_ltI hp h2, nI_clamp h2]
theorem gw_cmG {x : Int32} {p : Nat} (hp : p < 2 ^ 31) : x ≤ nI p ↔ x.toNatClampNeg ≤ p := by
  rw [← Int32.not_lt, gw_cmL hp]
  omega
/-! the words of numbers -/
def gw_de : Nat → Nat → Option (List Nat)
  | 0, v => if v = 0 then some [] else none
  | k + 1, v => if v = 0 then some [] else if v % 7 = 0 then none else (gw_de k (v / 7)).map (fun w => (v % 7 - 1) :: w)
theorem gw_deZ (k : Nat) : gw_de k 0 = some [] := by
  cases k <;> rfl
theorem gw_deS {k v : Nat} (h : v ≠ 0) : gw_de (k + 1) v = if v % 7 = 0 then none else (gw_de k (v / 7)).map (fun w => (v % 7 - 1) :: w) := by
  show (if v = 0 then _ else _) = _
  rw [if_neg h]
theorem gw_deP : ∀ {k v : Nat} {w : List Nat}, gw_de k v = some w → w.length ≤ k ∧ (∀ d, d ∈ w → d < 6) ∧ (v ≠ 0 → 1 ≤ w.length)
  | 0, v, w, h => by
    by_cases e : v = 0
    · subst e
      rw [gw_deZ] at h
      cases h
      exact ⟨Nat.zero_le _, fun d hd => by simp at hd, fun z => absurd rfl z⟩
    · have : gw_de 0 v = none := by show (if v = 0 then _ else _) = _; rw [if_neg e]
      rw [this] at h
      cases h
  | k + 1, v, w, h => by
    by_cases e : v = 0
    · subst e
      rw [gw_deZ] at h
      cases h
      exact ⟨Nat.zero_le _, fun d hd => by simp at hd, fun z => absurd rfl z⟩
    · rw [gw_deS e] at h
      by_cases e2 : v % 7 = 0
      · rw [if_pos e2] at h; cases h
      · rw [if_neg e2] at h
        cases hx : gw_de k (v / 7) with
        | none => rw [hx] at h; cases h
        | some u =>
          rw [hx] at h
          cases h
          have ih := gw_deP hx
          refine ⟨by rw [List.length_cons]; omega, fun d hd => ?_, fun _ => by rw [List.length_cons]; omega⟩
          rcases List.mem_cons.mp hd with z | z
          · omega
          · exact ih.2.1 d z
theorem gw_deC {k v d : Nat} {w : List Nat} (h : gw_de k v = some (d :: w)) : v ≠ 0 ∧ d = v % 7 - 1 ∧ v % 7 ≠ 0 ∧ ∃ k', k = k' + 1 ∧ gw_de k' (v / 7) = some w := by
  have hv : v ≠ 0 := by
    intro e
    subst e
    rw [gw_deZ] at h
    cases h
  cases k with
  | zero =>
    have : gw_de 0 v = none := by show (if v = 0 then _ else _) = _; rw [if_neg hv]
    rw [this] at h
    cases h
  | succ k =>
    rw [gw_deS hv] at h
    by_cases e2 : v % 7 = 0
    · rw [if_pos e2] at h; cases h
    · rw [if_neg e2] at h
      cases hx : gw_de k (v / 7) with
      | none => rw [hx] at h; cases h
      | some u =>
        rw [hx] at h
        cases h
        exact ⟨hv, rfl, e2, k, rfl, hx⟩
theorem gw_deN {k v : Nat} (h : gw_de k v = some []) : v = 0 := by
  refine Classical.byContradiction fun e => ?_
  have := (gw_deP h).2.2 e
  simp at this
/-- the answer of a number's word: its length or -1 -/
def gw_dl (k : Nat) (x : Int32) (r : Int32) (w : Option (List Nat)) : Prop :=
  (x < 0 ∧ r = -1 ∧ w = none) ∨ (∃ v, v < 2 ^ 31 ∧ x = nI v ∧ w = gw_de k v ∧ ((w = none ∧ r = -1) ∨ ∃ u, w = some u ∧ r = nI u.length))
end
section
/-! the component's state -/
def xw_P (p : gw_Pen) (mx my tn lx hx ly hy : Int32) : Prop :=
  mx = gi p.1 ∧ my = gi p.2.1 ∧ tn = nI p.2.2.1 ∧ lx = gi p.2.2.2.1 ∧ hx = gi p.2.2.2.2.1 ∧ ly = gi p.2.2.2.2.2.1 ∧ hy = gi p.2.2.2.2.2.2
def xw_Q (q : gw_Run) (hL hR tL tR bR : Int32) : Prop :=
  hL = q.1 ∧ hR = nI q.2.1 ∧ tL = q.2.2.1 ∧ tR = nI q.2.2.2.1 ∧ bR = nI q.2.2.2.2.1
/-- form g has the word w -/
def xw_G (A : Nat → Nat) (w : List Nat) (g : Nat) (a_size a_numbers a_moveX a_moveY a_turn a_leastX a_mostX a_leastY a_mostY a_headLetter a_headRun a_tailLetter a_tailRun a_bestRun : Nat → Int32) : Prop :=
  a_size g = nI w.length ∧ (∀ d, d < 6 → a_numbers (6 * g + d) = nI (w.count d)) ∧
  xw_P (gw_dr A gw_p0 w) (a_moveX g) (a_moveY g) (a_turn g) (a_leastX g) (a_mostX g) (a_leastY g) (a_mostY g) ∧
  xw_Q (gw_rw gw_r0 w) (a_headLetter g) (a_headRun g) (a_tailLetter g) (a_tailRun g) (a_bestRun g)
def xw_F (R : Nat → List Nat) (A : Nat → Nat) (a_size a_numbers a_moveX a_moveY a_turn a_leastX a_mostX a_leastY a_mostY a_headLetter a_headRun a_tailLetter a_tailRun a_bestRun : Nat → Int32) : Prop :=
  ∀ c, c < 6 → ∀ l, l < 13 → xw_G A (gw_ex R l c) (13 * c + l) a_size a_numbers a_moveX a_moveY a_turn a_leastX a_mostX a_leastY a_mostY a_headLetter a_headRun a_tailLetter a_tailRun a_bestRun
/-- the search for P is laid down -/
def xw_N (R : Nat → List Nat) (P : List Nat) (f_patternSize : Int32) (a_pattern a_formState a_formHits : Nat → Int32) : Prop :=
  f_patternSize = nI P.length ∧ ∀ c, c < 6 → ∀ l, l < 13 → ∀ s, s < P.length → a_formState (4 * (13 * c + l) + s) = nI (gw_ks P s (gw_ex R l c)) ∧ a_formHits (4 * (13 * c + l) + s) = nI (gw_kh P s (gw_ex R l c))
def xw_C (R : Nat → List Nat) (pn : Int32) (f_patternSize : Int32) (a_pattern a_formState a_formHits : Nat → Int32) : Prop :=
  ∃ j P, j < 2 ^ 31 ∧ pn = nI j ∧ gw_de 4 j = some P ∧ xw_N R P f_patternSize a_pattern a_formState a_formHits
def xw_I (R : Nat → List Nat) (F : List Nat) (A : Nat → Nat) (u : SX) : Prop := match u with
  | (f_firstSize, f_known, f_patternNumber, f_patternSize, f_penX, f_penY, f_penTurn, f_lowX, f_highX, f_lowY, f_highY, f_frontLetter, f_frontRun, f_backLetter, f_backRun, f_longest, f_total, a_ruleSize, a_rules, a_first, a_actions, a_size, a_numbers, a_moveX, a_moveY, a_turn, a_leastX, a_mostX, a_leastY, a_mostY, a_headLetter, a_headRun, a_tailLetter, a_tailRun, a_bestRun, a_pattern, a_stateAfter, a_formState, a_formHits, a_top, a_pile, a_seen) => gw_B R F A f_firstSize a_ruleSize a_rules a_first a_actions ∧ (f_known ≠ 0 → xw_F R A a_size a_numbers a_moveX a_moveY a_turn a_leastX a_mostX a_leastY a_mostY a_headLetter a_headRun a_tailLetter a_tailRun a_bestRun) ∧ (f_patternNumber ≠ 0 → xw_C R f_patternNumber f_patternSize a_pattern a_formState a_formHits)
def xw_K (R : Nat → List Nat) (F : List Nat) (A : Nat → Nat) (u : SX) : Prop := match u with
  | (f_firstSize, f_known, f_patternNumber, f_patternSize, f_penX, f_penY, f_penTurn, f_lowX, f_highX, f_lowY, f_highY, f_frontLetter, f_frontRun, f_backLetter, f_backRun, f_longest, f_total, a_ruleSize, a_rules, a_first, a_actions, a_size, a_numbers, a_moveX, a_moveY, a_turn, a_leastX, a_mostX, a_leastY, a_mostY, a_headLetter, a_headRun, a_tailLetter, a_tailRun, a_bestRun, a_pattern, a_stateAfter, a_formState, a_formHits, a_top, a_pile, a_seen) => gw_B R F A f_firstSize a_ruleSize a_rules a_first a_actions ∧ xw_F R A a_size a_numbers a_moveX a_moveY a_turn a_leastX a_mostX a_leastY a_mostY a_headLetter a_headRun a_tailLetter a_tailRun a_bestRun ∧ (f_patternNumber ≠ 0 → xw_C R f_patternNumber f_patternSize a_pattern a_formState a_formHits)
theorem xw_el {P : SX → Prop} (h : ∀ (f_firstSize f_known f_patternNumber f_patternSize f_penX f_penY f_penTurn f_lowX f_highX f_lowY f_highY f_frontLetter f_frontRun f_backLetter f_backRun f_longest f_total : Int32) (a_ruleSize a_rules a_first a_actions a_size a_numbers a_moveX a_moveY a_turn a_leastX a_mostX a_leastY a_mostY a_headLetter a_headRun a_tailLetter a_tailRun a_bestRun a_pattern a_stateAfter a_formState a_formHits a_top a_pile a_seen : Nat → Int32), P (f_firstSize, f_known, f_patternNumber, f_patternSize, f_penX, f_penY, f_penTurn, f_lowX, f_highX, f_lowY, f_highY, f_frontLetter, f_frontRun, f_backLetter, f_backRun, f_longest, f_total, a_ruleSize, a_rules, a_first, a_actions, a_size, a_numbers, a_moveX, a_moveY, a_turn, a_leastX, a_mostX, a_leastY, a_mostY, a_headLetter, a_headRun, a_tailLetter, a_tailRun, a_bestRun, a_pattern, a_stateAfter, a_formState, a_formHits, a_top, a_pile, a_seen)) (u : SX) : P u := by
  obtain ⟨f_firstSize, f_known, f_patternNumber, f_patternSize, f_penX, f_penY, f_penTurn, f_lowX, f_highX, f_lowY, f_highY, f_frontLetter, f_frontRun, f_backLetter, f_backRun, f_longest, f_total, a_ruleSize, a_rules, a_first, a_actions, a_size, a_numbers, a_moveX, a_moveY, a_turn, a_leastX, a_mostX, a_leastY, a_mostY, a_headLetter, a_headRun, a_tailLetter, a_tailRun, a_bestRun, a_pattern, a_stateAfter, a_formState, a_formHits, a_top, a_pile, a_seen⟩ := u
  exact h f_firstSize f_known f_patternNumber f_patternSize f_penX f_penY f_penTurn f_lowX f_highX f_lowY f_highY f_frontLetter f_frontRun f_backLetter f_backRun f_longest f_total a_ruleSize a_rules a_first a_actions a_size a_numbers a_moveX a_moveY a_turn a_leastX a_mostX a_leastY a_mostY a_headLetter a_headRun a_tailLetter a_tailRun a_bestRun a_pattern a_stateAfter a_formState a_formHits a_top a_pile a_seen
end
section
section
variable {f_firstSize f_known f_patternNumber f_patternSize f_penX f_penY f_penTurn f_lowX f_highX f_lowY f_highY f_frontLetter f_frontRun f_backLetter f_backRun f_longest f_total : Int32} {a_ruleSize a_rules a_first a_actions a_size a_numbers a_moveX a_moveY a_turn a_leastX a_mostX a_leastY a_mostY a_headLetter a_headRun a_tailLetter a_tailRun a_bestRun a_pattern a_stateAfter a_formState a_formHits a_top a_pile a_seen : Nat → Int32}
/-! the pen -/
theorem xw_tX {post : Int32 → Prop} {p0 p1 p2 : Int32} {x y : Int} {t : Nat} (e0 : p0 = gi x) (e1 : p1 = gi y) (e2 : p2 = nI t) (ht : t < 4) (h : post (gi (gw_rX x y t))) : wpX_turnedX post p0 p1 p2 := by
  subst e0 e1 e2
  rcases gw_t4 ht with rfl | rfl | rfl | rfl
  · exact br_f (by decide) (br_f (by decide) (br_t (by decide) h))
  · exact br_f (by decide) (br_f (by decide) (br_f (by decide) (br_t (by decide) (by rw [gi_neg]; exact h))))
  · exact br_f (by decide) (br_f (by decide) (br_f (by decide) (br_f (by decide) (br_t (by decide) (by rw [gi_neg]; exact h)))))
  · exact br_f (by decide) (br_t (by decide) h)
theorem xw_tY {post : Int32 → Prop} {p0 p1 p2 : Int32} {x y : Int} {t : Nat} (e0 : p0 = gi x) (e1 : p1 = gi y) (e2 : p2 = nI t) (ht : t < 4) (h : post (gi (gw_rY x y t))) : wpX_turnedY post p0 p1 p2 := by
  subst e0 e1 e2
  rcases gw_t4 ht with rfl | rfl | rfl | rfl
  · exact br_f (by decide) (br_f (by decide) (br_t (by decide) h))
  · exact br_f (by decide) (br_f (by decide) (br_f (by decide) (br_t (by decide) h)))
  · exact br_f (by decide) (br_f (by decide) (br_f (by decide) (br_f (by decide) (br_t (by decide) (by rw [gi_neg]; exact h)))))
  · exact br_f (by decide) (br_t (by decide) (by rw [gi_neg]; exact h))
def xw_bb (x : Int) : Prop := -1000000000 ≤ x ∧ x ≤ 1000000000
theorem xw_r57 {post : SX → Prop} {y hy : Int} {z0 : Int32} (by1 : xw_bb y) (bh : xw_bb hy) (h : post (f_firstSize, f_known, f_patternNumber, f_patternSize, f_penX, f_penY, f_penTurn, f_lowX, f_highX, z0, gi (max hy y), f_frontLetter, f_frontRun, f_backLetter, f_backRun, f_longest, f_total, a_ruleSize, a_rules, a_first, a_actions, a_size, a_numbers, a_moveX, a_moveY, a_turn, a_leastX, a_mostX, a_leastY, a_mostY, a_headLetter, a_headRun, a_tailLetter, a_tailRun, a_bestRun, a_pattern, a_stateAfter, a_formState, a_formHits, a_top, a_pile, a_seen)) : wX_reach_57 post (gi y) z0 f_firstSize f_known f_patternNumber f_patternSize f_penX f_penY f_penTurn f_lowX f_highX f_lowY (gi hy) f_frontLetter f_frontRun f_backLetter f_backRun f_longest f_total a_ruleSize a_rules a_first a_actions a_size a_numbers a_moveX a_moveY a_turn a_leastX a_mostX a_leastY a_mostY a_headLetter a_headRun a_tailLetter a_tailRun a_bestRun a_pattern a_stateAfter a_formState a_formHits a_top a_pile a_seen := by
  by_cases c : y ≤ hy
  · rw [show max hy y = hy by omega] at h
    exact br_t ((gi_le by1 bh).mpr c) h
  · rw [show max hy y = y by omega] at h
    exact br_f (fun z => c ((gi_le by1 bh).mp z)) h
theorem xw_r37 {post : SX → Prop} {y ly hy : Int} {z0 : Int32} (by1 : xw_bb y) (bl : xw_bb ly) (bh : xw_bb hy) (h : post (f_firstSize, f_known, f_patternNumber, f_patternSize, f_penX, f_penY, f_penTurn, f_lowX, z0, gi (min ly y), gi (max hy y), f_frontLetter, f_frontRun, f_backLetter, f_backRun, f_longest, f_total, a_ruleSize, a_rules, a_first, a_actions, a_size, a_numbers, a_moveX, a_moveY, a_turn, a_leastX, a_mostX, a_leastY, a_mostY, a_headLetter, a_headRun, a_tailLetter, a_tailRun, a_bestRun, a_pattern, a_stateAfter, a_formState, a_formHits, a_top, a_pile, a_seen)) : wX_reach_37 post (gi y) z0 f_firstSize f_known f_patternNumber f_patternSize f_penX f_penY f_penTurn f_lowX f_highX (gi ly) (gi hy) f_frontLetter f_frontRun f_backLetter f_backRun f_longest f_total a_ruleSize a_rules a_first a_actions a_size a_numbers a_moveX a_moveY a_turn a_leastX a_mostX a_leastY a_mostY a_headLetter a_headRun a_tailLetter a_tailRun a_bestRun a_pattern a_stateAfter a_formState a_formHits a_top a_pile a_seen := by
  by_cases c : ly ≤ y
  · rw [show min ly y = ly by omega] at h
    exact br_t ((gi_le bl by1).mpr c) (xw_r57 by1 bh h)
  · rw [show min ly y = y by omega] at h
    exact br_f (fun z => c ((gi_le bl by1).mp z)) (xw_r57 by1 bh h)
theorem xw_r17 {post : SX → Prop} {x y hx ly hy : Int} {z0 : Int32} (bx : xw_bb x) (by1 : xw_bb y) (bhx : xw_bb hx) (bl : xw_bb ly) (bh : xw_bb hy) (h : post (f_firstSize, f_known, f_patternNumber, f_patternSize, f_penX, f_penY, f_penTurn, z0, gi (max hx x), gi (min ly y), gi (max hy y), f_frontLetter, f_frontRun, f_backLetter, f_backRun, f_longest, f_total, a_ruleSize, a_rules, a_first, a_actions, a_size, a_numbers, a_moveX, a_moveY, a_turn, a_leastX, a_mostX, a_leastY, a_mostY, a_headLetter, a_headRun, a_tailLetter, a_tailRun, a_bestRun, a_pattern, a_stateAfter, a_formState, a_formHits, a_top, a_pile, a_seen)) : wX_reach_17 post (gi x) (gi y) z0 f_firstSize f_known f_patternNumber f_patternSize f_penX f_penY f_penTurn f_lowX (gi hx) (gi ly) (gi hy) f_frontLetter f_frontRun f_backLetter f_backRun f_longest f_total a_ruleSize a_rules a_first a_actions a_size a_numbers a_moveX a_moveY a_turn a_leastX a_mostX a_leastY a_mostY a_headLetter a_headRun a_tailLetter a_tailRun a_bestRun a_pattern a_stateAfter a_formState a_formHits a_top a_pile a_seen := by
  by_cases c : x ≤ hx
  · rw [show max hx x = hx by omega] at h
    exact br_t ((gi_le bx bhx).mpr c) (xw_r37 by1 bl bh h)
  · rw [show max hx x = x by omega] at h
    exact br_f (fun z => c ((gi_le bx bhx).mp z)) (xw_r37 by1 bl bh h)
theorem xw_reach {post : SX → Prop} {x y lx hx ly hy : Int} (bx : xw_bb x) (by1 : xw_bb y) (blx : xw_bb lx) (bhx : xw_bb hx) (bl : xw_bb ly) (bh : xw_bb hy) (h : post (f_firstSize, f_known, f_patternNumber, f_patternSize, f_penX, f_penY, f_penTurn, gi (min lx x), gi (max hx x), gi (min ly y), gi (max hy y), f_frontLetter, f_frontRun, f_backLetter, f_backRun, f_longest, f_total, a_ruleSize, a_rules, a_first, a_actions, a_size, a_numbers, a_moveX, a_moveY, a_turn, a_leastX, a_mostX, a_leastY, a_mostY, a_headLetter, a_headRun, a_tailLetter, a_tailRun, a_bestRun, a_pattern, a_stateAfter, a_formState, a_formHits, a_top, a_pile, a_seen)) : wpX_reach post (f_firstSize, f_known, f_patternNumber, f_patternSize, f_penX, f_penY, f_penTurn, gi lx, gi hx, gi ly, gi hy, f_frontLetter, f_frontRun, f_backLetter, f_backRun, f_longest, f_total, a_ruleSize, a_rules, a_first, a_actions, a_size, a_numbers, a_moveX, a_moveY, a_turn, a_leastX, a_mostX, a_leastY, a_mostY, a_headLetter, a_headRun, a_tailLetter, a_tailRun, a_bestRun, a_pattern, a_stateAfter, a_formState, a_formHits, a_top, a_pile, a_seen) (gi x) (gi y) := by
  by_cases c : lx ≤ x
  · rw [show min lx x = lx by omega] at h
    exact br_t ((gi_le blx bx).mpr c) (xw_r17 bx by1 bhx bl bh h)
  · rw [show min lx x = x by omega] at h
    exact br_f (fun z => c ((gi_le blx bx).mp z)) (xw_r17 bx by1 bhx bl bh h)
theorem xw_rXb {M x y : Int} {t : Nat} (h1 : -M ≤ x) (h2 : x ≤ M) (h3 : -M ≤ y) (h4 : y ≤ M) : (-M ≤ gw_rX x y t ∧ gw_rX x y t ≤ M) ∧ (-M ≤ gw_rY x y t ∧ gw_rY x y t ≤ M) := by
  unfold gw_rX gw_rY
  constructor
  · repeat' split
    all_goals omega
  · repeat' split
    all_goals omega
theorem xw_draw {post : SX → Prop} {A : Nat → Nat} {w : List Nat} {p : gw_Pen} {N : Int} {f : Nat} (hf : f < 78) (hp : gw_bd N p) (hN : N + w.length ≤ 400000000) (hN0 : 0 ≤ N)
    (hV : xw_P (gw_dr A gw_p0 w) (a_moveX f) (a_moveY f) (a_turn f) (a_leastX f) (a_mostX f) (a_leastY f) (a_mostY f))
    (h : post (f_firstSize, f_known, f_patternNumber, f_patternSize, gi (gw_dr A p w).1, gi (gw_dr A p w).2.1, nI (gw_dr A p w).2.2.1, gi (gw_dr A p w).2.2.2.1, gi (gw_dr A p w).2.2.2.2.1, gi (gw_dr A p w).2.2.2.2.2.1, gi (gw_dr A p w).2.2.2.2.2.2, f_frontLetter, f_frontRun, f_backLetter, f_backRun, f_longest, f_total, a_ruleSize, a_rules, a_first, a_actions, a_size, a_numbers, a_moveX, a_moveY, a_turn, a_leastX, a_mostX, a_leastY, a_mostY, a_headLetter, a_headRun, a_tailLetter, a_tailRun, a_bestRun, a_pattern, a_stateAfter, a_formState, a_formHits, a_top, a_pile, a_seen)) : wpX_drawForm post (f_firstSize, f_known, f_patternNumber, f_patternSize, gi p.1, gi p.2.1, nI p.2.2.1, gi p.2.2.2.1, gi p.2.2.2.2.1, gi p.2.2.2.2.2.1, gi p.2.2.2.2.2.2, f_frontLetter, f_frontRun, f_backLetter, f_backRun, f_longest, f_total, a_ruleSize, a_rules, a_first, a_actions, a_size, a_numbers, a_moveX, a_moveY, a_turn, a_leastX, a_mostX, a_leastY, a_mostY, a_headLetter, a_headRun, a_tailLetter, a_tailRun, a_bestRun, a_pattern, a_stateAfter, a_formState, a_formHits, a_top, a_pile, a_seen) (nI f) := by
  rw [← gw_cmpW hp w] at h
  have hq := gw_bdD (A := A) w gw_bd0
  generalize gw_dr A gw_p0 w = q at h hV hq
  have hM : (0 : Int) ≤ w.length := Int.natCast_nonneg _
  generalize (w.length : Int) = M at hN hq hM
  obtain ⟨x, y, t, lx, hx, ly, hy⟩ := p
  obtain ⟨qx, qy, qt, qlx, qhx, qly, qhy⟩ := q
  unfold gw_bd at hp hq
  unfold gw_cmp at h
  unfold xw_P at hV
  dsimp only at hp hq h hV
  rw [Int.zero_add] at hq
  obtain ⟨e1, e2, e3, e4, e5, e6, e7⟩ := hV
  have cf : (nI f).toNatClampNeg = f := nI_clamp (by omega)
  have vf : vp_in (nI f) 78 := vp_in_nI hf (by omega)
  have ht := hp.1
  have b1 := xw_rXb (M := M) (x := qlx) (y := qly) (t := t) (by omega) (by omega) (by omega) (by omega)
  have b2 := xw_rXb (M := M) (x := qhx) (y := qhy) (t := t) (by omega) (by omega) (by omega) (by omega)
  dsimp only
  refine And.intro vf (And.intro vf (xw_tX (x := qlx) (y := qly) (t := t) (by rw [cf]; exact e4) (by rw [cf]; exact e6) rfl ht ?_))
  refine nm_r (e' := gi (x + gw_rX qlx qly t)) (gi_add _ _) ?_
  refine And.intro vf (And.intro vf (xw_tY (x := qlx) (y := qly) (t := t) (by rw [cf]; exact e4) (by rw [cf]; exact e6) rfl ht ?_))
  refine nm_r (e' := gi (y + gw_rY qlx qly t)) (gi_add _ _) ?_
  refine And.intro vf (And.intro vf (xw_tX (x := qhx) (y := qhy) (t := t) (by rw [cf]; exact e5) (by rw [cf]; exact e7) rfl ht ?_))
  refine nm_r (e' := gi (x + gw_rX qhx qhy t)) (gi_add _ _) ?_
  refine And.intro vf (And.intro vf (xw_tY (x := qhx) (y := qhy) (t := t) (by rw [cf]; exact e5) (by rw [cf]; exact e7) rfl ht ?_))
  refine nm_r (e' := gi (y + gw_rY qhx qhy t)) (gi_add _ _) ?_
  refine xw_reach ⟨by omega, by omega⟩ ⟨by omega, by omega⟩ ⟨by omega, by omega⟩ ⟨by omega, by omega⟩ ⟨by omega, by omega⟩ ⟨by omega, by omega⟩ ?_
  refine xw_reach ⟨by omega, by omega⟩ ⟨by omega, by omega⟩ ⟨by omega, by omega⟩ ⟨by omega, by omega⟩ ⟨by omega, by omega⟩ ⟨by omega, by omega⟩ ?_
  refine And.intro vf (And.intro vf (xw_tX (x := qx) (y := qy) (t := t) (by rw [cf]; exact e1) (by rw [cf]; exact e2) rfl ht ?_))
  refine nm_r (e' := gi (x + gw_rX qx qy t)) (gi_add _ _) ?_
  refine And.intro vf (And.intro vf (xw_tY (x := qx) (y := qy) (t := t) (by rw [cf]; exact e1) (by rw [cf]; exact e2) rfl ht ?_))
  refine nm_r (e' := gi (y + gw_rY qx qy t)) (gi_add _ _) ?_
  refine And.intro vf (nm_r (e' := nI ((t + qt) % 4)) ?_ h)
  rw [cf, e3, nI_add, pk_andN (k := 2) (by omega) (by decide)]
theorem xw_bPen {post : SX → Prop} (h : post (f_firstSize, f_known, f_patternNumber, f_patternSize, gi gw_p0.1, gi gw_p0.2.1, nI gw_p0.2.2.1, gi gw_p0.2.2.2.1, gi gw_p0.2.2.2.2.1, gi gw_p0.2.2.2.2.2.1, gi gw_p0.2.2.2.2.2.2, f_frontLetter, f_frontRun, f_backLetter, f_backRun, f_longest, f_total, a_ruleSize, a_rules, a_first, a_actions, a_size, a_numbers, a_moveX, a_moveY, a_turn, a_leastX, a_mostX, a_leastY, a_mostY, a_headLetter, a_headRun, a_tailLetter, a_tailRun, a_bestRun, a_pattern, a_stateAfter, a_formState, a_formHits, a_top, a_pile, a_seen)) : wpX_beginPen post (f_firstSize, f_known, f_patternNumber, f_patternSize, f_penX, f_penY, f_penTurn, f_lowX, f_highX, f_lowY, f_highY, f_frontLetter, f_frontRun, f_backLetter, f_backRun, f_longest, f_total, a_ruleSize, a_rules, a_first, a_actions, a_size, a_numbers, a_moveX, a_moveY, a_turn, a_leastX, a_mostX, a_leastY, a_mostY, a_headLetter, a_headRun, a_tailLetter, a_tailRun, a_bestRun, a_pattern, a_stateAfter, a_formState, a_formHits, a_top, a_pile, a_seen) := h
theorem xw_bRun {post : SX → Prop} (h : post (f_firstSize, f_known, f_patternNumber, f_patternSize, f_penX, f_penY, f_penTurn, f_lowX, f_highX, f_lowY, f_highY, gw_r0.1, nI gw_r0.2.1, gw_r0.2.2.1, nI gw_r0.2.2.2.1, nI gw_r0.2.2.2.2.1, nI gw_r0.2.2.2.2.2, a_ruleSize, a_rules, a_first, a_actions, a_size, a_numbers, a_moveX, a_moveY, a_turn, a_leastX, a_mostX, a_leastY, a_mostY, a_headLetter, a_headRun, a_tailLetter, a_tailRun, a_bestRun, a_pattern, a_stateAfter, a_formState, a_formHits, a_top, a_pile, a_seen)) : wpX_beginRuns post (f_firstSize, f_known, f_patternNumber, f_patternSize, f_penX, f_penY, f_penTurn, f_lowX, f_highX, f_lowY, f_highY, f_frontLetter, f_frontRun, f_backLetter, f_backRun, f_longest, f_total, a_ruleSize, a_rules, a_first, a_actions, a_size, a_numbers, a_moveX, a_moveY, a_turn, a_leastX, a_mostX, a_leastY, a_mostY, a_headLetter, a_headRun, a_tailLetter, a_tailRun, a_bestRun, a_pattern, a_stateAfter, a_formState, a_formHits, a_top, a_pile, a_seen) := h
end
end
section
section
variable {f_firstSize f_known f_patternNumber f_patternSize f_penX f_penY f_penTurn f_lowX f_highX f_lowY f_highY f_frontLetter f_frontRun f_backLetter f_backRun f_longest f_total : Int32} {a_ruleSize a_rules a_first a_actions a_size a_numbers a_moveX a_moveY a_turn a_leastX a_mostX a_leastY a_mostY a_headLetter a_headRun a_tailLetter a_tailRun a_bestRun a_pattern a_stateAfter a_formState a_formHits a_top a_pile a_seen : Nat → Int32}
/-! runs -/
theorem xw_j226 {post : SX → Prop} {f sz tt : Nat} {z0 : Int32} (hf : f < 78) (eS : a_size f = nI sz) (h : post (f_firstSize, f_known, f_patternNumber, f_patternSize, f_penX, f_penY, f_penTurn, f_lowX, f_highX, f_lowY, f_highY, f_frontLetter, f_frontRun, f_backLetter, f_backRun, z0, nI (tt + sz), a_ruleSize, a_rules, a_first, a_actions, a_size, a_numbers, a_moveX, a_moveY, a_turn, a_leastX, a_mostX, a_leastY, a_mostY, a_headLetter, a_headRun, a_tailLetter, a_tailRun, a_bestRun, a_pattern, a_stateAfter, a_formState, a_formHits, a_top, a_pile, a_seen)) : wX_joinRuns_226 post (nI f) z0 f_firstSize f_known f_patternNumber f_patternSize f_penX f_penY f_penTurn f_lowX f_highX f_lowY f_highY f_frontLetter f_frontRun f_backLetter f_backRun f_longest (nI tt) a_ruleSize a_rules a_first a_actions a_size a_numbers a_moveX a_moveY a_turn a_leastX a_mostX a_leastY a_mostY a_headLetter a_headRun a_tailLetter a_tailRun a_bestRun a_pattern a_stateAfter a_formState a_formHits a_top a_pile a_seen := by
  have cf : (nI f).toNatClampNeg = f := nI_clamp (by omega)
  have vf : vp_in (nI f) 78 := vp_in_nI hf (by omega)
  exact And.intro vf (nm_r (e' := nI (tt + sz)) (by rw [cf, eS, nI_add]) h)
theorem xw_j196 {post : SX → Prop} {f sz tt lg bR : Nat} (hf : f < 78) (eS : a_size f = nI sz) (eB : a_bestRun f = nI bR) (hl : lg < 2 ^ 30) (hb : bR < 2 ^ 30) (h : post (f_firstSize, f_known, f_patternNumber, f_patternSize, f_penX, f_penY, f_penTurn, f_lowX, f_highX, f_lowY, f_highY, f_frontLetter, f_frontRun, f_backLetter, f_backRun, nI (max lg bR), nI (tt + sz), a_ruleSize, a_rules, a_first, a_actions, a_size, a_numbers, a_moveX, a_moveY, a_turn, a_leastX, a_mostX, a_leastY, a_mostY, a_headLetter, a_headRun, a_tailLetter, a_tailRun, a_bestRun, a_pattern, a_stateAfter, a_formState, a_formHits, a_top, a_pile, a_seen)) : wX_joinRuns_196 post (nI f) (nI lg) f_firstSize f_known f_patternNumber f_patternSize f_penX f_penY f_penTurn f_lowX f_highX f_lowY f_highY f_frontLetter f_frontRun f_backLetter f_backRun f_longest (nI tt) a_ruleSize a_rules a_first a_actions a_size a_numbers a_moveX a_moveY a_turn a_leastX a_mostX a_leastY a_mostY a_headLetter a_headRun a_tailLetter a_tailRun a_bestRun a_pattern a_stateAfter a_formState a_formHits a_top a_pile a_seen := by
  have cf : (nI f).toNatClampNeg = f := nI_clamp (by omega)
  have vf : vp_in (nI f) 78 := vp_in_nI hf (by omega)
  by_cases c : bR ≤ lg
  · rw [show max lg bR = lg by omega] at h
    exact And.intro vf (br_t (by rw [cf, eB]; exact nI_le c (by omega)) (xw_j226 hf eS h))
  · rw [show max lg bR = bR by omega] at h
    refine And.intro vf (br_f (by rw [cf, eB, nI_leI (by omega) (by omega)]; exact c) (And.intro vf ?_))
    rw [cf, eB]
    exact xw_j226 hf eS h
theorem xw_j166 {post : SX → Prop} {f sz tt lg bR mt : Nat} {z0 tL : Int32} (hf : f < 78) (eS : a_size f = nI sz) (eB : a_bestRun f = nI bR) (eT : a_tailLetter f = tL) (hl : lg < 2 ^ 30) (hb : bR < 2 ^ 30) (hm : mt < 2 ^ 30) (h : post (f_firstSize, f_known, f_patternNumber, f_patternSize, f_penX, f_penY, f_penTurn, f_lowX, f_highX, f_lowY, f_highY, f_frontLetter, f_frontRun, tL, z0, nI (max (max lg mt) bR), nI (tt + sz), a_ruleSize, a_rules, a_first, a_actions, a_size, a_numbers, a_moveX, a_moveY, a_turn, a_leastX, a_mostX, a_leastY, a_mostY, a_headLetter, a_headRun, a_tailLetter, a_tailRun, a_bestRun, a_pattern, a_stateAfter, a_formState, a_formHits, a_top, a_pile, a_seen)) : wX_joinRuns_166 post (nI f) (nI mt) z0 f_firstSize f_known f_patternNumber f_patternSize f_penX f_penY f_penTurn f_lowX f_highX f_lowY f_highY f_frontLetter f_frontRun f_backLetter f_backRun (nI lg) (nI tt) a_ruleSize a_rules a_first a_actions a_size a_numbers a_moveX a_moveY a_turn a_leastX a_mostX a_leastY a_mostY a_headLetter a_headRun a_tailLetter a_tailRun a_bestRun a_pattern a_stateAfter a_formState a_formHits a_top a_pile a_seen := by
  have cf : (nI f).toNatClampNeg = f := nI_clamp (by omega)
  have vf : vp_in (nI f) 78 := vp_in_nI hf (by omega)
  refine And.intro vf (nm_r (e' := tL) (by rw [cf, eT]) ?_)
  by_cases c : mt ≤ lg
  · rw [show max lg mt = lg by omega] at h
    exact br_t (nI_le c (by omega)) (xw_j196 hf eS eB hl hb h)
  · rw [show max lg mt = mt by omega] at h
    exact br_f (by rw [nI_leI (by omega) (by omega)]; exact c) (xw_j196 hf eS eB hm hb h)
theorem xw_j114 {post : SX → Prop} {f sz tt lg bR mt br tR : Nat} {tL hL bl x2 : Int32} (hf : f < 78) (eS : a_size f = nI sz) (eB : a_bestRun f = nI bR) (eT : a_tailLetter f = tL) (eR : a_tailRun f = nI tR) (hl : lg < 2 ^ 30) (hb : bR < 2 ^ 30) (hm : mt < 2 ^ 30) (hs : sz < 2 ^ 30) (ht : tR < 2 ^ 30)
    (hx : (x2 = 1 ∧ bl = hL) ∨ (x2 = 0 ∧ ¬ bl = hL))
    (h : post (f_firstSize, f_known, f_patternNumber, f_patternSize, f_penX, f_penY, f_penTurn, f_lowX, f_highX, f_lowY, f_highY, f_frontLetter, f_frontRun, tL, nI (if tR = sz ∧ bl = hL then br + tR else tR), nI (max (max lg mt) bR), nI (tt + sz), a_ruleSize, a_rules, a_first, a_actions, a_size, a_numbers, a_moveX, a_moveY, a_turn, a_leastX, a_mostX, a_leastY, a_mostY, a_headLetter, a_headRun, a_tailLetter, a_tailRun, a_bestRun, a_pattern, a_stateAfter, a_formState, a_formHits, a_top, a_pile, a_seen)) : wX_joinRuns_114 post (nI f) x2 (nI mt) f_firstSize f_known f_patternNumber f_patternSize f_penX f_penY f_penTurn f_lowX f_highX f_lowY f_highY f_frontLetter f_frontRun bl (nI br) (nI lg) (nI tt) a_ruleSize a_rules a_first a_actions a_size a_numbers a_moveX a_moveY a_turn a_leastX a_mostX a_leastY a_mostY a_headLetter a_headRun a_tailLetter a_tailRun a_bestRun a_pattern a_stateAfter a_formState a_formHits a_top a_pile a_seen := by
  have cf : (nI f).toNatClampNeg = f := nI_clamp (by omega)
  have vf : vp_in (nI f) 78 := vp_in_nI hf (by omega)
  refine And.intro vf (And.intro vf ?_)
  by_cases c : tR = sz
  · refine br_t (by rw [cf, eS, eR, c]) ?_
    refine br_f (by decide) ?_
    rcases hx with ⟨hx, hy⟩ | ⟨hx, hy⟩
    · rw [if_pos ⟨c, hy⟩] at h
      refine br_f (by rw [hx]; decide) (And.intro vf ?_)
      rw [cf, eR, nI_add]
      exact xw_j166 hf eS eB eT hl hb hm h
    · rw [if_neg (fun z => hy z.2)] at h
      refine br_t hx (And.intro vf ?_)
      rw [cf, eR]
      exact xw_j166 hf eS eB eT hl hb hm h
  · rw [if_neg (fun z => c z.1)] at h
    refine br_f (by rw [cf, eS, eR, nI_eq (by omega) (by omega)]; exact c) ?_
    refine br_t rfl (And.intro vf ?_)
    rw [cf, eR]
    exact xw_j166 hf eS eB eT hl hb hm h
theorem xw_j53 {post : SX → Prop} {f sz tt lg bR mt br tR fr hR : Nat} {tL hL bl x2 fl : Int32} (hf : f < 78) (eS : a_size f = nI sz) (eB : a_bestRun f = nI bR) (eT : a_tailLetter f = tL) (eR : a_tailRun f = nI tR) (eL : a_headLetter f = hL) (eH : a_headRun f = nI hR) (hl : lg < 2 ^ 30) (hb : bR < 2 ^ 30) (hm : mt < 2 ^ 30) (hs : sz < 2 ^ 30) (ht : tR < 2 ^ 30) (htt : tt < 2 ^ 30) (hfr : fr < 2 ^ 30)
    (hx : (x2 = 1 ∧ bl = hL) ∨ (x2 = 0 ∧ ¬ bl = hL))
    (h : post (f_firstSize, f_known, f_patternNumber, f_patternSize, f_penX, f_penY, f_penTurn, f_lowX, f_highX, f_lowY, f_highY, if tt = 0 then hL else fl, nI (if tt = 0 then hR else if fr = tt ∧ bl = hL then fr + hR else fr), tL, nI (if tR = sz ∧ bl = hL then br + tR else tR), nI (max (max lg mt) bR), nI (tt + sz), a_ruleSize, a_rules, a_first, a_actions, a_size, a_numbers, a_moveX, a_moveY, a_turn, a_leastX, a_mostX, a_leastY, a_mostY, a_headLetter, a_headRun, a_tailLetter, a_tailRun, a_bestRun, a_pattern, a_stateAfter, a_formState, a_formHits, a_top, a_pile, a_seen)) : wX_joinRuns_53 post (nI f) x2 (nI mt) f_firstSize f_known f_patternNumber f_patternSize f_penX f_penY f_penTurn f_lowX f_highX f_lowY f_highY fl (nI fr) bl (nI br) (nI lg) (nI tt) a_ruleSize a_rules a_first a_actions a_size a_numbers a_moveX a_moveY a_turn a_leastX a_mostX a_leastY a_mostY a_headLetter a_headRun a_tailLetter a_tailRun a_bestRun a_pattern a_stateAfter a_formState a_formHits a_top a_pile a_seen := by
  have cf : (nI f).toNatClampNeg = f := nI_clamp (by omega)
  have vf : vp_in (nI f) 78 := vp_in_nI hf (by omega)
  by_cases t0 : tt = 0
  · rw [if_pos t0, if_pos t0] at h
    refine br_t (by rw [t0]; rfl) (And.intro vf (nm_r (e' := hL) (by rw [cf, eL]) (And.intro vf (nm_r (e' := nI hR) (by rw [cf, eH]) ?_))))
    exact xw_j114 hf eS eB eT eR hl hb hm hs ht hx h
  · rw [if_neg t0, if_neg t0] at h
    refine br_f (nI_ne0 (by omega) (by omega)) ?_
    by_cases c : fr = tt
    · refine br_t (by rw [c]) ?_
      rcases hx with ⟨hx, hy⟩ | ⟨hx, hy⟩
      · rw [if_pos ⟨c, hy⟩] at h
        refine br_f (by rw [hx]; decide) (And.intro vf (nm_r (e' := nI (fr + hR)) (by rw [cf, eH, nI_add]) ?_))
        exact xw_j114 hf eS eB eT eR hl hb hm hs ht (Or.inl ⟨hx, hy⟩) h
      · rw [if_neg (fun z => hy z.2)] at h
        refine br_t hx ?_
        exact xw_j114 hf eS eB eT eR hl hb hm hs ht (Or.inr ⟨hx, hy⟩) h
    · rw [if_neg (fun z => c z.1)] at h
      refine br_f (by rw [nI_eq (by omega) (by omega)]; exact c) ?_
      exact xw_j114 hf eS eB eT eR hl hb hm hs ht hx h
theorem xw_join {post : SX → Prop} {w : List Nat} {s : gw_Run} {f : Nat} (hf : f < 78) (hs : gw_ri s) (hw : ∀ d, d ∈ w → d < 6) (hN : s.2.2.2.2.2 + w.length ≤ 400000000)
    (eS : a_size f = nI w.length) (hV : xw_Q (gw_rw gw_r0 w) (a_headLetter f) (a_headRun f) (a_tailLetter f) (a_tailRun f) (a_bestRun f))
    (h : post (f_firstSize, f_known, f_patternNumber, f_patternSize, f_penX, f_penY, f_penTurn, f_lowX, f_highX, f_lowY, f_highY, (gw_rw s w).1, nI (gw_rw s w).2.1, (gw_rw s w).2.2.1, nI (gw_rw s w).2.2.2.1, nI (gw_rw s w).2.2.2.2.1, nI (gw_rw s w).2.2.2.2.2, a_ruleSize, a_rules, a_first, a_actions, a_size, a_numbers, a_moveX, a_moveY, a_turn, a_leastX, a_mostX, a_leastY, a_mostY, a_headLetter, a_headRun, a_tailLetter, a_tailRun, a_bestRun, a_pattern, a_stateAfter, a_formState, a_formHits, a_top, a_pile, a_seen)) : wpX_joinRuns post (f_firstSize, f_known, f_patternNumber, f_patternSize, f_penX, f_penY, f_penTurn, f_lowX, f_highX, f_lowY, f_highY, s.1, nI s.2.1, s.2.2.1, nI s.2.2.2.1, nI s.2.2.2.2.1, nI s.2.2.2.2.2, a_ruleSize, a_rules, a_first, a_actions, a_size, a_numbers, a_moveX, a_moveY, a_turn, a_leastX, a_mostX, a_leastY, a_mostY, a_headLetter, a_headRun, a_tailLetter, a_tailRun, a_bestRun, a_pattern, a_stateAfter, a_formState, a_formHits, a_top, a_pile, a_seen) (nI f) := by
  rw [← gw_rjW hs hw] at h
  have hq := gw_riD w gw_ri0
  have hT := gw_rwT w (q := gw_r0)
  have hT' : (gw_rw gw_r0 w).2.2.2.2.2 = w.length := by rw [hT]; exact Nat.zero_add _
  generalize gw_rw gw_r0 w = q at h hV hq hT'
  obtain ⟨fl, fr, bl, br, lg, tt⟩ := s
  obtain ⟨qfl, qfr, qbl, qbr, qlg, qtt⟩ := q
  unfold gw_ri at hs hq
  unfold xw_Q at hV
  unfold gw_rj at h
  dsimp only at hs hq hV h hT' hN
  rw [← hT'] at hN eS
  obtain ⟨eL, eH, eT, eR, eB⟩ := hV
  have cf : (nI f).toNatClampNeg = f := nI_clamp (by omega)
  have vf : vp_in (nI f) 78 := vp_in_nI hf (by omega)
  dsimp only
  by_cases z : qtt = 0
  · rw [if_pos z] at h
    dsimp only at h
    exact And.intro vf (br_t (by rw [cf, eS, z]; rfl) h)
  · rw [if_neg z] at h
    dsimp only at h
    refine And.intro vf (br_f (by rw [cf, eS]; exact nI_ne0 (by omega) (by omega)) (And.intro vf ?_))
    by_cases m : bl = qfl
    · rw [if_pos m] at h
      refine br_t (by rw [cf, eL]; exact m) ?_
      refine br_f (by decide) (And.intro vf ?_)
      rw [cf, eH, nI_add]
      exact xw_j53 hf eS eB eT eR eL eH (by omega) (by omega) (by omega) (by omega) (by omega) (by omega) (by omega) (Or.inl ⟨rfl, m⟩) h
    · rw [if_neg m] at h
      refine br_f (by rw [cf, eL]; exact m) ?_
      refine br_t rfl (And.intro vf ?_)
      rw [cf, eH]
      exact xw_j53 hf eS eB eT eR eL eH (by omega) (by omega) (by omega) (by omega) (by omega) (by omega) (by omega) (Or.inr ⟨rfl, m⟩) h
end
end
section
section
variable {f_firstSize f_known f_patternNumber f_patternSize f_penX f_penY f_penTurn f_lowX f_highX f_lowY f_highY f_frontLetter f_frontRun f_backLetter f_backRun f_longest f_total : Int32} {a_ruleSize a_rules a_first a_actions a_size a_numbers a_moveX a_moveY a_turn a_leastX a_mostX a_leastY a_mostY a_headLetter a_headRun a_tailLetter a_tailRun a_bestRun a_pattern a_stateAfter a_formState a_formHits a_top a_pile a_seen : Nat → Int32}
/-! forms are laid -/
theorem xw_mi (k f i : Nat) : nI k * nI f + nI i = nI (k * f + i) := by rw [pk_mul, nI_add]
theorem xw_form {post : Int32 → Prop} {p0 p1 : Int32} {c l : Nat} (e0 : p0 = nI c) (e1 : p1 = nI l) (h : post (nI (13 * c + l))) : wpX_form post p0 p1 := by
  subst e0 e1
  have e : (13 : Int32) * nI c + nI l = nI (13 * c + l) := xw_mi 13 c l
  show post (13 * nI c + nI l)
  rw [e]
  exact h
theorem xw_letter {post : Int32 → Prop} {c l : Nat} (hc : c < 6) (hl : l < 13) (h : post (nI c)) : wpX_letterOf post (nI (13 * c + l)) := by
  refine And.intro (by decide) ?_
  have e : nI (13 * c + l) / 13 = nI c := by
    have := pk_div (a := 13 * c + l) (d := 13) (by omega) (by omega) (by omega)
    rw [show (13 * c + l) / 13 = c by omega] at this
    exact this
  rw [e]
  exact h
theorem xw_level {post : Int32 → Prop} {c l : Nat} (hc : c < 6) (hl : l < 13) (h : post (nI l)) : wpX_levelOf post (nI (13 * c + l)) := by
  refine And.intro (by decide) ?_
  have e : nI (13 * c + l) - nI (13 * c + l) / 13 * 13 = nI l := by
    have := pk_rem (a := 13 * c + l) (d := 13) (by omega) (by omega) (by omega)
    rw [show (13 * c + l) % 13 = l by omega] at this
    exact this
  rw [e]
  exact h
theorem xw_Gu {A : Nat → Nat} {w : List Nat} {f g : Nat} {z mx my tn lx hx ly hy hL hR tL tR bR : Int32} {nb : Nat → Int32} (hne : g ≠ f) (hnb : ∀ j, (j < 6 * f ∨ 6 * f + 6 ≤ j) → nb j = a_numbers j) (h : xw_G A w g a_size a_numbers a_moveX a_moveY a_turn a_leastX a_mostX a_leastY a_mostY a_headLetter a_headRun a_tailLetter a_tailRun a_bestRun) :
    xw_G A w g (upd a_size f z) nb (upd a_moveX f mx) (upd a_moveY f my) (upd a_turn f tn) (upd a_leastX f lx) (upd a_mostX f hx) (upd a_leastY f ly) (upd a_mostY f hy) (upd a_headLetter f hL) (upd a_headRun f hR) (upd a_tailLetter f tL) (upd a_tailRun f tR) (upd a_bestRun f bR) := by
  unfold xw_G at h ⊢
  simp only [pk_un hne]
  refine ⟨h.1, fun d hd => ?_, h.2.2⟩
  rw [hnb _ (by omega)]
  exact h.2.1 d hd
theorem xw_Gn {A : Nat → Nat} {w : List Nat} {f : Nat} {z mx my tn lx hx ly hy hL hR tL tR bR : Int32} {nb : Nat → Int32} (hz : z = nI w.length) (hn : ∀ d, d < 6 → nb (6 * f + d) = nI (w.count d)) (hP : xw_P (gw_dr A gw_p0 w) mx my tn lx hx ly hy) (hQ : xw_Q (gw_rw gw_r0 w) hL hR tL tR bR) :
    xw_G A w f (upd a_size f z) nb (upd a_moveX f mx) (upd a_moveY f my) (upd a_turn f tn) (upd a_leastX f lx) (upd a_mostX f hx) (upd a_leastY f ly) (upd a_mostY f hy) (upd a_headLetter f hL) (upd a_headRun f hR) (upd a_tailLetter f tL) (upd a_tailRun f tR) (upd a_bestRun f bR) := by
  unfold xw_G
  simp only [pk_us]
  exact ⟨hz, hn, hP, hQ⟩
theorem xw_addL {post : SX → Prop} {f g : Nat} (hf : f < 78) (hg : g < 78) (hne : f ≠ g) {nb0 : Nat → Int32}
    (K : ∀ nb : Nat → Int32, (∀ d, d < 6 → nb (6 * f + d) = nb0 (6 * f + d) + nb0 (6 * g + d)) → (∀ j, (j < 6 * f ∨ 6 * f + 6 ≤ j) → nb j = nb0 j) → post (f_firstSize, f_known, f_patternNumber, f_patternSize, f_penX, f_penY, f_penTurn, f_lowX, f_highX, f_lowY, f_highY, f_frontLetter, f_frontRun, f_backLetter, f_backRun, f_longest, f_total, a_ruleSize, a_rules, a_first, a_actions, a_size, nb, a_moveX, a_moveY, a_turn, a_leastX, a_mostX, a_leastY, a_mostY, a_headLetter, a_headRun, a_tailLetter, a_tailRun, a_bestRun, a_pattern, a_stateAfter, a_formState, a_formHits, a_top, a_pile, a_seen)) :
    ∀ d i, i + d = 6 → ∀ nb : Nat → Int32, (∀ e, e < i → nb (6 * f + e) = nb0 (6 * f + e) + nb0 (6 * g + e)) → (∀ e, i ≤ e → e < 6 → nb (6 * f + e) = nb0 (6 * f + e)) → (∀ j, (j < 6 * f ∨ 6 * f + 6 ≤ j) → nb j = nb0 j) →
      wX_addNumbers_2 post (nI f) (nI g) f_firstSize f_known f_patternNumber f_patternSize f_penX f_penY f_penTurn f_lowX f_highX f_lowY f_highY f_frontLetter f_frontRun f_backLetter f_backRun f_longest f_total (d + 1) (nI i) a_ruleSize a_rules a_first a_actions a_size nb a_moveX a_moveY a_turn a_leastX a_mostX a_leastY a_mostY a_headLetter a_headRun a_tailLetter a_tailRun a_bestRun a_pattern a_stateAfter a_formState a_formHits a_top a_pile a_seen := by
  intro d
  induction d with
  | zero =>
    intro i hi nb h1 h2 h3
    have e : i = 6 := by omega
    subst e
    exact br_t (nI_le (a := 6) (b := 6) (by omega) (by omega)) (K nb h1 h3)
  | succ d ih =>
    intro i hi nb h1 h2 h3
    have ef : 6 * nI f + nI i = nI (6 * f + i) := xw_mi 6 f i
    have eg : 6 * nI g + nI i = nI (6 * g + i) := xw_mi 6 g i
    have vf : vp_in (6 * nI f + nI i) 468 := pk_in (6 * f + i) 468 (by omega) ef
    have vg : vp_in (6 * nI g + nI i) 468 := pk_in (6 * g + i) 468 (by omega) eg
    have cf : (6 * nI f + nI i).toNatClampNeg = 6 * f + i := pk_cl _ ef
    have cg : (6 * nI g + nI i).toNatClampNeg = 6 * g + i := pk_cl _ eg
    refine br_f (nI_ge (a := i) (b := 6) (by omega) (by omega)) (And.intro vf (And.intro vg (And.intro vf (nm_r (e' := upd nb (6 * f + i) (nb0 (6 * f + i) + nb0 (6 * g + i))) ?_ (nm_r (e' := nI (i + 1)) (nI_1 i) ?_)))))
    · rw [cf, cg, h2 i (by omega) (by omega), h3 (6 * g + i) (by omega)]
    · refine ih (i + 1) (by omega) _ ?_ ?_ ?_
      · intro e he
        by_cases z : e = i
        · subst z; rw [pk_us]
        · rw [pk_un (by omega)]; exact h1 e (by omega)
      · intro e he he2
        rw [pk_un (by omega)]
        exact h2 e (by omega) he2
      · intro j hj
        rw [pk_un (by omega)]
        exact h3 j hj
theorem xw_addN {post : SX → Prop} {f g : Nat} (hf : f < 78) (hg : g < 78) (hne : f ≠ g)
    (K : ∀ nb : Nat → Int32, (∀ d, d < 6 → nb (6 * f + d) = a_numbers (6 * f + d) + a_numbers (6 * g + d)) → (∀ j, (j < 6 * f ∨ 6 * f + 6 ≤ j) → nb j = a_numbers j) → post (f_firstSize, f_known, f_patternNumber, f_patternSize, f_penX, f_penY, f_penTurn, f_lowX, f_highX, f_lowY, f_highY, f_frontLetter, f_frontRun, f_backLetter, f_backRun, f_longest, f_total, a_ruleSize, a_rules, a_first, a_actions, a_size, nb, a_moveX, a_moveY, a_turn, a_leastX, a_mostX, a_leastY, a_mostY, a_headLetter, a_headRun, a_tailLetter, a_tailRun, a_bestRun, a_pattern, a_stateAfter, a_formState, a_formHits, a_top, a_pile, a_seen)) :
    wpX_addNumbers post (f_firstSize, f_known, f_patternNumber, f_patternSize, f_penX, f_penY, f_penTurn, f_lowX, f_highX, f_lowY, f_highY, f_frontLetter, f_frontRun, f_backLetter, f_backRun, f_longest, f_total, a_ruleSize, a_rules, a_first, a_actions, a_size, a_numbers, a_moveX, a_moveY, a_turn, a_leastX, a_mostX, a_leastY, a_mostY, a_headLetter, a_headRun, a_tailLetter, a_tailRun, a_bestRun, a_pattern, a_stateAfter, a_formState, a_formHits, a_top, a_pile, a_seen) (nI f) (nI g) :=
  ⟨7, xw_addL hf hg hne K 6 0 rfl a_numbers (fun e he => absurd he (Nat.not_lt_zero e)) (fun _ _ _ => rfl) (fun _ _ => rfl)⟩
/-! a letter -/
theorem xw_ll110 {post : SX → Prop} {f c : Nat} {z0 mx : Int32} (hf : f < 78) (em : a_moveX f = mx)
    (h : post (f_firstSize, f_known, f_patternNumber, f_patternSize, f_penX, f_penY, f_penTurn, f_lowX, f_highX, f_lowY, f_highY, f_frontLetter, f_frontRun, f_backLetter, f_backRun, f_longest, f_total, a_ruleSize, a_rules, a_first, a_actions, a_size, a_numbers, a_moveX, a_moveY, upd a_turn f z0, upd a_leastX f 0, upd a_mostX f mx, upd a_leastY f 0, upd a_mostY f 0, upd a_headLetter f (nI c), upd a_headRun f 1, upd a_tailLetter f (nI c), upd a_tailRun f 1, upd a_bestRun f 1, a_pattern, a_stateAfter, a_formState, a_formHits, a_top, a_pile, a_seen)) :
    wX_layLetter_110 post (nI c) (nI f) z0 (nI f) f_firstSize f_known f_patternNumber f_patternSize f_penX f_penY f_penTurn f_lowX f_highX f_lowY f_highY f_frontLetter f_frontRun f_backLetter f_backRun f_longest f_total a_ruleSize a_rules a_first a_actions a_size a_numbers a_moveX a_moveY a_turn a_leastX a_mostX a_leastY a_mostY a_headLetter a_headRun a_tailLetter a_tailRun a_bestRun a_pattern a_stateAfter a_formState a_formHits a_top a_pile a_seen := by
  have cf : (nI f).toNatClampNeg = f := nI_clamp (by omega)
  have vf : vp_in (nI f) 78 := vp_in_nI hf (by omega)
  refine And.intro vf (nm_r (e' := upd a_turn f z0) (by rw [cf]) (And.intro vf (nm_r (e' := upd a_leastX f 0) (by rw [cf]) (And.intro vf (And.intro vf (nm_r (e' := upd a_mostX f mx) (by rw [cf, em]) ?_))))))
  refine And.intro vf (nm_r (e' := upd a_leastY f 0) (by rw [cf]) (And.intro vf (nm_r (e' := upd a_mostY f 0) (by rw [cf]) ?_)))
  refine And.intro vf (nm_r (e' := upd a_headLetter f (nI c)) (by rw [cf]) (And.intro vf (nm_r (e' := upd a_headRun f 1) (by rw [cf]) ?_)))
  refine And.intro vf (nm_r (e' := upd a_tailLetter f (nI c)) (by rw [cf]) (And.intro vf (nm_r (e' := upd a_tailRun f 1) (by rw [cf]) ?_)))
  exact And.intro vf (nm_r (e' := upd a_bestRun f 1) (by rw [cf]) h)
theorem xw_ll68 {post : SX → Prop} {f c a : Nat} {z0 : Int32} (hf : f < 78) (hc : c < 6) (ha : a < 4) (ea : a_actions c = nI a)
    (h : post (f_firstSize, f_known, f_patternNumber, f_patternSize, f_penX, f_penY, f_penTurn, f_lowX, f_highX, f_lowY, f_highY, f_frontLetter, f_frontRun, f_backLetter, f_backRun, f_longest, f_total, a_ruleSize, a_rules, a_first, a_actions, a_size, a_numbers, upd a_moveX f z0, upd a_moveY f 0, upd a_turn f (nI (gw_dt a)), upd a_leastX f 0, upd a_mostX f z0, upd a_leastY f 0, upd a_mostY f 0, upd a_headLetter f (nI c), upd a_headRun f 1, upd a_tailLetter f (nI c), upd a_tailRun f 1, upd a_bestRun f 1, a_pattern, a_stateAfter, a_formState, a_formHits, a_top, a_pile, a_seen)) :
    wX_layLetter_68 post (nI c) (nI f) z0 (nI f) f_firstSize f_known f_patternNumber f_patternSize f_penX f_penY f_penTurn f_lowX f_highX f_lowY f_highY f_frontLetter f_frontRun f_backLetter f_backRun f_longest f_total a_ruleSize a_rules a_first a_actions a_size a_numbers a_moveX a_moveY a_turn a_leastX a_mostX a_leastY a_mostY a_headLetter a_headRun a_tailLetter a_tailRun a_bestRun a_pattern a_stateAfter a_formState a_formHits a_top a_pile a_seen := by
  have cf : (nI f).toNatClampNeg = f := nI_clamp (by omega)
  have vf : vp_in (nI f) 78 := vp_in_nI hf (by omega)
  have cc : (nI c).toNatClampNeg = c := nI_clamp (by omega)
  have vc : vp_in (nI c) 6 := vp_in_nI hc (by omega)
  refine And.intro vf (nm_r (e' := upd a_moveX f z0) (by rw [cf]) (And.intro vf (nm_r (e' := upd a_moveY f 0) (by rw [cf]) (And.intro vc ?_))))
  rcases gw_t4 ha with rfl | rfl | rfl | rfl
  · exact br_f (by rw [cc, ea]; decide) (And.intro vc (br_f (by rw [cc, ea]; decide) (xw_ll110 hf pk_us h)))
  · exact br_f (by rw [cc, ea]; decide) (And.intro vc (br_f (by rw [cc, ea]; decide) (xw_ll110 hf pk_us h)))
  · exact br_t (by rw [cc, ea]; decide) (xw_ll110 hf pk_us h)
  · exact br_f (by rw [cc, ea]; decide) (And.intro vc (br_t (by rw [cc, ea]; decide) (xw_ll110 hf pk_us h)))
theorem xw_llP {A : Nat → Nat} {c : Nat} (ha : A c < 4) : xw_P (gw_dr A gw_p0 [c]) (if A c = 1 then 1 else 0) 0 (nI (gw_dt (A c))) 0 (if A c = 1 then 1 else 0) 0 0 := by
  show xw_P (gw_stp (A c) gw_p0) _ _ _ _ _ _ _
  rcases gw_t4 ha with e | e | e | e <;> rw [e] <;> exact ⟨rfl, rfl, rfl, rfl, rfl, rfl, rfl⟩
theorem xw_llQ {c : Nat} (hc : c < 6) : xw_Q (gw_rw gw_r0 [c]) (nI c) 1 (nI c) 1 1 := by
  show xw_Q (gw_rs (nI c) gw_r0) _ _ _ _ _
  have hn : ¬ (-1 : Int32) = nI c := gw_n1 (by omega)
  unfold gw_rs gw_r0 xw_Q
  dsimp only
  rw [if_neg hn]
  exact ⟨rfl, rfl, rfl, rfl, rfl⟩
theorem xw_ll15 {post : SX → Prop} {A : Nat → Nat} {c : Nat} (hc : c < 6) (ha : A c < 4) (ea : a_actions c = nI (A c)) {a_size0 : Nat → Int32} {nb0 : Nat → Int32} (eS : a_size = upd a_size0 (13 * c + 0) 1)
    (K : ∀ (a_size' a_numbers' a_moveX' a_moveY' a_turn' a_leastX' a_mostX' a_leastY' a_mostY' a_headLetter' a_headRun' a_tailLetter' a_tailRun' a_bestRun' : Nat → Int32), xw_G A [c] (13 * c + 0) a_size' a_numbers' a_moveX' a_moveY' a_turn' a_leastX' a_mostX' a_leastY' a_mostY' a_headLetter' a_headRun' a_tailLetter' a_tailRun' a_bestRun' → (∀ g w, g ≠ 13 * c + 0 → xw_G A w g a_size0 nb0 a_moveX a_moveY a_turn a_leastX a_mostX a_leastY a_mostY a_headLetter a_headRun a_tailLetter a_tailRun a_bestRun → xw_G A w g a_size' a_numbers' a_moveX' a_moveY' a_turn' a_leastX' a_mostX' a_leastY' a_mostY' a_headLetter' a_headRun' a_tailLetter' a_tailRun' a_bestRun') → post (f_firstSize, f_known, f_patternNumber, f_patternSize, f_penX, f_penY, f_penTurn, f_lowX, f_highX, f_lowY, f_highY, f_frontLetter, f_frontRun, f_backLetter, f_backRun, f_longest, f_total, a_ruleSize, a_rules, a_first, a_actions, a_size', a_numbers', a_moveX', a_moveY', a_turn', a_leastX', a_mostX', a_leastY', a_mostY', a_headLetter', a_headRun', a_tailLetter', a_tailRun', a_bestRun', a_pattern, a_stateAfter, a_formState, a_formHits, a_top, a_pile, a_seen)) :
    ∀ d i, i + d = 6 → ∀ nb : Nat → Int32, (∀ e, e < i → nb (6 * (13 * c + 0) + e) = nI ([c].count e)) → (∀ j, (j < 6 * (13 * c + 0) ∨ 6 * (13 * c + 0) + 6 ≤ j) → nb j = nb0 j) →
      wX_layLetter_15 post (nI c) (nI (13 * c + 0)) f_firstSize f_known f_patternNumber f_patternSize f_penX f_penY f_penTurn f_lowX f_highX f_lowY f_highY f_frontLetter f_frontRun f_backLetter f_backRun f_longest f_total (d + 1) (nI i) a_ruleSize a_rules a_first a_actions a_size nb a_moveX a_moveY a_turn a_leastX a_mostX a_leastY a_mostY a_headLetter a_headRun a_tailLetter a_tailRun a_bestRun a_pattern a_stateAfter a_formState a_formHits a_top a_pile a_seen := by
  have cc : (nI c).toNatClampNeg = c := nI_clamp (by omega)
  have vc : vp_in (nI c) 6 := vp_in_nI hc (by omega)
  intro d
  induction d with
  | zero =>
    intro i hi nb h1 h3
    have e : i = 6 := by omega
    subst e
    refine br_t (nI_le (a := 6) (b := 6) (by omega) (by omega)) (And.intro vc ?_)
    have fin : ∀ z0 : Int32, z0 = (if A c = 1 then 1 else 0) → wX_layLetter_68 post (nI c) (nI (13 * c + 0)) z0 (nI (13 * c + 0)) f_firstSize f_known f_patternNumber f_patternSize f_penX f_penY f_penTurn f_lowX f_highX f_lowY f_highY f_frontLetter f_frontRun f_backLetter f_backRun f_longest f_total a_ruleSize a_rules a_first a_actions a_size nb a_moveX a_moveY a_turn a_leastX a_mostX a_leastY a_mostY a_headLetter a_headRun a_tailLetter a_tailRun a_bestRun a_pattern a_stateAfter a_formState a_formHits a_top a_pile a_seen := by
      intro z0 ez
      refine xw_ll68 (by omega) hc ha ea ?_
      rw [eS]
      refine K _ _ _ _ _ _ _ _ _ _ _ _ _ _ (xw_Gn rfl h1 ?_ (xw_llQ hc)) (fun g w hg hw => xw_Gu hg h3 hw)
      rw [ez]
      exact xw_llP ha
    by_cases c1 : A c = 1
    · exact br_t (by rw [cc, ea, c1]; rfl) (fin 1 (by rw [if_pos c1]))
    · exact br_f (by rw [cc, ea]; intro z; exact c1 ((nI_eq (b := 1) (by omega) (by omega)).mp z)) (fin 0 (by rw [if_neg c1]))
  | succ d ih =>
    intro i hi nb h1 h3
    have ef : 6 * nI (13 * c + 0) + nI i = nI (6 * (13 * c + 0) + i) := xw_mi 6 (13 * c + 0) i
    have vf : vp_in (6 * nI (13 * c + 0) + nI i) 468 := pk_in (6 * (13 * c + 0) + i) 468 (by omega) ef
    have cf : (6 * nI (13 * c + 0) + nI i).toNatClampNeg = 6 * (13 * c + 0) + i := pk_cl _ ef
    have step : ∀ v : Int32, v = nI ([c].count i) → wX_layLetter_15 post (nI c) (nI (13 * c + 0)) f_firstSize f_known f_patternNumber f_patternSize f_penX f_penY f_penTurn f_lowX f_highX f_lowY f_highY f_frontLetter f_frontRun f_backLetter f_backRun f_longest f_total (d + 1) (nI (i + 1)) a_ruleSize a_rules a_first a_actions a_size (upd nb (6 * (13 * c + 0) + i) v) a_moveX a_moveY a_turn a_leastX a_mostX a_leastY a_mostY a_headLetter a_headRun a_tailLetter a_tailRun a_bestRun a_pattern a_stateAfter a_formState a_formHits a_top a_pile a_seen := by
      intro v ev
      refine ih (i + 1) (by omega) _ ?_ ?_
      · intro e he
        by_cases z : e = i
        · subst z; rw [pk_us, ev]
        · rw [pk_un (by omega)]; exact h1 e (by omega)
      · intro j hj
        rw [pk_un (by omega)]
        exact h3 j hj
    refine br_f (nI_ge (a := i) (b := 6) (by omega) (by omega)) ?_
    by_cases z : i = c
    · refine br_t (by rw [z]) (And.intro vf (nm_r (by rw [cf]) (nm_r (nI_1 i) (step 1 ?_))))
      subst z
      simp
      rfl
    · refine br_f (by rw [nI_eq (by omega) (by omega)]; exact z) (And.intro vf (nm_r (by rw [cf]) (nm_r (nI_1 i) (step 0 ?_))))
      rw [List.count_singleton, if_neg (by simp; omega)]
      rfl
theorem xw_layLetter {post : SX → Prop} {A : Nat → Nat} {c : Nat} (hc : c < 6) (ha : A c < 4) (ea : a_actions c = nI (A c))
    (K : ∀ (a_size' a_numbers' a_moveX' a_moveY' a_turn' a_leastX' a_mostX' a_leastY' a_mostY' a_headLetter' a_headRun' a_tailLetter' a_tailRun' a_bestRun' : Nat → Int32), xw_G A [c] (13 * c + 0) a_size' a_numbers' a_moveX' a_moveY' a_turn' a_leastX' a_mostX' a_leastY' a_mostY' a_headLetter' a_headRun' a_tailLetter' a_tailRun' a_bestRun' → (∀ g w, g ≠ 13 * c + 0 → xw_G A w g a_size a_numbers a_moveX a_moveY a_turn a_leastX a_mostX a_leastY a_mostY a_headLetter a_headRun a_tailLetter a_tailRun a_bestRun → xw_G A w g a_size' a_numbers' a_moveX' a_moveY' a_turn' a_leastX' a_mostX' a_leastY' a_mostY' a_headLetter' a_headRun' a_tailLetter' a_tailRun' a_bestRun') → post (f_firstSize, f_known, f_patternNumber, f_patternSize, f_penX, f_penY, f_penTurn, f_lowX, f_highX, f_lowY, f_highY, f_frontLetter, f_frontRun, f_backLetter, f_backRun, f_longest, f_total, a_ruleSize, a_rules, a_first, a_actions, a_size', a_numbers', a_moveX', a_moveY', a_turn', a_leastX', a_mostX', a_leastY', a_mostY', a_headLetter', a_headRun', a_tailLetter', a_tailRun', a_bestRun', a_pattern, a_stateAfter, a_formState, a_formHits, a_top, a_pile, a_seen)) :
    wpX_layLetter post (f_firstSize, f_known, f_patternNumber, f_patternSize, f_penX, f_penY, f_penTurn, f_lowX, f_highX, f_lowY, f_highY, f_frontLetter, f_frontRun, f_backLetter, f_backRun, f_longest, f_total, a_ruleSize, a_rules, a_first, a_actions, a_size, a_numbers, a_moveX, a_moveY, a_turn, a_leastX, a_mostX, a_leastY, a_mostY, a_headLetter, a_headRun, a_tailLetter, a_tailRun, a_bestRun, a_pattern, a_stateAfter, a_formState, a_formHits, a_top, a_pile, a_seen) (nI c) := by
  unfold wpX_layLetter
  dsimp only
  refine xw_form (c := c) (l := 0) rfl rfl ?_
  have cf : (nI (13 * c + 0)).toNatClampNeg = 13 * c + 0 := nI_clamp (by omega)
  have vf : vp_in (nI (13 * c + 0)) 78 := vp_in_nI (by omega) (by omega)
  refine And.intro vf (nm_r (e' := upd a_size (13 * c + 0) 1) (by rw [cf]) ⟨7, ?_⟩)
  exact xw_ll15 hc ha ea rfl K 6 0 rfl a_numbers (fun e he => absurd he (Nat.not_lt_zero e)) (fun _ _ => rfl)
end
end
section
section
variable {f_firstSize f_known f_patternNumber f_patternSize f_penX f_penY f_penTurn f_lowX f_highX f_lowY f_highY f_frontLetter f_frontRun f_backLetter f_backRun f_longest f_total : Int32} {a_ruleSize a_rules a_first a_actions a_size a_numbers a_moveX a_moveY a_turn a_leastX a_mostX a_leastY a_mostY a_headLetter a_headRun a_tailLetter a_tailRun a_bestRun a_pattern a_stateAfter a_formState a_formHits a_top a_pile a_seen : Nat → Int32}
/-! a form out of forms -/
theorem xw_lfK {post : SX → Prop} {A : Nat → Nat} {w : List Nat} {f : Nat} (hf : f < 78) {nb nb0 : Nat → Int32}
    (h1 : ∀ d, d < 6 → nb (6 * f + d) = nI (w.count d)) (h3 : ∀ j, (j < 6 * f ∨ 6 * f + 6 ≤ j) → nb j = nb0 j)
    (K : ∀ (f_penX' f_penY' f_penTurn' f_lowX' f_highX' f_lowY' f_highY' f_frontLetter' f_frontRun' f_backLetter' f_backRun' f_longest' f_total' : Int32) (a_size' a_numbers' a_moveX' a_moveY' a_turn' a_leastX' a_mostX' a_leastY' a_mostY' a_headLetter' a_headRun' a_tailLetter' a_tailRun' a_bestRun' : Nat → Int32), xw_G A w f a_size' a_numbers' a_moveX' a_moveY' a_turn' a_leastX' a_mostX' a_leastY' a_mostY' a_headLetter' a_headRun' a_tailLetter' a_tailRun' a_bestRun' → (∀ g w, g ≠ f → xw_G A w g a_size nb0 a_moveX a_moveY a_turn a_leastX a_mostX a_leastY a_mostY a_headLetter a_headRun a_tailLetter a_tailRun a_bestRun → xw_G A w g a_size' a_numbers' a_moveX' a_moveY' a_turn' a_leastX' a_mostX' a_leastY' a_mostY' a_headLetter' a_headRun' a_tailLetter' a_tailRun' a_bestRun') → post (f_firstSize, f_known, f_patternNumber, f_patternSize, f_penX', f_penY', f_penTurn', f_lowX', f_highX', f_lowY', f_highY', f_frontLetter', f_frontRun', f_backLetter', f_backRun', f_longest', f_total', a_ruleSize, a_rules, a_first, a_actions, a_size', a_numbers', a_moveX', a_moveY', a_turn', a_leastX', a_mostX', a_leastY', a_mostY', a_headLetter', a_headRun', a_tailLetter', a_tailRun', a_bestRun', a_pattern, a_stateAfter, a_formState, a_formHits, a_top, a_pile, a_seen)) :
    vp_in (nI f) 78 ∧ ∀ y1, y1 = upd a_size (nI f).toNatClampNeg (nI (gw_rw gw_r0 w).2.2.2.2.2) → (vp_in (nI f) 78 ∧ ∀ y2, y2 = upd a_moveX (nI f).toNatClampNeg (gi (gw_dr A gw_p0 w).1) → (vp_in (nI f) 78 ∧ ∀ y3, y3 = upd a_moveY (nI f).toNatClampNeg (gi (gw_dr A gw_p0 w).2.1) → (vp_in (nI f) 78 ∧ ∀ y4, y4 = upd a_turn (nI f).toNatClampNeg (nI (gw_dr A gw_p0 w).2.2.1) → (vp_in (nI f) 78 ∧ ∀ y5, y5 = upd a_leastX (nI f).toNatClampNeg (gi (gw_dr A gw_p0 w).2.2.2.1) → (vp_in (nI f) 78 ∧ ∀ y6, y6 = upd a_mostX (nI f).toNatClampNeg (gi (gw_dr A gw_p0 w).2.2.2.2.1) → (vp_in (nI f) 78 ∧ ∀ y7, y7 = upd a_leastY (nI f).toNatClampNeg (gi (gw_dr A gw_p0 w).2.2.2.2.2.1) → (vp_in (nI f) 78 ∧ ∀ y8, y8 = upd a_mostY (nI f).toNatClampNeg (gi (gw_dr A gw_p0 w).2.2.2.2.2.2) → (vp_in (nI f) 78 ∧ ∀ y9, y9 = upd a_headLetter (nI f).toNatClampNeg (gw_rw gw_r0 w).1 → (vp_in (nI f) 78 ∧ ∀ y10, y10 = upd a_headRun (nI f).toNatClampNeg (nI (gw_rw gw_r0 w).2.1) → (vp_in (nI f) 78 ∧ ∀ y11, y11 = upd a_tailLetter (nI f).toNatClampNeg (gw_rw gw_r0 w).2.2.1 → (vp_in (nI f) 78 ∧ ∀ y12, y12 = upd a_tailRun (nI f).toNatClampNeg (nI (gw_rw gw_r0 w).2.2.2.1) → (vp_in (nI f) 78 ∧ ∀ y13, y13 = upd a_bestRun (nI f).toNatClampNeg (nI (gw_rw gw_r0 w).2.2.2.2.1) → post (f_firstSize, f_known, f_patternNumber, f_patternSize, gi (gw_dr A gw_p0 w).1, gi (gw_dr A gw_p0 w).2.1, nI (gw_dr A gw_p0 w).2.2.1, gi (gw_dr A gw_p0 w).2.2.2.1, gi (gw_dr A gw_p0 w).2.2.2.2.1, gi (gw_dr A gw_p0 w).2.2.2.2.2.1, gi (gw_dr A gw_p0 w).2.2.2.2.2.2, (gw_rw gw_r0 w).1, nI (gw_rw gw_r0 w).2.1, (gw_rw gw_r0 w).2.2.1, nI (gw_rw gw_r0 w).2.2.2.1, nI (gw_rw gw_r0 w).2.2.2.2.1, nI (gw_rw gw_r0 w).2.2.2.2.2, a_ruleSize, a_rules, a_first, a_actions, y1, nb, y2, y3, y4, y5, y6, y7, y8, y9, y10, y11, y12, y13, a_pattern, a_stateAfter, a_formState, a_formHits, a_top, a_pile, a_seen))))))))))))) := by
  have cf : (nI f).toNatClampNeg = f := nI_clamp (by omega)
  have vf : vp_in (nI f) 78 := vp_in_nI hf (by omega)
  rw [cf]
  refine ⟨vf, fun y1 e1 => ⟨vf, fun y2 e2 => ⟨vf, fun y3 e3 => ⟨vf, fun y4 e4 => ⟨vf, fun y5 e5 => ⟨vf, fun y6 e6 => ⟨vf, fun y7 e7 => ⟨vf, fun y8 e8 => ⟨vf, fun y9 e9 => ⟨vf, fun y10 e10 => ⟨vf, fun y11 e11 => ⟨vf, fun y12 e12 => ⟨vf, fun y13 e13 => ?_⟩⟩⟩⟩⟩⟩⟩⟩⟩⟩⟩⟩⟩
  subst e1 e2 e3 e4 e5 e6 e7 e8 e9 e10 e11 e12 e13
  refine K _ _ _ _ _ _ _ _ _ _ _ _ _ _ _ _ _ _ _ _ _ _ _ _ _ _ _ (xw_Gn ?_ h1 ⟨rfl, rfl, rfl, rfl, rfl, rfl, rfl⟩ ⟨rfl, rfl, rfl, rfl, rfl⟩) (fun g w hg hw => xw_Gu hg h3 hw)
  rw [gw_rwT]
  exact congrArg nI (Nat.zero_add _)
theorem xw_lf46 {post : SX → Prop} {R : Nat → List Nat} {F : List Nat} {A : Nat → Nat} {c l : Nat} (ok : gw_ok R F A) (hB : gw_B R F A f_firstSize a_ruleSize a_rules a_first a_actions) (hc : c < 6) (hl : l + 1 < 13) {nb0 : Nat → Int32}
    (hG : ∀ d, d < 6 → xw_G A (gw_ex R l d) (13 * d + l) a_size nb0 a_moveX a_moveY a_turn a_leastX a_mostX a_leastY a_mostY a_headLetter a_headRun a_tailLetter a_tailRun a_bestRun)
    (K : ∀ (f_penX' f_penY' f_penTurn' f_lowX' f_highX' f_lowY' f_highY' f_frontLetter' f_frontRun' f_backLetter' f_backRun' f_longest' f_total' : Int32) (a_size' a_numbers' a_moveX' a_moveY' a_turn' a_leastX' a_mostX' a_leastY' a_mostY' a_headLetter' a_headRun' a_tailLetter' a_tailRun' a_bestRun' : Nat → Int32), xw_G A (gw_ex R (l + 1) c) (13 * c + (l + 1)) a_size' a_numbers' a_moveX' a_moveY' a_turn' a_leastX' a_mostX' a_leastY' a_mostY' a_headLetter' a_headRun' a_tailLetter' a_tailRun' a_bestRun' → (∀ g w, g ≠ 13 * c + (l + 1) → xw_G A w g a_size nb0 a_moveX a_moveY a_turn a_leastX a_mostX a_leastY a_mostY a_headLetter a_headRun a_tailLetter a_tailRun a_bestRun → xw_G A w g a_size' a_numbers' a_moveX' a_moveY' a_turn' a_leastX' a_mostX' a_leastY' a_mostY' a_headLetter' a_headRun' a_tailLetter' a_tailRun' a_bestRun') → post (f_firstSize, f_known, f_patternNumber, f_patternSize, f_penX', f_penY', f_penTurn', f_lowX', f_highX', f_lowY', f_highY', f_frontLetter', f_frontRun', f_backLetter', f_backRun', f_longest', f_total', a_ruleSize, a_rules, a_first, a_actions, a_size', a_numbers', a_moveX', a_moveY', a_turn', a_leastX', a_mostX', a_leastY', a_mostY', a_headLetter', a_headRun', a_tailLetter', a_tailRun', a_bestRun', a_pattern, a_stateAfter, a_formState, a_formHits, a_top, a_pile, a_seen)) :
    ∀ d i, i + d = (R c).length → ∀ nb : Nat → Int32, (∀ e, e < 6 → nb (6 * (13 * c + (l + 1)) + e) = nI ((((R c).take i).flatMap (gw_ex R l)).count e)) → (∀ j, (j < 6 * (13 * c + (l + 1)) ∨ 6 * (13 * c + (l + 1)) + 6 ≤ j) → nb j = nb0 j) →
      wX_layForm_46 post (nI c) (nI (l + 1)) (nI (13 * c + (l + 1))) (d + 1) (nI i) f_firstSize f_known f_patternNumber f_patternSize (gi (gw_dr A gw_p0 (((R c).take i).flatMap (gw_ex R l))).1) (gi (gw_dr A gw_p0 (((R c).take i).flatMap (gw_ex R l))).2.1) (nI (gw_dr A gw_p0 (((R c).take i).flatMap (gw_ex R l))).2.2.1) (gi (gw_dr A gw_p0 (((R c).take i).flatMap (gw_ex R l))).2.2.2.1) (gi (gw_dr A gw_p0 (((R c).take i).flatMap (gw_ex R l))).2.2.2.2.1) (gi (gw_dr A gw_p0 (((R c).take i).flatMap (gw_ex R l))).2.2.2.2.2.1) (gi (gw_dr A gw_p0 (((R c).take i).flatMap (gw_ex R l))).2.2.2.2.2.2) ((gw_rw gw_r0 (((R c).take i).flatMap (gw_ex R l))).1) (nI (gw_rw gw_r0 (((R c).take i).flatMap (gw_ex R l))).2.1) ((gw_rw gw_r0 (((R c).take i).flatMap (gw_ex R l))).2.2.1) (nI (gw_rw gw_r0 (((R c).take i).flatMap (gw_ex R l))).2.2.2.1) (nI (gw_rw gw_r0 (((R c).take i).flatMap (gw_ex R l))).2.2.2.2.1) (nI (gw_rw gw_r0 (((R c).take i).flatMap (gw_ex R l))).2.2.2.2.2) a_ruleSize a_rules a_first a_actions a_size nb a_moveX a_moveY a_turn a_leastX a_mostX a_leastY a_mostY a_headLetter a_headRun a_tailLetter a_tailRun a_bestRun a_pattern a_stateAfter a_formState a_formHits a_top a_pile a_seen := by
  have cc : (nI c).toNatClampNeg = c := nI_clamp (by omega)
  have vc : vp_in (nI c) 6 := vp_in_nI hc (by omega)
  have h4 := (ok.1 c).1
  intro d
  induction d with
  | zero =>
    intro i hi nb h1 h3
    have e : i = (R c).length := by omega
    subst e
    rw [List.take_length, ← gw_exS] at h1 ⊢
    refine And.intro vc (br_t (by rw [cc, hB.2.1 c hc]; exact nI_le (by omega) (by omega)) ?_)
    exact xw_lfK (by omega) h1 h3 K
  | succ d ih =>
    intro i hi nb h1 h3
    have hi2 : i < (R c).length := by omega
    have e4 : 4 * nI c + nI i = nI (4 * c + i) := xw_mi 4 c i
    have v4 : vp_in (4 * nI c + nI i) 24 := pk_in (4 * c + i) 24 (by omega) e4
    have c4 : (4 * nI c + nI i).toNatClampNeg = 4 * c + i := pk_cl _ e4
    have hm : (R c).getD i 0 < 6 := (ok.1 c).2 _ (gw_gm hi2)
    have hg := hG _ hm
    have eW : ((R c).take (i + 1)).flatMap (gw_ex R l) = ((R c).take i).flatMap (gw_ex R l) ++ gw_ex R l ((R c).getD i 0) := by
      rw [gw_tk hi2, List.flatMap_append]
      simp
    have hL1 : (((R c).take i).flatMap (gw_ex R l)).length ≤ 100000000 := by
      have h5 := gw_fl (w := (R c).take i) (f := gw_ex R l) (B := 16777216) (fun d _ => gw_exB ok.1 d (by omega))
      have h6 : ((R c).take i).length ≤ 4 := by rw [List.length_take]; omega
      have h7 : ((R c).take i).length * 16777216 ≤ 4 * 16777216 := Nat.mul_le_mul_right _ h6
      omega
    have hL2 := gw_exB ok.1 (l := l) ((R c).getD i 0) (by omega)
    have bd := gw_bdD (A := A) (((R c).take i).flatMap (gw_ex R l)) gw_bd0
    have ri := gw_riD (((R c).take i).flatMap (gw_ex R l)) gw_ri0
    have rt := gw_rwT (((R c).take i).flatMap (gw_ex R l)) (q := gw_r0)
    have rt2 : (gw_rw gw_r0 (((R c).take i).flatMap (gw_ex R l))).2.2.2.2.2 = (((R c).take i).flatMap (gw_ex R l)).length := by
      rw [rt]; exact Nat.zero_add _
    rw [Int.zero_add] at bd
    refine And.intro vc (br_f (by rw [cc, hB.2.1 c hc]; exact nI_ge hi2 (by omega)) (And.intro v4 ?_))
    refine xw_form (c := (R c).getD i 0) (l := l) (by rw [c4]; exact hB.2.2.1 c hc i hi2) (nI_pred l) ?_
    refine xw_draw (A := A) (w := gw_ex R l ((R c).getD i 0)) (p := gw_dr A gw_p0 (((R c).take i).flatMap (gw_ex R l))) (by omega) bd (by omega) (by omega) hg.2.2.1 ?_
    refine xw_join (w := gw_ex R l ((R c).getD i 0)) (s := gw_rw gw_r0 (((R c).take i).flatMap (gw_ex R l))) (by omega) ri (gw_exM ok.1 l _ hm) (by omega) hg.1 hg.2.2.2 ?_
    refine xw_addN (by omega) (by omega) (by omega) ?_
    intro nb' k1 k2
    refine nm_r (e' := nI (i + 1)) (nI_1 i) ?_
    have ih' := ih (i + 1) (by omega) nb' ?_ ?_
    · rw [eW, gw_drA, gw_rwA] at ih'
      exact ih'
    · intro e he
      rw [k1 e he, h1 e he, h3 _ (by omega), hg.2.1 e he, nI_add, eW, List.count_append]
    · intro j hj
      rw [k2 j hj, h3 j hj]
theorem xw_lf17 {post : SX → Prop} {R : Nat → List Nat} {F : List Nat} {A : Nat → Nat} {c l : Nat} (ok : gw_ok R F A) (hB : gw_B R F A f_firstSize a_ruleSize a_rules a_first a_actions) (hc : c < 6) (hl : l + 1 < 13) {nb0 : Nat → Int32}
    (hG : ∀ d, d < 6 → xw_G A (gw_ex R l d) (13 * d + l) a_size nb0 a_moveX a_moveY a_turn a_leastX a_mostX a_leastY a_mostY a_headLetter a_headRun a_tailLetter a_tailRun a_bestRun)
    (K : ∀ (f_penX' f_penY' f_penTurn' f_lowX' f_highX' f_lowY' f_highY' f_frontLetter' f_frontRun' f_backLetter' f_backRun' f_longest' f_total' : Int32) (a_size' a_numbers' a_moveX' a_moveY' a_turn' a_leastX' a_mostX' a_leastY' a_mostY' a_headLetter' a_headRun' a_tailLetter' a_tailRun' a_bestRun' : Nat → Int32), xw_G A (gw_ex R (l + 1) c) (13 * c + (l + 1)) a_size' a_numbers' a_moveX' a_moveY' a_turn' a_leastX' a_mostX' a_leastY' a_mostY' a_headLetter' a_headRun' a_tailLetter' a_tailRun' a_bestRun' → (∀ g w, g ≠ 13 * c + (l + 1) → xw_G A w g a_size nb0 a_moveX a_moveY a_turn a_leastX a_mostX a_leastY a_mostY a_headLetter a_headRun a_tailLetter a_tailRun a_bestRun → xw_G A w g a_size' a_numbers' a_moveX' a_moveY' a_turn' a_leastX' a_mostX' a_leastY' a_mostY' a_headLetter' a_headRun' a_tailLetter' a_tailRun' a_bestRun') → post (f_firstSize, f_known, f_patternNumber, f_patternSize, f_penX', f_penY', f_penTurn', f_lowX', f_highX', f_lowY', f_highY', f_frontLetter', f_frontRun', f_backLetter', f_backRun', f_longest', f_total', a_ruleSize, a_rules, a_first, a_actions, a_size', a_numbers', a_moveX', a_moveY', a_turn', a_leastX', a_mostX', a_leastY', a_mostY', a_headLetter', a_headRun', a_tailLetter', a_tailRun', a_bestRun', a_pattern, a_stateAfter, a_formState, a_formHits, a_top, a_pile, a_seen)) :
    ∀ d i, i + d = 6 → ∀ nb : Nat → Int32, (∀ e, e < i → nb (6 * (13 * c + (l + 1)) + e) = 0) → (∀ j, (j < 6 * (13 * c + (l + 1)) ∨ 6 * (13 * c + (l + 1)) + 6 ≤ j) → nb j = nb0 j) →
      wX_layForm_17 post (nI c) (nI (l + 1)) (nI (13 * c + (l + 1))) f_firstSize f_known f_patternNumber f_patternSize (gi gw_p0.1) (gi gw_p0.2.1) (nI gw_p0.2.2.1) (gi gw_p0.2.2.2.1) (gi gw_p0.2.2.2.2.1) (gi gw_p0.2.2.2.2.2.1) (gi gw_p0.2.2.2.2.2.2) gw_r0.1 (nI gw_r0.2.1) gw_r0.2.2.1 (nI gw_r0.2.2.2.1) (nI gw_r0.2.2.2.2.1) (nI gw_r0.2.2.2.2.2) (d + 1) (nI i) a_ruleSize a_rules a_first a_actions a_size nb a_moveX a_moveY a_turn a_leastX a_mostX a_leastY a_mostY a_headLetter a_headRun a_tailLetter a_tailRun a_bestRun a_pattern a_stateAfter a_formState a_formHits a_top a_pile a_seen := by
  intro d
  induction d with
  | zero =>
    intro i hi nb h1 h3
    have e : i = 6 := by omega
    subst e
    refine br_t (nI_le (a := 6) (b := 6) (by omega) (by omega)) ⟨(R c).length + 1, ?_⟩
    exact xw_lf46 ok hB hc hl hG K (R c).length 0 (Nat.zero_add _) nb h1 h3
  | succ d ih =>
    intro i hi nb h1 h3
    have ef : 6 * nI (13 * c + (l + 1)) + nI i = nI (6 * (13 * c + (l + 1)) + i) := xw_mi 6 _ i
    have vf : vp_in (6 * nI (13 * c + (l + 1)) + nI i) 468 := pk_in (6 * (13 * c + (l + 1)) + i) 468 (by omega) ef
    have cf : (6 * nI (13 * c + (l + 1)) + nI i).toNatClampNeg = 6 * (13 * c + (l + 1)) + i := pk_cl _ ef
    refine br_f (nI_ge (a := i) (b := 6) (by omega) (by omega)) (And.intro vf (nm_r (e' := upd nb (6 * (13 * c + (l + 1)) + i) 0) (by rw [cf]) (nm_r (e' := nI (i + 1)) (nI_1 i) ?_)))
    refine ih (i + 1) (by omega) _ ?_ ?_
    · intro e he
      by_cases z : e = i
      · subst z; rw [pk_us]
      · rw [pk_un (by omega)]; exact h1 e (by omega)
    · intro j hj
      rw [pk_un (by omega)]
      exact h3 j hj
theorem xw_layForm {post : SX → Prop} {R : Nat → List Nat} {F : List Nat} {A : Nat → Nat} {c l : Nat} (ok : gw_ok R F A) (hB : gw_B R F A f_firstSize a_ruleSize a_rules a_first a_actions) (hc : c < 6) (hl : l + 1 < 13)
    (hG : ∀ d, d < 6 → xw_G A (gw_ex R l d) (13 * d + l) a_size a_numbers a_moveX a_moveY a_turn a_leastX a_mostX a_leastY a_mostY a_headLetter a_headRun a_tailLetter a_tailRun a_bestRun)
    (K : ∀ (f_penX' f_penY' f_penTurn' f_lowX' f_highX' f_lowY' f_highY' f_frontLetter' f_frontRun' f_backLetter' f_backRun' f_longest' f_total' : Int32) (a_size' a_numbers' a_moveX' a_moveY' a_turn' a_leastX' a_mostX' a_leastY' a_mostY' a_headLetter' a_headRun' a_tailLetter' a_tailRun' a_bestRun' : Nat → Int32), xw_G A (gw_ex R (l + 1) c) (13 * c + (l + 1)) a_size' a_numbers' a_moveX' a_moveY' a_turn' a_leastX' a_mostX' a_leastY' a_mostY' a_headLetter' a_headRun' a_tailLetter' a_tailRun' a_bestRun' → (∀ g w, g ≠ 13 * c + (l + 1) → xw_G A w g a_size a_numbers a_moveX a_moveY a_turn a_leastX a_mostX a_leastY a_mostY a_headLetter a_headRun a_tailLetter a_tailRun a_bestRun → xw_G A w g a_size' a_numbers' a_moveX' a_moveY' a_turn' a_leastX' a_mostX' a_leastY' a_mostY' a_headLetter' a_headRun' a_tailLetter' a_tailRun' a_bestRun') → post (f_firstSize, f_known, f_patternNumber, f_patternSize, f_penX', f_penY', f_penTurn', f_lowX', f_highX', f_lowY', f_highY', f_frontLetter', f_frontRun', f_backLetter', f_backRun', f_longest', f_total', a_ruleSize, a_rules, a_first, a_actions, a_size', a_numbers', a_moveX', a_moveY', a_turn', a_leastX', a_mostX', a_leastY', a_mostY', a_headLetter', a_headRun', a_tailLetter', a_tailRun', a_bestRun', a_pattern, a_stateAfter, a_formState, a_formHits, a_top, a_pile, a_seen)) :
    wpX_layForm post (f_firstSize, f_known, f_patternNumber, f_patternSize, f_penX, f_penY, f_penTurn, f_lowX, f_highX, f_lowY, f_highY, f_frontLetter, f_frontRun, f_backLetter, f_backRun, f_longest, f_total, a_ruleSize, a_rules, a_first, a_actions, a_size, a_numbers, a_moveX, a_moveY, a_turn, a_leastX, a_mostX, a_leastY, a_mostY, a_headLetter, a_headRun, a_tailLetter, a_tailRun, a_bestRun, a_pattern, a_stateAfter, a_formState, a_formHits, a_top, a_pile, a_seen) (nI c) (nI (l + 1)) := by
  unfold wpX_layForm
  dsimp only
  refine xw_form (c := c) (l := l + 1) rfl rfl ?_
  refine xw_bPen ?_
  refine xw_bRun ?_
  refine ⟨7, ?_⟩
  exact xw_lf17 ok hB hc hl hG K 6 0 rfl a_numbers (fun e he => absurd he (Nat.not_lt_zero e)) (fun _ _ => rfl)
/-! all forms -/
def xw_D (R : Nat → List Nat) (A : Nat → Nat) (lv i : Nat) (a_size a_numbers a_moveX a_moveY a_turn a_leastX a_mostX a_leastY a_mostY a_headLetter a_headRun a_tailLetter a_tailRun a_bestRun : Nat → Int32) : Prop :=
  ∀ c, c < 6 → ∀ l, l < 13 → (l < lv ∨ (l = lv ∧ c < i)) → xw_G A (gw_ex R l c) (13 * c + l) a_size a_numbers a_moveX a_moveY a_turn a_leastX a_mostX a_leastY a_mostY a_headLetter a_headRun a_tailLetter a_tailRun a_bestRun
theorem xw_ln23 {post : SX → Prop} {R : Nat → List Nat} {F : List Nat} {A : Nat → Nat} {lv : Nat} (ok : gw_ok R F A) (hB : gw_B R F A f_firstSize a_ruleSize a_rules a_first a_actions) (hl : lv < 13) {J : Int32 → Int32 → Int32 → Int32 → Int32 → Int32 → Int32 → Int32 → Int32 → Int32 → Int32 → Int32 → Int32 → Int32 → Int32 → Int32 → Int32 → Int32 → (Nat → Int32) → (Nat → Int32) → (Nat → Int32) → (Nat → Int32) → (Nat → Int32) → (Nat → Int32) → (Nat → Int32) → (Nat → Int32) → (Nat → Int32) → (Nat → Int32) → (Nat → Int32) → (Nat → Int32) → (Nat → Int32) → (Nat → Int32) → (Nat → Int32) → (Nat → Int32) → (Nat → Int32) → (Nat → Int32) → (Nat → Int32) → (Nat → Int32) → (Nat → Int32) → (Nat → Int32) → (Nat → Int32) → (Nat → Int32) → (Nat → Int32) → Prop}
    (K : ∀ (f_penX f_penY f_penTurn f_lowX f_highX f_lowY f_highY f_frontLetter f_frontRun f_backLetter f_backRun f_longest f_total : Int32) (a_size a_numbers a_moveX a_moveY a_turn a_leastX a_mostX a_leastY a_mostY a_headLetter a_headRun a_tailLetter a_tailRun a_bestRun : Nat → Int32), xw_D R A (lv + 1) 0 a_size a_numbers a_moveX a_moveY a_turn a_leastX a_mostX a_leastY a_mostY a_headLetter a_headRun a_tailLetter a_tailRun a_bestRun → J (nI (lv + 1)) f_firstSize f_known f_patternNumber f_patternSize f_penX f_penY f_penTurn f_lowX f_highX f_lowY f_highY f_frontLetter f_frontRun f_backLetter f_backRun f_longest f_total a_ruleSize a_rules a_first a_actions a_size a_numbers a_moveX a_moveY a_turn a_leastX a_mostX a_leastY a_mostY a_headLetter a_headRun a_tailLetter a_tailRun a_bestRun a_pattern a_stateAfter a_formState a_formHits a_top a_pile a_seen) :
    ∀ d i, i + d = 6 → ∀ (f_penX f_penY f_penTurn f_lowX f_highX f_lowY f_highY f_frontLetter f_frontRun f_backLetter f_backRun f_longest f_total : Int32) (a_size a_numbers a_moveX a_moveY a_turn a_leastX a_mostX a_leastY a_mostY a_headLetter a_headRun a_tailLetter a_tailRun a_bestRun : Nat → Int32), xw_D R A lv i a_size a_numbers a_moveX a_moveY a_turn a_leastX a_mostX a_leastY a_mostY a_headLetter a_headRun a_tailLetter a_tailRun a_bestRun → wX_learn_23 post J (nI lv) (d + 1) (nI i) f_firstSize f_known f_patternNumber f_patternSize f_penX f_penY f_penTurn f_lowX f_highX f_lowY f_highY f_frontLetter f_frontRun f_backLetter f_backRun f_longest f_total a_ruleSize a_rules a_first a_actions a_size a_numbers a_moveX a_moveY a_turn a_leastX a_mostX a_leastY a_mostY a_headLetter a_headRun a_tailLetter a_tailRun a_bestRun a_pattern a_stateAfter a_formState a_formHits a_top a_pile a_seen := by
  intro d
  induction d with
  | zero =>
    intro i hi f_penX f_penY f_penTurn f_lowX f_highX f_lowY f_highY f_frontLetter f_frontRun f_backLetter f_backRun f_longest f_total a_size a_numbers a_moveX a_moveY a_turn a_leastX a_mostX a_leastY a_mostY a_headLetter a_headRun a_tailLetter a_tailRun a_bestRun hD
    have e : i = 6 := by omega
    subst e
    refine br_t (nI_le (a := 6) (b := 6) (by omega) (by omega)) (nm_r (e' := nI (lv + 1)) (nI_1 lv) ?_)
    exact K f_penX f_penY f_penTurn f_lowX f_highX f_lowY f_highY f_frontLetter f_frontRun f_backLetter f_backRun f_longest f_total a_size a_numbers a_moveX a_moveY a_turn a_leastX a_mostX a_leastY a_mostY a_headLetter a_headRun a_tailLetter a_tailRun a_bestRun (fun c hc l hl h => hD c hc l hl (by omega))
  | succ d ih =>
    intro i hi f_penX f_penY f_penTurn f_lowX f_highX f_lowY f_highY f_frontLetter f_frontRun f_backLetter f_backRun f_longest f_total a_size a_numbers a_moveX a_moveY a_turn a_leastX a_mostX a_leastY a_mostY a_headLetter a_headRun a_tailLetter a_tailRun a_bestRun hD
    refine br_f (nI_ge (a := i) (b := 6) (by omega) (by omega)) ?_
    cases lv with
    | zero =>
      refine br_t rfl ?_
      refine xw_layLetter (A := A) (by omega) (ok.2.2 i) (hB.2.2.2.2 i (by omega)) ?_
      intro a_size' a_numbers' a_moveX' a_moveY' a_turn' a_leastX' a_mostX' a_leastY' a_mostY' a_headLetter' a_headRun' a_tailLetter' a_tailRun' a_bestRun' g1 g2
      refine nm_r (e' := nI (i + 1)) (nI_1 i) ?_
      refine ih (i + 1) (by omega) f_penX f_penY f_penTurn f_lowX f_highX f_lowY f_highY f_frontLetter f_frontRun f_backLetter f_backRun f_longest f_total a_size' a_numbers' a_moveX' a_moveY' a_turn' a_leastX' a_mostX' a_leastY' a_mostY' a_headLetter' a_headRun' a_tailLetter' a_tailRun' a_bestRun' ?_
      intro c hc l hl h
      by_cases z : c = i ∧ l = 0
      · obtain ⟨rfl, rfl⟩ := z
        exact g1
      · exact g2 _ _ (by omega) (hD c hc l hl (by omega))
    | succ lv =>
      refine br_f (nI_ne0 (by omega) (by omega)) ?_
      refine xw_layForm (A := A) ok hB (by omega) hl (fun d hd => hD d hd lv (by omega) (by omega)) ?_
      intro f_penX' f_penY' f_penTurn' f_lowX' f_highX' f_lowY' f_highY' f_frontLetter' f_frontRun' f_backLetter' f_backRun' f_longest' f_total' a_size' a_numbers' a_moveX' a_moveY' a_turn' a_leastX' a_mostX' a_leastY' a_mostY' a_headLetter' a_headRun' a_tailLetter' a_tailRun' a_bestRun' g1 g2
      refine nm_r (e' := nI (i + 1)) (nI_1 i) ?_
      refine ih (i + 1) (by omega) f_penX' f_penY' f_penTurn' f_lowX' f_highX' f_lowY' f_highY' f_frontLetter' f_frontRun' f_backLetter' f_backRun' f_longest' f_total' a_size' a_numbers' a_moveX' a_moveY' a_turn' a_leastX' a_mostX' a_leastY' a_mostY' a_headLetter' a_headRun' a_tailLetter' a_tailRun' a_bestRun' ?_
      intro c hc l hl h
      by_cases z : c = i ∧ l = lv + 1
      · obtain ⟨rfl, rfl⟩ := z
        exact g1
      · exact g2 _ _ (by omega) (hD c hc l hl (by omega))
theorem xw_ln15 {post : SX → Prop} {R : Nat → List Nat} {F : List Nat} {A : Nat → Nat} (ok : gw_ok R F A) (hB : gw_B R F A f_firstSize a_ruleSize a_rules a_first a_actions)
    (K : ∀ (f_penX f_penY f_penTurn f_lowX f_highX f_lowY f_highY f_frontLetter f_frontRun f_backLetter f_backRun f_longest f_total : Int32) (a_size a_numbers a_moveX a_moveY a_turn a_leastX a_mostX a_leastY a_mostY a_headLetter a_headRun a_tailLetter a_tailRun a_bestRun : Nat → Int32), xw_F R A a_size a_numbers a_moveX a_moveY a_turn a_leastX a_mostX a_leastY a_mostY a_headLetter a_headRun a_tailLetter a_tailRun a_bestRun → post (f_firstSize, f_known, f_patternNumber, f_patternSize, f_penX, f_penY, f_penTurn, f_lowX, f_highX, f_lowY, f_highY, f_frontLetter, f_frontRun, f_backLetter, f_backRun, f_longest, f_total, a_ruleSize, a_rules, a_first, a_actions, a_size, a_numbers, a_moveX, a_moveY, a_turn, a_leastX, a_mostX, a_leastY, a_mostY, a_headLetter, a_headRun, a_tailLetter, a_tailRun, a_bestRun, a_pattern, a_stateAfter, a_formState, a_formHits, a_top, a_pile, a_seen)) :
    ∀ d lv, lv + d = 13 → ∀ (f_penX f_penY f_penTurn f_lowX f_highX f_lowY f_highY f_frontLetter f_frontRun f_backLetter f_backRun f_longest f_total : Int32) (a_size a_numbers a_moveX a_moveY a_turn a_leastX a_mostX a_leastY a_mostY a_headLetter a_headRun a_tailLetter a_tailRun a_bestRun : Nat → Int32), xw_D R A lv 0 a_size a_numbers a_moveX a_moveY a_turn a_leastX a_mostX a_leastY a_mostY a_headLetter a_headRun a_tailLetter a_tailRun a_bestRun → wX_learn_15 post (d + 1) (nI lv) f_firstSize f_known f_patternNumber f_patternSize f_penX f_penY f_penTurn f_lowX f_highX f_lowY f_highY f_frontLetter f_frontRun f_backLetter f_backRun f_longest f_total a_ruleSize a_rules a_first a_actions a_size a_numbers a_moveX a_moveY a_turn a_leastX a_mostX a_leastY a_mostY a_headLetter a_headRun a_tailLetter a_tailRun a_bestRun a_pattern a_stateAfter a_formState a_formHits a_top a_pile a_seen := by
  intro d
  induction d with
  | zero =>
    intro i hi f_penX f_penY f_penTurn f_lowX f_highX f_lowY f_highY f_frontLetter f_frontRun f_backLetter f_backRun f_longest f_total a_size a_numbers a_moveX a_moveY a_turn a_leastX a_mostX a_leastY a_mostY a_headLetter a_headRun a_tailLetter a_tailRun a_bestRun hD
    have e : i = 13 := by omega
    subst e
    refine br_t (nI_le (a := 13) (b := 13) (by omega) (by omega)) ?_
    exact K f_penX f_penY f_penTurn f_lowX f_highX f_lowY f_highY f_frontLetter f_frontRun f_backLetter f_backRun f_longest f_total a_size a_numbers a_moveX a_moveY a_turn a_leastX a_mostX a_leastY a_mostY a_headLetter a_headRun a_tailLetter a_tailRun a_bestRun (fun c hc l hl => hD c hc l hl (by omega))
  | succ d ih =>
    intro i hi f_penX f_penY f_penTurn f_lowX f_highX f_lowY f_highY f_frontLetter f_frontRun f_backLetter f_backRun f_longest f_total a_size a_numbers a_moveX a_moveY a_turn a_leastX a_mostX a_leastY a_mostY a_headLetter a_headRun a_tailLetter a_tailRun a_bestRun hD
    refine br_f (nI_ge (a := i) (b := 13) (by omega) (by omega)) ⟨7, ?_⟩
    exact xw_ln23 ok hB (by omega) (fun f_penX f_penY f_penTurn f_lowX f_highX f_lowY f_highY f_frontLetter f_frontRun f_backLetter f_backRun f_longest f_total a_size a_numbers a_moveX a_moveY a_turn a_leastX a_mostX a_leastY a_mostY a_headLetter a_headRun a_tailLetter a_tailRun a_bestRun h => ih (i + 1) (by omega) f_penX f_penY f_penTurn f_lowX f_highX f_lowY f_highY f_frontLetter f_frontRun f_backLetter f_backRun f_longest f_total a_size a_numbers a_moveX a_moveY a_turn a_leastX a_mostX a_leastY a_mostY a_headLetter a_headRun a_tailLetter a_tailRun a_bestRun h) 6 0 rfl f_penX f_penY f_penTurn f_lowX f_highX f_lowY f_highY f_frontLetter f_frontRun f_backLetter f_backRun f_longest f_total a_size a_numbers a_moveX a_moveY a_turn a_leastX a_mostX a_leastY a_mostY a_headLetter a_headRun a_tailLetter a_tailRun a_bestRun hD
theorem xw_learn {post : SX → Prop} {R : Nat → List Nat} {F : List Nat} {A : Nat → Nat} (ok : gw_ok R F A) (hI : xw_I R F A (f_firstSize, f_known, f_patternNumber, f_patternSize, f_penX, f_penY, f_penTurn, f_lowX, f_highX, f_lowY, f_highY, f_frontLetter, f_frontRun, f_backLetter, f_backRun, f_longest, f_total, a_ruleSize, a_rules, a_first, a_actions, a_size, a_numbers, a_moveX, a_moveY, a_turn, a_leastX, a_mostX, a_leastY, a_mostY, a_headLetter, a_headRun, a_tailLetter, a_tailRun, a_bestRun, a_pattern, a_stateAfter, a_formState, a_formHits, a_top, a_pile, a_seen))
    (K : ∀ u, xw_K R F A u → post u) : wpX_learn post (f_firstSize, f_known, f_patternNumber, f_patternSize, f_penX, f_penY, f_penTurn, f_lowX, f_highX, f_lowY, f_highY, f_frontLetter, f_frontRun, f_backLetter, f_backRun, f_longest, f_total, a_ruleSize, a_rules, a_first, a_actions, a_size, a_numbers, a_moveX, a_moveY, a_turn, a_leastX, a_mostX, a_leastY, a_mostY, a_headLetter, a_headRun, a_tailLetter, a_tailRun, a_bestRun, a_pattern, a_stateAfter, a_formState, a_formHits, a_top, a_pile, a_seen) := by
  have hI : gw_B R F A f_firstSize a_ruleSize a_rules a_first a_actions ∧ (f_known ≠ 0 → xw_F R A a_size a_numbers a_moveX a_moveY a_turn a_leastX a_mostX a_leastY a_mostY a_headLetter a_headRun a_tailLetter a_tailRun a_bestRun) ∧ (f_patternNumber ≠ 0 → xw_C R f_patternNumber f_patternSize a_pattern a_formState a_formHits) := hI
  by_cases e : f_known = 0
  · refine br_t e ⟨14, ?_⟩
    refine xw_ln15 ok hI.1 ?_ 13 0 rfl f_penX f_penY f_penTurn f_lowX f_highX f_lowY f_highY f_frontLetter f_frontRun f_backLetter f_backRun f_longest f_total a_size a_numbers a_moveX a_moveY a_turn a_leastX a_mostX a_leastY a_mostY a_headLetter a_headRun a_tailLetter a_tailRun a_bestRun (fun c hc l hl h => by omega)
    intro f_penX f_penY f_penTurn f_lowX f_highX f_lowY f_highY f_frontLetter f_frontRun f_backLetter f_backRun f_longest f_total a_size a_numbers a_moveX a_moveY a_turn a_leastX a_mostX a_leastY a_mostY a_headLetter a_headRun a_tailLetter a_tailRun a_bestRun hF
    exact K (f_firstSize, 1, f_patternNumber, f_patternSize, f_penX, f_penY, f_penTurn, f_lowX, f_highX, f_lowY, f_highY, f_frontLetter, f_frontRun, f_backLetter, f_backRun, f_longest, f_total, a_ruleSize, a_rules, a_first, a_actions, a_size, a_numbers, a_moveX, a_moveY, a_turn, a_leastX, a_mostX, a_leastY, a_mostY, a_headLetter, a_headRun, a_tailLetter, a_tailRun, a_bestRun, a_pattern, a_stateAfter, a_formState, a_formHits, a_top, a_pile, a_seen) (And.intro hI.1 (And.intro hF hI.2.2))
  · exact br_f e (K (f_firstSize, f_known, f_patternNumber, f_patternSize, f_penX, f_penY, f_penTurn, f_lowX, f_highX, f_lowY, f_highY, f_frontLetter, f_frontRun, f_backLetter, f_backRun, f_longest, f_total, a_ruleSize, a_rules, a_first, a_actions, a_size, a_numbers, a_moveX, a_moveY, a_turn, a_leastX, a_mostX, a_leastY, a_mostY, a_headLetter, a_headRun, a_tailLetter, a_tailRun, a_bestRun, a_pattern, a_stateAfter, a_formState, a_formHits, a_top, a_pile, a_seen) (And.intro hI.1 (And.intro (hI.2.1 e) hI.2.2)))
end
end
section
section
variable {f_firstSize f_known f_patternNumber f_patternSize f_penX f_penY f_penTurn f_lowX f_highX f_lowY f_highY f_frontLetter f_frontRun f_backLetter f_backRun f_longest f_total : Int32} {a_ruleSize a_rules a_first a_actions a_size a_numbers a_moveX a_moveY a_turn a_leastX a_mostX a_leastY a_mostY a_headLetter a_headRun a_tailLetter a_tailRun a_bestRun a_pattern a_stateAfter a_formState a_formHits a_top a_pile a_seen : Nat → Int32}
/-! lengths and refusals -/
theorem xw_lo4 {post : Int32 → Prop} {R : Nat → List Nat} {F : List Nat} {A : Nat → Nat} {n : Nat} (ok : gw_ok R F A) (hB : gw_B R F A f_firstSize a_ruleSize a_rules a_first a_actions) (hF : xw_F R A a_size a_numbers a_moveX a_moveY a_turn a_leastX a_mostX a_leastY a_mostY a_headLetter a_headRun a_tailLetter a_tailRun a_bestRun) (hn : n < 13) (h : post (nI (gw_G R F n).length)) :
    ∀ d i, i + d = F.length → wX_lengthOf_4 post (nI n) f_firstSize f_known f_patternNumber f_patternSize f_penX f_penY f_penTurn f_lowX f_highX f_lowY f_highY f_frontLetter f_frontRun f_backLetter f_backRun f_longest f_total a_ruleSize a_rules a_first a_actions a_size a_numbers a_moveX a_moveY a_turn a_leastX a_mostX a_leastY a_mostY a_headLetter a_headRun a_tailLetter a_tailRun a_bestRun a_pattern a_stateAfter a_formState a_formHits a_top a_pile a_seen (d + 1) (nI (((F.take i).flatMap (gw_ex R n)).length)) (nI i) := by
  have h8 := ok.2.1.2.1
  intro d
  induction d with
  | zero =>
    intro i hi
    have e : i = F.length := by omega
    subst e
    rw [List.take_length]
    exact br_t (by rw [hB.1]; exact nI_le (by omega) (by omega)) h
  | succ d ih =>
    intro i hi
    have hi2 : i < F.length := by omega
    have ci : (nI i).toNatClampNeg = i := nI_clamp (by omega)
    have hm : F.getD i 0 < 6 := ok.2.1.2.2 _ (gw_gm hi2)
    have cf : (nI (13 * F.getD i 0 + n)).toNatClampNeg = 13 * F.getD i 0 + n := nI_clamp (by omega)
    have eW : ((F.take (i + 1)).flatMap (gw_ex R n)).length = ((F.take i).flatMap (gw_ex R n)).length + (gw_ex R n (F.getD i 0)).length := by
      rw [gw_tk hi2, List.flatMap_append, List.length_append]
      simp
    refine br_f (by rw [hB.1]; exact nI_ge hi2 (by omega)) (And.intro (vp_in_nI (by omega) (by omega)) ?_)
    refine xw_form (c := F.getD i 0) (l := n) (by rw [ci]; exact hB.2.2.2.1 i hi2) rfl ?_
    refine And.intro (vp_in_nI (by omega) (by omega)) (nm_r (e' := nI ((F.take (i + 1)).flatMap (gw_ex R n)).length) ?_ (nm_r (e' := nI (i + 1)) (nI_1 i) (ih (i + 1) (by omega))))
    rw [cf, (hF _ hm n hn).1, nI_add, eW]
theorem xw_len {post : Int32 → Prop} {R : Nat → List Nat} {F : List Nat} {A : Nat → Nat} {n : Nat} (ok : gw_ok R F A) (hB : gw_B R F A f_firstSize a_ruleSize a_rules a_first a_actions) (hF : xw_F R A a_size a_numbers a_moveX a_moveY a_turn a_leastX a_mostX a_leastY a_mostY a_headLetter a_headRun a_tailLetter a_tailRun a_bestRun) (hn : n < 13) (h : post (nI (gw_G R F n).length)) : wpX_lengthOf post (f_firstSize, f_known, f_patternNumber, f_patternSize, f_penX, f_penY, f_penTurn, f_lowX, f_highX, f_lowY, f_highY, f_frontLetter, f_frontRun, f_backLetter, f_backRun, f_longest, f_total, a_ruleSize, a_rules, a_first, a_actions, a_size, a_numbers, a_moveX, a_moveY, a_turn, a_leastX, a_mostX, a_leastY, a_mostY, a_headLetter, a_headRun, a_tailLetter, a_tailRun, a_bestRun, a_pattern, a_stateAfter, a_formState, a_formHits, a_top, a_pile, a_seen) (nI n) :=
  ⟨F.length + 1, xw_lo4 ok hB hF hn h F.length 0 (Nat.zero_add _)⟩
theorem gw_GL {R : Nat → List Nat} {F : List Nat} {A : Nat → Nat} (ok : gw_ok R F A) {n : Nat} (hn : n < 13) : (gw_G R F n).length ≤ 134217728 := by
  have h := gw_fl (w := F) (f := gw_ex R n) (B := 16777216) (fun d _ => gw_exB ok.1 d hn)
  have h8 := ok.2.1.2.1
  have h7 : F.length * 16777216 ≤ 8 * 16777216 := Nat.mul_le_mul_right _ h8
  unfold gw_G
  omega
theorem xw_rf18 {post : Int32 → SX → Prop} {R : Nat → List Nat} {F : List Nat} {A : Nat → Nat} {n : Nat} (ok : gw_ok R F A) (hB : gw_B R F A f_firstSize a_ruleSize a_rules a_first a_actions) (hF : xw_F R A a_size a_numbers a_moveX a_moveY a_turn a_leastX a_mostX a_leastY a_mostY a_headLetter a_headRun a_tailLetter a_tailRun a_bestRun) (hn : n < 13)
    (h0 : gw_rc R F n → post 0 (f_firstSize, f_known, f_patternNumber, f_patternSize, f_penX, f_penY, f_penTurn, f_lowX, f_highX, f_lowY, f_highY, f_frontLetter, f_frontRun, f_backLetter, f_backRun, f_longest, f_total, a_ruleSize, a_rules, a_first, a_actions, a_size, a_numbers, a_moveX, a_moveY, a_turn, a_leastX, a_mostX, a_leastY, a_mostY, a_headLetter, a_headRun, a_tailLetter, a_tailRun, a_bestRun, a_pattern, a_stateAfter, a_formState, a_formHits, a_top, a_pile, a_seen)) (h2 : ¬ gw_rc R F n → post (-2) (f_firstSize, f_known, f_patternNumber, f_patternSize, f_penX, f_penY, f_penTurn, f_lowX, f_highX, f_lowY, f_highY, f_frontLetter, f_frontRun, f_backLetter, f_backRun, f_longest, f_total, a_ruleSize, a_rules, a_first, a_actions, a_size, a_numbers, a_moveX, a_moveY, a_turn, a_leastX, a_mostX, a_leastY, a_mostY, a_headLetter, a_headRun, a_tailLetter, a_tailRun, a_bestRun, a_pattern, a_stateAfter, a_formState, a_formHits, a_top, a_pile, a_seen)) :
    ∀ d m, m + d = n + 1 → (∀ q, q < m → (gw_G R F q).length ≤ 3000) → wX_refusal_18 post (nI n) f_firstSize f_known f_patternNumber f_patternSize f_penX f_penY f_penTurn f_lowX f_highX f_lowY f_highY f_frontLetter f_frontRun f_backLetter f_backRun f_longest f_total a_ruleSize a_rules a_first a_actions a_size a_numbers a_moveX a_moveY a_turn a_leastX a_mostX a_leastY a_mostY a_headLetter a_headRun a_tailLetter a_tailRun a_bestRun a_pattern a_stateAfter a_formState a_formHits a_top a_pile a_seen (d + 1) (nI m) := by
  intro d
  induction d with
  | zero =>
    intro m hm hq
    exact br_t (nI_lt (by omega) (by omega)) (h0 (fun q hq2 => hq q (by omega)))
  | succ d ih =>
    intro m hm hq
    have hL := gw_GL ok (n := m) (by omega)
    refine br_f (nI_nlt (by omega) (by omega)) ?_
    refine xw_len ok hB hF (by omega) ?_
    by_cases c : (gw_G R F m).length ≤ 3000
    · refine br_t (nI_le (b := 3000) c (by omega)) (nm_r (e' := nI (m + 1)) (nI_1 m) (ih (m + 1) (by omega) ?_))
      intro q hq2
      by_cases z : q = m
      · subst z; exact c
      · exact hq q (by omega)
    · exact br_f (nI_ge (a := 3000) (by omega) (by omega)) (h2 (fun z => c (z m (by omega))))
/-- a generation can't be asked for -/
theorem xw_refA {post : Int32 → SX → Prop} {v : Int32} (hv : v < 0 ∨ 13 ≤ v) (h : post (-1) (f_firstSize, f_known, f_patternNumber, f_patternSize, f_penX, f_penY, f_penTurn, f_lowX, f_highX, f_lowY, f_highY, f_frontLetter, f_frontRun, f_backLetter, f_backRun, f_longest, f_total, a_ruleSize, a_rules, a_first, a_actions, a_size, a_numbers, a_moveX, a_moveY, a_turn, a_leastX, a_mostX, a_leastY, a_mostY, a_headLetter, a_headRun, a_tailLetter, a_tailRun, a_bestRun, a_pattern, a_stateAfter, a_formState, a_formHits, a_top, a_pile, a_seen)) : wpX_refusal post (f_firstSize, f_known, f_patternNumber, f_patternSize, f_penX, f_penY, f_penTurn, f_lowX, f_highX, f_lowY, f_highY, f_frontLetter, f_frontRun, f_backLetter, f_backRun, f_longest, f_total, a_ruleSize, a_rules, a_first, a_actions, a_size, a_numbers, a_moveX, a_moveY, a_turn, a_leastX, a_mostX, a_leastY, a_mostY, a_headLetter, a_headRun, a_tailLetter, a_tailRun, a_bestRun, a_pattern, a_stateAfter, a_formState, a_formHits, a_top, a_pile, a_seen) v := by
  by_cases c : v < 0
  · exact br_t c h
  · refine br_f c (br_f ?_ h)
    rcases hv with z | z
    · exact absurd z c
    · exact Int32.not_lt.mpr z
theorem xw_refB {post : Int32 → SX → Prop} {R : Nat → List Nat} {F : List Nat} {A : Nat → Nat} {n : Nat} (ok : gw_ok R F A) (hI : xw_I R F A (f_firstSize, f_known, f_patternNumber, f_patternSize, f_penX, f_penY, f_penTurn, f_lowX, f_highX, f_lowY, f_highY, f_frontLetter, f_frontRun, f_backLetter, f_backRun, f_longest, f_total, a_ruleSize, a_rules, a_first, a_actions, a_size, a_numbers, a_moveX, a_moveY, a_turn, a_leastX, a_mostX, a_leastY, a_mostY, a_headLetter, a_headRun, a_tailLetter, a_tailRun, a_bestRun, a_pattern, a_stateAfter, a_formState, a_formHits, a_top, a_pile, a_seen)) (hn : n < 13)
    (h0 : gw_rc R F n → ∀ u, xw_K R F A u → post 0 u) (h2 : ¬ gw_rc R F n → ∀ u, xw_K R F A u → post (-2) u) : wpX_refusal post (f_firstSize, f_known, f_patternNumber, f_patternSize, f_penX, f_penY, f_penTurn, f_lowX, f_highX, f_lowY, f_highY, f_frontLetter, f_frontRun, f_backLetter, f_backRun, f_longest, f_total, a_ruleSize, a_rules, a_first, a_actions, a_size, a_numbers, a_moveX, a_moveY, a_turn, a_leastX, a_mostX, a_leastY, a_mostY, a_headLetter, a_headRun, a_tailLetter, a_tailRun, a_bestRun, a_pattern, a_stateAfter, a_formState, a_formHits, a_top, a_pile, a_seen) (nI n) := by
  refine br_f (nI_pos (by omega)) (br_t (nI_lt (b := 13) hn (by omega)) ?_)
  refine xw_learn ok hI ?_
  refine xw_el ?_
  intro f_firstSize f_known f_patternNumber f_patternSize f_penX f_penY f_penTurn f_lowX f_highX f_lowY f_highY f_frontLetter f_frontRun f_backLetter f_backRun f_longest f_total a_ruleSize a_rules a_first a_actions a_size a_numbers a_moveX a_moveY a_turn a_leastX a_mostX a_leastY a_mostY a_headLetter a_headRun a_tailLetter a_tailRun a_bestRun a_pattern a_stateAfter a_formState a_formHits a_top a_pile a_seen hK
  have hK2 : gw_B R F A f_firstSize a_ruleSize a_rules a_first a_actions ∧ xw_F R A a_size a_numbers a_moveX a_moveY a_turn a_leastX a_mostX a_leastY a_mostY a_headLetter a_headRun a_tailLetter a_tailRun a_bestRun ∧ (f_patternNumber ≠ 0 → xw_C R f_patternNumber f_patternSize a_pattern a_formState a_formHits) := hK
  refine ⟨n + 2, ?_⟩
  exact xw_rf18 ok hK2.1 hK2.2.1 hn (fun z => h0 z _ hK) (fun z => h2 z _ hK) (n + 1) 0 (by omega) (fun q hq => absurd hq (Nat.not_lt_zero q))
theorem xw_KI {R : Nat → List Nat} {F : List Nat} {A : Nat → Nat} {u : SX} (h : xw_K R F A u) : xw_I R F A u := by
  revert h
  refine xw_el (P := fun u => xw_K R F A u → xw_I R F A u) ?_ u
  intro f_firstSize f_known f_patternNumber f_patternSize f_penX f_penY f_penTurn f_lowX f_highX f_lowY f_highY f_frontLetter f_frontRun f_backLetter f_backRun f_longest f_total a_ruleSize a_rules a_first a_actions a_size a_numbers a_moveX a_moveY a_turn a_leastX a_mostX a_leastY a_mostY a_headLetter a_headRun a_tailLetter a_tailRun a_bestRun a_pattern a_stateAfter a_formState a_formHits a_top a_pile a_seen h
  exact And.intro h.1 (And.intro (fun _ => h.2.1) h.2.2)
theorem xw_Kel {R : Nat → List Nat} {F : List Nat} {A : Nat → Nat} {P : SX → Prop} (h : ∀ (f_firstSize f_known f_patternNumber f_patternSize f_penX f_penY f_penTurn f_lowX f_highX f_lowY f_highY f_frontLetter f_frontRun f_backLetter f_backRun f_longest f_total : Int32) (a_ruleSize a_rules a_first a_actions a_size a_numbers a_moveX a_moveY a_turn a_leastX a_mostX a_leastY a_mostY a_headLetter a_headRun a_tailLetter a_tailRun a_bestRun a_pattern a_stateAfter a_formState a_formHits a_top a_pile a_seen : Nat → Int32), (gw_B R F A f_firstSize a_ruleSize a_rules a_first a_actions ∧ xw_F R A a_size a_numbers a_moveX a_moveY a_turn a_leastX a_mostX a_leastY a_mostY a_headLetter a_headRun a_tailLetter a_tailRun a_bestRun ∧ (f_patternNumber ≠ 0 → xw_C R f_patternNumber f_patternSize a_pattern a_formState a_formHits)) → P (f_firstSize, f_known, f_patternNumber, f_patternSize, f_penX, f_penY, f_penTurn, f_lowX, f_highX, f_lowY, f_highY, f_frontLetter, f_frontRun, f_backLetter, f_backRun, f_longest, f_total, a_ruleSize, a_rules, a_first, a_actions, a_size, a_numbers, a_moveX, a_moveY, a_turn, a_leastX, a_mostX, a_leastY, a_mostY, a_headLetter, a_headRun, a_tailLetter, a_tailRun, a_bestRun, a_pattern, a_stateAfter, a_formState, a_formHits, a_top, a_pile, a_seen)) (u : SX) (hK : xw_K R F A u) : P u := by
  revert hK
  refine xw_el (P := fun u => xw_K R F A u → P u) ?_ u
  intro f_firstSize f_known f_patternNumber f_patternSize f_penX f_penY f_penTurn f_lowX f_highX f_lowY f_highY f_frontLetter f_frontRun f_backLetter f_backRun f_longest f_total a_ruleSize a_rules a_first a_actions a_size a_numbers a_moveX a_moveY a_turn a_leastX a_mostX a_leastY a_mostY a_headLetter a_headRun a_tailLetter a_tailRun a_bestRun a_pattern a_stateAfter a_formState a_formHits a_top a_pile a_seen hK
  exact h f_firstSize f_known f_patternNumber f_patternSize f_penX f_penY f_penTurn f_lowX f_highX f_lowY f_highY f_frontLetter f_frontRun f_backLetter f_backRun f_longest f_total a_ruleSize a_rules a_first a_actions a_size a_numbers a_moveX a_moveY a_turn a_leastX a_mostX a_leastY a_mostY a_headLetter a_headRun a_tailLetter a_tailRun a_bestRun a_pattern a_stateAfter a_formState a_formHits a_top a_pile a_seen hK
theorem xw_IK {R : Nat → List Nat} {F : List Nat} {A : Nat → Nat} (h : gw_B R F A f_firstSize a_ruleSize a_rules a_first a_actions ∧ xw_F R A a_size a_numbers a_moveX a_moveY a_turn a_leastX a_mostX a_leastY a_mostY a_headLetter a_headRun a_tailLetter a_tailRun a_bestRun ∧ (f_patternNumber ≠ 0 → xw_C R f_patternNumber f_patternSize a_pattern a_formState a_formHits)) : xw_I R F A (f_firstSize, f_known, f_patternNumber, f_patternSize, f_penX, f_penY, f_penTurn, f_lowX, f_highX, f_lowY, f_highY, f_frontLetter, f_frontRun, f_backLetter, f_backRun, f_longest, f_total, a_ruleSize, a_rules, a_first, a_actions, a_size, a_numbers, a_moveX, a_moveY, a_turn, a_leastX, a_mostX, a_leastY, a_mostY, a_headLetter, a_headRun, a_tailLetter, a_tailRun, a_bestRun, a_pattern, a_stateAfter, a_formState, a_formHits, a_top, a_pile, a_seen) := And.intro h.1 (And.intro (fun _ => h.2.1) h.2.2)
end
end
section
/-! readers: the walks -/
def xw_T (r : Nat) (L : List (Nat × Nat)) (tp pi : Nat → Int32) : Prop := tp r = nI L.length ∧ gw_pl pi (64 * r) L
def xw_Fr (r : Nat) (tp pi tp' pi' : Nat → Int32) : Prop := ∀ r' M, r' < 2 → r' ≠ r → M.length ≤ 64 → xw_T r' M tp pi → xw_T r' M tp' pi'
theorem xw_FrR {r : Nat} {tp pi : Nat → Int32} : xw_Fr r tp pi tp pi := fun _ _ _ _ _ h => h
theorem xw_FrT {r : Nat} {t0 p0 t1 p1 t2 p2 : Nat → Int32} (h1 : xw_Fr r t0 p0 t1 p1) (h2 : xw_Fr r t1 p1 t2 p2) : xw_Fr r t0 p0 t2 p2 :=
  fun r' M a b c h => h2 r' M a b c (h1 r' M a b c h)
def xw_hd : List (Nat × Nat) → Int32
  | [] => -1
  | f :: _ => nI (13 * f.1 + f.2)
theorem xw_pop {r : Nat} {f : Nat × Nat} {L : List (Nat × Nat)} {tp pi : Nat → Int32} (h : xw_T r (f :: L) tp pi) : xw_T r L (upd tp r (tp r - 1)) pi := by
  refine ⟨?_, h.2.2⟩
  rw [pk_us, h.1, List.length_cons, nI_pred]
theorem xw_popF {r : Nat} {v : Int32} {tp pi : Nat → Int32} : xw_Fr r tp pi (upd tp r v) pi := by
  intro r' M h1 h2 h3 h
  refine ⟨?_, h.2⟩
  rw [pk_un h2]
  exact h.1
theorem gw_op1 (R : Nat → List Nat) (l d : Nat) (w : List Nat) : gw_op R l (d :: w) = gw_op R l [d] ++ gw_op R l w := by
  rw [gw_opC, gw_opC]
  split <;> rfl
section
variable {f_firstSize f_known f_patternNumber f_patternSize f_penX f_penY f_penTurn f_lowX f_highX f_lowY f_highY f_frontLetter f_frontRun f_backLetter f_backRun f_longest f_total : Int32} {a_ruleSize a_rules a_first a_actions a_size a_numbers a_moveX a_moveY a_turn a_leastX a_mostX a_leastY a_mostY a_headLetter a_headRun a_tailLetter a_tailRun a_bestRun a_pattern a_stateAfter a_formState a_formHits a_top a_pile a_seen : Nat → Int32}
theorem xw_next {post : Int32 → Prop} {r : Nat} {L : List (Nat × Nat)} (hr : r < 2) (hL : L.length ≤ 64) (hT : xw_T r L a_top a_pile) (h : post (xw_hd L)) : wpX_nextForm post (f_firstSize, f_known, f_patternNumber, f_patternSize, f_penX, f_penY, f_penTurn, f_lowX, f_highX, f_lowY, f_highY, f_frontLetter, f_frontRun, f_backLetter, f_backRun, f_longest, f_total, a_ruleSize, a_rules, a_first, a_actions, a_size, a_numbers, a_moveX, a_moveY, a_turn, a_leastX, a_mostX, a_leastY, a_mostY, a_headLetter, a_headRun, a_tailLetter, a_tailRun, a_bestRun, a_pattern, a_stateAfter, a_formState, a_formHits, a_top, a_pile, a_seen) (nI r) := by
  have cr : (nI r).toNatClampNeg = r := nI_clamp (by omega)
  have vr : vp_in (nI r) 2 := vp_in_nI hr (by omega)
  cases L with
  | nil => exact And.intro vr (br_t (by rw [cr, hT.1]; rfl) h)
  | cons f L =>
    rw [List.length_cons] at hL
    have h1 := hT.1
    rw [List.length_cons] at h1
    have e : 64 * nI r + a_top (nI r).toNatClampNeg - 1 = nI (64 * r + L.length) := by
      rw [cr, h1]
      have := xw_mi 64 r (L.length + 1)
      rw [show (64 : Int32) = nI 64 from rfl, this, ← Nat.add_assoc, nI_pred]
    refine And.intro vr (br_f (by rw [cr, h1]; exact nI_ne0 (by omega) (by omega)) (And.intro vr (And.intro (pk_in (64 * r + L.length) 128 (by omega) e) ?_)))
    rw [pk_cl (64 * r + L.length) e, hT.2.1]
    exact h
theorem xw_push {post : SX → Prop} {R : Nat → List Nat} {A : Nat → Nat} {r c l : Nat} {L : List (Nat × Nat)} (hR : ∀ c, (R c).length ≤ 4 ∧ ∀ d, d ∈ R c → d < 6) (hF : xw_F R A a_size a_numbers a_moveX a_moveY a_turn a_leastX a_mostX a_leastY a_mostY a_headLetter a_headRun a_tailLetter a_tailRun a_bestRun) (hr : r < 2) (hc : c < 6) (hl : l < 13) (hL : L.length < 64) (hT : xw_T r L a_top a_pile)
    (K : ∀ tp pi : Nat → Int32, xw_T r (gw_op R l [c] ++ L) tp pi → xw_Fr r a_top a_pile tp pi → post (f_firstSize, f_known, f_patternNumber, f_patternSize, f_penX, f_penY, f_penTurn, f_lowX, f_highX, f_lowY, f_highY, f_frontLetter, f_frontRun, f_backLetter, f_backRun, f_longest, f_total, a_ruleSize, a_rules, a_first, a_actions, a_size, a_numbers, a_moveX, a_moveY, a_turn, a_leastX, a_mostX, a_leastY, a_mostY, a_headLetter, a_headRun, a_tailLetter, a_tailRun, a_bestRun, a_pattern, a_stateAfter, a_formState, a_formHits, tp, pi, a_seen)) : wpX_pushForm post (f_firstSize, f_known, f_patternNumber, f_patternSize, f_penX, f_penY, f_penTurn, f_lowX, f_highX, f_lowY, f_highY, f_frontLetter, f_frontRun, f_backLetter, f_backRun, f_longest, f_total, a_ruleSize, a_rules, a_first, a_actions, a_size, a_numbers, a_moveX, a_moveY, a_turn, a_leastX, a_mostX, a_leastY, a_mostY, a_headLetter, a_headRun, a_tailLetter, a_tailRun, a_bestRun, a_pattern, a_stateAfter, a_formState, a_formHits, a_top, a_pile, a_seen) (nI r) (nI (13 * c + l)) := by
  have cr : (nI r).toNatClampNeg = r := nI_clamp (by omega)
  have vr : vp_in (nI r) 2 := vp_in_nI hr (by omega)
  have cf : (nI (13 * c + l)).toNatClampNeg = 13 * c + l := nI_clamp (by omega)
  have vf : vp_in (nI (13 * c + l)) 78 := vp_in_nI (by omega) (by omega)
  have hz := (hF c hc l hl).1
  have hb := gw_exB hR c hl
  have e : 64 * nI r + a_top (nI r).toNatClampNeg = nI (64 * r + L.length) := by
    rw [cr, hT.1]
    exact xw_mi 64 r L.length
  rw [gw_opC] at K
  by_cases z : (gw_ex R l c).length = 0
  · rw [if_pos z] at K
    exact And.intro vf (br_t (by rw [cf, hz, z]; decide) (K a_top a_pile hT xw_FrR))
  · rw [if_neg z] at K
    refine And.intro vf (br_f (by rw [cf, hz]; exact nI_nle (by omega) (by omega)) (And.intro vr (And.intro (pk_in (64 * r + L.length) 128 (by omega) e) (nm_r (e' := upd a_pile (64 * r + L.length) (nI (13 * c + l))) (by rw [pk_cl _ e]) (And.intro vr (And.intro vr (nm_r (e' := upd a_top r (nI (L.length + 1))) ?_ (K _ _ ?_ ?_))))))))
    · rw [cr, hT.1, nI_1]
    · refine ⟨pk_us, pk_us, ?_⟩
      exact gw_plU hT.2 (Or.inr (Nat.le_refl _))
    · intro r' M h1 h2 h3 h
      refine ⟨by rw [pk_un h2]; exact h.1, gw_plU h.2 ?_⟩
      omega
theorem xw_of37 {post : SX → Prop} {R : Nat → List Nat} {F : List Nat} {A : Nat → Nat} {r c l : Nat} {L : List (Nat × Nat)} {t0 p0 : Nat → Int32} (ok : gw_ok R F A) (hB : gw_B R F A f_firstSize a_ruleSize a_rules a_first a_actions) (hF : xw_F R A a_size a_numbers a_moveX a_moveY a_turn a_leastX a_mostX a_leastY a_mostY a_headLetter a_headRun a_tailLetter a_tailRun a_bestRun) (hr : r < 2) (hc : c < 6) (hl : l < 13) (hL : L.length + 4 ≤ 64)
    (K : ∀ tp pi : Nat → Int32, xw_T r (gw_op R l (R c) ++ L) tp pi → xw_Fr r t0 p0 tp pi → post (f_firstSize, f_known, f_patternNumber, f_patternSize, f_penX, f_penY, f_penTurn, f_lowX, f_highX, f_lowY, f_highY, f_frontLetter, f_frontRun, f_backLetter, f_backRun, f_longest, f_total, a_ruleSize, a_rules, a_first, a_actions, a_size, a_numbers, a_moveX, a_moveY, a_turn, a_leastX, a_mostX, a_leastY, a_mostY, a_headLetter, a_headRun, a_tailLetter, a_tailRun, a_bestRun, a_pattern, a_stateAfter, a_formState, a_formHits, tp, pi, a_seen)) :
    ∀ i, i ≤ (R c).length → ∀ tp pi : Nat → Int32, xw_T r (gw_op R l ((R c).drop i) ++ L) tp pi → xw_Fr r t0 p0 tp pi → wX_openForm_37 post (nI r) (nI c) (nI (l + 1)) (i + 1) (nI i - 1) f_firstSize f_known f_patternNumber f_patternSize f_penX f_penY f_penTurn f_lowX f_highX f_lowY f_highY f_frontLetter f_frontRun f_backLetter f_backRun f_longest f_total a_ruleSize a_rules a_first a_actions a_size a_numbers a_moveX a_moveY a_turn a_leastX a_mostX a_leastY a_mostY a_headLetter a_headRun a_tailLetter a_tailRun a_bestRun a_pattern a_stateAfter a_formState a_formHits tp pi a_seen := by
  have h4 := (ok.1 c).1
  intro i
  induction i with
  | zero =>
    intro hi tp pi hT hFr
    rw [List.drop_zero] at hT
    exact br_t (by decide) (K tp pi hT hFr)
  | succ i ih =>
    intro hi tp pi hT hFr
    have e4 : 4 * nI c + nI i = nI (4 * c + i) := xw_mi 4 c i
    have hm : (R c).getD i 0 < 6 := (ok.1 c).2 _ (gw_gm (by omega))
    rw [nI_pred i]
    refine br_f (nI_pos (by omega)) (And.intro (pk_in (4 * c + i) 24 (by omega) e4) ?_)
    refine xw_form (c := (R c).getD i 0) (l := l) (by rw [pk_cl _ e4]; exact hB.2.2.1 c hc i (by omega)) (nI_pred l) ?_
    have ho := gw_opL R l ((R c).drop (i + 1))
    rw [List.length_drop] at ho
    refine xw_push (L := gw_op R l ((R c).drop (i + 1)) ++ L) ok.1 hF hr hm hl (by rw [List.length_append]; omega) hT ?_
    intro tp' pi' hT' hFr'
    refine nm_r (e' := nI i - 1) (Int32.sub_eq_add_neg _ _).symm ?_
    refine ih (by omega) tp' pi' ?_ (xw_FrT hFr hFr')
    rw [gw_dp (w := R c) (i := i) (by omega), gw_op1, List.append_assoc]
    exact hT'
theorem xw_open {post : SX → Prop} {R : Nat → List Nat} {F : List Nat} {A : Nat → Nat} {r c l n : Nat} {L : List (Nat × Nat)} (ok : gw_ok R F A) (hB : gw_B R F A f_firstSize a_ruleSize a_rules a_first a_actions) (hF : xw_F R A a_size a_numbers a_moveX a_moveY a_turn a_leastX a_mostX a_leastY a_mostY a_headLetter a_headRun a_tailLetter a_tailRun a_bestRun) (hr : r < 2) (hn : n < 13) (hw : gw_wf R n ((c, l + 1) :: L)) (hT : xw_T r ((c, l + 1) :: L) a_top a_pile)
    (K : ∀ tp pi : Nat → Int32, xw_T r (gw_op R l (R c) ++ L) tp pi → gw_wf R n (gw_op R l (R c) ++ L) → xw_Fr r a_top a_pile tp pi → post (f_firstSize, f_known, f_patternNumber, f_patternSize, f_penX, f_penY, f_penTurn, f_lowX, f_highX, f_lowY, f_highY, f_frontLetter, f_frontRun, f_backLetter, f_backRun, f_longest, f_total, a_ruleSize, a_rules, a_first, a_actions, a_size, a_numbers, a_moveX, a_moveY, a_turn, a_leastX, a_mostX, a_leastY, a_mostY, a_headLetter, a_headRun, a_tailLetter, a_tailRun, a_bestRun, a_pattern, a_stateAfter, a_formState, a_formHits, tp, pi, a_seen)) : wpX_openForm post (f_firstSize, f_known, f_patternNumber, f_patternSize, f_penX, f_penY, f_penTurn, f_lowX, f_highX, f_lowY, f_highY, f_frontLetter, f_frontRun, f_backLetter, f_backRun, f_longest, f_total, a_ruleSize, a_rules, a_first, a_actions, a_size, a_numbers, a_moveX, a_moveY, a_turn, a_leastX, a_mostX, a_leastY, a_mostY, a_headLetter, a_headRun, a_tailLetter, a_tailRun, a_bestRun, a_pattern, a_stateAfter, a_formState, a_formHits, a_top, a_pile, a_seen) (nI r) := by
  have cr : (nI r).toNatClampNeg = r := nI_clamp (by omega)
  have vr : vp_in (nI r) 2 := vp_in_nI hr (by omega)
  have hc : c < 6 := hw.1.1
  have hl : l + 1 ≤ n := hw.1.2.1
  have hd : L.length + 1 + 3 * (l + 1) ≤ 8 + 3 * n := hw.1.2.2.2
  have h4 := (ok.1 c).1
  have cc : (nI c).toNatClampNeg = c := nI_clamp (by omega)
  unfold wpX_openForm
  dsimp only
  refine xw_next hr (by rw [List.length_cons]; omega) hT ?_
  refine And.intro vr (And.intro vr (nm_r (e' := upd a_top r (a_top r - 1)) (by rw [cr]) ?_))
  refine xw_letter hc (by omega) ?_
  refine xw_level hc (by omega) ?_
  refine And.intro (vp_in_nI hc (by omega)) (nm_r (e' := nI (R c).length - 1) (by rw [cc, hB.2.1 c hc]) ⟨(R c).length + 1, ?_⟩)
  have hw2 := gw_wfO (R := R) (n := n) (l := l) (by omega) hw.2 (R c) (ok.1 c).2 (by omega)
  refine xw_of37 (t0 := a_top) (p0 := a_pile) ok hB hF hr hc (by omega) (by omega) (fun tp pi h1 h2 => K tp pi h1 hw2 h2) (R c).length (Nat.le_refl _) _ _ ?_ xw_popF
  rw [List.drop_length]
  exact xw_pop hT
theorem xw_br14 {post : SX → Prop} {R : Nat → List Nat} {F : List Nat} {A : Nat → Nat} {r n : Nat} {t0 p0 : Nat → Int32} (ok : gw_ok R F A) (hB : gw_B R F A f_firstSize a_ruleSize a_rules a_first a_actions) (hF : xw_F R A a_size a_numbers a_moveX a_moveY a_turn a_leastX a_mostX a_leastY a_mostY a_headLetter a_headRun a_tailLetter a_tailRun a_bestRun) (hr : r < 2) (hn : n < 13)
    (K : ∀ tp pi : Nat → Int32, xw_T r (gw_op R n F) tp pi → xw_Fr r t0 p0 tp pi → post (f_firstSize, f_known, f_patternNumber, f_patternSize, f_penX, f_penY, f_penTurn, f_lowX, f_highX, f_lowY, f_highY, f_frontLetter, f_frontRun, f_backLetter, f_backRun, f_longest, f_total, a_ruleSize, a_rules, a_first, a_actions, a_size, a_numbers, a_moveX, a_moveY, a_turn, a_leastX, a_mostX, a_leastY, a_mostY, a_headLetter, a_headRun, a_tailLetter, a_tailRun, a_bestRun, a_pattern, a_stateAfter, a_formState, a_formHits, tp, pi, a_seen)) :
    ∀ i, i ≤ F.length → ∀ tp pi : Nat → Int32, xw_T r (gw_op R n (F.drop i)) tp pi → xw_Fr r t0 p0 tp pi → wX_beginReader_14 post (nI r) (nI n) (i + 1) (nI i - 1) f_firstSize f_known f_patternNumber f_patternSize f_penX f_penY f_penTurn f_lowX f_highX f_lowY f_highY f_frontLetter f_frontRun f_backLetter f_backRun f_longest f_total a_ruleSize a_rules a_first a_actions a_size a_numbers a_moveX a_moveY a_turn a_leastX a_mostX a_leastY a_mostY a_headLetter a_headRun a_tailLetter a_tailRun a_bestRun a_pattern a_stateAfter a_formState a_formHits tp pi a_seen := by
  have h8 := ok.2.1.2.1
  intro i
  induction i with
  | zero =>
    intro hi tp pi hT hFr
    rw [List.drop_zero] at hT
    exact br_t (by decide) (K tp pi hT hFr)
  | succ i ih =>
    intro hi tp pi hT hFr
    have hm : F.getD i 0 < 6 := ok.2.1.2.2 _ (gw_gm (by omega))
    have ci : (nI i).toNatClampNeg = i := nI_clamp (by omega)
    rw [nI_pred i]
    refine br_f (nI_pos (by omega)) (And.intro (vp_in_nI (by omega) (by omega)) ?_)
    refine xw_form (c := F.getD i 0) (l := n) (by rw [ci]; exact hB.2.2.2.1 i (by omega)) rfl ?_
    have ho := gw_opL R n (F.drop (i + 1))
    rw [List.length_drop] at ho
    refine xw_push (L := gw_op R n (F.drop (i + 1))) ok.1 hF hr hm hn (by omega) hT ?_
    intro tp' pi' hT' hFr'
    refine nm_r (e' := nI i - 1) (Int32.sub_eq_add_neg _ _).symm ?_
    refine ih (by omega) tp' pi' ?_ (xw_FrT hFr hFr')
    rw [gw_dp (w := F) (i := i) (by omega), gw_op1]
    exact hT'
theorem xw_begin {post : SX → Prop} {R : Nat → List Nat} {F : List Nat} {A : Nat → Nat} {r n : Nat} (ok : gw_ok R F A) (hB : gw_B R F A f_firstSize a_ruleSize a_rules a_first a_actions) (hF : xw_F R A a_size a_numbers a_moveX a_moveY a_turn a_leastX a_mostX a_leastY a_mostY a_headLetter a_headRun a_tailLetter a_tailRun a_bestRun) (hr : r < 2) (hn : n < 13)
    (K : ∀ tp pi : Nat → Int32, xw_T r (gw_op R n F) tp pi → gw_wf R n (gw_op R n F) → xw_Fr r a_top a_pile tp pi → post (f_firstSize, f_known, f_patternNumber, f_patternSize, f_penX, f_penY, f_penTurn, f_lowX, f_highX, f_lowY, f_highY, f_frontLetter, f_frontRun, f_backLetter, f_backRun, f_longest, f_total, a_ruleSize, a_rules, a_first, a_actions, a_size, a_numbers, a_moveX, a_moveY, a_turn, a_leastX, a_mostX, a_leastY, a_mostY, a_headLetter, a_headRun, a_tailLetter, a_tailRun, a_bestRun, a_pattern, a_stateAfter, a_formState, a_formHits, tp, pi, a_seen)) : wpX_beginReader post (f_firstSize, f_known, f_patternNumber, f_patternSize, f_penX, f_penY, f_penTurn, f_lowX, f_highX, f_lowY, f_highY, f_frontLetter, f_frontRun, f_backLetter, f_backRun, f_longest, f_total, a_ruleSize, a_rules, a_first, a_actions, a_size, a_numbers, a_moveX, a_moveY, a_turn, a_leastX, a_mostX, a_leastY, a_mostY, a_headLetter, a_headRun, a_tailLetter, a_tailRun, a_bestRun, a_pattern, a_stateAfter, a_formState, a_formHits, a_top, a_pile, a_seen) (nI r) (nI n) := by
  have cr : (nI r).toNatClampNeg = r := nI_clamp (by omega)
  have vr : vp_in (nI r) 2 := vp_in_nI hr (by omega)
  have h8 := ok.2.1.2.1
  have hw := gw_wfO (R := R) (n := n) (l := n) (Nat.le_refl _) (L := []) trivial F ok.2.1.2.2 (by rw [List.length_nil]; omega)
  rw [List.append_nil] at hw
  refine And.intro vr (nm_r (e' := upd a_top r 0) (by rw [cr]) (nm_r (e' := nI F.length - 1) (by rw [hB.1]) ⟨F.length + 1, ?_⟩))
  refine xw_br14 (t0 := a_top) (p0 := a_pile) ok hB hF hr hn (fun tp pi h1 h2 => K tp pi h1 hw h2) F.length (Nat.le_refl _) _ _ ?_ xw_popF
  rw [List.drop_length]
  exact ⟨pk_us, trivial⟩
theorem xw_rd8 {post : Int32 → SX → Prop} {R : Nat → List Nat} {F : List Nat} {A : Nat → Nat} {r n d : Nat} {w : List Nat} {t0 p0 : Nat → Int32} (ok : gw_ok R F A) (hB : gw_B R F A f_firstSize a_ruleSize a_rules a_first a_actions) (hF : xw_F R A a_size a_numbers a_moveX a_moveY a_turn a_leastX a_mostX a_leastY a_mostY a_headLetter a_headRun a_tailLetter a_tailRun a_bestRun) (hr : r < 2) (hn : n < 13)
    (K : ∀ (tp pi : Nat → Int32) (L : List (Nat × Nat)), gw_gf R L = w → gw_wf R n L → xw_T r L tp pi → xw_Fr r t0 p0 tp pi → post (nI d) (f_firstSize, f_known, f_patternNumber, f_patternSize, f_penX, f_penY, f_penTurn, f_lowX, f_highX, f_lowY, f_highY, f_frontLetter, f_frontRun, f_backLetter, f_backRun, f_longest, f_total, a_ruleSize, a_rules, a_first, a_actions, a_size, a_numbers, a_moveX, a_moveY, a_turn, a_leastX, a_mostX, a_leastY, a_mostY, a_headLetter, a_headRun, a_tailLetter, a_tailRun, a_bestRun, a_pattern, a_stateAfter, a_formState, a_formHits, tp, pi, a_seen)) :
    ∀ (l i c : Nat) (L : List (Nat × Nat)) (tp pi : Nat → Int32), i + l ≤ 12 → gw_gf R ((c, l) :: L) = d :: w → gw_wf R n ((c, l) :: L) → xw_T r ((c, l) :: L) tp pi → xw_Fr r t0 p0 tp pi → wX_read_8 post (nI r) (l + 1) (nI (13 * c + l)) (nI i) f_firstSize f_known f_patternNumber f_patternSize f_penX f_penY f_penTurn f_lowX f_highX f_lowY f_highY f_frontLetter f_frontRun f_backLetter f_backRun f_longest f_total a_ruleSize a_rules a_first a_actions a_size a_numbers a_moveX a_moveY a_turn a_leastX a_mostX a_leastY a_mostY a_headLetter a_headRun a_tailLetter a_tailRun a_bestRun a_pattern a_stateAfter a_formState a_formHits tp pi a_seen := by
  have cr : (nI r).toNatClampNeg = r := nI_clamp (by omega)
  have vr : vp_in (nI r) 2 := vp_in_nI hr (by omega)
  intro l
  induction l with
  | zero =>
    intro i c L tp pi hi hg hw hT hFr
    have hc : c < 6 := hw.1.1
    rw [gw_gfC] at hg
    have hg2 : c :: gw_gf R L = d :: w := hg
    obtain ⟨e1, e2⟩ := List.cons.inj hg2
    refine br_f (nI_ge (a := i) (b := 13) (by omega) (by omega)) (br_f (nI_pos (by omega)) ?_)
    refine xw_level hc (by omega) ?_
    refine br_t (by decide) ?_
    refine br_t (nI_pos' (by omega)) (And.intro vr (And.intro vr (nm_r (e' := upd tp r (tp r - 1)) (by rw [cr]) ?_)))
    refine xw_letter hc (by omega) ?_
    rw [e1]
    exact K _ _ L e2 hw.2 (xw_pop hT) (xw_FrT hFr xw_popF)
  | succ l ih =>
    intro i c L tp pi hi hg hw hT hFr
    have hc : c < 6 := hw.1.1
    have hp : 0 < (gw_ex R (l + 1) c).length := hw.1.2.2.1
    refine br_f (nI_ge (a := i) (b := 13) (by omega) (by omega)) (br_f (nI_pos (by have := hw.1.2.1; omega)) ?_)
    refine xw_level hc (by omega) ?_
    refine br_f (nI_nle (by omega) (by omega)) ?_
    refine xw_open ok hB hF hr hn hw hT ?_
    intro tp' pi' hT' hw' hFr'
    have hg' : gw_gf R (gw_op R l (R c) ++ L) = d :: w := by
      rw [gw_gfA, gw_opG, ← gw_exS, ← hg, gw_gfC]
    have hL' := gw_wfL hw'
    have hM := gw_opM R l (R c)
    cases ho : gw_op R l (R c) with
    | nil =>
      have h0 := gw_opG R l (R c)
      rw [ho, ← gw_exS] at h0
      rw [← h0] at hp
      exact absurd hp (Nat.lt_irrefl 0)
    | cons g M =>
      rw [ho] at hT' hw' hg' hL' hM
      obtain ⟨g1, g2⟩ := g
      have hg2 : g2 = l := hM (g1, g2) (by simp)
      subst hg2
      refine xw_next hr (by omega) hT' ?_
      refine nm_r (e' := nI (i + 1)) (nI_1 i) ?_
      exact ih (i + 1) g1 (M ++ L) tp' pi' (by omega) hg' hw' hT' (xw_FrT hFr hFr')
theorem xw_read {post : Int32 → SX → Prop} {R : Nat → List Nat} {F : List Nat} {A : Nat → Nat} {r n d : Nat} {w : List Nat} {L : List (Nat × Nat)} (ok : gw_ok R F A) (hB : gw_B R F A f_firstSize a_ruleSize a_rules a_first a_actions) (hF : xw_F R A a_size a_numbers a_moveX a_moveY a_turn a_leastX a_mostX a_leastY a_mostY a_headLetter a_headRun a_tailLetter a_tailRun a_bestRun) (hr : r < 2) (hn : n < 13) (hg : gw_gf R L = d :: w) (hw : gw_wf R n L) (hT : xw_T r L a_top a_pile)
    (K : ∀ (tp pi : Nat → Int32) (L : List (Nat × Nat)), gw_gf R L = w → gw_wf R n L → xw_T r L tp pi → xw_Fr r a_top a_pile tp pi → post (nI d) (f_firstSize, f_known, f_patternNumber, f_patternSize, f_penX, f_penY, f_penTurn, f_lowX, f_highX, f_lowY, f_highY, f_frontLetter, f_frontRun, f_backLetter, f_backRun, f_longest, f_total, a_ruleSize, a_rules, a_first, a_actions, a_size, a_numbers, a_moveX, a_moveY, a_turn, a_leastX, a_mostX, a_leastY, a_mostY, a_headLetter, a_headRun, a_tailLetter, a_tailRun, a_bestRun, a_pattern, a_stateAfter, a_formState, a_formHits, tp, pi, a_seen)) : wpX_read post (f_firstSize, f_known, f_patternNumber, f_patternSize, f_penX, f_penY, f_penTurn, f_lowX, f_highX, f_lowY, f_highY, f_frontLetter, f_frontRun, f_backLetter, f_backRun, f_longest, f_total, a_ruleSize, a_rules, a_first, a_actions, a_size, a_numbers, a_moveX, a_moveY, a_turn, a_leastX, a_mostX, a_leastY, a_mostY, a_headLetter, a_headRun, a_tailLetter, a_tailRun, a_bestRun, a_pattern, a_stateAfter, a_formState, a_formHits, a_top, a_pile, a_seen) (nI r) := by
  unfold wpX_read
  dsimp only
  cases L with
  | nil => exact absurd hg (by intro z; cases z)
  | cons f L =>
    obtain ⟨c, l⟩ := f
    have hl : l ≤ n := hw.1.2.1
    have hL := gw_wfL hw
    refine xw_next hr (by omega) hT ?_
    exact ⟨l + 1, xw_rd8 ok hB hF hr hn K l 0 c L a_top a_pile (by omega) hg hw hT xw_FrR⟩
theorem xw_sk12 {post : SX → Prop} {R : Nat → List Nat} {F : List Nat} {A : Nat → Nat} {r n : Nat} {w : List Nat} {t0 p0 : Nat → Int32} (ok : gw_ok R F A) (hB : gw_B R F A f_firstSize a_ruleSize a_rules a_first a_actions) (hF : xw_F R A a_size a_numbers a_moveX a_moveY a_turn a_leastX a_mostX a_leastY a_mostY a_headLetter a_headRun a_tailLetter a_tailRun a_bestRun) (hr : r < 2) (hn : n < 13)
    (K : ∀ (tp pi : Nat → Int32) (L : List (Nat × Nat)), gw_gf R L = w → gw_wf R n L → xw_T r L tp pi → xw_Fr r t0 p0 tp pi → post (f_firstSize, f_known, f_patternNumber, f_patternSize, f_penX, f_penY, f_penTurn, f_lowX, f_highX, f_lowY, f_highY, f_frontLetter, f_frontRun, f_backLetter, f_backRun, f_longest, f_total, a_ruleSize, a_rules, a_first, a_actions, a_size, a_numbers, a_moveX, a_moveY, a_turn, a_leastX, a_mostX, a_leastY, a_mostY, a_headLetter, a_headRun, a_tailLetter, a_tailRun, a_bestRun, a_pattern, a_stateAfter, a_formState, a_formHits, tp, pi, a_seen)) :
    ∀ (m i k : Nat) (L : List (Nat × Nat)) (tp pi : Nat → Int32), i + m < 1000 → k < 2 ^ 31 → gw_sk R k m L → (gw_gf R L).drop k = w → gw_wf R n L → xw_T r L tp pi → xw_Fr r t0 p0 tp pi → wX_skip_12 post (nI r) (m + 1) (nI k) (xw_hd L) (nI i) f_firstSize f_known f_patternNumber f_patternSize f_penX f_penY f_penTurn f_lowX f_highX f_lowY f_highY f_frontLetter f_frontRun f_backLetter f_backRun f_longest f_total a_ruleSize a_rules a_first a_actions a_size a_numbers a_moveX a_moveY a_turn a_leastX a_mostX a_leastY a_mostY a_headLetter a_headRun a_tailLetter a_tailRun a_bestRun a_pattern a_stateAfter a_formState a_formHits tp pi a_seen := by
  have cr : (nI r).toNatClampNeg = r := nI_clamp (by omega)
  have vr : vp_in (nI r) 2 := vp_in_nI hr (by omega)
  intro m
  induction m using Nat.strongRecOn with
  | ind m ih =>
    intro i k L tp pi hi hk hs hg hw hT hFr
    refine br_f (nI_ge (a := i) (b := 1000) (by omega) (by omega)) ?_
    by_cases k0 : k = 0
    · subst k0
      exact br_t (by decide) (K tp pi L hg hw hT hFr)
    · refine br_f (nI_nle (by omega) hk) ?_
      cases L with
      | nil =>
        refine br_t gw_m1 (K tp pi [] ?_ hw hT hFr)
        rw [← hg]
        simp [gw_gf]
      | cons f L =>
        obtain ⟨c, l⟩ := f
        have hc : c < 6 := hw.1.1
        have hl : l ≤ n := hw.1.2.1
        have hp : 0 < (gw_ex R l c).length := hw.1.2.2.1
        have hL := gw_wfL hw
        rw [List.length_cons] at hL
        have cf : (nI (13 * c + l)).toNatClampNeg = 13 * c + l := nI_clamp (by omega)
        have vf : vp_in (nI (13 * c + l)) 78 := vp_in_nI (by omega) (by omega)
        have hz := (hF c hc l (by omega)).1
        have hb := gw_exB ok.1 (l := l) c (by omega)
        refine br_f (nI_pos (n := 13 * c + l) (by omega)) (And.intro vf ?_)
        by_cases q : k < (gw_ex R l c).length
        · refine br_t (by show nI k < a_size (nI (13 * c + l)).toNatClampNeg; rw [cf, hz]; exact nI_lt q (by omega)) ?_
          cases l with
          | zero =>
            have q2 : k < 1 := q
            omega
          | succ l =>
            obtain ⟨m', e, hs'⟩ := gw_skO hs q (ok.1 c).1
            subst e
            refine xw_open ok hB hF hr hn hw hT ?_
            intro tp' pi' hT' hw' hFr'
            have hL' := gw_wfL hw'
            refine xw_next hr (by omega) hT' ?_
            refine nm_r (e' := nI (i + 1)) (nI_1 i) ?_
            refine ih m' (by omega) (i + 1) k _ tp' pi' (by omega) hk hs' ?_ hw' hT' (xw_FrT hFr hFr')
            rw [← hg, gw_gfA, gw_opG, ← gw_exS, gw_gfC]
        · obtain ⟨m', e, hs'⟩ := gw_skP hs (by show (gw_ex R l c).length ≤ k; omega)
          subst e
          refine br_f (by show ¬ nI k < a_size (nI (13 * c + l)).toNatClampNeg; rw [cf, hz]; exact nI_nlt (by omega) hk) (And.intro vf (nm_r (e' := nI (k - (gw_ex R l c).length)) ?_ (And.intro vr (And.intro vr (nm_r (e' := upd tp r (tp r - 1)) (by rw [cr]) ?_)))))
          · show nI k - a_size (nI (13 * c + l)).toNatClampNeg = _
            rw [cf, hz, pk_sub (by omega)]
          · refine xw_next hr (by omega) (xw_pop hT) ?_
            refine nm_r (e' := nI (i + 1)) (nI_1 i) ?_
            refine ih m' (by omega) (i + 1) _ L _ pi (by omega) (by omega) hs' ?_ hw.2 (xw_pop hT) (xw_FrT hFr xw_popF)
            have hd0 : (gw_ex R l c).drop k = [] := List.drop_eq_nil_of_le (by omega)
            rw [← hg, gw_gfC, List.drop_append, show List.drop k (gw_ex R (c, l).snd (c, l).fst) = [] from hd0, List.nil_append]
theorem xw_skip {post : SX → Prop} {R : Nat → List Nat} {F : List Nat} {A : Nat → Nat} {r n k : Nat} {L : List (Nat × Nat)} (ok : gw_ok R F A) (hB : gw_B R F A f_firstSize a_ruleSize a_rules a_first a_actions) (hF : xw_F R A a_size a_numbers a_moveX a_moveY a_turn a_leastX a_mostX a_leastY a_mostY a_headLetter a_headRun a_tailLetter a_tailRun a_bestRun) (hr : r < 2) (hn : n < 13) (hk : k < 2 ^ 31) (hw : gw_wf R n L) (hT : xw_T r L a_top a_pile)
    (K : ∀ (tp pi : Nat → Int32) (L' : List (Nat × Nat)), gw_gf R L' = (gw_gf R L).drop k → gw_wf R n L' → xw_T r L' tp pi → xw_Fr r a_top a_pile tp pi → post (f_firstSize, f_known, f_patternNumber, f_patternSize, f_penX, f_penY, f_penTurn, f_lowX, f_highX, f_lowY, f_highY, f_frontLetter, f_frontRun, f_backLetter, f_backRun, f_longest, f_total, a_ruleSize, a_rules, a_first, a_actions, a_size, a_numbers, a_moveX, a_moveY, a_turn, a_leastX, a_mostX, a_leastY, a_mostY, a_headLetter, a_headRun, a_tailLetter, a_tailRun, a_bestRun, a_pattern, a_stateAfter, a_formState, a_formHits, tp, pi, a_seen)) : wpX_skip post (f_firstSize, f_known, f_patternNumber, f_patternSize, f_penX, f_penY, f_penTurn, f_lowX, f_highX, f_lowY, f_highY, f_frontLetter, f_frontRun, f_backLetter, f_backRun, f_longest, f_total, a_ruleSize, a_rules, a_first, a_actions, a_size, a_numbers, a_moveX, a_moveY, a_turn, a_leastX, a_mostX, a_leastY, a_mostY, a_headLetter, a_headRun, a_tailLetter, a_tailRun, a_bestRun, a_pattern, a_stateAfter, a_formState, a_formHits, a_top, a_pile, a_seen) (nI r) (nI k) := by
  unfold wpX_skip
  dsimp only
  have hL := gw_wfL hw
  refine xw_next hr (by omega) hT ?_
  exact ⟨L.length + 5 * n + 1, xw_sk12 ok hB hF hr hn K (L.length + 5 * n) 0 k L a_top a_pile (by omega) hk (gw_skI hw) rfl hw hT xw_FrR⟩
theorem xw_letterOn {post : Int32 → SX → Prop} {R : Nat → List Nat} {F : List Nat} {A : Nat → Nat} {n k : Nat} (ok : gw_ok R F A) (hB : gw_B R F A f_firstSize a_ruleSize a_rules a_first a_actions) (hF : xw_F R A a_size a_numbers a_moveX a_moveY a_turn a_leastX a_mostX a_leastY a_mostY a_headLetter a_headRun a_tailLetter a_tailRun a_bestRun) (hn : n < 13) (hk : k < (gw_G R F n).length)
    (K : ∀ tp pi : Nat → Int32, post (nI ((gw_G R F n).getD k 0)) (f_firstSize, f_known, f_patternNumber, f_patternSize, f_penX, f_penY, f_penTurn, f_lowX, f_highX, f_lowY, f_highY, f_frontLetter, f_frontRun, f_backLetter, f_backRun, f_longest, f_total, a_ruleSize, a_rules, a_first, a_actions, a_size, a_numbers, a_moveX, a_moveY, a_turn, a_leastX, a_mostX, a_leastY, a_mostY, a_headLetter, a_headRun, a_tailLetter, a_tailRun, a_bestRun, a_pattern, a_stateAfter, a_formState, a_formHits, tp, pi, a_seen)) : wpX_letterOn post (f_firstSize, f_known, f_patternNumber, f_patternSize, f_penX, f_penY, f_penTurn, f_lowX, f_highX, f_lowY, f_highY, f_frontLetter, f_frontRun, f_backLetter, f_backRun, f_longest, f_total, a_ruleSize, a_rules, a_first, a_actions, a_size, a_numbers, a_moveX, a_moveY, a_turn, a_leastX, a_mostX, a_leastY, a_mostY, a_headLetter, a_headRun, a_tailLetter, a_tailRun, a_bestRun, a_pattern, a_stateAfter, a_formState, a_formHits, a_top, a_pile, a_seen) (nI n) (nI k) := by
  have hL := gw_GL ok hn
  unfold wpX_letterOn
  dsimp only
  refine xw_begin (r := 0) ok hB hF (by omega) hn ?_
  intro t1 p1 hT1 hw1 _
  refine xw_skip (r := 0) (k := k) ok hB hF (by omega) hn (by omega) hw1 hT1 ?_
  intro t2 p2 L2 hg2 hw2 hT2 _
  rw [gw_opG] at hg2
  have hg3 : gw_gf R L2 = (gw_G R F n).getD k 0 :: (gw_G R F n).drop (k + 1) := by
    rw [hg2]
    exact gw_dp hk
  refine xw_read (r := 0) ok hB hF (by omega) hn hg3 hw2 hT2 ?_
  intro t3 p3 L3 _ _ _ _
  exact K t3 p3
end
end
section
/-! answers to questions about generation n -/
def gw_gq (R : Nat → List Nat) (F : List Nat) (v : Int32) (body : Nat → Int32 → Prop) (r : Int32) : Prop :=
  ((v < 0 ∨ 13 ≤ v) ∧ r = -1) ∨ (∃ n, n < 13 ∧ v = nI n ∧ ¬ gw_rc R F n ∧ r = -2) ∨ (∃ n, n < 13 ∧ v = nI n ∧ gw_rc R F n ∧ body n r)
theorem gw_vc (v : Int32) : (v < 0 ∨ 13 ≤ v) ∨ ∃ n, n < 13 ∧ v = nI n := by
  rcases pk_ix v (n := 13) (by omega) with h | h | h
  · exact Or.inl (Or.inl h)
  · exact Or.inl (Or.inr h)
  · exact Or.inr h
theorem gw_bad {v : Int32} {N n : Nat} (hN : N < 2 ^ 31) (h : v < 0 ∨ nI N ≤ v) (hn : n < N) (e : v = nI n) : False := by
  subst e
  rcases h with h | h
  · exact nI_pos (by omega) h
  · exact nI_ge hn hN h
theorem gw_gqU {R : Nat → List Nat} {F : List Nat} {v : Int32} {body : Nat → Int32 → Prop} {r r' : Int32} (hb : ∀ n, n < 13 → gw_rc R F n → ∀ r r', body n r → body n r' → r' = r) (h : gw_gq R F v body r) (h' : gw_gq R F v body r') : r' = r := by
  rcases h with ⟨h1, e⟩ | ⟨n, hn, hv, hc, e⟩ | ⟨n, hn, hv, hc, e⟩
  · rcases h' with ⟨h1', e'⟩ | ⟨n', hn', hv', hc', e'⟩ | ⟨n', hn', hv', hc', e'⟩
    · rw [e, e']
    · exact absurd (gw_bad (N := 13) (by omega) h1 hn' hv') id
    · exact absurd (gw_bad (N := 13) (by omega) h1 hn' hv') id
  · rcases h' with ⟨h1', e'⟩ | ⟨n', hn', hv', hc', e'⟩ | ⟨n', hn', hv', hc', e'⟩
    · exact absurd (gw_bad (N := 13) (by omega) h1' hn hv) id
    · rw [e, e']
    · have : n' = n := (nI_eq (by omega) (by omega)).mp (hv'.symm.trans hv)
      rw [this] at hc'
      exact absurd hc' hc
  · rcases h' with ⟨h1', e'⟩ | ⟨n', hn', hv', hc', e'⟩ | ⟨n', hn', hv', hc', e'⟩
    · exact absurd (gw_bad (N := 13) (by omega) h1' hn hv) id
    · have : n' = n := (nI_eq (by omega) (by omega)).mp (hv'.symm.trans hv)
      rw [this] at hc'
      exact absurd hc hc'
    · have : n' = n := (nI_eq (by omega) (by omega)).mp (hv'.symm.trans hv)
      rw [this] at e'
      exact hb n hn hc r r' e e'
theorem gw_gqA {R : Nat → List Nat} {F : List Nat} {v : Int32} {body : Nat → Int32 → Prop} (h : v < 0 ∨ 13 ≤ v) : gw_gq R F v body (-1) := Or.inl ⟨h, rfl⟩
theorem gw_gqB {R : Nat → List Nat} {F : List Nat} {n : Nat} {body : Nat → Int32 → Prop} (hn : n < 13) (h : ¬ gw_rc R F n) : gw_gq R F (nI n) body (-2) := Or.inr (Or.inl ⟨n, hn, rfl, h, rfl⟩)
theorem gw_gqC {R : Nat → List Nat} {F : List Nat} {n : Nat} {body : Nat → Int32 → Prop} {r : Int32} (hn : n < 13) (h : gw_rc R F n) (hr : body n r) : gw_gq R F (nI n) body r := Or.inr (Or.inr ⟨n, hn, rfl, h, hr⟩)
/-- the letter at a place -/
def gw_la (w : List Nat) (v r : Int32) : Prop := (∃ p, p < w.length ∧ v = nI p ∧ r = nI (w.getD p 0)) ∨ ((v < 0 ∨ nI w.length ≤ v) ∧ r = -3)
theorem gw_laU {w : List Nat} {v r r' : Int32} (hw : w.length ≤ 3000) (h : gw_la w v r) (h' : gw_la w v r') : r' = r := by
  rcases h with ⟨p, hp, hv, e⟩ | ⟨h1, e⟩
  · rcases h' with ⟨p', hp', hv', e'⟩ | ⟨h1', e'⟩
    · have : p' = p := (nI_eq (by omega) (by omega)).mp (hv'.symm.trans hv)
      rw [e, e', this]
    · exact absurd (gw_bad (by omega) h1' hp hv) id
  · rcases h' with ⟨p', hp', hv', e'⟩ | ⟨h1', e'⟩
    · exact absurd (gw_bad (by omega) h1 hp' hv') id
    · rw [e, e']
/-- a letter's count -/
def gw_cb (w : List Nat) (v2 v3 v4 r : Int32) : Prop := (∃ c, c < 6 ∧ v2 = nI c ∧ r = nI (gw_ct w c v3.toNatClampNeg v4.toNatClampNeg)) ∨ ((v2 < 0 ∨ 6 ≤ v2) ∧ r = -3)
theorem gw_cbU {w : List Nat} {v2 v3 v4 r r' : Int32} (h : gw_cb w v2 v3 v4 r) (h' : gw_cb w v2 v3 v4 r') : r' = r := by
  rcases h with ⟨p, hp, hv, e⟩ | ⟨h1, e⟩
  · rcases h' with ⟨p', hp', hv', e'⟩ | ⟨h1', e'⟩
    · have : p' = p := (nI_eq (by omega) (by omega)).mp (hv'.symm.trans hv)
      rw [e, e', this]
    · exact absurd (gw_bad (N := 6) (by omega) h1' hp hv) id
  · rcases h' with ⟨p', hp', hv', e'⟩ | ⟨h1', e'⟩
    · exact absurd (gw_bad (N := 6) (by omega) h1 hp' hv') id
    · rw [e, e']
theorem gw_fin {dn rs W : List Nat} {k k0 : Nat} (h : dn ++ rs = W) (hk : dn.length + k = k0) (hz : k = 0 ∨ rs = []) : W.take k0 = dn := by
  rcases hz with z | z
  · subst z
    rw [← h]
    exact List.take_left' hk
  · rw [z, List.append_nil] at h
    rw [← h]
    exact List.take_of_length_le (by omega)
def gw_pa (p : gw_Pen) : Int32 := 8192 * (gi p.1 + 4096) + gi p.2.1 + 4096
def gw_ea (p : gw_Pen) : Int32 := 4096 * (gi p.2.2.2.2.1 - gi p.2.2.2.1) + gi p.2.2.2.2.2.2 - gi p.2.2.2.2.2.1
section
variable {f_firstSize f_known f_patternNumber f_patternSize f_penX f_penY f_penTurn f_lowX f_highX f_lowY f_highY f_frontLetter f_frontRun f_backLetter f_backRun f_longest f_total : Int32} {a_ruleSize a_rules a_first a_actions a_size a_numbers a_moveX a_moveY a_turn a_leastX a_mostX a_leastY a_mostY a_headLetter a_headRun a_tailLetter a_tailRun a_bestRun a_pattern a_stateAfter a_formState a_formHits a_top a_pile a_seen : Nat → Int32}
theorem xw_length {post : Int32 → SX → Prop} {R : Nat → List Nat} {F : List Nat} {A : Nat → Nat} {v : Int32} (ok : gw_ok R F A) (hI : xw_I R F A (f_firstSize, f_known, f_patternNumber, f_patternSize, f_penX, f_penY, f_penTurn, f_lowX, f_highX, f_lowY, f_highY, f_frontLetter, f_frontRun, f_backLetter, f_backRun, f_longest, f_total, a_ruleSize, a_rules, a_first, a_actions, a_size, a_numbers, a_moveX, a_moveY, a_turn, a_leastX, a_mostX, a_leastY, a_mostY, a_headLetter, a_headRun, a_tailLetter, a_tailRun, a_bestRun, a_pattern, a_stateAfter, a_formState, a_formHits, a_top, a_pile, a_seen))
    (K : ∀ r u, gw_gq R F v (fun n r => r = nI (gw_G R F n).length) r → xw_I R F A u → post r u) : wpX_length post (f_firstSize, f_known, f_patternNumber, f_patternSize, f_penX, f_penY, f_penTurn, f_lowX, f_highX, f_lowY, f_highY, f_frontLetter, f_frontRun, f_backLetter, f_backRun, f_longest, f_total, a_ruleSize, a_rules, a_first, a_actions, a_size, a_numbers, a_moveX, a_moveY, a_turn, a_leastX, a_mostX, a_leastY, a_mostY, a_headLetter, a_headRun, a_tailLetter, a_tailRun, a_bestRun, a_pattern, a_stateAfter, a_formState, a_formHits, a_top, a_pile, a_seen) v := by
  unfold wpX_length
  dsimp only
  rcases gw_vc v with hv | ⟨n, hn, rfl⟩
  · exact xw_refA hv (br_f (by decide) (K _ _ (gw_gqA hv) hI))
  · refine xw_refB ok hI hn ?_ ?_
    · intro hrc
      refine xw_Kel ?_
      intro f_firstSize f_known f_patternNumber f_patternSize f_penX f_penY f_penTurn f_lowX f_highX f_lowY f_highY f_frontLetter f_frontRun f_backLetter f_backRun f_longest f_total a_ruleSize a_rules a_first a_actions a_size a_numbers a_moveX a_moveY a_turn a_leastX a_mostX a_leastY a_mostY a_headLetter a_headRun a_tailLetter a_tailRun a_bestRun a_pattern a_stateAfter a_formState a_formHits a_top a_pile a_seen hK
      refine br_t rfl ?_
      exact xw_len ok hK.1 hK.2.1 hn (K _ _ (gw_gqC hn hrc rfl) (xw_IK hK))
    · intro hrc
      refine xw_Kel ?_
      intro f_firstSize f_known f_patternNumber f_patternSize f_penX f_penY f_penTurn f_lowX f_highX f_lowY f_highY f_frontLetter f_frontRun f_backLetter f_backRun f_longest f_total a_ruleSize a_rules a_first a_actions a_size a_numbers a_moveX a_moveY a_turn a_leastX a_mostX a_leastY a_mostY a_headLetter a_headRun a_tailLetter a_tailRun a_bestRun a_pattern a_stateAfter a_formState a_formHits a_top a_pile a_seen hK
      exact br_f (by decide) (K _ _ (gw_gqB hn hrc) (xw_IK hK))
theorem xw_letterAt {post : Int32 → SX → Prop} {R : Nat → List Nat} {F : List Nat} {A : Nat → Nat} {v v2 : Int32} (ok : gw_ok R F A) (hI : xw_I R F A (f_firstSize, f_known, f_patternNumber, f_patternSize, f_penX, f_penY, f_penTurn, f_lowX, f_highX, f_lowY, f_highY, f_frontLetter, f_frontRun, f_backLetter, f_backRun, f_longest, f_total, a_ruleSize, a_rules, a_first, a_actions, a_size, a_numbers, a_moveX, a_moveY, a_turn, a_leastX, a_mostX, a_leastY, a_mostY, a_headLetter, a_headRun, a_tailLetter, a_tailRun, a_bestRun, a_pattern, a_stateAfter, a_formState, a_formHits, a_top, a_pile, a_seen))
    (K : ∀ r u, gw_gq R F v (fun n r => gw_la (gw_G R F n) v2 r) r → xw_I R F A u → post r u) : wpX_letterAt post (f_firstSize, f_known, f_patternNumber, f_patternSize, f_penX, f_penY, f_penTurn, f_lowX, f_highX, f_lowY, f_highY, f_frontLetter, f_frontRun, f_backLetter, f_backRun, f_longest, f_total, a_ruleSize, a_rules, a_first, a_actions, a_size, a_numbers, a_moveX, a_moveY, a_turn, a_leastX, a_mostX, a_leastY, a_mostY, a_headLetter, a_headRun, a_tailLetter, a_tailRun, a_bestRun, a_pattern, a_stateAfter, a_formState, a_formHits, a_top, a_pile, a_seen) v v2 := by
  unfold wpX_letterAt
  dsimp only
  rcases gw_vc v with hv | ⟨n, hn, rfl⟩
  · exact xw_refA hv (br_f (by decide) (K _ _ (gw_gqA hv) hI))
  · refine xw_refB ok hI hn ?_ ?_
    · intro hrc
      have hL := hrc n (Nat.le_refl n)
      refine xw_Kel ?_
      intro f_firstSize f_known f_patternNumber f_patternSize f_penX f_penY f_penTurn f_lowX f_highX f_lowY f_highY f_frontLetter f_frontRun f_backLetter f_backRun f_longest f_total a_ruleSize a_rules a_first a_actions a_size a_numbers a_moveX a_moveY a_turn a_leastX a_mostX a_leastY a_mostY a_headLetter a_headRun a_tailLetter a_tailRun a_bestRun a_pattern a_stateAfter a_formState a_formHits a_top a_pile a_seen hK
      refine br_t rfl ?_
      rcases pk_ix v2 (n := (gw_G R F n).length) (by omega) with h | h | ⟨p, hp, rfl⟩
      · exact br_t h (K _ _ (gw_gqC hn hrc (Or.inr ⟨Or.inl h, rfl⟩)) (xw_IK hK))
      · refine br_f (fun z => ?_) ?_
        · exact absurd (Int32.lt_of_le_of_lt h z) (nI_pos (by omega))
        · refine xw_len ok hK.1 hK.2.1 hn ?_
          exact br_f (Int32.not_lt.mpr h) (K _ _ (gw_gqC hn hrc (Or.inr ⟨Or.inr h, rfl⟩)) (xw_IK hK))
      · refine br_f (nI_pos (by omega)) ?_
        refine xw_len ok hK.1 hK.2.1 hn ?_
        refine br_t (nI_lt hp (by omega)) ?_
        refine xw_letterOn ok hK.1 hK.2.1 hn hp ?_
        intro tp pi
        exact K _ _ (gw_gqC hn hrc (Or.inl ⟨p, hp, rfl, rfl⟩)) (xw_IK hK)
    · intro hrc
      refine xw_Kel ?_
      intro f_firstSize f_known f_patternNumber f_patternSize f_penX f_penY f_penTurn f_lowX f_highX f_lowY f_highY f_frontLetter f_frontRun f_backLetter f_backRun f_longest f_total a_ruleSize a_rules a_first a_actions a_size a_numbers a_moveX a_moveY a_turn a_leastX a_mostX a_leastY a_mostY a_headLetter a_headRun a_tailLetter a_tailRun a_bestRun a_pattern a_stateAfter a_formState a_formHits a_top a_pile a_seen hK
      exact br_f (by decide) (K _ _ (gw_gqB hn hrc) (xw_IK hK))
theorem xw_cb22 {post : Int32 → SX → Prop} {R : Nat → List Nat} {F : List Nat} {A : Nat → Nat} {n x k0 : Nat} {W : List Nat} (ok : gw_ok R F A) (hB : gw_B R F A f_firstSize a_ruleSize a_rules a_first a_actions) (hF : xw_F R A a_size a_numbers a_moveX a_moveY a_turn a_leastX a_mostX a_leastY a_mostY a_headLetter a_headRun a_tailLetter a_tailRun a_bestRun) (hn : n < 13) (hx : x < 6)
    (K : ∀ (tp pi : Nat → Int32), post (nI ((W.take k0).count x)) (f_firstSize, f_known, f_patternNumber, f_patternSize, f_penX, f_penY, f_penTurn, f_lowX, f_highX, f_lowY, f_highY, f_frontLetter, f_frontRun, f_backLetter, f_backRun, f_longest, f_total, a_ruleSize, a_rules, a_first, a_actions, a_size, a_numbers, a_moveX, a_moveY, a_turn, a_leastX, a_mostX, a_leastY, a_mostY, a_headLetter, a_headRun, a_tailLetter, a_tailRun, a_bestRun, a_pattern, a_stateAfter, a_formState, a_formHits, tp, pi, a_seen)) :
    ∀ (m i k : Nat) (L : List (Nat × Nat)) (dn : List Nat) (tp pi : Nat → Int32), i + m < 1000 → k < 2 ^ 31 → gw_sk R k m L → dn ++ gw_gf R L = W → dn.length + k = k0 → gw_wf R n L → xw_T 0 L tp pi → wX_countBefore_22 post (nI x) (m + 1) (nI k) (nI (dn.count x)) (xw_hd L) (nI i) f_firstSize f_known f_patternNumber f_patternSize f_penX f_penY f_penTurn f_lowX f_highX f_lowY f_highY f_frontLetter f_frontRun f_backLetter f_backRun f_longest f_total a_ruleSize a_rules a_first a_actions a_size a_numbers a_moveX a_moveY a_turn a_leastX a_mostX a_leastY a_mostY a_headLetter a_headRun a_tailLetter a_tailRun a_bestRun a_pattern a_stateAfter a_formState a_formHits tp pi a_seen := by
  intro m
  induction m using Nat.strongRecOn with
  | ind m ih =>
    intro i k L dn tp pi hi hk hs hg hd hw hT
    refine br_f (nI_ge (a := i) (b := 1000) (by omega) (by omega)) ?_
    by_cases z0 : k = 0
    · have e := gw_fin hg hd (Or.inl z0)
      rw [e] at K
      subst z0
      exact br_t (by decide) (K tp pi)
    · refine br_f (nI_nle (by omega) hk) ?_
      cases L with
      | nil =>
        have e := gw_fin hg hd (Or.inr rfl)
        rw [e] at K
        exact br_t gw_m1 (K tp pi)
      | cons f L =>
        obtain ⟨c, l⟩ := f
        have hc : c < 6 := hw.1.1
        have hl : l ≤ n := hw.1.2.1
        have hp : 0 < (gw_ex R l c).length := hw.1.2.2.1
        have hL := gw_wfL hw
        rw [List.length_cons] at hL
        have cf : (nI (13 * c + l)).toNatClampNeg = 13 * c + l := nI_clamp (by omega)
        have vf : vp_in (nI (13 * c + l)) 78 := vp_in_nI (by omega) (by omega)
        have hz := (hF c hc l (by omega)).1
        have hm := (hF c hc l (by omega)).2.1 x hx
        have hb := gw_exB ok.1 (l := l) c (by omega)
        have e6 : 6 * nI (13 * c + l) + nI x = nI (6 * (13 * c + l) + x) := xw_mi 6 _ x
        refine br_f (nI_pos (n := 13 * c + l) (by omega)) (And.intro vf ?_)
        by_cases q : k < (gw_ex R l c).length
        · refine br_t (by show nI k < a_size (nI (13 * c + l)).toNatClampNeg; rw [cf, hz]; exact nI_lt q (by omega)) ?_
          cases l with
          | zero =>
            have q2 : k < 1 := q
            omega
          | succ l =>
            obtain ⟨m', e, hs'⟩ := gw_skO hs q (ok.1 c).1
            subst e
            refine xw_open (r := 0) ok hB hF (by omega) hn hw hT ?_
            intro tp' pi' hT' hw' hFr'
            have hL' := gw_wfL hw'
            refine xw_next (r := 0) (by omega) (by omega) hT' ?_
            refine nm_r (e' := nI (i + 1)) (nI_1 i) ?_
            refine ih m' (by omega) (i + 1) k _ dn tp' pi' (by omega) hk hs' ?_ hd hw' hT'
            rw [← hg, gw_gfA, gw_opG, ← gw_exS, gw_gfC]
        · obtain ⟨m', e, hs'⟩ := gw_skP hs (by show (gw_ex R l c).length ≤ k; omega)
          subst e
          refine br_f (by show ¬ nI k < a_size (nI (13 * c + l)).toNatClampNeg; rw [cf, hz]; exact nI_nlt (by omega) hk) (And.intro vf (nm_r (e' := nI (k - (gw_ex R l c).length)) ?_ (And.intro (pk_in (6 * (13 * c + l) + x) 468 (by omega) e6) (nm_r (e' := nI ((dn ++ gw_ex R l c).count x)) ?_ (nm_r (e' := upd tp 0 (tp 0 - 1)) rfl ?_)))))
          · show nI k - a_size (nI (13 * c + l)).toNatClampNeg = _
            rw [cf, hz, pk_sub (by omega)]
          · show nI (dn.count x) + a_numbers (6 * nI (13 * c + l) + nI x).toNatClampNeg = _
            rw [pk_cl _ e6, hm, nI_add, List.count_append]
          · refine xw_next (r := 0) (by omega) (by omega) (xw_pop hT) ?_
            refine nm_r (e' := nI (i + 1)) (nI_1 i) ?_
            refine ih m' (by omega) (i + 1) _ L _ _ pi (by omega) (by omega) hs' ?_ ?_ hw.2 (xw_pop hT)
            · rw [← hg, gw_gfC, List.append_assoc]
            · rw [List.length_append]
              show dn.length + (gw_ex R l c).length + (k - (gw_ex R l c).length) = k0
              omega
theorem xw_cb {post : Int32 → SX → Prop} {R : Nat → List Nat} {F : List Nat} {A : Nat → Nat} {n x k : Nat} (ok : gw_ok R F A) (hB : gw_B R F A f_firstSize a_ruleSize a_rules a_first a_actions) (hF : xw_F R A a_size a_numbers a_moveX a_moveY a_turn a_leastX a_mostX a_leastY a_mostY a_headLetter a_headRun a_tailLetter a_tailRun a_bestRun) (hn : n < 13) (hx : x < 6) (hk : k < 2 ^ 31)
    (K : ∀ (tp pi : Nat → Int32), post (nI (((gw_G R F n).take k).count x)) (f_firstSize, f_known, f_patternNumber, f_patternSize, f_penX, f_penY, f_penTurn, f_lowX, f_highX, f_lowY, f_highY, f_frontLetter, f_frontRun, f_backLetter, f_backRun, f_longest, f_total, a_ruleSize, a_rules, a_first, a_actions, a_size, a_numbers, a_moveX, a_moveY, a_turn, a_leastX, a_mostX, a_leastY, a_mostY, a_headLetter, a_headRun, a_tailLetter, a_tailRun, a_bestRun, a_pattern, a_stateAfter, a_formState, a_formHits, tp, pi, a_seen)) : wpX_countBefore post (f_firstSize, f_known, f_patternNumber, f_patternSize, f_penX, f_penY, f_penTurn, f_lowX, f_highX, f_lowY, f_highY, f_frontLetter, f_frontRun, f_backLetter, f_backRun, f_longest, f_total, a_ruleSize, a_rules, a_first, a_actions, a_size, a_numbers, a_moveX, a_moveY, a_turn, a_leastX, a_mostX, a_leastY, a_mostY, a_headLetter, a_headRun, a_tailLetter, a_tailRun, a_bestRun, a_pattern, a_stateAfter, a_formState, a_formHits, a_top, a_pile, a_seen) (nI n) (nI x) (nI k) := by
  unfold wpX_countBefore
  dsimp only
  refine xw_begin (r := 0) ok hB hF (by omega) hn ?_
  intro t1 p1 hT1 hw1 _
  have hL := gw_wfL hw1
  refine xw_next (r := 0) (by omega) (by omega) hT1 ?_
  refine ⟨(gw_op R n F).length + 5 * n + 1, ?_⟩
  exact xw_cb22 (W := gw_G R F n) (k0 := k) ok hB hF hn hx K _ 0 k _ [] t1 p1 (by omega) hk (gw_skI hw1) (by rw [List.nil_append, gw_opG]; rfl) (by simp) hw1 hT1
theorem xw_ct60 {post : Int32 → SX → Prop} {R : Nat → List Nat} {F : List Nat} {A : Nat → Nat} {n x a b : Nat} (ok : gw_ok R F A) (hB : gw_B R F A f_firstSize a_ruleSize a_rules a_first a_actions) (hF : xw_F R A a_size a_numbers a_moveX a_moveY a_turn a_leastX a_mostX a_leastY a_mostY a_headLetter a_headRun a_tailLetter a_tailRun a_bestRun) (hn : n < 13) (hx : x < 6) (ha : a < 2 ^ 31) (hb : b < 2 ^ 31) (hL : (gw_G R F n).length ≤ 3000)
    (K : ∀ (tp pi : Nat → Int32), post (nI (gw_ct (gw_G R F n) x a b)) (f_firstSize, f_known, f_patternNumber, f_patternSize, f_penX, f_penY, f_penTurn, f_lowX, f_highX, f_lowY, f_highY, f_frontLetter, f_frontRun, f_backLetter, f_backRun, f_longest, f_total, a_ruleSize, a_rules, a_first, a_actions, a_size, a_numbers, a_moveX, a_moveY, a_turn, a_leastX, a_mostX, a_leastY, a_mostY, a_headLetter, a_headRun, a_tailLetter, a_tailRun, a_bestRun, a_pattern, a_stateAfter, a_formState, a_formHits, tp, pi, a_seen)) : wX_count_60 post (nI n) (nI x) (nI a) (nI (min b (gw_G R F n).length)) f_firstSize f_known f_patternNumber f_patternSize f_penX f_penY f_penTurn f_lowX f_highX f_lowY f_highY f_frontLetter f_frontRun f_backLetter f_backRun f_longest f_total a_ruleSize a_rules a_first a_actions a_size a_numbers a_moveX a_moveY a_turn a_leastX a_mostX a_leastY a_mostY a_headLetter a_headRun a_tailLetter a_tailRun a_bestRun a_pattern a_stateAfter a_formState a_formHits a_top a_pile a_seen := by
  by_cases c : a < min b (gw_G R F n).length
  · refine br_t (nI_lt c (by omega)) ?_
    refine xw_cb ok hB hF hn hx ha ?_
    intro t1 p1
    refine xw_cb ok hB hF hn hx (by omega) ?_
    intro t2 p2
    have h := gw_ctD (w := gw_G R F n) (c := x) c
    have h2 : ((gw_G R F n).take a).count x ≤ ((gw_G R F n).take (min b (gw_G R F n).length)).count x := by
      have e : (gw_G R F n).take (min b (gw_G R F n).length) = (gw_G R F n).take a ++ ((gw_G R F n).drop a).take (min b (gw_G R F n).length - a) := by
        rw [← List.take_add]
        congr 1
        omega
      rw [e, List.count_append]
      omega
    have K' := K t2 p2
    rw [h] at K'
    show post (nI _ - nI _) _
    rw [pk_sub h2]
    exact K'
  · have K' := K a_top a_pile
    rw [gw_ct0 (by omega)] at K'
    exact br_f (nI_nlt (by omega) (by omega)) K'
theorem xw_count {post : Int32 → SX → Prop} {R : Nat → List Nat} {F : List Nat} {A : Nat → Nat} {v v2 v3 v4 : Int32} (ok : gw_ok R F A) (hI : xw_I R F A (f_firstSize, f_known, f_patternNumber, f_patternSize, f_penX, f_penY, f_penTurn, f_lowX, f_highX, f_lowY, f_highY, f_frontLetter, f_frontRun, f_backLetter, f_backRun, f_longest, f_total, a_ruleSize, a_rules, a_first, a_actions, a_size, a_numbers, a_moveX, a_moveY, a_turn, a_leastX, a_mostX, a_leastY, a_mostY, a_headLetter, a_headRun, a_tailLetter, a_tailRun, a_bestRun, a_pattern, a_stateAfter, a_formState, a_formHits, a_top, a_pile, a_seen))
    (K : ∀ r u, gw_gq R F v (fun n r => gw_cb (gw_G R F n) v2 v3 v4 r) r → xw_I R F A u → post r u) : wpX_count post (f_firstSize, f_known, f_patternNumber, f_patternSize, f_penX, f_penY, f_penTurn, f_lowX, f_highX, f_lowY, f_highY, f_frontLetter, f_frontRun, f_backLetter, f_backRun, f_longest, f_total, a_ruleSize, a_rules, a_first, a_actions, a_size, a_numbers, a_moveX, a_moveY, a_turn, a_leastX, a_mostX, a_leastY, a_mostY, a_headLetter, a_headRun, a_tailLetter, a_tailRun, a_bestRun, a_pattern, a_stateAfter, a_formState, a_formHits, a_top, a_pile, a_seen) v v2 v3 v4 := by
  unfold wpX_count
  dsimp only
  rcases gw_vc v with hv | ⟨n, hn, rfl⟩
  · exact xw_refA hv (br_f (by decide) (K _ _ (gw_gqA hv) hI))
  · refine xw_refB ok hI hn ?_ ?_
    · intro hrc
      have hL := hrc n (Nat.le_refl n)
      refine xw_Kel ?_
      intro f_firstSize f_known f_patternNumber f_patternSize f_penX f_penY f_penTurn f_lowX f_highX f_lowY f_highY f_frontLetter f_frontRun f_backLetter f_backRun f_longest f_total a_ruleSize a_rules a_first a_actions a_size a_numbers a_moveX a_moveY a_turn a_leastX a_mostX a_leastY a_mostY a_headLetter a_headRun a_tailLetter a_tailRun a_bestRun a_pattern a_stateAfter a_formState a_formHits a_top a_pile a_seen hK
      refine br_t rfl ?_
      rcases pk_ix v2 (n := 6) (by omega) with h | h | ⟨x, hx, rfl⟩
      · exact br_t h (K _ _ (gw_gqC hn hrc (Or.inr ⟨Or.inl h, rfl⟩)) (xw_IK hK))
      · refine br_f (fun z => ?_) ?_
        · exact absurd (Int32.lt_of_le_of_lt h z) (by decide)
        · exact br_f (Int32.not_lt.mpr h) (K _ _ (gw_gqC hn hrc (Or.inr ⟨Or.inr h, rfl⟩)) (xw_IK hK))
      · refine br_f (nI_pos (by omega)) (br_t (nI_lt (b := 6) hx (by omega)) ?_)
        refine xw_len ok hK.1 hK.2.1 hn ?_
        have K2 : ∀ (tp pi : Nat → Int32), post (nI (gw_ct (gw_G R F n) x v3.toNatClampNeg v4.toNatClampNeg)) (f_firstSize, f_known, f_patternNumber, f_patternSize, f_penX, f_penY, f_penTurn, f_lowX, f_highX, f_lowY, f_highY, f_frontLetter, f_frontRun, f_backLetter, f_backRun, f_longest, f_total, a_ruleSize, a_rules, a_first, a_actions, a_size, a_numbers, a_moveX, a_moveY, a_turn, a_leastX, a_mostX, a_leastY, a_mostY, a_headLetter, a_headRun, a_tailLetter, a_tailRun, a_bestRun, a_pattern, a_stateAfter, a_formState, a_formHits, tp, pi, a_seen) := fun tp pi => K _ _ (gw_gqC hn hrc (Or.inl ⟨x, hx, rfl, rfl⟩)) (xw_IK hK)
        have fin : ∀ a, a < 2 ^ 31 → a = v3.toNatClampNeg → wX_count_44 post (nI n) (nI x) v4 (nI (gw_G R F n).length) (nI a) f_firstSize f_known f_patternNumber f_patternSize f_penX f_penY f_penTurn f_lowX f_highX f_lowY f_highY f_frontLetter f_frontRun f_backLetter f_backRun f_longest f_total a_ruleSize a_rules a_first a_actions a_size a_numbers a_moveX a_moveY a_turn a_leastX a_mostX a_leastY a_mostY a_headLetter a_headRun a_tailLetter a_tailRun a_bestRun a_pattern a_stateAfter a_formState a_formHits a_top a_pile a_seen := by
          intro a ha ea
          rw [← ea] at K2
          rcases gw_cm v4 with ⟨h4, e4⟩ | ⟨h4, h5, e4⟩
          · have K' := K2 a_top a_pile
            rw [e4, gw_ct0 (by omega)] at K'
            refine br_t ?_ (br_f ?_ K')
            · exact Int32.le_trans (Int32.le_of_lt h4) (nI_pos' (by omega))
            · exact fun z => absurd (Int32.lt_trans z h4) (nI_pos ha)
          · generalize v4.toNatClampNeg = b at K2 h5 e4
            subst e4
            by_cases q : b ≤ (gw_G R F n).length
            · have := xw_ct60 (a_top := a_top) (a_pile := a_pile) ok hK.1 hK.2.1 hn hx ha h5 hL K2
              rw [show min b (gw_G R F n).length = b by omega] at this
              exact br_t (nI_le q (by omega)) this
            · have := xw_ct60 (a_top := a_top) (a_pile := a_pile) ok hK.1 hK.2.1 hn hx ha h5 hL K2
              rw [show min b (gw_G R F n).length = (gw_G R F n).length by omega] at this
              exact br_f (nI_ge (by omega) h5) this
        rcases gw_cm v3 with ⟨h3, e3⟩ | ⟨h3, h5, e3⟩
        · exact br_f (Int32.not_le.mpr h3) (fin 0 (by omega) e3.symm)
        · have := fin _ h5 rfl
          rw [← e3] at this
          exact br_t (Int32.not_lt.mp h3) this
    · intro hrc
      refine xw_Kel ?_
      intro f_firstSize f_known f_patternNumber f_patternSize f_penX f_penY f_penTurn f_lowX f_highX f_lowY f_highY f_frontLetter f_frontRun f_backLetter f_backRun f_longest f_total a_ruleSize a_rules a_first a_actions a_size a_numbers a_moveX a_moveY a_turn a_leastX a_mostX a_leastY a_mostY a_headLetter a_headRun a_tailLetter a_tailRun a_bestRun a_pattern a_stateAfter a_formState a_formHits a_top a_pile a_seen hK
      exact br_f (by decide) (K _ _ (gw_gqB hn hrc) (xw_IK hK))
end
end
section
section
variable {f_firstSize f_known f_patternNumber f_patternSize f_penX f_penY f_penTurn f_lowX f_highX f_lowY f_highY f_frontLetter f_frontRun f_backLetter f_backRun f_longest f_total : Int32} {a_ruleSize a_rules a_first a_actions a_size a_numbers a_moveX a_moveY a_turn a_leastX a_mostX a_leastY a_mostY a_headLetter a_headRun a_tailLetter a_tailRun a_bestRun a_pattern a_stateAfter a_formState a_formHits a_top a_pile a_seen : Nat → Int32}
/-! whole words: runs and drawing -/
theorem gw_Fi {R : Nat → List Nat} {F : List Nat} {n i : Nat} (hi : i < F.length) : (F.take (i + 1)).flatMap (gw_ex R n) = (F.take i).flatMap (gw_ex R n) ++ gw_ex R n (F.getD i 0) := by
  rw [gw_tk hi, List.flatMap_append]
  simp
theorem gw_FiL {R : Nat → List Nat} {F : List Nat} {A : Nat → Nat} (ok : gw_ok R F A) {n i : Nat} (hn : n < 13) : ((F.take i).flatMap (gw_ex R n)).length ≤ 134217728 := by
  have h := gw_fl (w := F.take i) (f := gw_ex R n) (B := 16777216) (fun d _ => gw_exB ok.1 d hn)
  have h8 := ok.2.1.2.1
  have h6 : (F.take i).length ≤ 8 := by rw [List.length_take]; omega
  have h7 : (F.take i).length * 16777216 ≤ 8 * 16777216 := Nat.mul_le_mul_right _ h6
  omega
theorem xw_rn18 {post : Int32 → SX → Prop} {R : Nat → List Nat} {F : List Nat} {A : Nat → Nat} {n : Nat} (ok : gw_ok R F A) (hB : gw_B R F A f_firstSize a_ruleSize a_rules a_first a_actions) (hF : xw_F R A a_size a_numbers a_moveX a_moveY a_turn a_leastX a_mostX a_leastY a_mostY a_headLetter a_headRun a_tailLetter a_tailRun a_bestRun) (hn : n < 13)
    (h : post (nI (gw_rw gw_r0 (gw_G R F n)).2.2.2.2.1) (f_firstSize, f_known, f_patternNumber, f_patternSize, f_penX, f_penY, f_penTurn, f_lowX, f_highX, f_lowY, f_highY, (gw_rw gw_r0 (gw_G R F n)).1, nI (gw_rw gw_r0 (gw_G R F n)).2.1, (gw_rw gw_r0 (gw_G R F n)).2.2.1, nI (gw_rw gw_r0 (gw_G R F n)).2.2.2.1, nI (gw_rw gw_r0 (gw_G R F n)).2.2.2.2.1, nI (gw_rw gw_r0 (gw_G R F n)).2.2.2.2.2, a_ruleSize, a_rules, a_first, a_actions, a_size, a_numbers, a_moveX, a_moveY, a_turn, a_leastX, a_mostX, a_leastY, a_mostY, a_headLetter, a_headRun, a_tailLetter, a_tailRun, a_bestRun, a_pattern, a_stateAfter, a_formState, a_formHits, a_top, a_pile, a_seen)) :
    ∀ d i, i + d = F.length → wX_run_18 post (nI n) (d + 1) (nI i) f_firstSize f_known f_patternNumber f_patternSize f_penX f_penY f_penTurn f_lowX f_highX f_lowY f_highY ((gw_rw gw_r0 ((F.take i).flatMap (gw_ex R n))).1) (nI (gw_rw gw_r0 ((F.take i).flatMap (gw_ex R n))).2.1) ((gw_rw gw_r0 ((F.take i).flatMap (gw_ex R n))).2.2.1) (nI (gw_rw gw_r0 ((F.take i).flatMap (gw_ex R n))).2.2.2.1) (nI (gw_rw gw_r0 ((F.take i).flatMap (gw_ex R n))).2.2.2.2.1) (nI (gw_rw gw_r0 ((F.take i).flatMap (gw_ex R n))).2.2.2.2.2) a_ruleSize a_rules a_first a_actions a_size a_numbers a_moveX a_moveY a_turn a_leastX a_mostX a_leastY a_mostY a_headLetter a_headRun a_tailLetter a_tailRun a_bestRun a_pattern a_stateAfter a_formState a_formHits a_top a_pile a_seen := by
  have h8 := ok.2.1.2.1
  intro d
  induction d with
  | zero =>
    intro i hi
    have e : i = F.length := by omega
    subst e
    rw [List.take_length]
    exact br_t (by rw [hB.1]; exact nI_le (by omega) (by omega)) h
  | succ d ih =>
    intro i hi
    have hi2 : i < F.length := by omega
    have ci : (nI i).toNatClampNeg = i := nI_clamp (by omega)
    have hm : F.getD i 0 < 6 := ok.2.1.2.2 _ (gw_gm hi2)
    have hg := hF _ hm n hn
    have hL1 := gw_FiL ok (n := n) (i := i) hn
    have hL2 := gw_exB ok.1 (l := n) (F.getD i 0) hn
    have ri := gw_riD ((F.take i).flatMap (gw_ex R n)) gw_ri0
    have rt := gw_rwT ((F.take i).flatMap (gw_ex R n)) (q := gw_r0)
    have rt2 : (gw_rw gw_r0 ((F.take i).flatMap (gw_ex R n))).2.2.2.2.2 = ((F.take i).flatMap (gw_ex R n)).length := by
      rw [rt]; exact Nat.zero_add _
    refine br_f (by rw [hB.1]; exact nI_ge hi2 (by omega)) (And.intro (vp_in_nI (by omega) (by omega)) ?_)
    refine xw_form (c := F.getD i 0) (l := n) (by rw [ci]; exact hB.2.2.2.1 i hi2) rfl ?_
    refine xw_join (w := gw_ex R n (F.getD i 0)) (s := gw_rw gw_r0 ((F.take i).flatMap (gw_ex R n))) (by omega) ri (gw_exM ok.1 n _ hm) (by omega) hg.1 hg.2.2.2 ?_
    refine nm_r (e' := nI (i + 1)) (nI_1 i) ?_
    have ih' := ih (i + 1) (by omega)
    rw [gw_Fi hi2, gw_rwA] at ih'
    exact ih'
theorem xw_run {post : Int32 → SX → Prop} {R : Nat → List Nat} {F : List Nat} {A : Nat → Nat} {v : Int32} (ok : gw_ok R F A) (hI : xw_I R F A (f_firstSize, f_known, f_patternNumber, f_patternSize, f_penX, f_penY, f_penTurn, f_lowX, f_highX, f_lowY, f_highY, f_frontLetter, f_frontRun, f_backLetter, f_backRun, f_longest, f_total, a_ruleSize, a_rules, a_first, a_actions, a_size, a_numbers, a_moveX, a_moveY, a_turn, a_leastX, a_mostX, a_leastY, a_mostY, a_headLetter, a_headRun, a_tailLetter, a_tailRun, a_bestRun, a_pattern, a_stateAfter, a_formState, a_formHits, a_top, a_pile, a_seen))
    (K : ∀ r u, gw_gq R F v (fun n r => r = nI (gw_rw gw_r0 (gw_G R F n)).2.2.2.2.1) r → xw_I R F A u → post r u) : wpX_run post (f_firstSize, f_known, f_patternNumber, f_patternSize, f_penX, f_penY, f_penTurn, f_lowX, f_highX, f_lowY, f_highY, f_frontLetter, f_frontRun, f_backLetter, f_backRun, f_longest, f_total, a_ruleSize, a_rules, a_first, a_actions, a_size, a_numbers, a_moveX, a_moveY, a_turn, a_leastX, a_mostX, a_leastY, a_mostY, a_headLetter, a_headRun, a_tailLetter, a_tailRun, a_bestRun, a_pattern, a_stateAfter, a_formState, a_formHits, a_top, a_pile, a_seen) v := by
  unfold wpX_run
  dsimp only
  rcases gw_vc v with hv | ⟨n, hn, rfl⟩
  · exact xw_refA hv (br_f (by decide) (K _ _ (gw_gqA hv) hI))
  · refine xw_refB ok hI hn ?_ ?_
    · intro hrc
      refine xw_Kel ?_
      intro f_firstSize f_known f_patternNumber f_patternSize f_penX f_penY f_penTurn f_lowX f_highX f_lowY f_highY f_frontLetter f_frontRun f_backLetter f_backRun f_longest f_total a_ruleSize a_rules a_first a_actions a_size a_numbers a_moveX a_moveY a_turn a_leastX a_mostX a_leastY a_mostY a_headLetter a_headRun a_tailLetter a_tailRun a_bestRun a_pattern a_stateAfter a_formState a_formHits a_top a_pile a_seen hK
      refine br_t rfl ?_
      refine xw_bRun ?_
      refine ⟨F.length + 1, ?_⟩
      exact xw_rn18 ok hK.1 hK.2.1 hn (K _ _ (gw_gqC hn hrc rfl) (xw_IK hK)) F.length 0 (Nat.zero_add _)
    · intro hrc
      refine xw_Kel ?_
      intro f_firstSize f_known f_patternNumber f_patternSize f_penX f_penY f_penTurn f_lowX f_highX f_lowY f_highY f_frontLetter f_frontRun f_backLetter f_backRun f_longest f_total a_ruleSize a_rules a_first a_actions a_size a_numbers a_moveX a_moveY a_turn a_leastX a_mostX a_leastY a_mostY a_headLetter a_headRun a_tailLetter a_tailRun a_bestRun a_pattern a_stateAfter a_formState a_formHits a_top a_pile a_seen hK
      exact br_f (by decide) (K _ _ (gw_gqB hn hrc) (xw_IK hK))
theorem xw_da6 {post : SX → Prop} {R : Nat → List Nat} {F : List Nat} {A : Nat → Nat} {n : Nat} (ok : gw_ok R F A) (hB : gw_B R F A f_firstSize a_ruleSize a_rules a_first a_actions) (hF : xw_F R A a_size a_numbers a_moveX a_moveY a_turn a_leastX a_mostX a_leastY a_mostY a_headLetter a_headRun a_tailLetter a_tailRun a_bestRun) (hn : n < 13)
    (h : post (f_firstSize, f_known, f_patternNumber, f_patternSize, gi (gw_dr A gw_p0 (gw_G R F n)).1, gi (gw_dr A gw_p0 (gw_G R F n)).2.1, nI (gw_dr A gw_p0 (gw_G R F n)).2.2.1, gi (gw_dr A gw_p0 (gw_G R F n)).2.2.2.1, gi (gw_dr A gw_p0 (gw_G R F n)).2.2.2.2.1, gi (gw_dr A gw_p0 (gw_G R F n)).2.2.2.2.2.1, gi (gw_dr A gw_p0 (gw_G R F n)).2.2.2.2.2.2, f_frontLetter, f_frontRun, f_backLetter, f_backRun, f_longest, f_total, a_ruleSize, a_rules, a_first, a_actions, a_size, a_numbers, a_moveX, a_moveY, a_turn, a_leastX, a_mostX, a_leastY, a_mostY, a_headLetter, a_headRun, a_tailLetter, a_tailRun, a_bestRun, a_pattern, a_stateAfter, a_formState, a_formHits, a_top, a_pile, a_seen)) :
    ∀ d i, i + d = F.length → wX_drawAll_6 post (nI n) (d + 1) (nI i) f_firstSize f_known f_patternNumber f_patternSize (gi (gw_dr A gw_p0 ((F.take i).flatMap (gw_ex R n))).1) (gi (gw_dr A gw_p0 ((F.take i).flatMap (gw_ex R n))).2.1) (nI (gw_dr A gw_p0 ((F.take i).flatMap (gw_ex R n))).2.2.1) (gi (gw_dr A gw_p0 ((F.take i).flatMap (gw_ex R n))).2.2.2.1) (gi (gw_dr A gw_p0 ((F.take i).flatMap (gw_ex R n))).2.2.2.2.1) (gi (gw_dr A gw_p0 ((F.take i).flatMap (gw_ex R n))).2.2.2.2.2.1) (gi (gw_dr A gw_p0 ((F.take i).flatMap (gw_ex R n))).2.2.2.2.2.2) f_frontLetter f_frontRun f_backLetter f_backRun f_longest f_total a_ruleSize a_rules a_first a_actions a_size a_numbers a_moveX a_moveY a_turn a_leastX a_mostX a_leastY a_mostY a_headLetter a_headRun a_tailLetter a_tailRun a_bestRun a_pattern a_stateAfter a_formState a_formHits a_top a_pile a_seen := by
  have h8 := ok.2.1.2.1
  intro d
  induction d with
  | zero =>
    intro i hi
    have e : i = F.length := by omega
    subst e
    rw [List.take_length]
    exact br_t (by rw [hB.1]; exact nI_le (by omega) (by omega)) h
  | succ d ih =>
    intro i hi
    have hi2 : i < F.length := by omega
    have ci : (nI i).toNatClampNeg = i := nI_clamp (by omega)
    have hm : F.getD i 0 < 6 := ok.2.1.2.2 _ (gw_gm hi2)
    have hg := hF _ hm n hn
    have hL1 := gw_FiL ok (n := n) (i := i) hn
    have hL2 := gw_exB ok.1 (l := n) (F.getD i 0) hn
    have bd := gw_bdD (A := A) ((F.take i).flatMap (gw_ex R n)) gw_bd0
    rw [Int.zero_add] at bd
    refine br_f (by rw [hB.1]; exact nI_ge hi2 (by omega)) (And.intro (vp_in_nI (by omega) (by omega)) ?_)
    refine xw_form (c := F.getD i 0) (l := n) (by rw [ci]; exact hB.2.2.2.1 i hi2) rfl ?_
    refine xw_draw (A := A) (w := gw_ex R n (F.getD i 0)) (p := gw_dr A gw_p0 ((F.take i).flatMap (gw_ex R n))) (by omega) bd (by omega) (by omega) hg.2.2.1 ?_
    refine nm_r (e' := nI (i + 1)) (nI_1 i) ?_
    have ih' := ih (i + 1) (by omega)
    rw [gw_Fi hi2, gw_drA] at ih'
    exact ih'
theorem xw_drawAll {post : SX → Prop} {R : Nat → List Nat} {F : List Nat} {A : Nat → Nat} {n : Nat} (ok : gw_ok R F A) (hB : gw_B R F A f_firstSize a_ruleSize a_rules a_first a_actions) (hF : xw_F R A a_size a_numbers a_moveX a_moveY a_turn a_leastX a_mostX a_leastY a_mostY a_headLetter a_headRun a_tailLetter a_tailRun a_bestRun) (hn : n < 13)
    (h : post (f_firstSize, f_known, f_patternNumber, f_patternSize, gi (gw_dr A gw_p0 (gw_G R F n)).1, gi (gw_dr A gw_p0 (gw_G R F n)).2.1, nI (gw_dr A gw_p0 (gw_G R F n)).2.2.1, gi (gw_dr A gw_p0 (gw_G R F n)).2.2.2.1, gi (gw_dr A gw_p0 (gw_G R F n)).2.2.2.2.1, gi (gw_dr A gw_p0 (gw_G R F n)).2.2.2.2.2.1, gi (gw_dr A gw_p0 (gw_G R F n)).2.2.2.2.2.2, f_frontLetter, f_frontRun, f_backLetter, f_backRun, f_longest, f_total, a_ruleSize, a_rules, a_first, a_actions, a_size, a_numbers, a_moveX, a_moveY, a_turn, a_leastX, a_mostX, a_leastY, a_mostY, a_headLetter, a_headRun, a_tailLetter, a_tailRun, a_bestRun, a_pattern, a_stateAfter, a_formState, a_formHits, a_top, a_pile, a_seen)) : wpX_drawAll post (f_firstSize, f_known, f_patternNumber, f_patternSize, f_penX, f_penY, f_penTurn, f_lowX, f_highX, f_lowY, f_highY, f_frontLetter, f_frontRun, f_backLetter, f_backRun, f_longest, f_total, a_ruleSize, a_rules, a_first, a_actions, a_size, a_numbers, a_moveX, a_moveY, a_turn, a_leastX, a_mostX, a_leastY, a_mostY, a_headLetter, a_headRun, a_tailLetter, a_tailRun, a_bestRun, a_pattern, a_stateAfter, a_formState, a_formHits, a_top, a_pile, a_seen) (nI n) := by
  unfold wpX_drawAll
  dsimp only
  refine xw_bPen ?_
  exact ⟨F.length + 1, xw_da6 ok hB hF hn h F.length 0 (Nat.zero_add _)⟩
theorem xw_direction {post : Int32 → SX → Prop} {R : Nat → List Nat} {F : List Nat} {A : Nat → Nat} {v : Int32} (ok : gw_ok R F A) (hI : xw_I R F A (f_firstSize, f_known, f_patternNumber, f_patternSize, f_penX, f_penY, f_penTurn, f_lowX, f_highX, f_lowY, f_highY, f_frontLetter, f_frontRun, f_backLetter, f_backRun, f_longest, f_total, a_ruleSize, a_rules, a_first, a_actions, a_size, a_numbers, a_moveX, a_moveY, a_turn, a_leastX, a_mostX, a_leastY, a_mostY, a_headLetter, a_headRun, a_tailLetter, a_tailRun, a_bestRun, a_pattern, a_stateAfter, a_formState, a_formHits, a_top, a_pile, a_seen))
    (K : ∀ r u, gw_gq R F v (fun n r => r = nI (gw_dr A gw_p0 (gw_G R F n)).2.2.1) r → xw_I R F A u → post r u) : wpX_direction post (f_firstSize, f_known, f_patternNumber, f_patternSize, f_penX, f_penY, f_penTurn, f_lowX, f_highX, f_lowY, f_highY, f_frontLetter, f_frontRun, f_backLetter, f_backRun, f_longest, f_total, a_ruleSize, a_rules, a_first, a_actions, a_size, a_numbers, a_moveX, a_moveY, a_turn, a_leastX, a_mostX, a_leastY, a_mostY, a_headLetter, a_headRun, a_tailLetter, a_tailRun, a_bestRun, a_pattern, a_stateAfter, a_formState, a_formHits, a_top, a_pile, a_seen) v := by
  unfold wpX_direction
  dsimp only
  rcases gw_vc v with hv | ⟨n, hn, rfl⟩
  · exact xw_refA hv (br_f (by decide) (K _ _ (gw_gqA hv) hI))
  · refine xw_refB ok hI hn ?_ ?_
    · intro hrc
      refine xw_Kel ?_
      intro f_firstSize f_known f_patternNumber f_patternSize f_penX f_penY f_penTurn f_lowX f_highX f_lowY f_highY f_frontLetter f_frontRun f_backLetter f_backRun f_longest f_total a_ruleSize a_rules a_first a_actions a_size a_numbers a_moveX a_moveY a_turn a_leastX a_mostX a_leastY a_mostY a_headLetter a_headRun a_tailLetter a_tailRun a_bestRun a_pattern a_stateAfter a_formState a_formHits a_top a_pile a_seen hK
      refine br_t rfl ?_
      refine xw_drawAll ok hK.1 hK.2.1 hn ?_
      exact K _ _ (gw_gqC hn hrc rfl) (xw_IK hK)
    · intro hrc
      refine xw_Kel ?_
      intro f_firstSize f_known f_patternNumber f_patternSize f_penX f_penY f_penTurn f_lowX f_highX f_lowY f_highY f_frontLetter f_frontRun f_backLetter f_backRun f_longest f_total a_ruleSize a_rules a_first a_actions a_size a_numbers a_moveX a_moveY a_turn a_leastX a_mostX a_leastY a_mostY a_headLetter a_headRun a_tailLetter a_tailRun a_bestRun a_pattern a_stateAfter a_formState a_formHits a_top a_pile a_seen hK
      exact br_f (by decide) (K _ _ (gw_gqB hn hrc) (xw_IK hK))
theorem xw_extent {post : Int32 → SX → Prop} {R : Nat → List Nat} {F : List Nat} {A : Nat → Nat} {v : Int32} (ok : gw_ok R F A) (hI : xw_I R F A (f_firstSize, f_known, f_patternNumber, f_patternSize, f_penX, f_penY, f_penTurn, f_lowX, f_highX, f_lowY, f_highY, f_frontLetter, f_frontRun, f_backLetter, f_backRun, f_longest, f_total, a_ruleSize, a_rules, a_first, a_actions, a_size, a_numbers, a_moveX, a_moveY, a_turn, a_leastX, a_mostX, a_leastY, a_mostY, a_headLetter, a_headRun, a_tailLetter, a_tailRun, a_bestRun, a_pattern, a_stateAfter, a_formState, a_formHits, a_top, a_pile, a_seen))
    (K : ∀ r u, gw_gq R F v (fun n r => r = gw_ea (gw_dr A gw_p0 (gw_G R F n))) r → xw_I R F A u → post r u) : wpX_extent post (f_firstSize, f_known, f_patternNumber, f_patternSize, f_penX, f_penY, f_penTurn, f_lowX, f_highX, f_lowY, f_highY, f_frontLetter, f_frontRun, f_backLetter, f_backRun, f_longest, f_total, a_ruleSize, a_rules, a_first, a_actions, a_size, a_numbers, a_moveX, a_moveY, a_turn, a_leastX, a_mostX, a_leastY, a_mostY, a_headLetter, a_headRun, a_tailLetter, a_tailRun, a_bestRun, a_pattern, a_stateAfter, a_formState, a_formHits, a_top, a_pile, a_seen) v := by
  unfold wpX_extent
  dsimp only
  rcases gw_vc v with hv | ⟨n, hn, rfl⟩
  · exact xw_refA hv (br_f (by decide) (K _ _ (gw_gqA hv) hI))
  · refine xw_refB ok hI hn ?_ ?_
    · intro hrc
      refine xw_Kel ?_
      intro f_firstSize f_known f_patternNumber f_patternSize f_penX f_penY f_penTurn f_lowX f_highX f_lowY f_highY f_frontLetter f_frontRun f_backLetter f_backRun f_longest f_total a_ruleSize a_rules a_first a_actions a_size a_numbers a_moveX a_moveY a_turn a_leastX a_mostX a_leastY a_mostY a_headLetter a_headRun a_tailLetter a_tailRun a_bestRun a_pattern a_stateAfter a_formState a_formHits a_top a_pile a_seen hK
      refine br_t rfl ?_
      refine xw_drawAll ok hK.1 hK.2.1 hn ?_
      exact K _ _ (gw_gqC hn hrc rfl) (xw_IK hK)
    · intro hrc
      refine xw_Kel ?_
      intro f_firstSize f_known f_patternNumber f_patternSize f_penX f_penY f_penTurn f_lowX f_highX f_lowY f_highY f_frontLetter f_frontRun f_backLetter f_backRun f_longest f_total a_ruleSize a_rules a_first a_actions a_size a_numbers a_moveX a_moveY a_turn a_leastX a_mostX a_leastY a_mostY a_headLetter a_headRun a_tailLetter a_tailRun a_bestRun a_pattern a_stateAfter a_formState a_formHits a_top a_pile a_seen hK
      exact br_f (by decide) (K _ _ (gw_gqB hn hrc) (xw_IK hK))
theorem xw_pt35 {post : Int32 → SX → Prop} {R : Nat → List Nat} {F : List Nat} {A : Nat → Nat} {n k0 : Nat} {W : List Nat} (ok : gw_ok R F A) (hB : gw_B R F A f_firstSize a_ruleSize a_rules a_first a_actions) (hF : xw_F R A a_size a_numbers a_moveX a_moveY a_turn a_leastX a_mostX a_leastY a_mostY a_headLetter a_headRun a_tailLetter a_tailRun a_bestRun) (hn : n < 13) (hW : W.length ≤ 3000)
    (K : ∀ (tp pi : Nat → Int32), post (gw_pa (gw_dr A gw_p0 (W.take k0))) (f_firstSize, f_known, f_patternNumber, f_patternSize, gi (gw_dr A gw_p0 (W.take k0)).1, gi (gw_dr A gw_p0 (W.take k0)).2.1, nI (gw_dr A gw_p0 (W.take k0)).2.2.1, gi (gw_dr A gw_p0 (W.take k0)).2.2.2.1, gi (gw_dr A gw_p0 (W.take k0)).2.2.2.2.1, gi (gw_dr A gw_p0 (W.take k0)).2.2.2.2.2.1, gi (gw_dr A gw_p0 (W.take k0)).2.2.2.2.2.2, f_frontLetter, f_frontRun, f_backLetter, f_backRun, f_longest, f_total, a_ruleSize, a_rules, a_first, a_actions, a_size, a_numbers, a_moveX, a_moveY, a_turn, a_leastX, a_mostX, a_leastY, a_mostY, a_headLetter, a_headRun, a_tailLetter, a_tailRun, a_bestRun, a_pattern, a_stateAfter, a_formState, a_formHits, tp, pi, a_seen)) :
    ∀ (m i k : Nat) (L : List (Nat × Nat)) (dn : List Nat) (tp pi : Nat → Int32), i + m < 1000 → k < 2 ^ 31 → gw_sk R k m L → dn ++ gw_gf R L = W → dn.length + k = k0 → gw_wf R n L → xw_T 0 L tp pi → wX_point_35 post (m + 1) (nI k) (xw_hd L) (nI i) f_firstSize f_known f_patternNumber f_patternSize (gi (gw_dr A gw_p0 dn).1) (gi (gw_dr A gw_p0 dn).2.1) (nI (gw_dr A gw_p0 dn).2.2.1) (gi (gw_dr A gw_p0 dn).2.2.2.1) (gi (gw_dr A gw_p0 dn).2.2.2.2.1) (gi (gw_dr A gw_p0 dn).2.2.2.2.2.1) (gi (gw_dr A gw_p0 dn).2.2.2.2.2.2) f_frontLetter f_frontRun f_backLetter f_backRun f_longest f_total a_ruleSize a_rules a_first a_actions a_size a_numbers a_moveX a_moveY a_turn a_leastX a_mostX a_leastY a_mostY a_headLetter a_headRun a_tailLetter a_tailRun a_bestRun a_pattern a_stateAfter a_formState a_formHits tp pi a_seen := by
  intro m
  induction m using Nat.strongRecOn with
  | ind m ih =>
    intro i k L dn tp pi hi hk hs hg hd hw hT
    refine br_f (nI_ge (a := i) (b := 1000) (by omega) (by omega)) ?_
    by_cases z0 : k = 0
    · have e := gw_fin hg hd (Or.inl z0)
      rw [e] at K
      subst z0
      exact br_t (by decide) (K tp pi)
    · refine br_f (nI_nle (by omega) hk) ?_
      cases L with
      | nil =>
        have e := gw_fin hg hd (Or.inr rfl)
        rw [e] at K
        exact br_t gw_m1 (K tp pi)
      | cons f L =>
        obtain ⟨c, l⟩ := f
        have hc : c < 6 := hw.1.1
        have hl : l ≤ n := hw.1.2.1
        have hp : 0 < (gw_ex R l c).length := hw.1.2.2.1
        have hL := gw_wfL hw
        rw [List.length_cons] at hL
        have cf : (nI (13 * c + l)).toNatClampNeg = 13 * c + l := nI_clamp (by omega)
        have vf : vp_in (nI (13 * c + l)) 78 := vp_in_nI (by omega) (by omega)
        have hz := (hF c hc l (by omega)).1
        have hb := gw_exB ok.1 (l := l) c (by omega)
        have hdn : dn.length ≤ 3000 := by
          rw [← hg, List.length_append] at hW
          omega
        have bd := gw_bdD (A := A) dn gw_bd0
        rw [Int.zero_add] at bd
        refine br_f (nI_pos (n := 13 * c + l) (by omega)) (And.intro vf ?_)
        by_cases q : k < (gw_ex R l c).length
        · refine br_t (by show nI k < a_size (nI (13 * c + l)).toNatClampNeg; rw [cf, hz]; exact nI_lt q (by omega)) ?_
          cases l with
          | zero =>
            have q2 : k < 1 := q
            omega
          | succ l =>
            obtain ⟨m', e, hs'⟩ := gw_skO hs q (ok.1 c).1
            subst e
            refine xw_open (r := 0) ok hB hF (by omega) hn hw hT ?_
            intro tp' pi' hT' hw' hFr'
            have hL' := gw_wfL hw'
            refine xw_next (r := 0) (by omega) (by omega) hT' ?_
            refine nm_r (e' := nI (i + 1)) (nI_1 i) ?_
            refine ih m' (by omega) (i + 1) k _ dn tp' pi' (by omega) hk hs' ?_ hd hw' hT'
            rw [← hg, gw_gfA, gw_opG, ← gw_exS, gw_gfC]
        · obtain ⟨m', e, hs'⟩ := gw_skP hs (by show (gw_ex R l c).length ≤ k; omega)
          subst e
          refine br_f (by show ¬ nI k < a_size (nI (13 * c + l)).toNatClampNeg; rw [cf, hz]; exact nI_nlt (by omega) hk) (And.intro vf (nm_r (e' := nI (k - (gw_ex R l c).length)) ?_ ?_))
          · show nI k - a_size (nI (13 * c + l)).toNatClampNeg = _
            rw [cf, hz, pk_sub (by omega)]
          · refine xw_draw (A := A) (w := gw_ex R l c) (p := gw_dr A gw_p0 dn) (f := 13 * c + l) (by omega) bd (by omega) (by omega) (hF c hc l (by omega)).2.2.1 ?_
            refine nm_r (e' := upd tp 0 (tp 0 - 1)) rfl ?_
            refine xw_next (r := 0) (by omega) (by omega) (xw_pop hT) ?_
            refine nm_r (e' := nI (i + 1)) (nI_1 i) ?_
            rw [← gw_drA]
            refine ih m' (by omega) (i + 1) _ L _ _ pi (by omega) (by omega) hs' ?_ ?_ hw.2 (xw_pop hT)
            · rw [← hg, gw_gfC, List.append_assoc]
            · rw [List.length_append]
              show dn.length + (gw_ex R l c).length + (k - (gw_ex R l c).length) = k0
              omega
theorem xw_ptA {post : Int32 → SX → Prop} {R : Nat → List Nat} {F : List Nat} {A : Nat → Nat} {n : Nat} {v2 : Int32} {t1 p1 : Nat → Int32} (ok : gw_ok R F A) (hB : gw_B R F A f_firstSize a_ruleSize a_rules a_first a_actions) (hF : xw_F R A a_size a_numbers a_moveX a_moveY a_turn a_leastX a_mostX a_leastY a_mostY a_headLetter a_headRun a_tailLetter a_tailRun a_bestRun) (hn : n < 13) (hW : (gw_G R F n).length ≤ 3000) (hw1 : gw_wf R n (gw_op R n F)) (hT1 : xw_T 0 (gw_op R n F) t1 p1)
    (K : ∀ (tp pi : Nat → Int32), post (gw_pa (gw_dr A gw_p0 ((gw_G R F n).take v2.toNatClampNeg))) (f_firstSize, f_known, f_patternNumber, f_patternSize, gi (gw_dr A gw_p0 ((gw_G R F n).take v2.toNatClampNeg)).1, gi (gw_dr A gw_p0 ((gw_G R F n).take v2.toNatClampNeg)).2.1, nI (gw_dr A gw_p0 ((gw_G R F n).take v2.toNatClampNeg)).2.2.1, gi (gw_dr A gw_p0 ((gw_G R F n).take v2.toNatClampNeg)).2.2.2.1, gi (gw_dr A gw_p0 ((gw_G R F n).take v2.toNatClampNeg)).2.2.2.2.1, gi (gw_dr A gw_p0 ((gw_G R F n).take v2.toNatClampNeg)).2.2.2.2.2.1, gi (gw_dr A gw_p0 ((gw_G R F n).take v2.toNatClampNeg)).2.2.2.2.2.2, f_frontLetter, f_frontRun, f_backLetter, f_backRun, f_longest, f_total, a_ruleSize, a_rules, a_first, a_actions, a_size, a_numbers, a_moveX, a_moveY, a_turn, a_leastX, a_mostX, a_leastY, a_mostY, a_headLetter, a_headRun, a_tailLetter, a_tailRun, a_bestRun, a_pattern, a_stateAfter, a_formState, a_formHits, tp, pi, a_seen)) :
    wX_point_35 post ((gw_op R n F).length + 5 * n + 1) v2 (xw_hd (gw_op R n F)) (nI 0) f_firstSize f_known f_patternNumber f_patternSize (gi (gw_dr A gw_p0 []).1) (gi (gw_dr A gw_p0 []).2.1) (nI (gw_dr A gw_p0 []).2.2.1) (gi (gw_dr A gw_p0 []).2.2.2.1) (gi (gw_dr A gw_p0 []).2.2.2.2.1) (gi (gw_dr A gw_p0 []).2.2.2.2.2.1) (gi (gw_dr A gw_p0 []).2.2.2.2.2.2) f_frontLetter f_frontRun f_backLetter f_backRun f_longest f_total a_ruleSize a_rules a_first a_actions a_size a_numbers a_moveX a_moveY a_turn a_leastX a_mostX a_leastY a_mostY a_headLetter a_headRun a_tailLetter a_tailRun a_bestRun a_pattern a_stateAfter a_formState a_formHits t1 p1 a_seen := by
  have hL := gw_wfL hw1
  rcases gw_cm v2 with ⟨h2, e2⟩ | ⟨h2, h5, e2⟩
  · rw [e2, List.take_zero] at K
    exact br_f (by decide) (br_t (Int32.le_of_lt h2) (K t1 p1))
  · generalize v2.toNatClampNeg = b at K h5 e2
    subst e2
    exact xw_pt35 (W := gw_G R F n) (k0 := b) ok hB hF hn hW K _ 0 b _ [] t1 p1 (by omega) h5 (gw_skI hw1) (by rw [List.nil_append, gw_opG]; rfl) (by simp) hw1 hT1
theorem xw_point {post : Int32 → SX → Prop} {R : Nat → List Nat} {F : List Nat} {A : Nat → Nat} {v v2 : Int32} (ok : gw_ok R F A) (hI : xw_I R F A (f_firstSize, f_known, f_patternNumber, f_patternSize, f_penX, f_penY, f_penTurn, f_lowX, f_highX, f_lowY, f_highY, f_frontLetter, f_frontRun, f_backLetter, f_backRun, f_longest, f_total, a_ruleSize, a_rules, a_first, a_actions, a_size, a_numbers, a_moveX, a_moveY, a_turn, a_leastX, a_mostX, a_leastY, a_mostY, a_headLetter, a_headRun, a_tailLetter, a_tailRun, a_bestRun, a_pattern, a_stateAfter, a_formState, a_formHits, a_top, a_pile, a_seen))
    (K : ∀ r u, gw_gq R F v (fun n r => r = gw_pa (gw_dr A gw_p0 ((gw_G R F n).take v2.toNatClampNeg))) r → xw_I R F A u → post r u) : wpX_point post (f_firstSize, f_known, f_patternNumber, f_patternSize, f_penX, f_penY, f_penTurn, f_lowX, f_highX, f_lowY, f_highY, f_frontLetter, f_frontRun, f_backLetter, f_backRun, f_longest, f_total, a_ruleSize, a_rules, a_first, a_actions, a_size, a_numbers, a_moveX, a_moveY, a_turn, a_leastX, a_mostX, a_leastY, a_mostY, a_headLetter, a_headRun, a_tailLetter, a_tailRun, a_bestRun, a_pattern, a_stateAfter, a_formState, a_formHits, a_top, a_pile, a_seen) v v2 := by
  unfold wpX_point
  dsimp only
  rcases gw_vc v with hv | ⟨n, hn, rfl⟩
  · exact xw_refA hv (br_f (by decide) (K _ _ (gw_gqA hv) hI))
  · refine xw_refB ok hI hn ?_ ?_
    · intro hrc
      have hW := hrc n (Nat.le_refl n)
      refine xw_Kel ?_
      intro f_firstSize f_known f_patternNumber f_patternSize f_penX f_penY f_penTurn f_lowX f_highX f_lowY f_highY f_frontLetter f_frontRun f_backLetter f_backRun f_longest f_total a_ruleSize a_rules a_first a_actions a_size a_numbers a_moveX a_moveY a_turn a_leastX a_mostX a_leastY a_mostY a_headLetter a_headRun a_tailLetter a_tailRun a_bestRun a_pattern a_stateAfter a_formState a_formHits a_top a_pile a_seen hK
      refine br_t rfl ?_
      refine xw_bPen ?_
      refine xw_begin (r := 0) ok hK.1 hK.2.1 (by omega) hn ?_
      intro t1 p1 hT1 hw1 _
      have hL := gw_wfL hw1
      refine xw_next (r := 0) (by omega) (by omega) hT1 ?_
      refine ⟨(gw_op R n F).length + 5 * n + 1, ?_⟩
      refine xw_ptA ok hK.1 hK.2.1 hn hW hw1 hT1 ?_
      intro tp pi
      exact K _ _ (gw_gqC hn hrc rfl) (xw_IK hK)
    · intro hrc
      refine xw_Kel ?_
      intro f_firstSize f_known f_patternNumber f_patternSize f_penX f_penY f_penTurn f_lowX f_highX f_lowY f_highY f_frontLetter f_frontRun f_backLetter f_backRun f_longest f_total a_ruleSize a_rules a_first a_actions a_size a_numbers a_moveX a_moveY a_turn a_leastX a_mostX a_leastY a_mostY a_headLetter a_headRun a_tailLetter a_tailRun a_bestRun a_pattern a_stateAfter a_formState a_formHits a_top a_pile a_seen hK
      exact br_f (by decide) (K _ _ (gw_gqB hn hrc) (xw_IK hK))
end
end
section
/-! mirrored, windows, two readers -/
theorem gw_vb0 : vp_nar .boolean 0 = 0 := by decide
theorem gw_vb1 : vp_nar .boolean 1 = 1 := by decide
def gw_kb (w : List Nat) (v r : Int32) : Prop := (∃ k, 1 ≤ k ∧ k ≤ 3 ∧ v = nI k ∧ r = nI (gw_cn (gw_yn (fun i => w.getD i 0) k (w.length + 1 - k)) 216)) ∨ ((v < 1 ∨ 3 < v) ∧ r = -3)
theorem gw_kbU {w : List Nat} {v r r' : Int32} (h : gw_kb w v r) (h' : gw_kb w v r') : r' = r := by
  have key : ∀ k, 1 ≤ k → k ≤ 3 → v = nI k → (v < 1 ∨ 3 < v) → False := by
    intro k h1 h2 e z
    subst e
    rcases z with z | z
    · exact nI_nlt (b := 1) h1 (by omega) z
    · exact nI_nlt (a := 3) h2 (by omega) z
  rcases h with ⟨p, h1, h2, hv, e⟩ | ⟨h1, e⟩
  · rcases h' with ⟨p', h1', h2', hv', e'⟩ | ⟨h1', e'⟩
    · have : p' = p := (nI_eq (by omega) (by omega)).mp (hv'.symm.trans hv)
      rw [e, e', this]
    · exact absurd (key p h1 h2 hv h1') id
  · rcases h' with ⟨p', h1', h2', hv', e'⟩ | ⟨h1', e'⟩
    · exact absurd (key p' h1' h2' hv' h1) id
    · rw [e, e']
theorem gw_upB {sn : Nat → Int32} {f : Nat → Bool} {c0 mm : Nat} (h : ∀ j, j < mm → sn j = if f j = true then 1 else 0) : ∀ j, j < mm → upd sn c0 1 j = if (fun c => if c = c0 then true else f c) j = true then 1 else 0 := by
  intro j hj
  show upd sn c0 1 j = if (if j = c0 then true else f j) = true then 1 else 0
  by_cases q : j = c0
  · rw [q, pk_us]; simp
  · rw [pk_un q, h j hj]; simp [q]
section
variable {f_firstSize f_known f_patternNumber f_patternSize f_penX f_penY f_penTurn f_lowX f_highX f_lowY f_highY f_frontLetter f_frontRun f_backLetter f_backRun f_longest f_total : Int32} {a_ruleSize a_rules a_first a_actions a_size a_numbers a_moveX a_moveY a_turn a_leastX a_mostX a_leastY a_mostY a_headLetter a_headRun a_tailLetter a_tailRun a_bestRun a_pattern a_stateAfter a_formState a_formHits a_top a_pile a_seen : Nat → Int32}
theorem xw_mr21 {post : Int32 → SX → Prop} {R : Nat → List Nat} {F : List Nat} {A : Nat → Nat} {n : Nat} (ok : gw_ok R F A) (hB : gw_B R F A f_firstSize a_ruleSize a_rules a_first a_actions) (hF : xw_F R A a_size a_numbers a_moveX a_moveY a_turn a_leastX a_mostX a_leastY a_mostY a_headLetter a_headRun a_tailLetter a_tailRun a_bestRun) (hn : n < 13) (hL : (gw_G R F n).length ≤ 3000)
    (K : ∀ (r : Int32) (tp pi : Nat → Int32), gw_ma (gw_G R F n) r → post r (f_firstSize, f_known, f_patternNumber, f_patternSize, f_penX, f_penY, f_penTurn, f_lowX, f_highX, f_lowY, f_highY, f_frontLetter, f_frontRun, f_backLetter, f_backRun, f_longest, f_total, a_ruleSize, a_rules, a_first, a_actions, a_size, a_numbers, a_moveX, a_moveY, a_turn, a_leastX, a_mostX, a_leastY, a_mostY, a_headLetter, a_headRun, a_tailLetter, a_tailRun, a_bestRun, a_pattern, a_stateAfter, a_formState, a_formHits, tp, pi, a_seen)) :
    ∀ d i, i + d = (gw_G R F n).length / 2 → (∀ p, p < i → (gw_G R F n).getD p 0 = (gw_G R F n).getD ((gw_G R F n).length - 1 - p) 0) → ∀ tp pi : Nat → Int32, wX_mirrored_21 post (nI n) (nI (gw_G R F n).length) (d + 1) (nI i) f_firstSize f_known f_patternNumber f_patternSize f_penX f_penY f_penTurn f_lowX f_highX f_lowY f_highY f_frontLetter f_frontRun f_backLetter f_backRun f_longest f_total a_ruleSize a_rules a_first a_actions a_size a_numbers a_moveX a_moveY a_turn a_leastX a_mostX a_leastY a_mostY a_headLetter a_headRun a_tailLetter a_tailRun a_bestRun a_pattern a_stateAfter a_formState a_formHits tp pi a_seen := by
  have hM := gw_GM ok n
  generalize hW : gw_G R F n = W at *
  have e2 : nI W.length / 2 = nI (W.length / 2) := pk_div (d := 2) (by omega) (by omega) (by omega)
  intro d
  induction d with
  | zero =>
    intro i hi hp tp pi
    have e : i = W.length / 2 := by omega
    refine And.intro (by decide) (br_t (by rw [e2]; exact nI_le (by omega) (by omega)) ?_)
    exact K 1 tp pi (Or.inl ⟨rfl, gw_palH (fun p h => hp p (by omega))⟩)
  | succ d ih =>
    intro i hi hp tp pi
    have e3 : (nI W.length - 1) - nI i = nI (W.length - 1 - i) := by
      have h1 : nI W.length - 1 = nI (W.length - 1) := pk_sub (b := 1) (by omega)
      rw [h1, pk_sub (by omega)]
    refine And.intro (by decide) (br_f (by rw [e2]; exact nI_ge (by omega) (by omega)) ?_)
    refine xw_letterOn (k := i) ok hB hF hn (by rw [hW]; omega) ?_
    intro t1 p1
    rw [hW]
    dsimp only
    rw [e3]
    refine xw_letterOn (k := W.length - 1 - i) ok hB hF hn (by rw [hW]; omega) ?_
    intro t2 p2
    rw [hW]
    have m1 := hM _ (gw_gm (w := W) (i := i) (by omega))
    have m2 := hM _ (gw_gm (w := W) (i := W.length - 1 - i) (by omega))
    by_cases q : W.getD i 0 = W.getD (W.length - 1 - i) 0
    · refine br_t (by rw [q]) (nm_r (e' := nI (i + 1)) (nI_1 i) (ih (i + 1) (by omega) ?_ t2 p2))
      intro p hp2
      by_cases z : p = i
      · subst z; exact q
      · exact hp p (by omega)
    · refine br_f (by rw [nI_eq (by omega) (by omega)]; exact q) (K 0 t2 p2 (Or.inr ⟨rfl, fun z => q (z i (by omega))⟩))
theorem xw_mirrored {post : Int32 → SX → Prop} {R : Nat → List Nat} {F : List Nat} {A : Nat → Nat} {v : Int32} (ok : gw_ok R F A) (hI : xw_I R F A (f_firstSize, f_known, f_patternNumber, f_patternSize, f_penX, f_penY, f_penTurn, f_lowX, f_highX, f_lowY, f_highY, f_frontLetter, f_frontRun, f_backLetter, f_backRun, f_longest, f_total, a_ruleSize, a_rules, a_first, a_actions, a_size, a_numbers, a_moveX, a_moveY, a_turn, a_leastX, a_mostX, a_leastY, a_mostY, a_headLetter, a_headRun, a_tailLetter, a_tailRun, a_bestRun, a_pattern, a_stateAfter, a_formState, a_formHits, a_top, a_pile, a_seen))
    (K : ∀ r u, gw_gq R F v (fun n r => gw_ma (gw_G R F n) r) r → xw_I R F A u → post r u) : wpX_mirrored post (f_firstSize, f_known, f_patternNumber, f_patternSize, f_penX, f_penY, f_penTurn, f_lowX, f_highX, f_lowY, f_highY, f_frontLetter, f_frontRun, f_backLetter, f_backRun, f_longest, f_total, a_ruleSize, a_rules, a_first, a_actions, a_size, a_numbers, a_moveX, a_moveY, a_turn, a_leastX, a_mostX, a_leastY, a_mostY, a_headLetter, a_headRun, a_tailLetter, a_tailRun, a_bestRun, a_pattern, a_stateAfter, a_formState, a_formHits, a_top, a_pile, a_seen) v := by
  unfold wpX_mirrored
  dsimp only
  rcases gw_vc v with hv | ⟨n, hn, rfl⟩
  · exact xw_refA hv (br_f (by decide) (K _ _ (gw_gqA hv) hI))
  · refine xw_refB ok hI hn ?_ ?_
    · intro hrc
      refine xw_Kel ?_
      intro f_firstSize f_known f_patternNumber f_patternSize f_penX f_penY f_penTurn f_lowX f_highX f_lowY f_highY f_frontLetter f_frontRun f_backLetter f_backRun f_longest f_total a_ruleSize a_rules a_first a_actions a_size a_numbers a_moveX a_moveY a_turn a_leastX a_mostX a_leastY a_mostY a_headLetter a_headRun a_tailLetter a_tailRun a_bestRun a_pattern a_stateAfter a_formState a_formHits a_top a_pile a_seen hK
      refine br_t rfl ?_
      refine xw_len ok hK.1 hK.2.1 hn ?_
      refine ⟨(gw_G R F n).length / 2 + 1, ?_⟩
      refine xw_mr21 ok hK.1 hK.2.1 hn (hrc n (Nat.le_refl n)) ?_ _ 0 (Nat.zero_add _) (fun p hp => absurd hp (Nat.not_lt_zero p)) a_top a_pile
      intro r tp pi hr
      exact K _ _ (gw_gqC hn hrc hr) (xw_IK hK)
    · intro hrc
      refine xw_Kel ?_
      intro f_firstSize f_known f_patternNumber f_patternSize f_penX f_penY f_penTurn f_lowX f_highX f_lowY f_highY f_frontLetter f_frontRun f_backLetter f_backRun f_longest f_total a_ruleSize a_rules a_first a_actions a_size a_numbers a_moveX a_moveY a_turn a_leastX a_mostX a_leastY a_mostY a_headLetter a_headRun a_tailLetter a_tailRun a_bestRun a_pattern a_stateAfter a_formState a_formHits a_top a_pile a_seen hK
      exact br_f (by decide) (K _ _ (gw_gqB hn hrc) (xw_IK hK))
theorem xw_kd96 {post : Int32 → SX → Prop} {R : Nat → List Nat} {F : List Nat} {A : Nat → Nat} {n k mm : Nat} {W : List Nat} (ok : gw_ok R F A) (hB : gw_B R F A f_firstSize a_ruleSize a_rules a_first a_actions) (hF : xw_F R A a_size a_numbers a_moveX a_moveY a_turn a_leastX a_mostX a_leastY a_mostY a_headLetter a_headRun a_tailLetter a_tailRun a_bestRun) (hn : n < 13) (hL : W.length ≤ 3000) (hM : ∀ d, d ∈ W → d < 6) (hk1 : 1 ≤ k) (hk3 : k ≤ 3) (hmm : mm = 6 ^ k) (hm2 : mm ≤ 216) (hm0 : 0 < mm)
    (K : ∀ (tp pi sn : Nat → Int32), post (nI (gw_cn (gw_yn (fun i => W.getD i 0) k (W.length + 1 - k)) 216)) (f_firstSize, f_known, f_patternNumber, f_patternSize, f_penX, f_penY, f_penTurn, f_lowX, f_highX, f_lowY, f_highY, f_frontLetter, f_frontRun, f_backLetter, f_backRun, f_longest, f_total, a_ruleSize, a_rules, a_first, a_actions, a_size, a_numbers, a_moveX, a_moveY, a_turn, a_leastX, a_mostX, a_leastY, a_mostY, a_headLetter, a_headRun, a_tailLetter, a_tailRun, a_bestRun, a_pattern, a_stateAfter, a_formState, a_formHits, tp, pi, sn)) :
    ∀ d i, i + d = W.length → ∀ (L : List (Nat × Nat)) (tp pi sn : Nat → Int32), gw_gf R L = W.drop i → gw_wf R n L → xw_T 0 L tp pi → (∀ j, j < mm → sn j = if gw_yn (fun i => W.getD i 0) k (i + 1 - k) j = true then 1 else 0) →
      wX_kinds_96 post (nI k) (nI mm) (nI W.length) (d + 1) (nI (gw_cd (fun i => W.getD i 0) 0 i % mm)) (nI (gw_cn (gw_yn (fun i => W.getD i 0) k (i + 1 - k)) 216)) (nI i) f_firstSize f_known f_patternNumber f_patternSize f_penX f_penY f_penTurn f_lowX f_highX f_lowY f_highY f_frontLetter f_frontRun f_backLetter f_backRun f_longest f_total a_ruleSize a_rules a_first a_actions a_size a_numbers a_moveX a_moveY a_turn a_leastX a_mostX a_leastY a_mostY a_headLetter a_headRun a_tailLetter a_tailRun a_bestRun a_pattern a_stateAfter a_formState a_formHits tp pi sn := by
  intro d
  induction d with
  | zero =>
    intro i hi L tp pi sn hg hw hT hs
    have e : i = W.length := by omega
    subst e
    exact br_t (nI_le (by omega) (by omega)) (K tp pi sn)
  | succ d ih =>
    intro i hi L tp pi sn hg hw hT hs
    have hi2 : i < W.length := by omega
    have hlt : ∀ j, j < W.length → W.getD j 0 < 6 := fun j hj => hM _ (gw_gm hj)
    have hd6 := hlt i hi2
    rw [gw_dp hi2] at hg
    refine br_f (nI_ge hi2 (by omega)) ?_
    refine xw_read (r := 0) ok hB hF (by omega) hn hg hw hT ?_
    intro t1 p1 L1 hg1 hw1 hT1 _
    have hq : gw_cd (fun i => W.getD i 0) 0 i % mm < mm := Nat.mod_lt _ hm0
    have hc := gw_cdS (W := fun i => W.getD i 0) (i := i) (m := mm)
    have hq2 : gw_cd (fun i => W.getD i 0) 0 (i + 1) % mm < mm := Nat.mod_lt _ hm0
    have e1 : (nI (gw_cd (fun i => W.getD i 0) 0 i % mm) * 6 + nI (W.getD i 0)) - (nI (gw_cd (fun i => W.getD i 0) 0 i % mm) * 6 + nI (W.getD i 0)) / nI mm * nI mm = nI (gw_cd (fun i => W.getD i 0) 0 (i + 1) % mm) := by
      have h1 : nI (gw_cd (fun i => W.getD i 0) 0 i % mm) * 6 = nI (gw_cd (fun i => W.getD i 0) 0 i % mm * 6) := pk_mul _ 6
      rw [h1, nI_add, pk_rem (by omega) hm0 (by omega), hc]
    have ek : nI k - 1 = nI (k - 1) := pk_sub (b := 1) hk1
    refine And.intro (nI_ne0 hm0 (by omega)) (nm_r e1 ?_)
    by_cases z : i + 1 < k
    · refine br_t (by rw [ek]; exact nI_lt (by omega) (by omega)) (nm_r (e' := nI (i + 1)) (nI_1 i) ?_)
      have ih' := ih (i + 1) (by omega) L1 t1 p1 sn hg1 hw1 hT1
      rw [show i + 1 + 1 - k = i + 1 - k by omega] at ih'
      exact ih' hs
    · refine br_f (by rw [ek]; exact nI_nlt (by omega) (by omega)) ?_
      have hcode : gw_cd (fun i => W.getD i 0) 0 (i + 1) % mm = gw_cd (fun i => W.getD i 0) (i + 1 - k) k := by
        have := gw_cdR (W := fun i => W.getD i 0) (p := i + 1 - k) (k := k) (fun j hj => hlt _ (by omega))
        rw [show i + 1 - k + k = i + 1 by omega, ← hmm] at this
        exact this
      have cl : (nI (gw_cd (fun i => W.getD i 0) 0 (i + 1) % mm)).toNatClampNeg = gw_cd (fun i => W.getD i 0) 0 (i + 1) % mm := nI_clamp (by omega)
      have vi : vp_in (nI (gw_cd (fun i => W.getD i 0) 0 (i + 1) % mm)) 216 := vp_in_nI (by omega) (by omega)
      have hyn := gw_ynS (fun i => W.getD i 0) k (i + 1 - k)
      rw [← hcode] at hyn
      have ih' := ih (i + 1) (by omega) L1 t1 p1
      rw [show i + 1 + 1 - k = i + 1 - k + 1 by omega, hyn] at ih'
      refine And.intro vi ?_
      by_cases y : gw_yn (fun i => W.getD i 0) k (i + 1 - k) (gw_cd (fun i => W.getD i 0) 0 (i + 1) % mm) = true
      · rw [gw_upT y] at ih'
        refine br_f (by rw [cl, hs _ hq2, if_pos y]; decide) (nm_r (e' := nI (i + 1)) (nI_1 i) ?_)
        exact ih' sn hg1 hw1 hT1 hs
      · have y2 : gw_yn (fun i => W.getD i 0) k (i + 1 - k) (gw_cd (fun i => W.getD i 0) 0 (i + 1) % mm) = false := Bool.eq_false_iff.mpr y
        rw [gw_cnU 216 y2, if_pos (show _ < 216 by omega)] at ih'
        refine br_t (by rw [cl, hs _ hq2, if_neg y]) (And.intro vi (nm_r (e' := upd sn (gw_cd (fun i => W.getD i 0) 0 (i + 1) % mm) 1) (by rw [cl, gw_vb1]) (nm_r (nI_1 _) (nm_r (e' := nI (i + 1)) (nI_1 i) ?_))))
        exact ih' _ hg1 hw1 hT1 (gw_upB hs)
theorem xw_kd53 {post : Int32 → SX → Prop} {R : Nat → List Nat} {F : List Nat} {A : Nat → Nat} {n k mm : Nat} (ok : gw_ok R F A) (hB : gw_B R F A f_firstSize a_ruleSize a_rules a_first a_actions) (hF : xw_F R A a_size a_numbers a_moveX a_moveY a_turn a_leastX a_mostX a_leastY a_mostY a_headLetter a_headRun a_tailLetter a_tailRun a_bestRun) (hn : n < 13) (hL : (gw_G R F n).length ≤ 3000) (hk1 : 1 ≤ k) (hk3 : k ≤ 3) (hmm : mm = 6 ^ k) (hm2 : mm ≤ 216) (hm0 : 0 < mm)
    (K : ∀ (tp pi sn : Nat → Int32), post (nI (gw_cn (gw_yn (fun i => (gw_G R F n).getD i 0) k ((gw_G R F n).length + 1 - k)) 216)) (f_firstSize, f_known, f_patternNumber, f_patternSize, f_penX, f_penY, f_penTurn, f_lowX, f_highX, f_lowY, f_highY, f_frontLetter, f_frontRun, f_backLetter, f_backRun, f_longest, f_total, a_ruleSize, a_rules, a_first, a_actions, a_size, a_numbers, a_moveX, a_moveY, a_turn, a_leastX, a_mostX, a_leastY, a_mostY, a_headLetter, a_headRun, a_tailLetter, a_tailRun, a_bestRun, a_pattern, a_stateAfter, a_formState, a_formHits, tp, pi, sn)) :
    ∀ d i, i + d = mm → ∀ sn : Nat → Int32, (∀ j, j < i → sn j = 0) → wX_kinds_53 post (nI n) (nI k) (nI mm) f_firstSize f_known f_patternNumber f_patternSize f_penX f_penY f_penTurn f_lowX f_highX f_lowY f_highY f_frontLetter f_frontRun f_backLetter f_backRun f_longest f_total (d + 1) (nI i) a_ruleSize a_rules a_first a_actions a_size a_numbers a_moveX a_moveY a_turn a_leastX a_mostX a_leastY a_mostY a_headLetter a_headRun a_tailLetter a_tailRun a_bestRun a_pattern a_stateAfter a_formState a_formHits a_top a_pile sn := by
  intro d
  induction d with
  | zero =>
    intro i hi sn hs
    have e : i = mm := by omega
    subst e
    refine br_t (nI_le (by omega) (by omega)) ?_
    refine xw_begin (r := 0) ok hB hF (by omega) hn ?_
    intro t1 p1 hT1 hw1 _
    refine xw_len ok hB hF hn ?_
    refine ⟨(gw_G R F n).length + 1, ?_⟩
    have h0 : ∀ c, gw_yn (fun i => (gw_G R F n).getD i 0) k (0 + 1 - k) c = false := by
      intro c
      rw [show 0 + 1 - k = 0 by omega]
      rfl
    have hc0 : gw_cn (gw_yn (fun i => (gw_G R F n).getD i 0) k (0 + 1 - k)) 216 = 0 := by
      rw [show 0 + 1 - k = 0 by omega]
      have : ∀ q, gw_cn (gw_yn (fun i => (gw_G R F n).getD i 0) k 0) q = 0 := by
        intro q
        induction q with
        | zero => rfl
        | succ q ih2 => rw [gw_cnS, ih2]; rfl
      exact this 216
    have fin := xw_kd96 (W := gw_G R F n) ok hB hF hn hL (gw_GM ok n) hk1 hk3 hmm hm2 hm0 K (gw_G R F n).length 0 (Nat.zero_add _) (gw_op R n F) t1 p1 sn (by rw [gw_opG]; rfl) hw1 hT1 (fun j hj => by rw [h0 j, hs j hj]; rfl)
    rw [hc0, show gw_cd (fun i => (gw_G R F n).getD i 0) 0 0 % i = 0 from Nat.zero_mod _] at fin
    exact fin
  | succ d ih =>
    intro i hi sn hs
    have ci : (nI i).toNatClampNeg = i := nI_clamp (by omega)
    refine br_f (nI_ge (by omega) (by omega)) (And.intro (vp_in_nI (by omega) (by omega)) (nm_r (e' := upd sn i 0) (by rw [ci, gw_vb0]) (nm_r (e' := nI (i + 1)) (nI_1 i) (ih (i + 1) (by omega) _ ?_))))
    intro j hj
    by_cases z : j = i
    · subst z; rw [pk_us]
    · rw [pk_un z]; exact hs j (by omega)
theorem gw_kc (v : Int32) : (v < 1 ∨ 3 < v) ∨ v = nI 1 ∨ v = nI 2 ∨ v = nI 3 := by
  rcases pk_ix v (n := 4) (by omega) with h | h | ⟨j, hj, e⟩
  · exact Or.inl (Or.inl (Int32.lt_trans h (by decide)))
  · exact Or.inl (Or.inr (Int32.lt_of_lt_of_le (by decide) h))
  · subst e
    rcases gw_t4 hj with rfl | rfl | rfl | rfl
    · exact Or.inl (Or.inl (by decide))
    · exact Or.inr (Or.inl rfl)
    · exact Or.inr (Or.inr (Or.inl rfl))
    · exact Or.inr (Or.inr (Or.inr rfl))
theorem xw_kinds {post : Int32 → SX → Prop} {R : Nat → List Nat} {F : List Nat} {A : Nat → Nat} {v v2 : Int32} (ok : gw_ok R F A) (hI : xw_I R F A (f_firstSize, f_known, f_patternNumber, f_patternSize, f_penX, f_penY, f_penTurn, f_lowX, f_highX, f_lowY, f_highY, f_frontLetter, f_frontRun, f_backLetter, f_backRun, f_longest, f_total, a_ruleSize, a_rules, a_first, a_actions, a_size, a_numbers, a_moveX, a_moveY, a_turn, a_leastX, a_mostX, a_leastY, a_mostY, a_headLetter, a_headRun, a_tailLetter, a_tailRun, a_bestRun, a_pattern, a_stateAfter, a_formState, a_formHits, a_top, a_pile, a_seen))
    (K : ∀ r u, gw_gq R F v (fun n r => gw_kb (gw_G R F n) v2 r) r → xw_I R F A u → post r u) : wpX_kinds post (f_firstSize, f_known, f_patternNumber, f_patternSize, f_penX, f_penY, f_penTurn, f_lowX, f_highX, f_lowY, f_highY, f_frontLetter, f_frontRun, f_backLetter, f_backRun, f_longest, f_total, a_ruleSize, a_rules, a_first, a_actions, a_size, a_numbers, a_moveX, a_moveY, a_turn, a_leastX, a_mostX, a_leastY, a_mostY, a_headLetter, a_headRun, a_tailLetter, a_tailRun, a_bestRun, a_pattern, a_stateAfter, a_formState, a_formHits, a_top, a_pile, a_seen) v v2 := by
  unfold wpX_kinds
  dsimp only
  rcases gw_vc v with hv | ⟨n, hn, rfl⟩
  · exact xw_refA hv (br_f (by decide) (K _ _ (gw_gqA hv) hI))
  · refine xw_refB ok hI hn ?_ ?_
    · intro hrc
      have hL := hrc n (Nat.le_refl n)
      rcases gw_kc v2 with h | rfl | rfl | rfl
      · refine xw_Kel ?_
        intro f_firstSize f_known f_patternNumber f_patternSize f_penX f_penY f_penTurn f_lowX f_highX f_lowY f_highY f_frontLetter f_frontRun f_backLetter f_backRun f_longest f_total a_ruleSize a_rules a_first a_actions a_size a_numbers a_moveX a_moveY a_turn a_leastX a_mostX a_leastY a_mostY a_headLetter a_headRun a_tailLetter a_tailRun a_bestRun a_pattern a_stateAfter a_formState a_formHits a_top a_pile a_seen hK
        refine br_t rfl ?_
        by_cases h1 : v2 < 1
        · exact br_t h1 (K _ _ (gw_gqC hn hrc (Or.inr ⟨h, rfl⟩)) (xw_IK hK))
        · refine br_f h1 (br_f ?_ (K _ _ (gw_gqC hn hrc (Or.inr ⟨h, rfl⟩)) (xw_IK hK)))
          rcases h with z | z
          · exact absurd z h1
          · exact Int32.not_le.mpr z
      · refine xw_Kel ?_
        intro f_firstSize f_known f_patternNumber f_patternSize f_penX f_penY f_penTurn f_lowX f_highX f_lowY f_highY f_frontLetter f_frontRun f_backLetter f_backRun f_longest f_total a_ruleSize a_rules a_first a_actions a_size a_numbers a_moveX a_moveY a_turn a_leastX a_mostX a_leastY a_mostY a_headLetter a_headRun a_tailLetter a_tailRun a_bestRun a_pattern a_stateAfter a_formState a_formHits a_top a_pile a_seen hK
        refine br_t rfl (br_f (by decide) (br_t (by decide) (br_t (by decide) ⟨7, ?_⟩)))
        refine xw_kd53 (k := 1) (mm := 6) ok hK.1 hK.2.1 hn hL (by omega) (by omega) (by decide) (by omega) (by omega) ?_ 6 0 rfl a_seen (fun j hj => absurd hj (Nat.not_lt_zero j))
        intro tp pi sn
        exact K _ _ (gw_gqC hn hrc (Or.inl ⟨1, by omega, by omega, rfl, rfl⟩)) (xw_IK hK)
      · refine xw_Kel ?_
        intro f_firstSize f_known f_patternNumber f_patternSize f_penX f_penY f_penTurn f_lowX f_highX f_lowY f_highY f_frontLetter f_frontRun f_backLetter f_backRun f_longest f_total a_ruleSize a_rules a_first a_actions a_size a_numbers a_moveX a_moveY a_turn a_leastX a_mostX a_leastY a_mostY a_headLetter a_headRun a_tailLetter a_tailRun a_bestRun a_pattern a_stateAfter a_formState a_formHits a_top a_pile a_seen hK
        refine br_t rfl (br_f (by decide) (br_t (by decide) (br_f (by decide) (br_t (by decide) ⟨37, ?_⟩))))
        refine xw_kd53 (k := 2) (mm := 36) ok hK.1 hK.2.1 hn hL (by omega) (by omega) (by decide) (by omega) (by omega) ?_ 36 0 rfl a_seen (fun j hj => absurd hj (Nat.not_lt_zero j))
        intro tp pi sn
        exact K _ _ (gw_gqC hn hrc (Or.inl ⟨2, by omega, by omega, rfl, rfl⟩)) (xw_IK hK)
      · refine xw_Kel ?_
        intro f_firstSize f_known f_patternNumber f_patternSize f_penX f_penY f_penTurn f_lowX f_highX f_lowY f_highY f_frontLetter f_frontRun f_backLetter f_backRun f_longest f_total a_ruleSize a_rules a_first a_actions a_size a_numbers a_moveX a_moveY a_turn a_leastX a_mostX a_leastY a_mostY a_headLetter a_headRun a_tailLetter a_tailRun a_bestRun a_pattern a_stateAfter a_formState a_formHits a_top a_pile a_seen hK
        refine br_t rfl (br_f (by decide) (br_t (by decide) (br_f (by decide) (br_f (by decide) ⟨217, ?_⟩))))
        refine xw_kd53 (k := 3) (mm := 216) ok hK.1 hK.2.1 hn hL (by omega) (by omega) (by decide) (by omega) (by omega) ?_ 216 0 rfl a_seen (fun j hj => absurd hj (Nat.not_lt_zero j))
        intro tp pi sn
        exact K _ _ (gw_gqC hn hrc (Or.inl ⟨3, by omega, by omega, rfl, rfl⟩)) (xw_IK hK)
    · intro hrc
      refine xw_Kel ?_
      intro f_firstSize f_known f_patternNumber f_patternSize f_penX f_penY f_penTurn f_lowX f_highX f_lowY f_highY f_frontLetter f_frontRun f_backLetter f_backRun f_longest f_total a_ruleSize a_rules a_first a_actions a_size a_numbers a_moveX a_moveY a_turn a_leastX a_mostX a_leastY a_mostY a_headLetter a_headRun a_tailLetter a_tailRun a_bestRun a_pattern a_stateAfter a_formState a_formHits a_top a_pile a_seen hK
      exact br_f (by decide) (K _ _ (gw_gqB hn hrc) (xw_IK hK))
end
end
section
/-! two readers side by side -/
def gw_gc (R : Nat → List Nat) (F : List Nat) (v1 v2 r : Int32) : Prop :=
  (((v1 < 0 ∨ 13 ≤ v1) ∨ (v2 < 0 ∨ 13 ≤ v2)) ∧ r = -1) ∨
  ∃ n m, n < 13 ∧ m < 13 ∧ v1 = nI n ∧ v2 = nI m ∧ (((¬ gw_rc R F n ∨ ¬ gw_rc R F m) ∧ r = -2) ∨ (gw_rc R F n ∧ gw_rc R F m ∧ r = nI (gw_lc (gw_G R F n) (gw_G R F m))))
theorem gw_gcU {R : Nat → List Nat} {F : List Nat} {v1 v2 r r' : Int32} (h : gw_gc R F v1 v2 r) (h' : gw_gc R F v1 v2 r') : r' = r := by
  have bad : ∀ n m, n < 13 → m < 13 → v1 = nI n → v2 = nI m → ((v1 < 0 ∨ 13 ≤ v1) ∨ (v2 < 0 ∨ 13 ≤ v2)) → False := by
    intro n m hn hm e1 e2 z
    rcases z with z | z
    · exact gw_bad (N := 13) (by omega) z hn e1
    · exact gw_bad (N := 13) (by omega) z hm e2
  rcases h with ⟨h1, e⟩ | ⟨n, m, hn, hm, e1, e2, h⟩
  · rcases h' with ⟨h1', e'⟩ | ⟨n', m', hn', hm', e1', e2', h'⟩
    · rw [e, e']
    · exact absurd (bad n' m' hn' hm' e1' e2' h1) id
  · rcases h' with ⟨h1', e'⟩ | ⟨n', m', hn', hm', e1', e2', h'⟩
    · exact absurd (bad n m hn hm e1 e2 h1') id
    · have a1 : n' = n := (nI_eq (by omega) (by omega)).mp (e1'.symm.trans e1)
      have a2 : m' = m := (nI_eq (by omega) (by omega)).mp (e2'.symm.trans e2)
      subst a1 a2
      rcases h with ⟨h, e⟩ | ⟨h3, h4, e⟩ <;> rcases h' with ⟨h', e'⟩ | ⟨h3', h4', e'⟩
      · rw [e, e']
      · rcases h with z | z
        · exact absurd h3' z
        · exact absurd h4' z
      · rcases h' with z | z
        · exact absurd h3 z
        · exact absurd h4 z
      · rw [e, e']
section
variable {f_firstSize f_known f_patternNumber f_patternSize f_penX f_penY f_penTurn f_lowX f_highX f_lowY f_highY f_frontLetter f_frontRun f_backLetter f_backRun f_longest f_total : Int32} {a_ruleSize a_rules a_first a_actions a_size a_numbers a_moveX a_moveY a_turn a_leastX a_mostX a_leastY a_mostY a_headLetter a_headRun a_tailLetter a_tailRun a_bestRun a_pattern a_stateAfter a_formState a_formHits a_top a_pile a_seen : Nat → Int32}
theorem xw_cm191 {post : Int32 → SX → Prop} {J : Int32 → Int32 → Int32 → Int32 → Int32 → Int32 → Int32 → Int32 → Int32 → Int32 → Int32 → Int32 → Int32 → Int32 → Int32 → Int32 → Int32 → Int32 → Int32 → Int32 → Int32 → (Nat → Int32) → (Nat → Int32) → (Nat → Int32) → (Nat → Int32) → (Nat → Int32) → (Nat → Int32) → (Nat → Int32) → (Nat → Int32) → (Nat → Int32) → (Nat → Int32) → (Nat → Int32) → (Nat → Int32) → (Nat → Int32) → (Nat → Int32) → (Nat → Int32) → (Nat → Int32) → (Nat → Int32) → (Nat → Int32) → (Nat → Int32) → (Nat → Int32) → (Nat → Int32) → (Nat → Int32) → (Nat → Int32) → (Nat → Int32) → (Nat → Int32) → Prop} {i : Nat} {s : Int32} {L M : List (Nat × Nat)}
    (hL : L.length ≤ 64) (hM : M.length ≤ 64) (h0 : xw_T 0 L a_top a_pile) (h1 : xw_T 1 M a_top a_pile) (h : J s (xw_hd L) (xw_hd M) (nI (i + 1)) f_firstSize f_known f_patternNumber f_patternSize f_penX f_penY f_penTurn f_lowX f_highX f_lowY f_highY f_frontLetter f_frontRun f_backLetter f_backRun f_longest f_total a_ruleSize a_rules a_first a_actions a_size a_numbers a_moveX a_moveY a_turn a_leastX a_mostX a_leastY a_mostY a_headLetter a_headRun a_tailLetter a_tailRun a_bestRun a_pattern a_stateAfter a_formState a_formHits a_top a_pile a_seen) : wX_common_191 post J s (nI i) f_firstSize f_known f_patternNumber f_patternSize f_penX f_penY f_penTurn f_lowX f_highX f_lowY f_highY f_frontLetter f_frontRun f_backLetter f_backRun f_longest f_total a_ruleSize a_rules a_first a_actions a_size a_numbers a_moveX a_moveY a_turn a_leastX a_mostX a_leastY a_mostY a_headLetter a_headRun a_tailLetter a_tailRun a_bestRun a_pattern a_stateAfter a_formState a_formHits a_top a_pile a_seen := by
  refine xw_next (r := 0) (by omega) hL h0 ?_
  refine xw_next (r := 1) (by omega) hM h1 ?_
  exact nm_r (e' := nI (i + 1)) (nI_1 i) h
theorem xw_cm79 {post : Int32 → SX → Prop} {R : Nat → List Nat} {F : List Nat} {A : Nat → Nat} {n1 n2 T : Nat} (ok : gw_ok R F A) (hB : gw_B R F A f_firstSize a_ruleSize a_rules a_first a_actions) (hF : xw_F R A a_size a_numbers a_moveX a_moveY a_turn a_leastX a_mostX a_leastY a_mostY a_headLetter a_headRun a_tailLetter a_tailRun a_bestRun) (hn1 : n1 < 13) (hn2 : n2 < 13)
    (K : ∀ (tp pi : Nat → Int32), post (nI T) (f_firstSize, f_known, f_patternNumber, f_patternSize, f_penX, f_penY, f_penTurn, f_lowX, f_highX, f_lowY, f_highY, f_frontLetter, f_frontRun, f_backLetter, f_backRun, f_longest, f_total, a_ruleSize, a_rules, a_first, a_actions, a_size, a_numbers, a_moveX, a_moveY, a_turn, a_leastX, a_mostX, a_leastY, a_mostY, a_headLetter, a_headRun, a_tailLetter, a_tailRun, a_bestRun, a_pattern, a_stateAfter, a_formState, a_formHits, tp, pi, a_seen)) :
    ∀ (m i s : Nat) (L M : List (Nat × Nat)) (tp pi : Nat → Int32), i + m < 400000 → gw_mu R L + gw_mu R M ≤ m → s + gw_lc (gw_gf R L) (gw_gf R M) = T → gw_wf R n1 L → gw_wf R n2 M → xw_T 0 L tp pi → xw_T 1 M tp pi → wX_common_79 post (m + 1) (nI s) (xw_hd L) (xw_hd M) (nI i) f_firstSize f_known f_patternNumber f_patternSize f_penX f_penY f_penTurn f_lowX f_highX f_lowY f_highY f_frontLetter f_frontRun f_backLetter f_backRun f_longest f_total a_ruleSize a_rules a_first a_actions a_size a_numbers a_moveX a_moveY a_turn a_leastX a_mostX a_leastY a_mostY a_headLetter a_headRun a_tailLetter a_tailRun a_bestRun a_pattern a_stateAfter a_formState a_formHits tp pi a_seen := by
  intro m
  induction m using Nat.strongRecOn with
  | ind m ih =>
    intro i s L M tp pi hi hm hs hwL hwM hTL hTM
    refine br_f (nI_ge (a := i) (b := 400000) (by omega) (by omega)) ?_
    cases L with
    | nil =>
      have e : s = T := by
        rw [show gw_gf R [] = [] from rfl, gw_lcN] at hs
        omega
      subst e
      exact br_t gw_m1 (K tp pi)
    | cons f L =>
      obtain ⟨c, l⟩ := f
      have hc : c < 6 := hwL.1.1
      have hl : l ≤ n1 := hwL.1.2.1
      have hp : 0 < (gw_ex R l c).length := hwL.1.2.2.1
      have hLL := gw_wfL hwL
      rw [List.length_cons] at hLL
      refine br_f (nI_pos (n := 13 * c + l) (by omega)) ?_
      cases M with
      | nil =>
        have e : s = T := by
          rw [show gw_gf R [] = [] from rfl, gw_lcM] at hs
          omega
        subst e
        exact br_t gw_m1 (K tp pi)
      | cons g M =>
        obtain ⟨d, k⟩ := g
        have hd : d < 6 := hwM.1.1
        have hk : k ≤ n2 := hwM.1.2.1
        have hq : 0 < (gw_ex R k d).length := hwM.1.2.2.1
        have hMM := gw_wfL hwM
        rw [List.length_cons] at hMM
        have hmu1 : gw_mu R ((c, l) :: L) = (gw_ex R l c).length * (l + 1) + gw_mu R L := rfl
        have hmu2 : gw_mu R ((d, k) :: M) = (gw_ex R k d).length * (k + 1) + gw_mu R M := rfl
        have hge1 : 1 ≤ (gw_ex R l c).length * (l + 1) := Nat.mul_pos hp (Nat.succ_pos l)
        have hge2 : 1 ≤ (gw_ex R k d).length * (k + 1) := Nat.mul_pos hq (Nat.succ_pos k)
        obtain ⟨m', rfl⟩ : ∃ m', m = m' + 1 := ⟨m - 1, by omega⟩
        have step : ∀ (s' : Nat) (L' M' : List (Nat × Nat)) (tp' pi' : Nat → Int32), gw_mu R L' + gw_mu R M' < gw_mu R ((c, l) :: L) + gw_mu R ((d, k) :: M) → s' + gw_lc (gw_gf R L') (gw_gf R M') = T → gw_wf R n1 L' → gw_wf R n2 M' → xw_T 0 L' tp' pi' → xw_T 1 M' tp' pi' → wX_common_191 post (wX_common_79 post (m' + 1)) (nI s') (nI i) f_firstSize f_known f_patternNumber f_patternSize f_penX f_penY f_penTurn f_lowX f_highX f_lowY f_highY f_frontLetter f_frontRun f_backLetter f_backRun f_longest f_total a_ruleSize a_rules a_first a_actions a_size a_numbers a_moveX a_moveY a_turn a_leastX a_mostX a_leastY a_mostY a_headLetter a_headRun a_tailLetter a_tailRun a_bestRun a_pattern a_stateAfter a_formState a_formHits tp' pi' a_seen := by
          intro s' L' M' tp' pi' h1 h2 h3 h4 h5 h6
          have a1 := gw_wfL h3
          have a2 := gw_wfL h4
          exact xw_cm191 (by omega) (by omega) h5 h6 (ih m' (by omega) (i + 1) s' L' M' tp' pi' (by omega) (by omega) h2 h3 h4 h5 h6)
        have cf : (nI (13 * c + l)).toNatClampNeg = 13 * c + l := nI_clamp (by omega)
        have hz := (hF c hc l (by omega)).1
        refine br_f (nI_pos (n := 13 * d + k) (by omega)) ?_
        by_cases q : c = d ∧ l = k
        · obtain ⟨rfl, rfl⟩ := q
          refine br_t rfl (And.intro (vp_in_nI (n := 13 * c + l) (by omega) (by omega)) (nm_r (e' := nI (s + (gw_ex R l c).length)) ?_ (nm_r (e' := upd tp 0 (tp 0 - 1)) rfl (nm_r (e' := upd (upd tp 0 (tp 0 - 1)) 1 ((upd tp 0 (tp 0 - 1)) 1 - 1)) rfl ?_))))
          · show nI s + a_size (nI (13 * c + l)).toNatClampNeg = _
            rw [cf, hz, nI_add]
          · refine step _ L M _ pi (by rw [hmu1, hmu2]; omega) ?_ hwL.2 hwM.2 ?_ ?_
            · rw [← hs, gw_gfC, gw_gfC, gw_lcA]
              dsimp only
              omega
            · exact xw_popF (r := 1) 0 L (by omega) (by omega) (by omega) (xw_pop hTL)
            · exact xw_pop (xw_popF (r := 0) 1 ((c, l) :: M) (by omega) (by omega) (by rw [List.length_cons]; omega) hTM)
        · have hne : ¬ nI (13 * c + l) = nI (13 * d + k) := by
            rw [nI_eq (by omega) (by omega)]
            omega
          refine br_f hne ?_
          have opn : ¬ (l = 0 ∧ k = 0) → wX_common_157 post (wX_common_79 post (m' + 1)) (nI s) (nI (13 * c + l)) (nI (13 * d + k)) (nI i) f_firstSize f_known f_patternNumber f_patternSize f_penX f_penY f_penTurn f_lowX f_highX f_lowY f_highY f_frontLetter f_frontRun f_backLetter f_backRun f_longest f_total a_ruleSize a_rules a_first a_actions a_size a_numbers a_moveX a_moveY a_turn a_leastX a_mostX a_leastY a_mostY a_headLetter a_headRun a_tailLetter a_tailRun a_bestRun a_pattern a_stateAfter a_formState a_formHits tp pi a_seen := by
            intro hlk
            refine xw_level hc (by omega) ?_
            refine xw_level hd (by omega) ?_
            by_cases y : l < k
            · refine br_t (nI_lt y (by omega)) ?_
              refine br_t rfl ?_
              cases k with
              | zero => omega
              | succ k =>
                refine xw_open (r := 1) ok hB hF (by omega) hn2 hwM hTM ?_
                intro tp' pi' hT' hw' hFr'
                refine step s ((c, l) :: L) _ tp' pi' ?_ ?_ hwL hw' (hFr' 0 _ (by omega) (by omega) (by rw [List.length_cons]; omega) hTL) hT'
                · have := gw_muS (R := R) (c := d) (l := k) (L := M) hq
                  omega
                · rw [← hs, gw_gfA, gw_opG, ← gw_exS, gw_gfC R (d, k + 1)]
            · refine br_f (nI_nlt (by omega) (by omega)) ?_
              refine br_f (by decide) ?_
              cases l with
              | zero => omega
              | succ l =>
                refine xw_open (r := 0) ok hB hF (by omega) hn1 hwL hTL ?_
                intro tp' pi' hT' hw' hFr'
                refine step s _ ((d, k) :: M) tp' pi' ?_ ?_ hw' hwM hT' (hFr' 1 _ (by omega) (by omega) (by rw [List.length_cons]; omega) hTM)
                · have := gw_muS (R := R) (c := c) (l := l) (L := L) hp
                  omega
                · rw [← hs, gw_gfA, gw_opG, ← gw_exS, gw_gfC R (c, l + 1)]
          refine xw_level hc (by omega) ?_
          by_cases y : l = 0
          · refine br_t (by rw [y]; rfl) ?_
            refine xw_level hd (by omega) ?_
            by_cases z : k = 0
            · refine br_t (by rw [z]; rfl) ?_
              have e : s = T := by
                rw [gw_gfC, gw_gfC] at hs
                subst y z
                have hs2 : s + gw_lc (c :: gw_gf R L) (d :: gw_gf R M) = T := hs
                rw [gw_lcD _ _ (by omega)] at hs2
                omega
              subst e
              exact K tp pi
            · exact br_f (nI_ne0 (by omega) (by omega)) (opn (by omega))
          · exact br_f (nI_ne0 (by omega) (by omega)) (opn (by omega))
theorem xw_common {post : Int32 → SX → Prop} {R : Nat → List Nat} {F : List Nat} {A : Nat → Nat} {v1 v2 : Int32} (ok : gw_ok R F A) (hI : xw_I R F A (f_firstSize, f_known, f_patternNumber, f_patternSize, f_penX, f_penY, f_penTurn, f_lowX, f_highX, f_lowY, f_highY, f_frontLetter, f_frontRun, f_backLetter, f_backRun, f_longest, f_total, a_ruleSize, a_rules, a_first, a_actions, a_size, a_numbers, a_moveX, a_moveY, a_turn, a_leastX, a_mostX, a_leastY, a_mostY, a_headLetter, a_headRun, a_tailLetter, a_tailRun, a_bestRun, a_pattern, a_stateAfter, a_formState, a_formHits, a_top, a_pile, a_seen))
    (K : ∀ r u, gw_gc R F v1 v2 r → xw_I R F A u → post r u) : wpX_common post (f_firstSize, f_known, f_patternNumber, f_patternSize, f_penX, f_penY, f_penTurn, f_lowX, f_highX, f_lowY, f_highY, f_frontLetter, f_frontRun, f_backLetter, f_backRun, f_longest, f_total, a_ruleSize, a_rules, a_first, a_actions, a_size, a_numbers, a_moveX, a_moveY, a_turn, a_leastX, a_mostX, a_leastY, a_mostY, a_headLetter, a_headRun, a_tailLetter, a_tailRun, a_bestRun, a_pattern, a_stateAfter, a_formState, a_formHits, a_top, a_pile, a_seen) v1 v2 := by
  unfold wpX_common
  dsimp only
  by_cases a1 : v1 < 0
  · exact br_t a1 (K _ _ (Or.inl ⟨Or.inl (Or.inl a1), rfl⟩) hI)
  refine br_f a1 ?_
  by_cases a2 : 13 ≤ v1
  · exact br_t a2 (K _ _ (Or.inl ⟨Or.inl (Or.inr a2), rfl⟩) hI)
  refine br_f a2 ?_
  by_cases b1 : v2 < 0
  · exact br_t b1 (K _ _ (Or.inl ⟨Or.inr (Or.inl b1), rfl⟩) hI)
  refine br_f b1 ?_
  by_cases b2 : 13 ≤ v2
  · exact br_f (Int32.not_lt.mpr b2) (K _ _ (Or.inl ⟨Or.inr (Or.inr b2), rfl⟩) hI)
  refine br_t (Int32.not_le.mp b2) ?_
  obtain ⟨n, hn, rfl⟩ : ∃ n, n < 13 ∧ v1 = nI n := by
    rcases gw_vc v1 with z | z
    · rcases z with z | z
      · exact absurd z a1
      · exact absurd z a2
    · exact z
  obtain ⟨m, hm, rfl⟩ : ∃ n, n < 13 ∧ v2 = nI n := by
    rcases gw_vc v2 with z | z
    · rcases z with z | z
      · exact absurd z b1
      · exact absurd z b2
    · exact z
  refine xw_refB ok hI hn ?_ ?_
  · intro hrn
    refine xw_Kel ?_
    intro f_firstSize f_known f_patternNumber f_patternSize f_penX f_penY f_penTurn f_lowX f_highX f_lowY f_highY f_frontLetter f_frontRun f_backLetter f_backRun f_longest f_total a_ruleSize a_rules a_first a_actions a_size a_numbers a_moveX a_moveY a_turn a_leastX a_mostX a_leastY a_mostY a_headLetter a_headRun a_tailLetter a_tailRun a_bestRun a_pattern a_stateAfter a_formState a_formHits a_top a_pile a_seen hK
    refine xw_refB ok (xw_IK hK) hm ?_ ?_
    · intro hrm
      refine xw_Kel ?_
      intro f_firstSize f_known f_patternNumber f_patternSize f_penX f_penY f_penTurn f_lowX f_highX f_lowY f_highY f_frontLetter f_frontRun f_backLetter f_backRun f_longest f_total a_ruleSize a_rules a_first a_actions a_size a_numbers a_moveX a_moveY a_turn a_leastX a_mostX a_leastY a_mostY a_headLetter a_headRun a_tailLetter a_tailRun a_bestRun a_pattern a_stateAfter a_formState a_formHits a_top a_pile a_seen hK
      refine br_t rfl (br_t rfl ?_)
      refine xw_begin (r := 0) ok hK.1 hK.2.1 (by omega) hn ?_
      intro t1 p1 hT1 hw1 _
      refine xw_begin (r := 1) ok hK.1 hK.2.1 (by omega) hm ?_
      intro t2 p2 hT2 hw2 hFr2
      have hL1 := gw_wfL hw1
      have hL2 := gw_wfL hw2
      have hT1' := hFr2 0 _ (by omega) (by omega) (by omega) hT1
      refine xw_next (r := 0) (by omega) (by omega) hT1' ?_
      refine xw_next (r := 1) (by omega) (by omega) hT2 ?_
      refine ⟨80001, ?_⟩
      refine xw_cm79 (T := gw_lc (gw_G R F n) (gw_G R F m)) ok hK.1 hK.2.1 hn hm ?_ 80000 0 0 _ _ t2 p2 (by omega) ?_ ?_ hw1 hw2 hT1' hT2
      · intro tp pi
        exact K _ _ (Or.inr ⟨n, m, hn, hm, rfl, rfl, Or.inr ⟨hrn, hrm, rfl⟩⟩) (xw_IK hK)
      · rw [gw_muO, gw_muO]
        have h1 := hrn n (Nat.le_refl n)
        have h2 := hrm m (Nat.le_refl m)
        have h3 : (gw_G R F n).length * (n + 1) ≤ 3000 * 13 := Nat.mul_le_mul h1 (by omega)
        have h4 : (gw_G R F m).length * (m + 1) ≤ 3000 * 13 := Nat.mul_le_mul h2 (by omega)
        unfold gw_G at h3 h4
        omega
      · rw [Nat.zero_add, gw_opG, gw_opG]
        rfl
    · intro hrm
      refine xw_Kel ?_
      intro f_firstSize f_known f_patternNumber f_patternSize f_penX f_penY f_penTurn f_lowX f_highX f_lowY f_highY f_frontLetter f_frontRun f_backLetter f_backRun f_longest f_total a_ruleSize a_rules a_first a_actions a_size a_numbers a_moveX a_moveY a_turn a_leastX a_mostX a_leastY a_mostY a_headLetter a_headRun a_tailLetter a_tailRun a_bestRun a_pattern a_stateAfter a_formState a_formHits a_top a_pile a_seen hK
      exact br_t rfl (br_f (by decide) (K _ _ (Or.inr ⟨n, m, hn, hm, rfl, rfl, Or.inl ⟨Or.inr hrm, rfl⟩⟩) (xw_IK hK)))
  · intro hrn
    refine xw_Kel ?_
    intro f_firstSize f_known f_patternNumber f_patternSize f_penX f_penY f_penTurn f_lowX f_highX f_lowY f_highY f_frontLetter f_frontRun f_backLetter f_backRun f_longest f_total a_ruleSize a_rules a_first a_actions a_size a_numbers a_moveX a_moveY a_turn a_leastX a_mostX a_leastY a_mostY a_headLetter a_headRun a_tailLetter a_tailRun a_bestRun a_pattern a_stateAfter a_formState a_formHits a_top a_pile a_seen hK
    refine xw_refB ok (xw_IK hK) hm ?_ ?_
    · intro hrm
      refine xw_Kel ?_
      intro f_firstSize f_known f_patternNumber f_patternSize f_penX f_penY f_penTurn f_lowX f_highX f_lowY f_highY f_frontLetter f_frontRun f_backLetter f_backRun f_longest f_total a_ruleSize a_rules a_first a_actions a_size a_numbers a_moveX a_moveY a_turn a_leastX a_mostX a_leastY a_mostY a_headLetter a_headRun a_tailLetter a_tailRun a_bestRun a_pattern a_stateAfter a_formState a_formHits a_top a_pile a_seen hK
      exact br_f (by decide) (K _ _ (Or.inr ⟨n, m, hn, hm, rfl, rfl, Or.inl ⟨Or.inl hrn, rfl⟩⟩) (xw_IK hK))
    · intro hrm
      refine xw_Kel ?_
      intro f_firstSize f_known f_patternNumber f_patternSize f_penX f_penY f_penTurn f_lowX f_highX f_lowY f_highY f_frontLetter f_frontRun f_backLetter f_backRun f_longest f_total a_ruleSize a_rules a_first a_actions a_size a_numbers a_moveX a_moveY a_turn a_leastX a_mostX a_leastY a_mostY a_headLetter a_headRun a_tailLetter a_tailRun a_bestRun a_pattern a_stateAfter a_formState a_formHits a_top a_pile a_seen hK
      exact br_f (by decide) (K _ _ (Or.inr ⟨n, m, hn, hm, rfl, rfl, Or.inl ⟨Or.inl hrn, rfl⟩⟩) (xw_IK hK))
end
end
section
/-! numbers of words -/
def gw_dv (k : Nat) (x : Int32) : Option (List Nat) := if x < 0 then none else gw_de k x.toNatClampNeg
theorem gw_dvN {k : Nat} {x : Int32} (h : x < 0) : gw_dv k x = none := if_pos h
theorem gw_dvI {k v : Nat} (h : v < 2 ^ 31) : gw_dv k (nI v) = gw_de k v := by
  unfold gw_dv
  rw [if_neg (nI_pos h), nI_clamp h]
theorem gw_dvV {k : Nat} {x : Int32} {w : List Nat} (h : gw_dv k x = some w) : ∃ v, v < 2 ^ 31 ∧ x = nI v ∧ gw_de k v = some w := by
  rcases gw_cm x with ⟨h1, e⟩ | ⟨h1, h2, e⟩
  · rw [gw_dvN h1] at h; cases h
  · refine ⟨_, h2, e, ?_⟩
    unfold gw_dv at h
    rw [if_neg h1] at h
    exact h
theorem gw_r7 {v : Nat} (hv : v < 2 ^ 31) : nI v - nI v / 7 * 7 = nI (v % 7) := pk_rem (d := 7) hv (by omega) (by omega)
theorem gw_d7 {v : Nat} (hv : v < 2 ^ 31) : nI v / 7 = nI (v / 7) := pk_div (d := 7) hv (by omega) (by omega)
theorem gw_n7 : ¬ (7 : Int32) = 0 := by decide
theorem xw_sz4 {post : Int32 → Prop} {most : Nat} (hm : most ≤ 8) : ∀ k j v, j + k = most → v < 2 ^ 31 → (∀ w, gw_de k v = some w → post (nI (j + w.length))) → (gw_de k v = none → post (-1)) → wX_sizeOf_4 post (nI most) (k + 2) (nI v) (nI j) := by
  intro k
  induction k with
  | zero =>
    intro j v hj hv h1 h2
    by_cases z : v = 0
    · subst z
      refine br_t (by decide) (br_t rfl (br_f (nI_nlt (by omega) (by omega)) ?_))
      exact h1 [] rfl
    · have hn : gw_de 0 v = none := by show (if v = 0 then _ else _) = _; rw [if_neg z]
      refine br_f (nI_nle (by omega) hv) (br_f (nI_nlt (by omega) (by omega)) (And.intro gw_n7 ?_))
      by_cases y : v % 7 = 0
      · exact br_t (by rw [gw_r7 hv, y]; rfl) (h2 hn)
      · refine br_f (by rw [gw_r7 hv]; exact nI_ne0 (by omega) (by omega)) (And.intro gw_n7 (nm_r (gw_d7 hv) (nm_r (e' := nI (j + 1)) (nI_1 j) ?_)))
        by_cases x : v / 7 = 0
        · refine br_t (by rw [x]; decide) (br_t (by rw [x]; rfl) (br_t (nI_lt (by omega) (by omega)) (h2 hn)))
        · refine br_f (nI_nle (by omega) (by omega)) (br_t (nI_lt (by omega) (by omega)) (br_f (nI_ne0 (by omega) (by omega)) (h2 hn)))
  | succ k ih =>
    intro j v hj hv h1 h2
    by_cases z : v = 0
    · subst z
      refine br_t (by decide) (br_t rfl (br_f (nI_nlt (by omega) (by omega)) ?_))
      exact h1 [] (gw_deZ _)
    · rw [gw_deS z] at h1 h2
      refine br_f (nI_nle (by omega) hv) (br_f (nI_nlt (by omega) (by omega)) (And.intro gw_n7 ?_))
      by_cases y : v % 7 = 0
      · rw [if_pos y] at h2
        exact br_t (by rw [gw_r7 hv, y]; rfl) (h2 rfl)
      · rw [if_neg y] at h1 h2
        refine br_f (by rw [gw_r7 hv]; exact nI_ne0 (by omega) (by omega)) (And.intro gw_n7 (nm_r (gw_d7 hv) (nm_r (e' := nI (j + 1)) (nI_1 j) ?_)))
        refine ih (j + 1) (v / 7) (by omega) (by omega) ?_ ?_
        · intro w hw
          have := h1 ((v % 7 - 1) :: w) (by rw [hw]; rfl)
          rw [List.length_cons] at this
          rw [show j + 1 + w.length = j + (w.length + 1) by omega]
          exact this
        · intro hw
          exact h2 (by rw [hw]; rfl)
theorem xw_size {post : Int32 → Prop} {most : Nat} {v : Int32} (hm : most ≤ 8) (h1 : ∀ w, gw_dv most v = some w → post (nI w.length)) (h2 : gw_dv most v = none → post (-1)) : wpX_sizeOf post v (nI most) := by
  rcases gw_cm v with ⟨h, e⟩ | ⟨h, h5, e⟩
  · refine ⟨1, br_t (Int32.le_of_lt h) (br_f ?_ (h2 (gw_dvN h)))⟩
    intro z
    rw [z] at h
    exact absurd h (by decide)
  · generalize v.toNatClampNeg = j at h5 e
    subst e
    rw [gw_dvI h5] at h1 h2
    exact ⟨most + 2, xw_sz4 hm most 0 j (Nat.zero_add _) h5 (fun w hw => by rw [Nat.zero_add]; exact h1 w hw) h2⟩
theorem xw_isPat {post : Int32 → Prop} {v : Int32} (h1 : ∀ w, gw_dv 4 v = some w → 1 ≤ w.length → post 1) (h2 : (gw_dv 4 v = none ∨ gw_dv 4 v = some []) → post 0) : wpX_isPattern post v := by
  refine xw_size (most := 4) (by omega) ?_ ?_
  · intro w hw
    cases w with
    | nil => exact br_t (by decide) (h2 (Or.inr hw))
    | cons d w =>
      have hl := (gw_deP (k := 4) (v := v.toNatClampNeg) (w := d :: w) (by
        obtain ⟨x, hx, e, hx2⟩ := gw_dvV hw
        rw [e, nI_clamp hx]
        exact hx2)).1
      exact br_f (nI_nlt (b := 1) (by rw [List.length_cons]; omega) (by omega)) (h1 _ hw (by rw [List.length_cons]; omega))
  · intro hw
    exact br_t (by decide) (h2 (Or.inl hw))
section
variable {f_firstSize f_known f_patternNumber f_patternSize f_penX f_penY f_penTurn f_lowX f_highX f_lowY f_highY f_frontLetter f_frontRun f_backLetter f_backRun f_longest f_total : Int32} {a_ruleSize a_rules a_first a_actions a_size a_numbers a_moveX a_moveY a_turn a_leastX a_mostX a_leastY a_mostY a_headLetter a_headRun a_tailLetter a_tailRun a_bestRun a_pattern a_stateAfter a_formState a_formHits a_top a_pile a_seen : Nat → Int32}
/-! the search's states -/
theorem xw_al30 {post : Int32 → Prop} {J : Int32 → Prop} {P : List Nat} {q s c : Nat} (hq : q ≤ s) (hs : s < P.length) (hP4 : P.length ≤ 4) (hP : gw_hl a_pattern P) (hPl : ∀ d, d ∈ P → d < 6)
    (Kt : gw_ga P s c (q + 1) = true → post (nI (q + 1))) (Kf : gw_ga P s c (q + 1) = false → J (nI q)) :
    ∀ d i, i + d = q → ∀ x4 : Int32, ((x4 = 1 ∧ P.getD q 0 = c ∧ ∀ e, e < i → P.getD e 0 = P.getD (s + 1 - (q + 1) + e) 0) ∨ (x4 = 0 ∧ gw_ga P s c (q + 1) = false)) → wX_afterLetter_30 post J (nI s) (nI c) (nI (q + 1)) f_firstSize f_known f_patternNumber f_patternSize f_penX f_penY f_penTurn f_lowX f_highX f_lowY f_highY f_frontLetter f_frontRun f_backLetter f_backRun f_longest f_total a_ruleSize a_rules a_first a_actions a_size a_numbers a_moveX a_moveY a_turn a_leastX a_mostX a_leastY a_mostY a_headLetter a_headRun a_tailLetter a_tailRun a_bestRun a_pattern a_stateAfter a_formState a_formHits a_top a_pile a_seen (d + 1) x4 (nI i) := by
  have eq1 : nI (q + 1) - 1 = nI q := nI_pred q
  intro d
  induction d with
  | zero =>
    intro i hi x4 hx
    have e : i = q := by omega
    subst e
    refine br_t (by rw [eq1]; exact nI_le (by omega) (by omega)) ?_
    rcases hx with ⟨hx, h1, h2⟩ | ⟨hx, h1⟩
    · refine br_f (by rw [hx]; decide) (Kt ?_)
      unfold gw_ga
      rw [decide_eq_true_eq, show i + 1 - 1 = i by omega]
      exact ⟨h1, h2⟩
    · exact br_t hx (nm_r (e' := nI i) (pk_m1 i) (Kf h1))
  | succ d ih =>
    intro i hi x4 hx
    refine br_f (by rw [eq1]; exact nI_ge (by omega) (by omega)) ?_
    rcases hx with ⟨hx, h1, h2⟩ | ⟨hx, h1⟩
    · have e5 : (nI s - nI (q + 1) + 1) + nI i = nI (s + 1 - (q + 1) + i) := by
        have : nI s - nI (q + 1) + 1 = nI (s + 1 - (q + 1)) := by
          rw [← pk_sub (show q + 1 ≤ s + 1 by omega), ← nI_1 s, Int32.sub_eq_add_neg, Int32.sub_eq_add_neg, Int32.add_assoc, Int32.add_comm _ 1, ← Int32.add_assoc]
        rw [this, nI_add]
      have ci : (nI i).toNatClampNeg = i := nI_clamp (by omega)
      have m1 := hPl _ (gw_gm (w := P) (i := i) (by omega))
      have m2 := hPl _ (gw_gm (w := P) (i := s + 1 - (q + 1) + i) (by omega))
      refine br_f (by rw [hx]; decide) (And.intro (vp_in_nI (by omega) (by omega)) (And.intro (pk_in (s + 1 - (q + 1) + i) 4 (by omega) e5) ?_))
      by_cases z : P.getD i 0 = P.getD (s + 1 - (q + 1) + i) 0
      · refine br_t (by rw [ci, pk_cl _ e5, hP i (by omega), hP _ (by omega), z]) (nm_r (e' := nI (i + 1)) (nI_1 i) (ih (i + 1) (by omega) 1 (Or.inl ⟨rfl, h1, ?_⟩)))
        intro e he
        by_cases y : e = i
        · subst y; exact z
        · exact h2 e (by omega)
      · refine br_f (by rw [ci, pk_cl _ e5, hP i (by omega), hP _ (by omega), nI_eq (by omega) (by omega)]; exact z) (nm_r (e' := nI (i + 1)) (nI_1 i) (ih (i + 1) (by omega) 0 (Or.inr ⟨rfl, ?_⟩)))
        unfold gw_ga
        rw [decide_eq_false_iff_not, show q + 1 - 1 = q by omega]
        exact fun y => z (y.2 i (by omega))
    · exact br_t hx (nm_r (e' := nI (i + 1)) (nI_1 i) (ih (i + 1) (by omega) 0 (Or.inr ⟨rfl, h1⟩)))
theorem xw_al4 {post : Int32 → Prop} {P : List Nat} {s c : Nat} (hs : s < P.length) (hP4 : P.length ≤ 4) (hP : gw_hl a_pattern P) (hPl : ∀ d, d ∈ P → d < 6) (hc : c < 6) :
    ∀ k, k ≤ s + 1 → post (nI (gw_dn (gw_ga P s c) k)) → wX_afterLetter_4 post (nI s) (nI c) f_firstSize f_known f_patternNumber f_patternSize f_penX f_penY f_penTurn f_lowX f_highX f_lowY f_highY f_frontLetter f_frontRun f_backLetter f_backRun f_longest f_total a_ruleSize a_rules a_first a_actions a_size a_numbers a_moveX a_moveY a_turn a_leastX a_mostX a_leastY a_mostY a_headLetter a_headRun a_tailLetter a_tailRun a_bestRun a_pattern a_stateAfter a_formState a_formHits a_top a_pile a_seen (k + 1) (nI k) := by
  intro k
  induction k with
  | zero =>
    intro hk h
    exact br_t (by decide) h
  | succ q ih =>
    intro hk h
    rw [gw_dnS] at h
    have eq1 : nI (q + 1) - 1 = nI q := nI_pred q
    have cq : (nI (q + 1) - 1).toNatClampNeg = q := pk_cl q eq1
    have m1 := hPl _ (gw_gm (w := P) (i := q) (by omega))
    have Kt : gw_ga P s c (q + 1) = true → post (nI (q + 1)) := by
      intro z
      rw [if_pos z] at h
      exact h
    have Kf : gw_ga P s c (q + 1) = false → wX_afterLetter_4 post (nI s) (nI c) f_firstSize f_known f_patternNumber f_patternSize f_penX f_penY f_penTurn f_lowX f_highX f_lowY f_highY f_frontLetter f_frontRun f_backLetter f_backRun f_longest f_total a_ruleSize a_rules a_first a_actions a_size a_numbers a_moveX a_moveY a_turn a_leastX a_mostX a_leastY a_mostY a_headLetter a_headRun a_tailLetter a_tailRun a_bestRun a_pattern a_stateAfter a_formState a_formHits a_top a_pile a_seen (q + 1) (nI q) := by
      intro z
      rw [if_neg (by rw [z]; decide)] at h
      exact ih (by omega) h
    refine br_f (nI_nle (by omega) (by omega)) (And.intro (pk_in q 4 (by omega) eq1) ?_)
    by_cases z : P.getD q 0 = c
    · refine br_t (by rw [cq, hP q (by omega), z]) ⟨q + 1, ?_⟩
      exact xw_al30 (by omega) hs hP4 hP hPl Kt Kf q 0 (Nat.zero_add _) 1 (Or.inl ⟨rfl, z, fun e he => absurd he (Nat.not_lt_zero e)⟩)
    · refine br_f (by rw [cq, hP q (by omega), nI_eq (by omega) (by omega)]; exact z) ⟨q + 1, ?_⟩
      refine xw_al30 (by omega) hs hP4 hP hPl Kt Kf q 0 (Nat.zero_add _) 0 (Or.inr ⟨rfl, ?_⟩)
      unfold gw_ga
      rw [decide_eq_false_iff_not, show q + 1 - 1 = q by omega]
      exact fun y => z y.1
theorem xw_after {post : Int32 → Prop} {P : List Nat} {s c : Nat} (hs : s < P.length) (hP4 : P.length ≤ 4) (hP : gw_hl a_pattern P) (hPl : ∀ d, d ∈ P → d < 6) (hc : c < 6) (h : post (nI (gw_k1 P s c))) : wpX_afterLetter post (f_firstSize, f_known, f_patternNumber, f_patternSize, f_penX, f_penY, f_penTurn, f_lowX, f_highX, f_lowY, f_highY, f_frontLetter, f_frontRun, f_backLetter, f_backRun, f_longest, f_total, a_ruleSize, a_rules, a_first, a_actions, a_size, a_numbers, a_moveX, a_moveY, a_turn, a_leastX, a_mostX, a_leastY, a_mostY, a_headLetter, a_headRun, a_tailLetter, a_tailRun, a_bestRun, a_pattern, a_stateAfter, a_formState, a_formHits, a_top, a_pile, a_seen) (nI s) (nI c) :=
  nm_r (e' := nI (s + 1)) (nI_1 s) ⟨s + 2, xw_al4 hs hP4 hP hPl hc (s + 1) (Nat.le_refl _) h⟩
theorem xw_rs15 {post : Int32 → Prop} {J : Int32 → Prop} {P : List Nat} {q : Nat} (hq : q + 1 < P.length) (hP4 : P.length ≤ 4) (hP : gw_hl a_pattern P) (hPl : ∀ d, d ∈ P → d < 6) (hS : f_patternSize = nI P.length)
    (Kt : gw_gr P (q + 1) = true → post (nI (q + 1))) (Kf : gw_gr P (q + 1) = false → J (nI q)) :
    ∀ d i, i + d = q + 1 → ∀ x2 : Int32, ((x2 = 1 ∧ ∀ e, e < i → P.getD e 0 = P.getD (P.length - (q + 1) + e) 0) ∨ (x2 = 0 ∧ gw_gr P (q + 1) = false)) → wX_restart_15 post J (nI (q + 1)) f_firstSize f_known f_patternNumber f_patternSize f_penX f_penY f_penTurn f_lowX f_highX f_lowY f_highY f_frontLetter f_frontRun f_backLetter f_backRun f_longest f_total a_ruleSize a_rules a_first a_actions a_size a_numbers a_moveX a_moveY a_turn a_leastX a_mostX a_leastY a_mostY a_headLetter a_headRun a_tailLetter a_tailRun a_bestRun a_pattern a_stateAfter a_formState a_formHits a_top a_pile a_seen (d + 1) x2 (nI i) := by
  intro d
  induction d with
  | zero =>
    intro i hi x4 hx
    have e : i = q + 1 := by omega
    subst e
    refine br_t (nI_le (by omega) (by omega)) ?_
    rcases hx with ⟨hx, h2⟩ | ⟨hx, h1⟩
    · refine br_f (by rw [hx]; decide) (Kt ?_)
      unfold gw_gr
      rw [decide_eq_true_eq]
      exact h2
    · exact br_t hx (nm_r (e' := nI q) (pk_m1 q) (Kf h1))
  | succ d ih =>
    intro i hi x4 hx
    refine br_f (nI_ge (by omega) (by omega)) ?_
    rcases hx with ⟨hx, h2⟩ | ⟨hx, h1⟩
    · have e5 : (f_patternSize - nI (q + 1)) + nI i = nI (P.length - (q + 1) + i) := by
        rw [hS, pk_sub (by omega), nI_add]
      have ci : (nI i).toNatClampNeg = i := nI_clamp (by omega)
      have m1 := hPl _ (gw_gm (w := P) (i := i) (by omega))
      have m2 := hPl _ (gw_gm (w := P) (i := P.length - (q + 1) + i) (by omega))
      refine br_f (by rw [hx]; decide) (And.intro (vp_in_nI (by omega) (by omega)) (And.intro (pk_in (P.length - (q + 1) + i) 4 (by omega) e5) ?_))
      by_cases z : P.getD i 0 = P.getD (P.length - (q + 1) + i) 0
      · refine br_t (by rw [ci, pk_cl _ e5, hP i (by omega), hP _ (by omega), z]) (nm_r (e' := nI (i + 1)) (nI_1 i) (ih (i + 1) (by omega) 1 (Or.inl ⟨rfl, ?_⟩)))
        intro e he
        by_cases y : e = i
        · subst y; exact z
        · exact h2 e (by omega)
      · refine br_f (by rw [ci, pk_cl _ e5, hP i (by omega), hP _ (by omega), nI_eq (by omega) (by omega)]; exact z) (nm_r (e' := nI (i + 1)) (nI_1 i) (ih (i + 1) (by omega) 0 (Or.inr ⟨rfl, ?_⟩)))
        unfold gw_gr
        rw [decide_eq_false_iff_not]
        exact fun y => z (y i (by omega))
    · exact br_t hx (nm_r (e' := nI (i + 1)) (nI_1 i) (ih (i + 1) (by omega) 0 (Or.inr ⟨rfl, h1⟩)))
theorem xw_rs7 {post : Int32 → Prop} {P : List Nat} (hP1 : 1 ≤ P.length) (hP4 : P.length ≤ 4) (hP : gw_hl a_pattern P) (hPl : ∀ d, d ∈ P → d < 6) (hS : f_patternSize = nI P.length) :
    ∀ k, k < P.length → post (nI (gw_dn (gw_gr P) k)) → wX_restart_7 post f_firstSize f_known f_patternNumber f_patternSize f_penX f_penY f_penTurn f_lowX f_highX f_lowY f_highY f_frontLetter f_frontRun f_backLetter f_backRun f_longest f_total a_ruleSize a_rules a_first a_actions a_size a_numbers a_moveX a_moveY a_turn a_leastX a_mostX a_leastY a_mostY a_headLetter a_headRun a_tailLetter a_tailRun a_bestRun a_pattern a_stateAfter a_formState a_formHits a_top a_pile a_seen (k + 1) (nI k) := by
  intro k
  induction k with
  | zero =>
    intro hk h
    exact br_t (by decide) h
  | succ q ih =>
    intro hk h
    rw [gw_dnS] at h
    refine br_f (nI_nle (by omega) (by omega)) ⟨q + 2, ?_⟩
    refine xw_rs15 hk hP4 hP hPl hS ?_ ?_ (q + 1) 0 (Nat.zero_add _) 1 (Or.inl ⟨rfl, fun e he => absurd he (Nat.not_lt_zero e)⟩)
    · intro z
      rw [if_pos z] at h
      exact h
    · intro z
      rw [if_neg (by rw [z]; decide)] at h
      exact ih (by omega) h
theorem xw_restart {post : Int32 → Prop} {P : List Nat} (hP1 : 1 ≤ P.length) (hP4 : P.length ≤ 4) (hP : gw_hl a_pattern P) (hPl : ∀ d, d ∈ P → d < 6) (hS : f_patternSize = nI P.length) (h : post (nI (gw_rt P))) : wpX_restart post (f_firstSize, f_known, f_patternNumber, f_patternSize, f_penX, f_penY, f_penTurn, f_lowX, f_highX, f_lowY, f_highY, f_frontLetter, f_frontRun, f_backLetter, f_backRun, f_longest, f_total, a_ruleSize, a_rules, a_first, a_actions, a_size, a_numbers, a_moveX, a_moveY, a_turn, a_leastX, a_mostX, a_leastY, a_mostY, a_headLetter, a_headRun, a_tailLetter, a_tailRun, a_bestRun, a_pattern, a_stateAfter, a_formState, a_formHits, a_top, a_pile, a_seen) := by
  have e : f_patternSize - 1 = nI (P.length - 1) := by
    rw [hS]
    exact pk_sub (b := 1) hP1
  exact nm_r e ⟨P.length - 1 + 1, xw_rs7 hP1 hP4 hP hPl hS (P.length - 1) (by omega) h⟩
end
end
section
section
variable {f_firstSize f_known f_patternNumber f_patternSize f_penX f_penY f_penTurn f_lowX f_highX f_lowY f_highY f_frontLetter f_frontRun f_backLetter f_backRun f_longest f_total : Int32} {a_ruleSize a_rules a_first a_actions a_size a_numbers a_moveX a_moveY a_turn a_leastX a_mostX a_leastY a_mostY a_headLetter a_headRun a_tailLetter a_tailRun a_bestRun a_pattern a_stateAfter a_formState a_formHits a_top a_pile a_seen : Nat → Int32}
/-! states of forms -/
theorem xw_ls154 {post : SX → Prop} {J : Int32 → (Nat → Int32) → (Nat → Int32) → (Nat → Int32) → (Nat → Int32) → (Nat → Int32) → (Nat → Int32) → (Nat → Int32) → (Nat → Int32) → (Nat → Int32) → (Nat → Int32) → (Nat → Int32) → (Nat → Int32) → (Nat → Int32) → (Nat → Int32) → (Nat → Int32) → (Nat → Int32) → (Nat → Int32) → (Nat → Int32) → (Nat → Int32) → (Nat → Int32) → (Nat → Int32) → (Nat → Int32) → (Nat → Int32) → (Nat → Int32) → (Nat → Int32) → Prop} {f s : Nat} {x2 x3 st ht : Int32} (hf : f < 78) (hs : s < 4)
    (h : J (nI (s + 1)) a_ruleSize a_rules a_first a_actions a_size a_numbers a_moveX a_moveY a_turn a_leastX a_mostX a_leastY a_mostY a_headLetter a_headRun a_tailLetter a_tailRun a_bestRun a_pattern a_stateAfter (upd a_formState (4 * f + s) st) (upd a_formHits (4 * f + s) ht) a_top a_pile a_seen) : wX_layStates_154 post J (nI f) x2 x3 (nI s) st ht f_firstSize f_known f_patternNumber f_patternSize f_penX f_penY f_penTurn f_lowX f_highX f_lowY f_highY f_frontLetter f_frontRun f_backLetter f_backRun f_longest f_total a_ruleSize a_rules a_first a_actions a_size a_numbers a_moveX a_moveY a_turn a_leastX a_mostX a_leastY a_mostY a_headLetter a_headRun a_tailLetter a_tailRun a_bestRun a_pattern a_stateAfter a_formState a_formHits a_top a_pile a_seen := by
  have e : 4 * nI f + nI s = nI (4 * f + s) := xw_mi 4 f s
  have vi : vp_in (4 * nI f + nI s) 312 := pk_in (4 * f + s) 312 (by omega) e
  exact And.intro vi (nm_r (e' := upd a_formState (4 * f + s) st) (by rw [pk_cl _ e]) (And.intro vi (nm_r (e' := upd a_formHits (4 * f + s) ht) (by rw [pk_cl _ e]) (nm_r (e' := nI (s + 1)) (nI_1 s) h))))
theorem xw_ls83 {post : SX → Prop} {J : Int32 → (Nat → Int32) → (Nat → Int32) → (Nat → Int32) → (Nat → Int32) → (Nat → Int32) → (Nat → Int32) → (Nat → Int32) → (Nat → Int32) → (Nat → Int32) → (Nat → Int32) → (Nat → Int32) → (Nat → Int32) → (Nat → Int32) → (Nat → Int32) → (Nat → Int32) → (Nat → Int32) → (Nat → Int32) → (Nat → Int32) → (Nat → Int32) → (Nat → Int32) → (Nat → Int32) → (Nat → Int32) → (Nat → Int32) → (Nat → Int32) → (Nat → Int32) → Prop} {R : Nat → List Nat} {F : List Nat} {A : Nat → Nat} {P : List Nat} {f c l s : Nat} (ok : gw_ok R F A) (hB : gw_B R F A f_firstSize a_ruleSize a_rules a_first a_actions) (hf : f < 78) (hc : c < 6) (hl : l + 1 < 13) (hs : s < P.length) (hP4 : P.length ≤ 4)
    (hD : ∀ d, d < 6 → ∀ s, s < P.length → a_formState (4 * (13 * d + l) + s) = nI (gw_ks P s (gw_ex R l d)) ∧ a_formHits (4 * (13 * d + l) + s) = nI (gw_kh P s (gw_ex R l d)))
    (h : J (nI (s + 1)) a_ruleSize a_rules a_first a_actions a_size a_numbers a_moveX a_moveY a_turn a_leastX a_mostX a_leastY a_mostY a_headLetter a_headRun a_tailLetter a_tailRun a_bestRun a_pattern a_stateAfter (upd a_formState (4 * f + s) (nI (gw_ks P s (gw_ex R (l + 1) c)))) (upd a_formHits (4 * f + s) (nI (gw_kh P s (gw_ex R (l + 1) c)))) a_top a_pile a_seen) :
    ∀ d i, i + d = (R c).length → wX_layStates_83 post J (nI f) (nI c) (nI (l + 1)) (nI s) f_firstSize f_known f_patternNumber f_patternSize f_penX f_penY f_penTurn f_lowX f_highX f_lowY f_highY f_frontLetter f_frontRun f_backLetter f_backRun f_longest f_total a_ruleSize a_rules a_first a_actions a_size a_numbers a_moveX a_moveY a_turn a_leastX a_mostX a_leastY a_mostY a_headLetter a_headRun a_tailLetter a_tailRun a_bestRun a_pattern a_stateAfter a_formState a_formHits a_top a_pile a_seen (d + 1) (nI (gw_ks P s (((R c).take i).flatMap (gw_ex R l)))) (nI (gw_kh P s (((R c).take i).flatMap (gw_ex R l)))) (nI i) := by
  have cc : (nI c).toNatClampNeg = c := nI_clamp (by omega)
  have vc : vp_in (nI c) 6 := vp_in_nI hc (by omega)
  have h4 := (ok.1 c).1
  intro d
  induction d with
  | zero =>
    intro i hi
    have e : i = (R c).length := by omega
    subst e
    rw [List.take_length, ← gw_exS]
    exact And.intro vc (br_t (by rw [cc, hB.2.1 c hc]; exact nI_le (by omega) (by omega)) (xw_ls154 hf (by omega) h))
  | succ d ih =>
    intro i hi
    have hi2 : i < (R c).length := by omega
    have e4 : 4 * nI c + nI i = nI (4 * c + i) := xw_mi 4 c i
    have hm : (R c).getD i 0 < 6 := (ok.1 c).2 _ (gw_gm hi2)
    have hst := gw_ksL (((R c).take i).flatMap (gw_ex R l)) hs
    have hg := hD _ hm _ hst
    have eW : ((R c).take (i + 1)).flatMap (gw_ex R l) = ((R c).take i).flatMap (gw_ex R l) ++ gw_ex R l ((R c).getD i 0) := gw_Fi hi2
    have e5 : 4 * nI (13 * (R c).getD i 0 + l) + nI (gw_ks P s (((R c).take i).flatMap (gw_ex R l))) = nI (4 * (13 * (R c).getD i 0 + l) + gw_ks P s (((R c).take i).flatMap (gw_ex R l))) := xw_mi 4 _ _
    have v5 := pk_in (4 * (13 * (R c).getD i 0 + l) + gw_ks P s (((R c).take i).flatMap (gw_ex R l))) 312 (by omega) e5
    refine And.intro vc (br_f (by rw [cc, hB.2.1 c hc]; exact nI_ge hi2 (by omega)) (br_f (nI_nle (by omega) (by omega)) (And.intro (pk_in (4 * c + i) 24 (by omega) e4) ?_)))
    refine xw_form (c := (R c).getD i 0) (l := l) (by rw [pk_cl _ e4]; exact hB.2.2.1 c hc i hi2) (nI_pred l) ?_
    refine And.intro v5 (nm_r (e' := nI (gw_kh P s (((R c).take (i + 1)).flatMap (gw_ex R l)))) ?_ (And.intro v5 (nm_r (e' := nI (gw_ks P s (((R c).take (i + 1)).flatMap (gw_ex R l)))) ?_ (nm_r (e' := nI (i + 1)) (nI_1 i) (ih (i + 1) (by omega))))))
    · rw [pk_cl _ e5, hg.2, nI_add, eW, gw_khA]
    · rw [pk_cl _ e5, hg.1, eW, gw_ksA]
theorem xw_ls83z {post : SX → Prop} {J : Int32 → (Nat → Int32) → (Nat → Int32) → (Nat → Int32) → (Nat → Int32) → (Nat → Int32) → (Nat → Int32) → (Nat → Int32) → (Nat → Int32) → (Nat → Int32) → (Nat → Int32) → (Nat → Int32) → (Nat → Int32) → (Nat → Int32) → (Nat → Int32) → (Nat → Int32) → (Nat → Int32) → (Nat → Int32) → (Nat → Int32) → (Nat → Int32) → (Nat → Int32) → (Nat → Int32) → (Nat → Int32) → (Nat → Int32) → (Nat → Int32) → (Nat → Int32) → Prop} {f c s : Nat} {st ht : Int32} (hf : f < 78) (hc : c < 6) (hs : s < 4)
    (h : J (nI (s + 1)) a_ruleSize a_rules a_first a_actions a_size a_numbers a_moveX a_moveY a_turn a_leastX a_mostX a_leastY a_mostY a_headLetter a_headRun a_tailLetter a_tailRun a_bestRun a_pattern a_stateAfter (upd a_formState (4 * f + s) st) (upd a_formHits (4 * f + s) ht) a_top a_pile a_seen) :
    wX_layStates_83 post J (nI f) (nI c) (nI 0) (nI s) f_firstSize f_known f_patternNumber f_patternSize f_penX f_penY f_penTurn f_lowX f_highX f_lowY f_highY f_frontLetter f_frontRun f_backLetter f_backRun f_longest f_total a_ruleSize a_rules a_first a_actions a_size a_numbers a_moveX a_moveY a_turn a_leastX a_mostX a_leastY a_mostY a_headLetter a_headRun a_tailLetter a_tailRun a_bestRun a_pattern a_stateAfter a_formState a_formHits a_top a_pile a_seen 1 st ht 0 := by
  refine And.intro (vp_in_nI hc (by omega)) (br_c (fun _ => xw_ls154 hf hs h) (fun _ => br_t (by decide) (xw_ls154 hf hs h)))
theorem xw_ls13 {post : SX → Prop} {R : Nat → List Nat} {F : List Nat} {A : Nat → Nat} {P : List Nat} {c lv : Nat} {st0 ht0 : Nat → Int32} (ok : gw_ok R F A) (hB : gw_B R F A f_firstSize a_ruleSize a_rules a_first a_actions) (hc : c < 6) (hl : lv < 13) (hP1 : 1 ≤ P.length) (hP4 : P.length ≤ 4) (hP : gw_hl a_pattern P) (hPl : ∀ d, d ∈ P → d < 6) (hS : f_patternSize = nI P.length)
    (hA : ∀ s, s < P.length → ∀ c, c < 6 → a_stateAfter (6 * s + c) = nI (gw_k1 P s c))
    (hD : ∀ l, l + 1 = lv → ∀ d, d < 6 → ∀ s, s < P.length → st0 (4 * (13 * d + l) + s) = nI (gw_ks P s (gw_ex R l d)) ∧ ht0 (4 * (13 * d + l) + s) = nI (gw_kh P s (gw_ex R l d)))
    (K : ∀ st ht : Nat → Int32, (∀ s, s < P.length → st (4 * (13 * c + lv) + s) = nI (gw_ks P s (gw_ex R lv c)) ∧ ht (4 * (13 * c + lv) + s) = nI (gw_kh P s (gw_ex R lv c))) → (∀ j, (j < 4 * (13 * c + lv) ∨ 4 * (13 * c + lv) + 4 ≤ j) → st j = st0 j ∧ ht j = ht0 j) → post (f_firstSize, f_known, f_patternNumber, f_patternSize, f_penX, f_penY, f_penTurn, f_lowX, f_highX, f_lowY, f_highY, f_frontLetter, f_frontRun, f_backLetter, f_backRun, f_longest, f_total, a_ruleSize, a_rules, a_first, a_actions, a_size, a_numbers, a_moveX, a_moveY, a_turn, a_leastX, a_mostX, a_leastY, a_mostY, a_headLetter, a_headRun, a_tailLetter, a_tailRun, a_bestRun, a_pattern, a_stateAfter, st, ht, a_top, a_pile, a_seen)) :
    ∀ d s, s + d = P.length → ∀ st ht : Nat → Int32, (∀ e, e < s → st (4 * (13 * c + lv) + e) = nI (gw_ks P e (gw_ex R lv c)) ∧ ht (4 * (13 * c + lv) + e) = nI (gw_kh P e (gw_ex R lv c))) → (∀ j, (j < 4 * (13 * c + lv) ∨ 4 * (13 * c + lv) + 4 ≤ j) → st j = st0 j ∧ ht j = ht0 j) →
      wX_layStates_13 post (nI (13 * c + lv)) (nI c) (nI lv) f_firstSize f_known f_patternNumber f_patternSize f_penX f_penY f_penTurn f_lowX f_highX f_lowY f_highY f_frontLetter f_frontRun f_backLetter f_backRun f_longest f_total (d + 1) (nI s) a_ruleSize a_rules a_first a_actions a_size a_numbers a_moveX a_moveY a_turn a_leastX a_mostX a_leastY a_mostY a_headLetter a_headRun a_tailLetter a_tailRun a_bestRun a_pattern a_stateAfter st ht a_top a_pile a_seen := by
  intro d
  induction d with
  | zero =>
    intro s hs st ht h1 h2
    have e : s = P.length := by omega
    subst e
    exact br_t (by rw [hS]; exact nI_le (by omega) (by omega)) (K st ht h1 h2)
  | succ d ih =>
    intro s hs st ht h1 h2
    have hs2 : s < P.length := by omega
    have step : ∀ vs vh : Int32, vs = nI (gw_ks P s (gw_ex R lv c)) → vh = nI (gw_kh P s (gw_ex R lv c)) → wX_layStates_13 post (nI (13 * c + lv)) (nI c) (nI lv) f_firstSize f_known f_patternNumber f_patternSize f_penX f_penY f_penTurn f_lowX f_highX f_lowY f_highY f_frontLetter f_frontRun f_backLetter f_backRun f_longest f_total (d + 1) (nI (s + 1)) a_ruleSize a_rules a_first a_actions a_size a_numbers a_moveX a_moveY a_turn a_leastX a_mostX a_leastY a_mostY a_headLetter a_headRun a_tailLetter a_tailRun a_bestRun a_pattern a_stateAfter (upd st (4 * (13 * c + lv) + s) vs) (upd ht (4 * (13 * c + lv) + s) vh) a_top a_pile a_seen := by
      intro vs vh e1 e2
      refine ih (s + 1) (by omega) _ _ ?_ ?_
      · intro e he
        by_cases z : e = s
        · subst z
          rw [pk_us, pk_us]
          exact ⟨e1, e2⟩
        · rw [pk_un (by omega), pk_un (by omega)]
          exact h1 e (by omega)
      · intro j hj
        rw [pk_un (by omega), pk_un (by omega)]
        exact h2 j hj
    refine br_f (by rw [hS]; exact nI_ge hs2 (by omega)) ?_
    cases lv with
    | zero =>
      have e6 : 6 * nI s + nI c = nI (6 * s + c) := xw_mi 6 s c
      refine br_t rfl (And.intro (pk_in (6 * s + c) 24 (by omega) e6) (nm_r (e' := nI (gw_k1 P s c)) (by rw [pk_cl _ e6, hA s hs2 c hc]) ?_))
      have hk1 := gw_k1L P s c
      by_cases z : gw_k1 P s c = P.length
      · refine br_t (by rw [hS, z]) (br_t rfl ?_)
        refine xw_restart hP1 hP4 hP hPl hS ?_
        refine ⟨1, xw_ls83z (by omega) hc (by omega) (step _ _ ?_ ?_)⟩
        · show nI (gw_rt P) = nI (gw_kd P s c)
          unfold gw_kd
          rw [if_pos z]
        · show (1 : Int32) = nI (gw_k2 P s c + 0)
          unfold gw_k2
          rw [if_pos z]
          rfl
      · refine br_f (by rw [hS, nI_eq (by omega) (by omega)]; exact z) (br_f (by decide) ?_)
        refine ⟨1, xw_ls83z (by omega) hc (by omega) (step _ _ ?_ ?_)⟩
        · show nI (gw_k1 P s c) = nI (gw_kd P s c)
          unfold gw_kd
          rw [if_neg z]
        · show (0 : Int32) = nI (gw_k2 P s c + 0)
          unfold gw_k2
          rw [if_neg z]
          rfl
    | succ l =>
      refine br_f (nI_ne0 (by omega) (by omega)) ⟨(R c).length + 1, ?_⟩
      refine xw_ls83 ok hB (by omega) hc hl hs2 hP4 ?_ (step _ _ rfl rfl) (R c).length 0 (Nat.zero_add _)
      intro d hd s' hs'
      rw [(h2 _ (by omega)).1, (h2 _ (by omega)).2]
      exact hD l rfl d hd s' hs'
theorem xw_layStates {post : SX → Prop} {R : Nat → List Nat} {F : List Nat} {A : Nat → Nat} {P : List Nat} {c lv : Nat} (ok : gw_ok R F A) (hB : gw_B R F A f_firstSize a_ruleSize a_rules a_first a_actions) (hc : c < 6) (hl : lv < 13) (hP1 : 1 ≤ P.length) (hP4 : P.length ≤ 4) (hP : gw_hl a_pattern P) (hPl : ∀ d, d ∈ P → d < 6) (hS : f_patternSize = nI P.length)
    (hA : ∀ s, s < P.length → ∀ c, c < 6 → a_stateAfter (6 * s + c) = nI (gw_k1 P s c))
    (hD : ∀ l, l + 1 = lv → ∀ d, d < 6 → ∀ s, s < P.length → a_formState (4 * (13 * d + l) + s) = nI (gw_ks P s (gw_ex R l d)) ∧ a_formHits (4 * (13 * d + l) + s) = nI (gw_kh P s (gw_ex R l d)))
    (K : ∀ st ht : Nat → Int32, (∀ s, s < P.length → st (4 * (13 * c + lv) + s) = nI (gw_ks P s (gw_ex R lv c)) ∧ ht (4 * (13 * c + lv) + s) = nI (gw_kh P s (gw_ex R lv c))) → (∀ j, (j < 4 * (13 * c + lv) ∨ 4 * (13 * c + lv) + 4 ≤ j) → st j = a_formState j ∧ ht j = a_formHits j) → post (f_firstSize, f_known, f_patternNumber, f_patternSize, f_penX, f_penY, f_penTurn, f_lowX, f_highX, f_lowY, f_highY, f_frontLetter, f_frontRun, f_backLetter, f_backRun, f_longest, f_total, a_ruleSize, a_rules, a_first, a_actions, a_size, a_numbers, a_moveX, a_moveY, a_turn, a_leastX, a_mostX, a_leastY, a_mostY, a_headLetter, a_headRun, a_tailLetter, a_tailRun, a_bestRun, a_pattern, a_stateAfter, st, ht, a_top, a_pile, a_seen)) : wpX_layStates post (f_firstSize, f_known, f_patternNumber, f_patternSize, f_penX, f_penY, f_penTurn, f_lowX, f_highX, f_lowY, f_highY, f_frontLetter, f_frontRun, f_backLetter, f_backRun, f_longest, f_total, a_ruleSize, a_rules, a_first, a_actions, a_size, a_numbers, a_moveX, a_moveY, a_turn, a_leastX, a_mostX, a_leastY, a_mostY, a_headLetter, a_headRun, a_tailLetter, a_tailRun, a_bestRun, a_pattern, a_stateAfter, a_formState, a_formHits, a_top, a_pile, a_seen) (nI (13 * c + lv)) := by
  unfold wpX_layStates
  dsimp only
  refine xw_letter hc hl ?_
  refine xw_level hc hl ?_
  exact ⟨P.length + 1, xw_ls13 ok hB hc hl hP1 hP4 hP hPl hS hA hD K P.length 0 (Nat.zero_add _) a_formState a_formHits (fun e he => absurd he (Nat.not_lt_zero e)) (fun j _ => ⟨rfl, rfl⟩)⟩
theorem xw_order {post : Int32 → Prop} {i : Nat} (hi : i < 78) (h : post (nI (13 * (i % 6) + i / 6))) : wpX_levelOrder post (nI i) := by
  refine And.intro (by decide) (And.intro (by decide) ?_)
  exact xw_form (c := i % 6) (l := i / 6) (pk_rem (d := 6) (by omega) (by omega) (by omega)) (pk_div (d := 6) (by omega) (by omega) (by omega)) h
theorem xw_pp119 {post : SX → Prop} {R : Nat → List Nat} {F : List Nat} {A : Nat → Nat} {P : List Nat} (ok : gw_ok R F A) (hB : gw_B R F A f_firstSize a_ruleSize a_rules a_first a_actions) (hP1 : 1 ≤ P.length) (hP4 : P.length ≤ 4) (hP : gw_hl a_pattern P) (hPl : ∀ d, d ∈ P → d < 6) (hS : f_patternSize = nI P.length)
    (hA : ∀ s, s < P.length → ∀ c, c < 6 → a_stateAfter (6 * s + c) = nI (gw_k1 P s c))
    (K : ∀ a_formState a_formHits : Nat → Int32, xw_N R P f_patternSize a_pattern a_formState a_formHits → post (f_firstSize, f_known, f_patternNumber, f_patternSize, f_penX, f_penY, f_penTurn, f_lowX, f_highX, f_lowY, f_highY, f_frontLetter, f_frontRun, f_backLetter, f_backRun, f_longest, f_total, a_ruleSize, a_rules, a_first, a_actions, a_size, a_numbers, a_moveX, a_moveY, a_turn, a_leastX, a_mostX, a_leastY, a_mostY, a_headLetter, a_headRun, a_tailLetter, a_tailRun, a_bestRun, a_pattern, a_stateAfter, a_formState, a_formHits, a_top, a_pile, a_seen)) :
    ∀ d i, i + d = 78 → ∀ st ht : Nat → Int32, (∀ c, c < 6 → ∀ l, 6 * l + c < i → ∀ s, s < P.length → st (4 * (13 * c + l) + s) = nI (gw_ks P s (gw_ex R l c)) ∧ ht (4 * (13 * c + l) + s) = nI (gw_kh P s (gw_ex R l c))) → wX_prepare_119 post (d + 1) (nI i) f_firstSize f_known f_patternNumber f_patternSize f_penX f_penY f_penTurn f_lowX f_highX f_lowY f_highY f_frontLetter f_frontRun f_backLetter f_backRun f_longest f_total a_ruleSize a_rules a_first a_actions a_size a_numbers a_moveX a_moveY a_turn a_leastX a_mostX a_leastY a_mostY a_headLetter a_headRun a_tailLetter a_tailRun a_bestRun a_pattern a_stateAfter st ht a_top a_pile a_seen := by
  intro d
  induction d with
  | zero =>
    intro i hi st ht h
    have e : i = 78 := by omega
    subst e
    refine br_t (nI_le (a := 78) (b := 78) (by omega) (by omega)) (K st ht ⟨hS, ?_⟩)
    intro c hc l hl s hs
    exact h c hc l (by omega) s hs
  | succ d ih =>
    intro i hi st ht h
    refine br_f (nI_ge (a := i) (b := 78) (by omega) (by omega)) ?_
    refine xw_order (by omega) ?_
    refine xw_layStates (P := P) ok hB (by omega) (by omega) hP1 hP4 hP hPl hS hA ?_ ?_
    · intro l hl d hd s hs
      exact h d hd l (by omega) s hs
    · intro st' ht' h1 h2
      refine nm_r (e' := nI (i + 1)) (nI_1 i) ?_
      refine ih (i + 1) (by omega) st' ht' ?_
      intro c hc l hl s hs
      by_cases z : c = i % 6 ∧ l = i / 6
      · obtain ⟨rfl, rfl⟩ := z
        exact h1 s hs
      · rw [(h2 _ (by omega)).1, (h2 _ (by omega)).2]
        exact h c hc l (by omega) s hs
theorem xw_pp79 {post : SX → Prop} {J : Int32 → (Nat → Int32) → (Nat → Int32) → (Nat → Int32) → (Nat → Int32) → (Nat → Int32) → (Nat → Int32) → (Nat → Int32) → (Nat → Int32) → (Nat → Int32) → (Nat → Int32) → (Nat → Int32) → (Nat → Int32) → (Nat → Int32) → (Nat → Int32) → (Nat → Int32) → (Nat → Int32) → (Nat → Int32) → (Nat → Int32) → (Nat → Int32) → (Nat → Int32) → (Nat → Int32) → (Nat → Int32) → (Nat → Int32) → (Nat → Int32) → (Nat → Int32) → Prop} {P : List Nat} {s : Nat} (hs : s < P.length) (hP4 : P.length ≤ 4) (hP : gw_hl a_pattern P) (hPl : ∀ d, d ∈ P → d < 6)
    (K : ∀ sa : Nat → Int32, (∀ t, t < s + 1 → ∀ c, c < 6 → sa (6 * t + c) = nI (gw_k1 P t c)) → J (nI (s + 1)) a_ruleSize a_rules a_first a_actions a_size a_numbers a_moveX a_moveY a_turn a_leastX a_mostX a_leastY a_mostY a_headLetter a_headRun a_tailLetter a_tailRun a_bestRun a_pattern sa a_formState a_formHits a_top a_pile a_seen) :
    ∀ d i, i + d = 6 → ∀ sa : Nat → Int32, (∀ t, t < s → ∀ c, c < 6 → sa (6 * t + c) = nI (gw_k1 P t c)) → (∀ c, c < i → sa (6 * s + c) = nI (gw_k1 P s c)) → wX_prepare_79 post J (nI s) f_firstSize f_known f_patternNumber f_patternSize f_penX f_penY f_penTurn f_lowX f_highX f_lowY f_highY f_frontLetter f_frontRun f_backLetter f_backRun f_longest f_total (d + 1) (nI i) a_ruleSize a_rules a_first a_actions a_size a_numbers a_moveX a_moveY a_turn a_leastX a_mostX a_leastY a_mostY a_headLetter a_headRun a_tailLetter a_tailRun a_bestRun a_pattern sa a_formState a_formHits a_top a_pile a_seen := by
  intro d
  induction d with
  | zero =>
    intro i hi sa h1 h2
    have e : i = 6 := by omega
    subst e
    refine br_t (nI_le (a := 6) (b := 6) (by omega) (by omega)) (nm_r (e' := nI (s + 1)) (nI_1 s) (K sa ?_))
    intro t ht c hc
    by_cases z : t = s
    · subst z; exact h2 c hc
    · exact h1 t (by omega) c hc
  | succ d ih =>
    intro i hi sa h1 h2
    have e6 : 6 * nI s + nI i = nI (6 * s + i) := xw_mi 6 s i
    refine br_f (nI_ge (a := i) (b := 6) (by omega) (by omega)) ?_
    refine xw_after (P := P) hs hP4 hP hPl (by omega) ?_
    refine And.intro (pk_in (6 * s + i) 24 (by omega) e6) (nm_r (e' := upd sa (6 * s + i) (nI (gw_k1 P s i))) (by rw [pk_cl _ e6]) (nm_r (e' := nI (i + 1)) (nI_1 i) ?_))
    refine ih (i + 1) (by omega) _ ?_ ?_
    · intro t ht c hc
      rw [pk_un (by omega)]
      exact h1 t ht c hc
    · intro c hc
      by_cases z : c = i
      · subst z; rw [pk_us]
      · rw [pk_un (by omega)]; exact h2 c (by omega)
theorem xw_pp68 {post : SX → Prop} {R : Nat → List Nat} {F : List Nat} {A : Nat → Nat} {P : List Nat} (ok : gw_ok R F A) (hB : gw_B R F A f_firstSize a_ruleSize a_rules a_first a_actions) (hP1 : 1 ≤ P.length) (hP4 : P.length ≤ 4) (hP : gw_hl a_pattern P) (hPl : ∀ d, d ∈ P → d < 6) (hS : f_patternSize = nI P.length)
    (K : ∀ a_stateAfter a_formState a_formHits : Nat → Int32, xw_N R P f_patternSize a_pattern a_formState a_formHits → post (f_firstSize, f_known, f_patternNumber, f_patternSize, f_penX, f_penY, f_penTurn, f_lowX, f_highX, f_lowY, f_highY, f_frontLetter, f_frontRun, f_backLetter, f_backRun, f_longest, f_total, a_ruleSize, a_rules, a_first, a_actions, a_size, a_numbers, a_moveX, a_moveY, a_turn, a_leastX, a_mostX, a_leastY, a_mostY, a_headLetter, a_headRun, a_tailLetter, a_tailRun, a_bestRun, a_pattern, a_stateAfter, a_formState, a_formHits, a_top, a_pile, a_seen)) :
    ∀ d s, s + d = P.length → ∀ sa : Nat → Int32, (∀ t, t < s → ∀ c, c < 6 → sa (6 * t + c) = nI (gw_k1 P t c)) → wX_prepare_68 post f_firstSize f_known f_patternNumber f_patternSize f_penX f_penY f_penTurn f_lowX f_highX f_lowY f_highY f_frontLetter f_frontRun f_backLetter f_backRun f_longest f_total (d + 1) (nI s) a_ruleSize a_rules a_first a_actions a_size a_numbers a_moveX a_moveY a_turn a_leastX a_mostX a_leastY a_mostY a_headLetter a_headRun a_tailLetter a_tailRun a_bestRun a_pattern sa a_formState a_formHits a_top a_pile a_seen := by
  intro d
  induction d with
  | zero =>
    intro s hs sa h
    have e : s = P.length := by omega
    subst e
    refine br_t (by rw [hS]; exact nI_le (by omega) (by omega)) ⟨79, ?_⟩
    exact xw_pp119 ok hB hP1 hP4 hP hPl hS h (K sa) 78 0 rfl a_formState a_formHits (fun c hc l hl => absurd hl (Nat.not_lt_zero _))
  | succ d ih =>
    intro s hs sa h
    refine br_f (by rw [hS]; exact nI_ge (by omega) (by omega)) ⟨7, ?_⟩
    exact xw_pp79 (P := P) (by omega) hP4 hP hPl (fun sa' h' => ih (s + 1) (by omega) sa' h') 6 0 rfl sa h (fun c hc => absurd hc (Nat.not_lt_zero c))
theorem xw_pp21 {post : SX → Prop} {R : Nat → List Nat} {F : List Nat} {A : Nat → Nat} {P : List Nat} (ok : gw_ok R F A) (hB : gw_B R F A f_firstSize a_ruleSize a_rules a_first a_actions) (hP1 : 1 ≤ P.length) (hP4 : P.length ≤ 4) (hPl : ∀ d, d ∈ P → d < 6)
    (K : ∀ (f_patternSize : Int32) (a_pattern a_stateAfter a_formState a_formHits : Nat → Int32), xw_N R P f_patternSize a_pattern a_formState a_formHits → post (f_firstSize, f_known, f_patternNumber, f_patternSize, f_penX, f_penY, f_penTurn, f_lowX, f_highX, f_lowY, f_highY, f_frontLetter, f_frontRun, f_backLetter, f_backRun, f_longest, f_total, a_ruleSize, a_rules, a_first, a_actions, a_size, a_numbers, a_moveX, a_moveY, a_turn, a_leastX, a_mostX, a_leastY, a_mostY, a_headLetter, a_headRun, a_tailLetter, a_tailRun, a_bestRun, a_pattern, a_stateAfter, a_formState, a_formHits, a_top, a_pile, a_seen)) :
    ∀ d j v, j + d = P.length → v < 2 ^ 31 → ∀ k, gw_de k v = some (P.drop j) → ∀ pt : Nat → Int32, (∀ i, i < j → pt i = nI (P.getD i 0)) → wX_prepare_21 post f_firstSize f_known f_patternNumber f_penX f_penY f_penTurn f_lowX f_highX f_lowY f_highY f_frontLetter f_frontRun f_backLetter f_backRun f_longest f_total (d + 1) (nI v) (nI j) a_ruleSize a_rules a_first a_actions a_size a_numbers a_moveX a_moveY a_turn a_leastX a_mostX a_leastY a_mostY a_headLetter a_headRun a_tailLetter a_tailRun a_bestRun pt a_stateAfter a_formState a_formHits a_top a_pile a_seen := by
  intro d
  induction d with
  | zero =>
    intro j v hj hv k hd pt hp
    have e : j = P.length := by omega
    subst e
    rw [List.drop_length] at hd
    have hv0 := gw_deN hd
    subst hv0
    refine br_t (by decide) ⟨P.length + 1, ?_⟩
    exact xw_pp68 (f_patternSize := nI P.length) ok hB hP1 hP4 hp hPl rfl (K _ pt) P.length 0 (Nat.zero_add _) a_stateAfter (fun t ht => absurd ht (Nat.not_lt_zero t))
  | succ d ih =>
    intro j v hj hv k hd pt hp
    rw [gw_dp (by omega)] at hd
    obtain ⟨hv0, hdg, h70, k', hk', hd'⟩ := gw_deC hd
    have cj : (nI j).toNatClampNeg = j := nI_clamp (by omega)
    have e7 : (nI v - nI v / 7 * 7) - 1 = nI (P.getD j 0) := by
      rw [gw_r7 hv, hdg]
      exact pk_sub (b := 1) (by omega)
    refine br_f (nI_nle (by omega) hv) (br_f (nI_ge (a := j) (b := 4) (by omega) (by omega)) (And.intro gw_n7 (And.intro (vp_in_nI (by omega) (by omega)) (nm_r (e' := upd pt j (nI (P.getD j 0))) (by rw [cj, e7]) (And.intro gw_n7 (nm_r (gw_d7 hv) (nm_r (e' := nI (j + 1)) (nI_1 j) ?_)))))))
    refine ih (j + 1) (v / 7) (by omega) (by omega) k' hd' _ ?_
    intro i hi
    by_cases z : i = j
    · subst z; rw [pk_us]
    · rw [pk_un z]; exact hp i (by omega)
theorem xw_prepare {post : SX → Prop} {R : Nat → List Nat} {F : List Nat} {A : Nat → Nat} {P : List Nat} {v : Nat} (ok : gw_ok R F A) (hK : gw_B R F A f_firstSize a_ruleSize a_rules a_first a_actions ∧ xw_F R A a_size a_numbers a_moveX a_moveY a_turn a_leastX a_mostX a_leastY a_mostY a_headLetter a_headRun a_tailLetter a_tailRun a_bestRun ∧ (f_patternNumber ≠ 0 → xw_C R f_patternNumber f_patternSize a_pattern a_formState a_formHits)) (hv : v < 2 ^ 31) (hd : gw_de 4 v = some P) (hP1 : 1 ≤ P.length)
    (K : ∀ (f_patternNumber f_patternSize : Int32) (a_pattern a_stateAfter a_formState a_formHits : Nat → Int32), xw_N R P f_patternSize a_pattern a_formState a_formHits → (gw_B R F A f_firstSize a_ruleSize a_rules a_first a_actions ∧ xw_F R A a_size a_numbers a_moveX a_moveY a_turn a_leastX a_mostX a_leastY a_mostY a_headLetter a_headRun a_tailLetter a_tailRun a_bestRun ∧ (f_patternNumber ≠ 0 → xw_C R f_patternNumber f_patternSize a_pattern a_formState a_formHits)) → post (f_firstSize, f_known, f_patternNumber, f_patternSize, f_penX, f_penY, f_penTurn, f_lowX, f_highX, f_lowY, f_highY, f_frontLetter, f_frontRun, f_backLetter, f_backRun, f_longest, f_total, a_ruleSize, a_rules, a_first, a_actions, a_size, a_numbers, a_moveX, a_moveY, a_turn, a_leastX, a_mostX, a_leastY, a_mostY, a_headLetter, a_headRun, a_tailLetter, a_tailRun, a_bestRun, a_pattern, a_stateAfter, a_formState, a_formHits, a_top, a_pile, a_seen)) : wpX_prepare post (f_firstSize, f_known, f_patternNumber, f_patternSize, f_penX, f_penY, f_penTurn, f_lowX, f_highX, f_lowY, f_highY, f_frontLetter, f_frontRun, f_backLetter, f_backRun, f_longest, f_total, a_ruleSize, a_rules, a_first, a_actions, a_size, a_numbers, a_moveX, a_moveY, a_turn, a_leastX, a_mostX, a_leastY, a_mostY, a_headLetter, a_headRun, a_tailLetter, a_tailRun, a_bestRun, a_pattern, a_stateAfter, a_formState, a_formHits, a_top, a_pile, a_seen) (nI v) := by
  have hp := gw_deP hd
  have hv0 : v ≠ 0 := by
    intro e
    subst e
    rw [gw_deZ] at hd
    cases hd
    simp at hP1
  by_cases z : f_patternNumber = nI v
  · have hn : f_patternNumber ≠ 0 := by
      rw [z]
      exact nI_ne0 (by omega) hv
    obtain ⟨j, P', hj, e1, e2, e3⟩ := hK.2.2 hn
    have : j = v := (nI_eq hj hv).mp (e1.symm.trans z)
    rw [this, hd] at e2
    cases e2
    exact br_t z (K _ _ _ _ _ _ e3 hK)
  · refine br_f z ⟨P.length + 1, ?_⟩
    refine xw_pp21 (P := P) ok hK.1 hP1 hp.1 hp.2.1 ?_ P.length 0 v (Nat.zero_add _) hv 4 hd a_pattern (fun i hi => absurd hi (Nat.not_lt_zero i))
    intro ps pt sa st ht hN
    exact K _ _ _ _ _ _ hN ⟨hK.1, hK.2.1, fun _ => ⟨v, P, hv, rfl, hd, hN⟩⟩
end
end
section
/-! looking for a word -/
def gw_fb (w : List Nat) (v2 v3 r : Int32) : Prop := (∃ P, gw_dv 4 v2 = some P ∧ 1 ≤ P.length ∧ gw_fa w P v3.toNatClampNeg r) ∨ ((gw_dv 4 v2 = none ∨ gw_dv 4 v2 = some []) ∧ r = -3)
def gw_ob (w : List Nat) (v2 r : Int32) : Prop := (∃ P, gw_dv 4 v2 = some P ∧ 1 ≤ P.length ∧ r = nI (gw_oc w P)) ∨ ((gw_dv 4 v2 = none ∨ gw_dv 4 v2 = some []) ∧ r = -3)
theorem gw_pc (v2 : Int32) : (∃ P, gw_dv 4 v2 = some P ∧ 1 ≤ P.length) ∨ (gw_dv 4 v2 = none ∨ gw_dv 4 v2 = some []) := by
  cases h : gw_dv 4 v2 with
  | none => exact Or.inr (Or.inl rfl)
  | some P =>
    cases P with
    | nil => exact Or.inr (Or.inr rfl)
    | cons d P => exact Or.inl ⟨_, rfl, by rw [List.length_cons]; omega⟩
theorem gw_px {v2 : Int32} {P : List Nat} (h : gw_dv 4 v2 = some P) (hP : 1 ≤ P.length) (h' : gw_dv 4 v2 = none ∨ gw_dv 4 v2 = some []) : False := by
  rcases h' with z | z
  · rw [h] at z; cases z
  · rw [h] at z; cases z; simp at hP
theorem gw_fbU {w : List Nat} {v2 v3 r r' : Int32} (h : gw_fb w v2 v3 r) (h' : gw_fb w v2 v3 r') : r' = r := by
  rcases h with ⟨P, h1, h2, h3⟩ | ⟨h1, e⟩ <;> rcases h' with ⟨P', h1', h2', h3'⟩ | ⟨h1', e'⟩
  · rw [h1] at h1'
    cases h1'
    exact gw_faU h3 h3'
  · exact absurd (gw_px h1 h2 h1') id
  · exact absurd (gw_px h1' h2' h1) id
  · rw [e, e']
theorem gw_obU {w : List Nat} {v2 r r' : Int32} (h : gw_ob w v2 r) (h' : gw_ob w v2 r') : r' = r := by
  rcases h with ⟨P, h1, h2, h3⟩ | ⟨h1, e⟩ <;> rcases h' with ⟨P', h1', h2', h3'⟩ | ⟨h1', e'⟩
  · rw [h1] at h1'
    cases h1'
    rw [h3, h3']
  · exact absurd (gw_px h1 h2 h1') id
  · exact absurd (gw_px h1' h2' h1) id
  · rw [e, e']
section
variable {f_firstSize f_known f_patternNumber f_patternSize f_penX f_penY f_penTurn f_lowX f_highX f_lowY f_highY f_frontLetter f_frontRun f_backLetter f_backRun f_longest f_total : Int32} {a_ruleSize a_rules a_first a_actions a_size a_numbers a_moveX a_moveY a_turn a_leastX a_mostX a_leastY a_mostY a_headLetter a_headRun a_tailLetter a_tailRun a_bestRun a_pattern a_stateAfter a_formState a_formHits a_top a_pile a_seen : Nat → Int32}
theorem xw_fd67 {post : Int32 → SX → Prop} {R : Nat → List Nat} {F : List Nat} {A : Nat → Nat} {P W : List Nat} {n a : Nat} (ok : gw_ok R F A) (hB : gw_B R F A f_firstSize a_ruleSize a_rules a_first a_actions) (hF : xw_F R A a_size a_numbers a_moveX a_moveY a_turn a_leastX a_mostX a_leastY a_mostY a_headLetter a_headRun a_tailLetter a_tailRun a_bestRun) (hN : xw_N R P f_patternSize a_pattern a_formState a_formHits) (hn : n < 13) (hP1 : 1 ≤ P.length) (hP4 : P.length ≤ 4)
    (K : ∀ (r : Int32) (tp pi : Nat → Int32), gw_fa W P a r → post r (f_firstSize, f_known, f_patternNumber, f_patternSize, f_penX, f_penY, f_penTurn, f_lowX, f_highX, f_lowY, f_highY, f_frontLetter, f_frontRun, f_backLetter, f_backRun, f_longest, f_total, a_ruleSize, a_rules, a_first, a_actions, a_size, a_numbers, a_moveX, a_moveY, a_turn, a_leastX, a_mostX, a_leastY, a_mostY, a_headLetter, a_headRun, a_tailLetter, a_tailRun, a_bestRun, a_pattern, a_stateAfter, a_formState, a_formHits, tp, pi, a_seen)) :
    ∀ (m i : Nat) (L : List (Nat × Nat)) (dn : List Nat) (tp pi : Nat → Int32), i + m < 1000 → gw_fk R P (gw_ks P 0 dn) m L → W.drop a = dn ++ gw_gf R L → gw_kh P 0 dn = 0 → gw_wf R n L → xw_T 0 L tp pi → wX_find_67 post (m + 1) (nI (a + dn.length)) (nI (gw_ks P 0 dn)) (xw_hd L) (nI i) f_firstSize f_known f_patternNumber f_patternSize f_penX f_penY f_penTurn f_lowX f_highX f_lowY f_highY f_frontLetter f_frontRun f_backLetter f_backRun f_longest f_total a_ruleSize a_rules a_first a_actions a_size a_numbers a_moveX a_moveY a_turn a_leastX a_mostX a_leastY a_mostY a_headLetter a_headRun a_tailLetter a_tailRun a_bestRun a_pattern a_stateAfter a_formState a_formHits tp pi a_seen := by
  intro m
  induction m using Nat.strongRecOn with
  | ind m ih =>
    intro i L dn tp pi hi hs hg h0 hw hT
    refine br_f (nI_ge (a := i) (b := 1000) (by omega) (by omega)) ?_
    cases L with
    | nil =>
      have e : W.drop a = dn := by rw [hg]; simp [gw_gf]
      refine br_t gw_m1 (K (-4) tp pi (gw_faN hP1 ?_))
      rw [e]
      exact h0
    | cons f L =>
      obtain ⟨c, l⟩ := f
      have hc : c < 6 := hw.1.1
      have hl : l ≤ n := hw.1.2.1
      have hp : 0 < (gw_ex R l c).length := hw.1.2.2.1
      have hL := gw_wfL hw
      rw [List.length_cons] at hL
      have hst := gw_ksL (P := P) dn (s := 0) (by omega)
      have cf : (nI (13 * c + l)).toNatClampNeg = 13 * c + l := nI_clamp (by omega)
      have vf : vp_in (nI (13 * c + l)) 78 := vp_in_nI (by omega) (by omega)
      have hz := (hF c hc l (by omega)).1
      have hb := gw_exB ok.1 (l := l) c (by omega)
      have hkl := gw_khL P (gw_ex R l c) (gw_ks P 0 dn)
      have e4 : 4 * nI (13 * c + l) + nI (gw_ks P 0 dn) = nI (4 * (13 * c + l) + gw_ks P 0 dn) := xw_mi 4 _ _
      have v4 := pk_in (4 * (13 * c + l) + gw_ks P 0 dn) 312 (by omega) e4
      have hh := hN.2 c hc l (by omega) _ hst
      refine br_f (nI_pos (n := 13 * c + l) (by omega)) (And.intro v4 ?_)
      by_cases q : gw_kh P (gw_ks P 0 dn) (gw_ex R l c) = 0
      · obtain ⟨m', e, hs'⟩ := gw_fkP hs q
        subst e
        refine br_t ?_ (And.intro v4 (nm_r (e' := nI (gw_ks P 0 (dn ++ gw_ex R l c))) ?_ (And.intro vf (nm_r (e' := nI (a + (dn ++ gw_ex R l c).length)) ?_ (nm_r (e' := upd tp 0 (tp 0 - 1)) rfl ?_)))))
        · show a_formHits (4 * nI (13 * c + l) + nI (gw_ks P 0 dn)).toNatClampNeg = 0
          rw [pk_cl _ e4, hh.2, q]
          rfl
        · show a_formState (4 * nI (13 * c + l) + nI (gw_ks P 0 dn)).toNatClampNeg = _
          rw [pk_cl _ e4, hh.1, gw_ksA]
        · show nI (a + dn.length) + a_size (nI (13 * c + l)).toNatClampNeg = _
          rw [cf, hz, nI_add, List.length_append, Nat.add_assoc]
        · refine xw_next (r := 0) (by omega) (by omega) (xw_pop hT) ?_
          refine nm_r (e' := nI (i + 1)) (nI_1 i) ?_
          refine ih m' (by omega) (i + 1) L _ _ pi (by omega) ?_ ?_ ?_ hw.2 (xw_pop hT)
          · rw [gw_ksA]
            exact hs'
          · rw [hg, gw_gfC, List.append_assoc]
          · rw [gw_khA, h0, q]
      · refine br_f ?_ ?_
        · show ¬ a_formHits (4 * nI (13 * c + l) + nI (gw_ks P 0 dn)).toNatClampNeg = 0
          rw [pk_cl _ e4, hh.2]
          exact nI_ne0 (by omega) (by omega)
        · refine xw_level hc (by omega) ?_
          cases l with
          | zero =>
            have hg2 : W.drop a = dn ++ c :: gw_gf R L := by
              rw [hg, gw_gfC]
              rfl
            obtain ⟨ha, hb⟩ := gw_faY hP1 hg2 h0 q
            refine br_t rfl ?_
            have e5 : nI (a + dn.length) + 1 - f_patternSize = nI (a + dn.length + 1 - P.length) := by
              rw [hN.1, nI_1, pk_sub (by omega)]
            rw [e5]
            exact K _ tp pi ha
          | succ l =>
            obtain ⟨m', e, hs'⟩ := gw_fkO hs q (ok.1 c).1
            subst e
            refine br_f (nI_ne0 (by omega) (by omega)) ?_
            refine xw_open (r := 0) ok hB hF (by omega) hn hw hT ?_
            intro tp' pi' hT' hw' hFr'
            have hL' := gw_wfL hw'
            refine xw_next (r := 0) (by omega) (by omega) hT' ?_
            refine nm_r (e' := nI (i + 1)) (nI_1 i) ?_
            refine ih m' (by omega) (i + 1) _ dn tp' pi' (by omega) hs' ?_ h0 hw' hT'
            rw [hg, gw_gfA, gw_opG, ← gw_exS, gw_gfC]
theorem xw_fd39 {post : Int32 → SX → Prop} {R : Nat → List Nat} {F : List Nat} {A : Nat → Nat} {P : List Nat} {n a : Nat} (ok : gw_ok R F A) (hB : gw_B R F A f_firstSize a_ruleSize a_rules a_first a_actions) (hF : xw_F R A a_size a_numbers a_moveX a_moveY a_turn a_leastX a_mostX a_leastY a_mostY a_headLetter a_headRun a_tailLetter a_tailRun a_bestRun) (hN : xw_N R P f_patternSize a_pattern a_formState a_formHits) (hn : n < 13) (hP1 : 1 ≤ P.length) (hP4 : P.length ≤ 4) (ha : a < 2 ^ 31)
    (K : ∀ (r : Int32) (tp pi : Nat → Int32), gw_fa (gw_G R F n) P a r → post r (f_firstSize, f_known, f_patternNumber, f_patternSize, f_penX, f_penY, f_penTurn, f_lowX, f_highX, f_lowY, f_highY, f_frontLetter, f_frontRun, f_backLetter, f_backRun, f_longest, f_total, a_ruleSize, a_rules, a_first, a_actions, a_size, a_numbers, a_moveX, a_moveY, a_turn, a_leastX, a_mostX, a_leastY, a_mostY, a_headLetter, a_headRun, a_tailLetter, a_tailRun, a_bestRun, a_pattern, a_stateAfter, a_formState, a_formHits, tp, pi, a_seen)) : wX_find_39 post (nI n) (nI a) f_firstSize f_known f_patternNumber f_patternSize f_penX f_penY f_penTurn f_lowX f_highX f_lowY f_highY f_frontLetter f_frontRun f_backLetter f_backRun f_longest f_total a_ruleSize a_rules a_first a_actions a_size a_numbers a_moveX a_moveY a_turn a_leastX a_mostX a_leastY a_mostY a_headLetter a_headRun a_tailLetter a_tailRun a_bestRun a_pattern a_stateAfter a_formState a_formHits a_top a_pile a_seen := by
  refine xw_begin (r := 0) ok hB hF (by omega) hn ?_
  intro t1 p1 hT1 hw1 _
  refine xw_skip (r := 0) (k := a) ok hB hF (by omega) hn ha hw1 hT1 ?_
  intro t2 p2 L2 hg2 hw2 hT2 _
  have hL2 := gw_wfL hw2
  refine xw_next (r := 0) (by omega) (by omega) hT2 ?_
  refine ⟨L2.length + 5 * n + 1, ?_⟩
  refine xw_fd67 (W := gw_G R F n) (a := a) ok hB hF hN hn hP1 hP4 K (L2.length + 5 * n) 0 L2 [] t2 p2 (by omega) (gw_fkI hw2) ?_ rfl hw2 hT2
  rw [List.nil_append, hg2, gw_opG]
  rfl
theorem xw_find {post : Int32 → SX → Prop} {R : Nat → List Nat} {F : List Nat} {A : Nat → Nat} {v v2 v3 : Int32} (ok : gw_ok R F A) (hI : xw_I R F A (f_firstSize, f_known, f_patternNumber, f_patternSize, f_penX, f_penY, f_penTurn, f_lowX, f_highX, f_lowY, f_highY, f_frontLetter, f_frontRun, f_backLetter, f_backRun, f_longest, f_total, a_ruleSize, a_rules, a_first, a_actions, a_size, a_numbers, a_moveX, a_moveY, a_turn, a_leastX, a_mostX, a_leastY, a_mostY, a_headLetter, a_headRun, a_tailLetter, a_tailRun, a_bestRun, a_pattern, a_stateAfter, a_formState, a_formHits, a_top, a_pile, a_seen))
    (K : ∀ r u, gw_gq R F v (fun n r => gw_fb (gw_G R F n) v2 v3 r) r → xw_I R F A u → post r u) : wpX_find post (f_firstSize, f_known, f_patternNumber, f_patternSize, f_penX, f_penY, f_penTurn, f_lowX, f_highX, f_lowY, f_highY, f_frontLetter, f_frontRun, f_backLetter, f_backRun, f_longest, f_total, a_ruleSize, a_rules, a_first, a_actions, a_size, a_numbers, a_moveX, a_moveY, a_turn, a_leastX, a_mostX, a_leastY, a_mostY, a_headLetter, a_headRun, a_tailLetter, a_tailRun, a_bestRun, a_pattern, a_stateAfter, a_formState, a_formHits, a_top, a_pile, a_seen) v v2 v3 := by
  unfold wpX_find
  dsimp only
  rcases gw_vc v with hv | ⟨n, hn, rfl⟩
  · exact xw_refA hv (br_f (by decide) (K _ _ (gw_gqA hv) hI))
  · refine xw_refB ok hI hn ?_ ?_
    · intro hrc
      refine xw_Kel ?_
      intro f_firstSize f_known f_patternNumber f_patternSize f_penX f_penY f_penTurn f_lowX f_highX f_lowY f_highY f_frontLetter f_frontRun f_backLetter f_backRun f_longest f_total a_ruleSize a_rules a_first a_actions a_size a_numbers a_moveX a_moveY a_turn a_leastX a_mostX a_leastY a_mostY a_headLetter a_headRun a_tailLetter a_tailRun a_bestRun a_pattern a_stateAfter a_formState a_formHits a_top a_pile a_seen hK
      refine br_t rfl ?_
      refine xw_isPat ?_ ?_
      · intro P hP hP1
        obtain ⟨x, hx, e, hd⟩ := gw_dvV hP
        have hp := gw_deP hd
        refine br_f (by decide) ?_
        subst e
        refine xw_prepare (P := P) ok hK hx hd hP1 ?_
        intro f_patternNumber f_patternSize a_pattern a_stateAfter a_formState a_formHits hN hK
        have K2 : ∀ (a : Nat) (r : Int32) (tp pi : Nat → Int32), a = v3.toNatClampNeg → gw_fa (gw_G R F n) P a r → post r (f_firstSize, f_known, f_patternNumber, f_patternSize, f_penX, f_penY, f_penTurn, f_lowX, f_highX, f_lowY, f_highY, f_frontLetter, f_frontRun, f_backLetter, f_backRun, f_longest, f_total, a_ruleSize, a_rules, a_first, a_actions, a_size, a_numbers, a_moveX, a_moveY, a_turn, a_leastX, a_mostX, a_leastY, a_mostY, a_headLetter, a_headRun, a_tailLetter, a_tailRun, a_bestRun, a_pattern, a_stateAfter, a_formState, a_formHits, tp, pi, a_seen) := by
          intro a r tp pi ea hr
          rw [ea] at hr
          exact K _ _ (gw_gqC hn hrc (Or.inl ⟨P, hP, hP1, hr⟩)) (xw_IK hK)
        by_cases h3 : v3 < 0
        · have e3 : 0 = v3.toNatClampNeg := by
            rcases gw_cm v3 with z | z
            · exact z.2.symm
            · exact absurd h3 z.1
          refine br_f (Int32.not_le.mpr h3) ?_
          exact xw_fd39 (a := 0) ok hK.1 hK.2.1 hN hn hP1 hp.1 (by omega) (fun r tp pi hr => K2 0 r tp pi e3 hr)
        · have e3 : v3.toNatClampNeg < 2 ^ 31 ∧ v3 = nI v3.toNatClampNeg := by
            rcases gw_cm v3 with z | z
            · exact absurd z.1 h3
            · exact z.2
          refine br_t (Int32.not_lt.mp h3) ?_
          have := xw_fd39 (a := v3.toNatClampNeg) (a_top := a_top) (a_pile := a_pile) ok hK.1 hK.2.1 hN hn hP1 hp.1 e3.1 (fun r tp pi hr => K2 _ r tp pi rfl hr)
          rw [← e3.2] at this
          exact this
      · intro hP
        exact br_t rfl (K _ _ (gw_gqC hn hrc (Or.inr ⟨hP, rfl⟩)) (xw_IK hK))
    · intro hrc
      refine xw_Kel ?_
      intro f_firstSize f_known f_patternNumber f_patternSize f_penX f_penY f_penTurn f_lowX f_highX f_lowY f_highY f_frontLetter f_frontRun f_backLetter f_backRun f_longest f_total a_ruleSize a_rules a_first a_actions a_size a_numbers a_moveX a_moveY a_turn a_leastX a_mostX a_leastY a_mostY a_headLetter a_headRun a_tailLetter a_tailRun a_bestRun a_pattern a_stateAfter a_formState a_formHits a_top a_pile a_seen hK
      exact br_f (by decide) (K _ _ (gw_gqB hn hrc) (xw_IK hK))
theorem xw_oc36 {post : Int32 → SX → Prop} {R : Nat → List Nat} {F : List Nat} {A : Nat → Nat} {P : List Nat} {n : Nat} (ok : gw_ok R F A) (hB : gw_B R F A f_firstSize a_ruleSize a_rules a_first a_actions) (hN : xw_N R P f_patternSize a_pattern a_formState a_formHits) (hn : n < 13) (hP1 : 1 ≤ P.length) (hP4 : P.length ≤ 4)
    (h : post (nI (gw_kh P 0 (gw_G R F n))) (f_firstSize, f_known, f_patternNumber, f_patternSize, f_penX, f_penY, f_penTurn, f_lowX, f_highX, f_lowY, f_highY, f_frontLetter, f_frontRun, f_backLetter, f_backRun, f_longest, f_total, a_ruleSize, a_rules, a_first, a_actions, a_size, a_numbers, a_moveX, a_moveY, a_turn, a_leastX, a_mostX, a_leastY, a_mostY, a_headLetter, a_headRun, a_tailLetter, a_tailRun, a_bestRun, a_pattern, a_stateAfter, a_formState, a_formHits, a_top, a_pile, a_seen)) :
    ∀ d i, i + d = F.length → wX_occurrences_36 post (nI n) f_firstSize f_known f_patternNumber f_patternSize f_penX f_penY f_penTurn f_lowX f_highX f_lowY f_highY f_frontLetter f_frontRun f_backLetter f_backRun f_longest f_total a_ruleSize a_rules a_first a_actions a_size a_numbers a_moveX a_moveY a_turn a_leastX a_mostX a_leastY a_mostY a_headLetter a_headRun a_tailLetter a_tailRun a_bestRun a_pattern a_stateAfter a_formState a_formHits a_top a_pile a_seen (d + 1) (nI (gw_ks P 0 ((F.take i).flatMap (gw_ex R n)))) (nI (gw_kh P 0 ((F.take i).flatMap (gw_ex R n)))) (nI i) := by
  have h8 := ok.2.1.2.1
  intro d
  induction d with
  | zero =>
    intro i hi
    have e : i = F.length := by omega
    subst e
    rw [List.take_length]
    exact br_t (by rw [hB.1]; exact nI_le (by omega) (by omega)) h
  | succ d ih =>
    intro i hi
    have hi2 : i < F.length := by omega
    have ci : (nI i).toNatClampNeg = i := nI_clamp (by omega)
    have hm : F.getD i 0 < 6 := ok.2.1.2.2 _ (gw_gm hi2)
    have hst := gw_ksL (P := P) ((F.take i).flatMap (gw_ex R n)) (s := 0) (by omega)
    have hh := hN.2 _ hm n hn _ hst
    have e5 : 4 * nI (13 * F.getD i 0 + n) + nI (gw_ks P 0 ((F.take i).flatMap (gw_ex R n))) = nI (4 * (13 * F.getD i 0 + n) + gw_ks P 0 ((F.take i).flatMap (gw_ex R n))) := xw_mi 4 _ _
    have v5 := pk_in (4 * (13 * F.getD i 0 + n) + gw_ks P 0 ((F.take i).flatMap (gw_ex R n))) 312 (by omega) e5
    refine br_f (by rw [hB.1]; exact nI_ge hi2 (by omega)) (And.intro (vp_in_nI (by omega) (by omega)) ?_)
    refine xw_form (c := F.getD i 0) (l := n) (by rw [ci]; exact hB.2.2.2.1 i hi2) rfl ?_
    refine And.intro v5 (nm_r (e' := nI (gw_kh P 0 ((F.take (i + 1)).flatMap (gw_ex R n)))) ?_ (And.intro v5 (nm_r (e' := nI (gw_ks P 0 ((F.take (i + 1)).flatMap (gw_ex R n)))) ?_ (nm_r (e' := nI (i + 1)) (nI_1 i) (ih (i + 1) (by omega))))))
    · rw [pk_cl _ e5, hh.2, nI_add, gw_Fi hi2, gw_khA]
    · rw [pk_cl _ e5, hh.1, gw_Fi hi2, gw_ksA]
theorem xw_occurrences {post : Int32 → SX → Prop} {R : Nat → List Nat} {F : List Nat} {A : Nat → Nat} {v v2 : Int32} (ok : gw_ok R F A) (hI : xw_I R F A (f_firstSize, f_known, f_patternNumber, f_patternSize, f_penX, f_penY, f_penTurn, f_lowX, f_highX, f_lowY, f_highY, f_frontLetter, f_frontRun, f_backLetter, f_backRun, f_longest, f_total, a_ruleSize, a_rules, a_first, a_actions, a_size, a_numbers, a_moveX, a_moveY, a_turn, a_leastX, a_mostX, a_leastY, a_mostY, a_headLetter, a_headRun, a_tailLetter, a_tailRun, a_bestRun, a_pattern, a_stateAfter, a_formState, a_formHits, a_top, a_pile, a_seen))
    (K : ∀ r u, gw_gq R F v (fun n r => gw_ob (gw_G R F n) v2 r) r → xw_I R F A u → post r u) : wpX_occurrences post (f_firstSize, f_known, f_patternNumber, f_patternSize, f_penX, f_penY, f_penTurn, f_lowX, f_highX, f_lowY, f_highY, f_frontLetter, f_frontRun, f_backLetter, f_backRun, f_longest, f_total, a_ruleSize, a_rules, a_first, a_actions, a_size, a_numbers, a_moveX, a_moveY, a_turn, a_leastX, a_mostX, a_leastY, a_mostY, a_headLetter, a_headRun, a_tailLetter, a_tailRun, a_bestRun, a_pattern, a_stateAfter, a_formState, a_formHits, a_top, a_pile, a_seen) v v2 := by
  unfold wpX_occurrences
  dsimp only
  rcases gw_vc v with hv | ⟨n, hn, rfl⟩
  · exact xw_refA hv (br_f (by decide) (K _ _ (gw_gqA hv) hI))
  · refine xw_refB ok hI hn ?_ ?_
    · intro hrc
      refine xw_Kel ?_
      intro f_firstSize f_known f_patternNumber f_patternSize f_penX f_penY f_penTurn f_lowX f_highX f_lowY f_highY f_frontLetter f_frontRun f_backLetter f_backRun f_longest f_total a_ruleSize a_rules a_first a_actions a_size a_numbers a_moveX a_moveY a_turn a_leastX a_mostX a_leastY a_mostY a_headLetter a_headRun a_tailLetter a_tailRun a_bestRun a_pattern a_stateAfter a_formState a_formHits a_top a_pile a_seen hK
      refine br_t rfl ?_
      refine xw_isPat ?_ ?_
      · intro P hP hP1
        obtain ⟨x, hx, e, hd⟩ := gw_dvV hP
        have hp := gw_deP hd
        refine br_f (by decide) ?_
        subst e
        refine xw_prepare (P := P) ok hK hx hd hP1 ?_
        intro f_patternNumber f_patternSize a_pattern a_stateAfter a_formState a_formHits hN hK
        refine ⟨F.length + 1, ?_⟩
        refine xw_oc36 (P := P) ok hK.1 hN hn hP1 hp.1 ?_ F.length 0 (Nat.zero_add _)
        rw [gw_khO hP1]
        exact K _ _ (gw_gqC hn hrc (Or.inl ⟨P, hP, hP1, rfl⟩)) (xw_IK hK)
      · intro hP
        exact br_t rfl (K _ _ (gw_gqC hn hrc (Or.inr ⟨hP, rfl⟩)) (xw_IK hK))
    · intro hrc
      refine xw_Kel ?_
      intro f_firstSize f_known f_patternNumber f_patternSize f_penX f_penY f_penTurn f_lowX f_highX f_lowY f_highY f_frontLetter f_frontRun f_backLetter f_backRun f_longest f_total a_ruleSize a_rules a_first a_actions a_size a_numbers a_moveX a_moveY a_turn a_leastX a_mostX a_leastY a_mostY a_headLetter a_headRun a_tailLetter a_tailRun a_bestRun a_pattern a_stateAfter a_formState a_formHits a_top a_pile a_seen hK
      exact br_f (by decide) (K _ _ (gw_gqB hn hrc) (xw_IK hK))
end
end
section
/-! setting up: what both sides do to rules, first word, actions -/
def gw_R1 (R : Nat → List Nat) (c : Nat) (w : List Nat) : Nat → List Nat := fun x => if x = c then w else R x
def gw_A1 (A : Nat → Nat) (c a : Nat) : Nat → Nat := fun x => if x = c then a else A x
theorem gw_okR {R : Nat → List Nat} {F : List Nat} {A : Nat → Nat} (ok : gw_ok R F A) {c : Nat} {w : List Nat} (h1 : w.length ≤ 4) (h2 : ∀ d, d ∈ w → d < 6) : gw_ok (gw_R1 R c w) F A := by
  refine ⟨fun x => ?_, ok.2⟩
  unfold gw_R1
  by_cases z : x = c
  · rw [if_pos z]; exact ⟨h1, h2⟩
  · rw [if_neg z]; exact ok.1 x
theorem gw_okF {R : Nat → List Nat} {F : List Nat} {A : Nat → Nat} (ok : gw_ok R F A) {w : List Nat} (h0 : 1 ≤ w.length) (h1 : w.length ≤ 8) (h2 : ∀ d, d ∈ w → d < 6) : gw_ok R w A := ⟨ok.1, ⟨h0, h1, h2⟩, ok.2.2⟩
theorem gw_okA {R : Nat → List Nat} {F : List Nat} {A : Nat → Nat} (ok : gw_ok R F A) {c a : Nat} (h : a < 4) : gw_ok R F (gw_A1 A c a) := by
  refine ⟨ok.1, ok.2.1, fun x => ?_⟩
  unfold gw_A1
  by_cases z : x = c
  · rw [if_pos z]; exact h
  · rw [if_neg z]; exact ok.2.2 x
theorem gw_BR {R : Nat → List Nat} {F : List Nat} {A : Nat → Nat} {fs : Int32} {rz rl rl0 ft ac : Nat → Int32} (hB : gw_B R F A fs rz rl0 ft ac) {c : Nat} {w : List Nat} (hR : ∀ x, (R x).length ≤ 4 ∧ ∀ d, d ∈ R x → d < 6) (h1 : ∀ i, i < w.length → rl (4 * c + i) = nI (w.getD i 0)) (h2 : ∀ j, (j < 4 * c ∨ 4 * c + 4 ≤ j) → rl j = rl0 j) : gw_B (gw_R1 R c w) F A fs (upd rz c (nI w.length)) rl ft ac := by
  refine ⟨hB.1, fun x hx => ?_, fun x hx i hi => ?_, hB.2.2.2⟩
  · unfold gw_R1
    by_cases z : x = c
    · rw [if_pos z, z, pk_us]
    · rw [if_neg z, pk_un z]; exact hB.2.1 x hx
  · unfold gw_R1 at hi ⊢
    by_cases z : x = c
    · rw [if_pos z] at hi ⊢
      rw [z]; exact h1 i hi
    · rw [if_neg z] at hi ⊢
      have h4 := (hR x).1
      rw [h2 _ (by omega)]
      exact hB.2.2.1 x hx i hi
theorem gw_BA {R : Nat → List Nat} {F : List Nat} {A : Nat → Nat} {fs : Int32} {rz rl ft ac : Nat → Int32} (hB : gw_B R F A fs rz rl ft ac) {c a : Nat} : gw_B R F (gw_A1 A c a) fs rz rl ft (upd ac c (nI a)) := by
  refine ⟨hB.1, hB.2.1, hB.2.2.1, hB.2.2.2.1, fun x hx => ?_⟩
  unfold gw_A1
  by_cases z : x = c
  · rw [if_pos z, z, pk_us]
  · rw [if_neg z, pk_un z]; exact hB.2.2.2.2 x hx
def gw_R0 : Nat → List Nat := fun c => if c < 6 then [c] else []
def gw_A0 : Nat → Nat := fun _ => 0
theorem gw_ok0 : gw_ok gw_R0 [0] gw_A0 := by
  refine ⟨fun c => ?_, ⟨by simp, by simp, by simp⟩, fun c => by show 0 < 4; omega⟩
  unfold gw_R0
  by_cases z : c < 6
  · rw [if_pos z]
    refine ⟨by simp, fun d hd => ?_⟩
    simp at hd
    omega
  · rw [if_neg z]
    exact ⟨by simp, fun d hd => by simp at hd⟩
theorem gw_B0 {ft ac rz rl : Nat → Int32} (h1 : ∀ c, c < 6 → rz c = 1 ∧ rl (4 * c) = nI c) (h2 : ft 0 = 0) (h3 : ∀ c, c < 6 → ac c = 0) : gw_B gw_R0 [0] gw_A0 1 rz rl ft ac := by
  refine ⟨rfl, fun c hc => ?_, fun c hc i hi => ?_, fun i hi => ?_, fun c hc => h3 c hc⟩
  · unfold gw_R0
    rw [if_pos hc]
    exact (h1 c hc).1
  · unfold gw_R0 at hi ⊢
    rw [if_pos hc] at hi ⊢
    have : i = 0 := by simp at hi; omega
    subst this
    exact (h1 c hc).2
  · have : i = 0 := by simp at hi; omega
    subst this
    exact h2
section
variable {f_firstSize f_known f_patternNumber f_patternSize f_penX f_penY f_penTurn f_lowX f_highX f_lowY f_highY f_frontLetter f_frontRun f_backLetter f_backRun f_longest f_total : Int32} {a_ruleSize a_rules a_first a_actions a_size a_numbers a_moveX a_moveY a_turn a_leastX a_mostX a_leastY a_mostY a_headLetter a_headRun a_tailLetter a_tailRun a_bestRun a_pattern a_stateAfter a_formState a_formHits a_top a_pile a_seen : Nat → Int32}
theorem xw_ruleA {post : Int32 → SX → Prop} {v1 v2 : Int32} (hv : v1 < 0 ∨ 6 ≤ v1) (h : post (-1) (f_firstSize, f_known, f_patternNumber, f_patternSize, f_penX, f_penY, f_penTurn, f_lowX, f_highX, f_lowY, f_highY, f_frontLetter, f_frontRun, f_backLetter, f_backRun, f_longest, f_total, a_ruleSize, a_rules, a_first, a_actions, a_size, a_numbers, a_moveX, a_moveY, a_turn, a_leastX, a_mostX, a_leastY, a_mostY, a_headLetter, a_headRun, a_tailLetter, a_tailRun, a_bestRun, a_pattern, a_stateAfter, a_formState, a_formHits, a_top, a_pile, a_seen)) : wpX_rule post (f_firstSize, f_known, f_patternNumber, f_patternSize, f_penX, f_penY, f_penTurn, f_lowX, f_highX, f_lowY, f_highY, f_frontLetter, f_frontRun, f_backLetter, f_backRun, f_longest, f_total, a_ruleSize, a_rules, a_first, a_actions, a_size, a_numbers, a_moveX, a_moveY, a_turn, a_leastX, a_mostX, a_leastY, a_mostY, a_headLetter, a_headRun, a_tailLetter, a_tailRun, a_bestRun, a_pattern, a_stateAfter, a_formState, a_formHits, a_top, a_pile, a_seen) v1 v2 := by
  by_cases c : v1 < 0
  · exact br_t c h
  · refine br_f c (br_f ?_ h)
    rcases hv with z | z
    · exact absurd z c
    · exact Int32.not_lt.mpr z
theorem xw_ruleB {post : Int32 → SX → Prop} {c : Nat} {v2 : Int32} (hc : c < 6) (hv : gw_dv 4 v2 = none) (h : post (-2) (f_firstSize, f_known, f_patternNumber, f_patternSize, f_penX, f_penY, f_penTurn, f_lowX, f_highX, f_lowY, f_highY, f_frontLetter, f_frontRun, f_backLetter, f_backRun, f_longest, f_total, a_ruleSize, a_rules, a_first, a_actions, a_size, a_numbers, a_moveX, a_moveY, a_turn, a_leastX, a_mostX, a_leastY, a_mostY, a_headLetter, a_headRun, a_tailLetter, a_tailRun, a_bestRun, a_pattern, a_stateAfter, a_formState, a_formHits, a_top, a_pile, a_seen)) : wpX_rule post (f_firstSize, f_known, f_patternNumber, f_patternSize, f_penX, f_penY, f_penTurn, f_lowX, f_highX, f_lowY, f_highY, f_frontLetter, f_frontRun, f_backLetter, f_backRun, f_longest, f_total, a_ruleSize, a_rules, a_first, a_actions, a_size, a_numbers, a_moveX, a_moveY, a_turn, a_leastX, a_mostX, a_leastY, a_mostY, a_headLetter, a_headRun, a_tailLetter, a_tailRun, a_bestRun, a_pattern, a_stateAfter, a_formState, a_formHits, a_top, a_pile, a_seen) (nI c) v2 := by
  refine br_f (nI_pos (by omega)) (br_t (nI_lt (b := 6) hc (by omega)) ?_)
  refine xw_size (most := 4) (by omega) ?_ ?_
  · intro w hw
    rw [hv] at hw
    cases hw
  · intro _
    exact br_f (by decide) h
theorem xw_rl31 {post : Int32 → SX → Prop} {c : Nat} {w : List Nat} (hc : c < 6) (h4 : w.length ≤ 4)
    (K : ∀ rl : Nat → Int32, (∀ i, i < w.length → rl (4 * c + i) = nI (w.getD i 0)) → (∀ j, (j < 4 * c ∨ 4 * c + 4 ≤ j) → rl j = a_rules j) → post (nI w.length) (f_firstSize, 0, 0, f_patternSize, f_penX, f_penY, f_penTurn, f_lowX, f_highX, f_lowY, f_highY, f_frontLetter, f_frontRun, f_backLetter, f_backRun, f_longest, f_total, upd a_ruleSize c (nI w.length), rl, a_first, a_actions, a_size, a_numbers, a_moveX, a_moveY, a_turn, a_leastX, a_mostX, a_leastY, a_mostY, a_headLetter, a_headRun, a_tailLetter, a_tailRun, a_bestRun, a_pattern, a_stateAfter, a_formState, a_formHits, a_top, a_pile, a_seen)) :
    ∀ d j v, j + d = w.length → v < 2 ^ 31 → ∀ k, gw_de k v = some (w.drop j) → ∀ rl : Nat → Int32, (∀ i, i < j → rl (4 * c + i) = nI (w.getD i 0)) → (∀ j, (j < 4 * c ∨ 4 * c + 4 ≤ j) → rl j = a_rules j) → wX_rule_31 post (nI c) (nI w.length) f_firstSize f_known f_patternNumber f_patternSize f_penX f_penY f_penTurn f_lowX f_highX f_lowY f_highY f_frontLetter f_frontRun f_backLetter f_backRun f_longest f_total (d + 1) (nI v) (nI j) a_ruleSize rl a_first a_actions a_size a_numbers a_moveX a_moveY a_turn a_leastX a_mostX a_leastY a_mostY a_headLetter a_headRun a_tailLetter a_tailRun a_bestRun a_pattern a_stateAfter a_formState a_formHits a_top a_pile a_seen := by
  intro d
  induction d with
  | zero =>
    intro j v hj hv k hd rl h1 h2
    have e : j = w.length := by omega
    subst e
    have cc : (nI c).toNatClampNeg = c := nI_clamp (by omega)
    refine br_t (nI_le (by omega) (by omega)) (And.intro (vp_in_nI hc (by omega)) (nm_r (e' := upd a_ruleSize c (nI w.length)) (by rw [cc]) ?_))
    exact K rl h1 h2
  | succ d ih =>
    intro j v hj hv k hd rl h1 h2
    rw [gw_dp (by omega)] at hd
    obtain ⟨hv0, hdg, h70, k', hk', hd'⟩ := gw_deC hd
    have e4 : 4 * nI c + nI j = nI (4 * c + j) := xw_mi 4 c j
    have e7 : (nI v - nI v / 7 * 7) - 1 = nI (w.getD j 0) := by
      rw [gw_r7 hv, hdg]
      exact pk_sub (b := 1) (by omega)
    refine br_f (nI_ge (by omega) (by omega)) (And.intro gw_n7 (And.intro (pk_in (4 * c + j) 24 (by omega) e4) (nm_r (e' := upd rl (4 * c + j) (nI (w.getD j 0))) (by rw [pk_cl _ e4, e7]) (And.intro gw_n7 (nm_r (gw_d7 hv) (nm_r (e' := nI (j + 1)) (nI_1 j) ?_))))))
    refine ih (j + 1) (v / 7) (by omega) (by omega) k' hd' _ ?_ ?_
    · intro i hi
      by_cases z : i = j
      · subst z; rw [pk_us]
      · rw [pk_un (by omega)]; exact h1 i (by omega)
    · intro i hi
      rw [pk_un (by omega)]
      exact h2 i hi
theorem xw_ruleC {post : Int32 → SX → Prop} {R : Nat → List Nat} {F : List Nat} {A : Nat → Nat} {c : Nat} {v2 : Int32} {w : List Nat} (ok : gw_ok R F A) (hI : xw_I R F A (f_firstSize, f_known, f_patternNumber, f_patternSize, f_penX, f_penY, f_penTurn, f_lowX, f_highX, f_lowY, f_highY, f_frontLetter, f_frontRun, f_backLetter, f_backRun, f_longest, f_total, a_ruleSize, a_rules, a_first, a_actions, a_size, a_numbers, a_moveX, a_moveY, a_turn, a_leastX, a_mostX, a_leastY, a_mostY, a_headLetter, a_headRun, a_tailLetter, a_tailRun, a_bestRun, a_pattern, a_stateAfter, a_formState, a_formHits, a_top, a_pile, a_seen)) (hc : c < 6) (hv : gw_dv 4 v2 = some w) (K : ∀ u, xw_I (gw_R1 R c w) F A u → post (nI w.length) u) : wpX_rule post (f_firstSize, f_known, f_patternNumber, f_patternSize, f_penX, f_penY, f_penTurn, f_lowX, f_highX, f_lowY, f_highY, f_frontLetter, f_frontRun, f_backLetter, f_backRun, f_longest, f_total, a_ruleSize, a_rules, a_first, a_actions, a_size, a_numbers, a_moveX, a_moveY, a_turn, a_leastX, a_mostX, a_leastY, a_mostY, a_headLetter, a_headRun, a_tailLetter, a_tailRun, a_bestRun, a_pattern, a_stateAfter, a_formState, a_formHits, a_top, a_pile, a_seen) (nI c) v2 := by
  have hI : gw_B R F A f_firstSize a_ruleSize a_rules a_first a_actions ∧ (f_known ≠ 0 → xw_F R A a_size a_numbers a_moveX a_moveY a_turn a_leastX a_mostX a_leastY a_mostY a_headLetter a_headRun a_tailLetter a_tailRun a_bestRun) ∧ (f_patternNumber ≠ 0 → xw_C R f_patternNumber f_patternSize a_pattern a_formState a_formHits) := hI
  obtain ⟨x, hx, e, hd⟩ := gw_dvV hv
  subst e
  have hp := gw_deP hd
  refine br_f (nI_pos (by omega)) (br_t (nI_lt (b := 6) hc (by omega)) ?_)
  refine xw_size (most := 4) (by omega) ?_ ?_
  · intro w' hw
    rw [hv] at hw
    cases hw
    refine br_t (nI_pos' (by omega)) ⟨w.length + 1, ?_⟩
    refine xw_rl31 hc hp.1 ?_ w.length 0 x (Nat.zero_add _) hx 4 hd a_rules (fun i hi => absurd hi (Nat.not_lt_zero i)) (fun _ _ => rfl)
    intro rl h1 h2
    exact K _ (And.intro (gw_BR hI.1 ok.1 h1 h2) (And.intro (fun z => absurd rfl z) (fun z => absurd rfl z)))
  · intro hw
    rw [hv] at hw
    cases hw
theorem xw_beginA {post : Int32 → SX → Prop} {v : Int32} (hv : gw_dv 8 v = none ∨ gw_dv 8 v = some []) (h : post (-1) (f_firstSize, f_known, f_patternNumber, f_patternSize, f_penX, f_penY, f_penTurn, f_lowX, f_highX, f_lowY, f_highY, f_frontLetter, f_frontRun, f_backLetter, f_backRun, f_longest, f_total, a_ruleSize, a_rules, a_first, a_actions, a_size, a_numbers, a_moveX, a_moveY, a_turn, a_leastX, a_mostX, a_leastY, a_mostY, a_headLetter, a_headRun, a_tailLetter, a_tailRun, a_bestRun, a_pattern, a_stateAfter, a_formState, a_formHits, a_top, a_pile, a_seen)) : wpX_begin post (f_firstSize, f_known, f_patternNumber, f_patternSize, f_penX, f_penY, f_penTurn, f_lowX, f_highX, f_lowY, f_highY, f_frontLetter, f_frontRun, f_backLetter, f_backRun, f_longest, f_total, a_ruleSize, a_rules, a_first, a_actions, a_size, a_numbers, a_moveX, a_moveY, a_turn, a_leastX, a_mostX, a_leastY, a_mostY, a_headLetter, a_headRun, a_tailLetter, a_tailRun, a_bestRun, a_pattern, a_stateAfter, a_formState, a_formHits, a_top, a_pile, a_seen) v := by
  unfold wpX_begin
  dsimp only
  refine xw_size (most := 8) (by omega) ?_ ?_
  · intro w hw
    rw [hw] at hv
    rcases hv with z | z
    · cases z
    · cases z
      exact br_f (by decide) h
  · intro _
    exact br_f (by decide) h
theorem xw_bg19 {post : Int32 → SX → Prop} {w : List Nat} (h8 : w.length ≤ 8)
    (K : ∀ ft : Nat → Int32, gw_hl ft w → post (nI w.length) (nI w.length, f_known, f_patternNumber, f_patternSize, f_penX, f_penY, f_penTurn, f_lowX, f_highX, f_lowY, f_highY, f_frontLetter, f_frontRun, f_backLetter, f_backRun, f_longest, f_total, a_ruleSize, a_rules, ft, a_actions, a_size, a_numbers, a_moveX, a_moveY, a_turn, a_leastX, a_mostX, a_leastY, a_mostY, a_headLetter, a_headRun, a_tailLetter, a_tailRun, a_bestRun, a_pattern, a_stateAfter, a_formState, a_formHits, a_top, a_pile, a_seen)) :
    ∀ d j v, j + d = w.length → v < 2 ^ 31 → ∀ k, gw_de k v = some (w.drop j) → ∀ ft : Nat → Int32, (∀ i, i < j → ft i = nI (w.getD i 0)) → wX_begin_19 post (nI w.length) f_firstSize f_known f_patternNumber f_patternSize f_penX f_penY f_penTurn f_lowX f_highX f_lowY f_highY f_frontLetter f_frontRun f_backLetter f_backRun f_longest f_total (d + 1) (nI v) (nI j) a_ruleSize a_rules ft a_actions a_size a_numbers a_moveX a_moveY a_turn a_leastX a_mostX a_leastY a_mostY a_headLetter a_headRun a_tailLetter a_tailRun a_bestRun a_pattern a_stateAfter a_formState a_formHits a_top a_pile a_seen := by
  intro d
  induction d with
  | zero =>
    intro j v hj hv k hd ft h1
    have e : j = w.length := by omega
    subst e
    exact br_t (nI_le (by omega) (by omega)) (K ft h1)
  | succ d ih =>
    intro j v hj hv k hd ft h1
    rw [gw_dp (by omega)] at hd
    obtain ⟨hv0, hdg, h70, k', hk', hd'⟩ := gw_deC hd
    have cj : (nI j).toNatClampNeg = j := nI_clamp (by omega)
    have e7 : (nI v - nI v / 7 * 7) - 1 = nI (w.getD j 0) := by
      rw [gw_r7 hv, hdg]
      exact pk_sub (b := 1) (by omega)
    refine br_f (nI_ge (by omega) (by omega)) (And.intro gw_n7 (And.intro (vp_in_nI (by omega) (by omega)) (nm_r (e' := upd ft j (nI (w.getD j 0))) (by rw [cj, e7]) (And.intro gw_n7 (nm_r (gw_d7 hv) (nm_r (e' := nI (j + 1)) (nI_1 j) ?_))))))
    refine ih (j + 1) (v / 7) (by omega) (by omega) k' hd' _ ?_
    intro i hi
    by_cases z : i = j
    · subst z; rw [pk_us]
    · rw [pk_un (by omega)]; exact h1 i (by omega)
theorem xw_beginB {post : Int32 → SX → Prop} {R : Nat → List Nat} {F : List Nat} {A : Nat → Nat} {v : Int32} {w : List Nat} (hI : xw_I R F A (f_firstSize, f_known, f_patternNumber, f_patternSize, f_penX, f_penY, f_penTurn, f_lowX, f_highX, f_lowY, f_highY, f_frontLetter, f_frontRun, f_backLetter, f_backRun, f_longest, f_total, a_ruleSize, a_rules, a_first, a_actions, a_size, a_numbers, a_moveX, a_moveY, a_turn, a_leastX, a_mostX, a_leastY, a_mostY, a_headLetter, a_headRun, a_tailLetter, a_tailRun, a_bestRun, a_pattern, a_stateAfter, a_formState, a_formHits, a_top, a_pile, a_seen)) (hv : gw_dv 8 v = some w) (h1 : 1 ≤ w.length) (K : ∀ u, xw_I R w A u → post (nI w.length) u) : wpX_begin post (f_firstSize, f_known, f_patternNumber, f_patternSize, f_penX, f_penY, f_penTurn, f_lowX, f_highX, f_lowY, f_highY, f_frontLetter, f_frontRun, f_backLetter, f_backRun, f_longest, f_total, a_ruleSize, a_rules, a_first, a_actions, a_size, a_numbers, a_moveX, a_moveY, a_turn, a_leastX, a_mostX, a_leastY, a_mostY, a_headLetter, a_headRun, a_tailLetter, a_tailRun, a_bestRun, a_pattern, a_stateAfter, a_formState, a_formHits, a_top, a_pile, a_seen) v := by
  have hI : gw_B R F A f_firstSize a_ruleSize a_rules a_first a_actions ∧ (f_known ≠ 0 → xw_F R A a_size a_numbers a_moveX a_moveY a_turn a_leastX a_mostX a_leastY a_mostY a_headLetter a_headRun a_tailLetter a_tailRun a_bestRun) ∧ (f_patternNumber ≠ 0 → xw_C R f_patternNumber f_patternSize a_pattern a_formState a_formHits) := hI
  obtain ⟨x, hx, e, hd⟩ := gw_dvV hv
  subst e
  have hp := gw_deP hd
  unfold wpX_begin
  dsimp only
  refine xw_size (most := 8) (by omega) ?_ ?_
  · intro w' hw
    rw [hv] at hw
    cases hw
    refine br_t (nI_le (a := 1) h1 (by omega)) ⟨w.length + 1, ?_⟩
    refine xw_bg19 hp.1 ?_ w.length 0 x (Nat.zero_add _) hx 8 hd a_first (fun i hi => absurd hi (Nat.not_lt_zero i))
    intro ft hf
    exact K _ (And.intro (And.intro rfl (And.intro hI.1.2.1 (And.intro hI.1.2.2.1 (And.intro hf hI.1.2.2.2.2)))) hI.2)
  · intro hw
    rw [hv] at hw
    cases hw
theorem xw_actionA {post : Int32 → SX → Prop} {v1 v2 : Int32} (hv : v1 < 0 ∨ 6 ≤ v1) (h : post (-1) (f_firstSize, f_known, f_patternNumber, f_patternSize, f_penX, f_penY, f_penTurn, f_lowX, f_highX, f_lowY, f_highY, f_frontLetter, f_frontRun, f_backLetter, f_backRun, f_longest, f_total, a_ruleSize, a_rules, a_first, a_actions, a_size, a_numbers, a_moveX, a_moveY, a_turn, a_leastX, a_mostX, a_leastY, a_mostY, a_headLetter, a_headRun, a_tailLetter, a_tailRun, a_bestRun, a_pattern, a_stateAfter, a_formState, a_formHits, a_top, a_pile, a_seen)) : wpX_action post (f_firstSize, f_known, f_patternNumber, f_patternSize, f_penX, f_penY, f_penTurn, f_lowX, f_highX, f_lowY, f_highY, f_frontLetter, f_frontRun, f_backLetter, f_backRun, f_longest, f_total, a_ruleSize, a_rules, a_first, a_actions, a_size, a_numbers, a_moveX, a_moveY, a_turn, a_leastX, a_mostX, a_leastY, a_mostY, a_headLetter, a_headRun, a_tailLetter, a_tailRun, a_bestRun, a_pattern, a_stateAfter, a_formState, a_formHits, a_top, a_pile, a_seen) v1 v2 := by
  by_cases c : v1 < 0
  · exact br_t c h
  · refine br_f c (br_f ?_ h)
    rcases hv with z | z
    · exact absurd z c
    · exact Int32.not_lt.mpr z
theorem xw_actionB {post : Int32 → SX → Prop} {c : Nat} {v2 : Int32} (hc : c < 6) (hv : v2 < 0 ∨ 4 ≤ v2) (h : post (-2) (f_firstSize, f_known, f_patternNumber, f_patternSize, f_penX, f_penY, f_penTurn, f_lowX, f_highX, f_lowY, f_highY, f_frontLetter, f_frontRun, f_backLetter, f_backRun, f_longest, f_total, a_ruleSize, a_rules, a_first, a_actions, a_size, a_numbers, a_moveX, a_moveY, a_turn, a_leastX, a_mostX, a_leastY, a_mostY, a_headLetter, a_headRun, a_tailLetter, a_tailRun, a_bestRun, a_pattern, a_stateAfter, a_formState, a_formHits, a_top, a_pile, a_seen)) : wpX_action post (f_firstSize, f_known, f_patternNumber, f_patternSize, f_penX, f_penY, f_penTurn, f_lowX, f_highX, f_lowY, f_highY, f_frontLetter, f_frontRun, f_backLetter, f_backRun, f_longest, f_total, a_ruleSize, a_rules, a_first, a_actions, a_size, a_numbers, a_moveX, a_moveY, a_turn, a_leastX, a_mostX, a_leastY, a_mostY, a_headLetter, a_headRun, a_tailLetter, a_tailRun, a_bestRun, a_pattern, a_stateAfter, a_formState, a_formHits, a_top, a_pile, a_seen) (nI c) v2 := by
  refine br_f (nI_pos (by omega)) (br_t (nI_lt (b := 6) hc (by omega)) ?_)
  by_cases z : v2 < 0
  · exact br_t z h
  · refine br_f z (br_f ?_ h)
    rcases hv with y | y
    · exact absurd y z
    · intro x
      exact absurd (Int32.le_trans y x) (by decide)
theorem xw_actionC {post : Int32 → SX → Prop} {R : Nat → List Nat} {F : List Nat} {A : Nat → Nat} {c a : Nat} (hI : xw_I R F A (f_firstSize, f_known, f_patternNumber, f_patternSize, f_penX, f_penY, f_penTurn, f_lowX, f_highX, f_lowY, f_highY, f_frontLetter, f_frontRun, f_backLetter, f_backRun, f_longest, f_total, a_ruleSize, a_rules, a_first, a_actions, a_size, a_numbers, a_moveX, a_moveY, a_turn, a_leastX, a_mostX, a_leastY, a_mostY, a_headLetter, a_headRun, a_tailLetter, a_tailRun, a_bestRun, a_pattern, a_stateAfter, a_formState, a_formHits, a_top, a_pile, a_seen)) (hc : c < 6) (ha : a < 4) (K : ∀ u, xw_I R F (gw_A1 A c a) u → post (nI (A c)) u) : wpX_action post (f_firstSize, f_known, f_patternNumber, f_patternSize, f_penX, f_penY, f_penTurn, f_lowX, f_highX, f_lowY, f_highY, f_frontLetter, f_frontRun, f_backLetter, f_backRun, f_longest, f_total, a_ruleSize, a_rules, a_first, a_actions, a_size, a_numbers, a_moveX, a_moveY, a_turn, a_leastX, a_mostX, a_leastY, a_mostY, a_headLetter, a_headRun, a_tailLetter, a_tailRun, a_bestRun, a_pattern, a_stateAfter, a_formState, a_formHits, a_top, a_pile, a_seen) (nI c) (nI a) := by
  have hI : gw_B R F A f_firstSize a_ruleSize a_rules a_first a_actions ∧ (f_known ≠ 0 → xw_F R A a_size a_numbers a_moveX a_moveY a_turn a_leastX a_mostX a_leastY a_mostY a_headLetter a_headRun a_tailLetter a_tailRun a_bestRun) ∧ (f_patternNumber ≠ 0 → xw_C R f_patternNumber f_patternSize a_pattern a_formState a_formHits) := hI
  have cc : (nI c).toNatClampNeg = c := nI_clamp (by omega)
  have vc : vp_in (nI c) 6 := vp_in_nI hc (by omega)
  refine br_f (nI_pos (by omega)) (br_t (nI_lt (b := 6) hc (by omega)) (br_f (nI_pos (by omega)) (br_t (nI_le (b := 3) (by omega) (by omega)) (And.intro vc (nm_r (e' := nI (A c)) (by rw [cc, hI.1.2.2.2.2 c hc]) (And.intro vc (nm_r (e' := upd a_actions c (nI a)) (by rw [cc]) ?_)))))))
  exact K (f_firstSize, 0, 0, f_patternSize, f_penX, f_penY, f_penTurn, f_lowX, f_highX, f_lowY, f_highY, f_frontLetter, f_frontRun, f_backLetter, f_backRun, f_longest, f_total, a_ruleSize, a_rules, a_first, upd a_actions c (nI a), a_size, a_numbers, a_moveX, a_moveY, a_turn, a_leastX, a_mostX, a_leastY, a_mostY, a_headLetter, a_headRun, a_tailLetter, a_tailRun, a_bestRun, a_pattern, a_stateAfter, a_formState, a_formHits, a_top, a_pile, a_seen) (And.intro (gw_BA hI.1) (And.intro (fun z => absurd rfl z) (fun z => absurd rfl z)))
theorem xw_in209 {post : SX → Prop} (hk : f_known = 0) (hp : f_patternNumber = 0) (hft : a_first 0 = 0) (hac : ∀ c, c < 6 → a_actions c = 0) (K : ∀ u, xw_I gw_R0 [0] gw_A0 u → post u) :
    ∀ d i, i + d = 6 → ∀ rz rl : Nat → Int32, (∀ c, c < i → rz c = 1 ∧ rl (4 * c) = nI c) → wX_init_209 post f_firstSize f_known f_patternNumber f_patternSize f_penX f_penY f_penTurn f_lowX f_highX f_lowY f_highY f_frontLetter f_frontRun f_backLetter f_backRun f_longest f_total (d + 1) (nI i) rz rl a_first a_actions a_size a_numbers a_moveX a_moveY a_turn a_leastX a_mostX a_leastY a_mostY a_headLetter a_headRun a_tailLetter a_tailRun a_bestRun a_pattern a_stateAfter a_formState a_formHits a_top a_pile a_seen := by
  intro d
  induction d with
  | zero =>
    intro i hi rz rl h
    have e : i = 6 := by omega
    subst e
    exact br_t (nI_le (a := 6) (b := 6) (by omega) (by omega)) (K _ (And.intro (gw_B0 h hft hac) (And.intro (fun z => absurd hk z) (fun z => absurd hp z))))
  | succ d ih =>
    intro i hi rz rl h
    have ci : (nI i).toNatClampNeg = i := nI_clamp (by omega)
    have e4 : 4 * nI i = nI (4 * i) := pk_mul 4 i
    refine br_f (nI_ge (a := i) (b := 6) (by omega) (by omega)) (And.intro (vp_in_nI (by omega) (by omega)) (nm_r (e' := upd rz i 1) (by rw [ci]) (And.intro (pk_in (4 * i) 24 (by omega) e4) (nm_r (e' := upd rl (4 * i) (nI i)) (by rw [pk_cl _ e4]) (nm_r (e' := nI (i + 1)) (nI_1 i) (ih (i + 1) (by omega) _ _ ?_))))))
    intro c hc
    by_cases z : c = i
    · subst z; rw [pk_us, pk_us]; exact ⟨rfl, rfl⟩
    · rw [pk_un z, pk_un (by omega)]; exact h c (by omega)
end
theorem xw_init {post : SX → Prop} (K : ∀ u, xw_I gw_R0 [0] gw_A0 u → post u) : wpX_init post :=
  ⟨7, xw_in209 rfl rfl rfl (fun _ _ => rfl) K 6 0 rfl (fun _ => 0) (fun _ => 0) (fun c hc => absurd hc (Nat.not_lt_zero c))⟩
end
section
/-! the reference's state -/
def yw_I (R : Nat → List Nat) (F : List Nat) (A : Nat → Nat) (v : SY) : Prop := match v with
  | (f_firstSize, f_size, f_otherSize, f_x, f_y, f_way, f_left, f_right, f_low, f_high, a_ruleSize, a_rules, a_first, a_actions, a_word, a_next, a_other, a_part, a_seen) => gw_B R F A f_firstSize a_ruleSize a_rules a_first a_actions
theorem yw_el {P : SY → Prop} (h : ∀ (f_firstSize f_size f_otherSize f_x f_y f_way f_left f_right f_low f_high : Int32) (a_ruleSize a_rules a_first a_actions a_word a_next a_other a_part a_seen : Nat → Int32), P (f_firstSize, f_size, f_otherSize, f_x, f_y, f_way, f_left, f_right, f_low, f_high, a_ruleSize, a_rules, a_first, a_actions, a_word, a_next, a_other, a_part, a_seen)) (u : SY) : P u := by
  obtain ⟨f_firstSize, f_size, f_otherSize, f_x, f_y, f_way, f_left, f_right, f_low, f_high, a_ruleSize, a_rules, a_first, a_actions, a_word, a_next, a_other, a_part, a_seen⟩ := u
  exact h f_firstSize f_size f_otherSize f_x f_y f_way f_left f_right f_low f_high a_ruleSize a_rules a_first a_actions a_word a_next a_other a_part a_seen
section
variable {f_firstSize f_size f_otherSize f_x f_y f_way f_left f_right f_low f_high : Int32} {a_ruleSize a_rules a_first a_actions a_word a_next a_other a_part a_seen : Nat → Int32}
theorem yw_IK {R : Nat → List Nat} {F : List Nat} {A : Nat → Nat} (h : gw_B R F A f_firstSize a_ruleSize a_rules a_first a_actions) : yw_I R F A (f_firstSize, f_size, f_otherSize, f_x, f_y, f_way, f_left, f_right, f_low, f_high, a_ruleSize, a_rules, a_first, a_actions, a_word, a_next, a_other, a_part, a_seen) := h
theorem yw_rd5 {post : Int32 → SY → Prop} {most : Nat} (hm : most ≤ 8) :
    ∀ k j v (pt : Nat → Int32) (u : List Nat), j + k = most → u.length = j → v < 2 ^ 31 → (∀ i, i < j → pt i = nI (u.getD i 0)) → (∀ w pt, gw_de k v = some w → gw_hl pt (u ++ w) → post (nI (j + w.length)) (f_firstSize, f_size, f_otherSize, f_x, f_y, f_way, f_left, f_right, f_low, f_high, a_ruleSize, a_rules, a_first, a_actions, a_word, a_next, a_other, pt, a_seen)) → (gw_de k v = none → ∀ pt, post (-1) (f_firstSize, f_size, f_otherSize, f_x, f_y, f_way, f_left, f_right, f_low, f_high, a_ruleSize, a_rules, a_first, a_actions, a_word, a_next, a_other, pt, a_seen)) → wY_read_5 post (nI most) f_firstSize f_size f_otherSize f_x f_y f_way f_left f_right f_low f_high (k + 1) (nI j) (nI v) a_ruleSize a_rules a_first a_actions a_word a_next a_other pt a_seen := by
  intro k
  induction k with
  | zero =>
    intro j v pt u hj hu hv hp h1 h2
    by_cases z : v = 0
    · subst z
      refine br_t (by decide) (br_t rfl ?_)
      exact h1 [] pt rfl (by rw [List.append_nil]; intro i hi; exact hp i (by omega))
    · have hn : gw_de 0 v = none := by show (if v = 0 then _ else _) = _; rw [if_neg z]
      refine br_f (nI_nle (by omega) hv) (br_t (nI_le (by omega) (by omega)) (br_f (nI_ne0 (by omega) hv) (h2 hn pt)))
  | succ k ih =>
    intro j v pt u hj hu hv hp h1 h2
    by_cases z : v = 0
    · subst z
      refine br_t (by decide) (br_t rfl ?_)
      exact h1 [] pt (gw_deZ _) (by rw [List.append_nil]; intro i hi; exact hp i (by omega))
    · rw [gw_deS z] at h1 h2
      refine br_f (nI_nle (by omega) hv) (br_f (nI_ge (by omega) (by omega)) (And.intro gw_n7 ?_))
      by_cases y : v % 7 = 0
      · rw [if_pos y] at h2
        exact br_t (by rw [gw_r7 hv, y]; decide) (br_f (nI_ne0 (by omega) hv) (h2 rfl pt))
      · rw [if_neg y] at h1 h2
        have cj : (nI j).toNatClampNeg = j := nI_clamp (by omega)
        have e7 : (nI v - nI v / 7 * 7) - 1 = nI (v % 7 - 1) := by
          rw [gw_r7 hv]
          exact pk_sub (b := 1) (by omega)
        refine br_f (by rw [gw_r7 hv]; exact nI_nle (by omega) (by omega)) (And.intro gw_n7 (And.intro (vp_in_nI (by omega) (by omega)) (nm_r (e' := upd pt j (nI (v % 7 - 1))) (by rw [cj, e7]) (And.intro gw_n7 (nm_r (gw_d7 hv) (nm_r (e' := nI (j + 1)) (nI_1 j) ?_))))))
        refine ih (j + 1) (v / 7) _ (u ++ [v % 7 - 1]) (by omega) (by rw [List.length_append, hu]; rfl) (by omega) ?_ ?_ ?_
        · intro i hi
          by_cases x : i = j
          · rw [x, pk_us, ← hu]
            simp
          · rw [pk_un x, hp i (by omega)]
            have : i < u.length := by omega
            simp [List.getElem?_append_left this]
        · intro w pt' hw hh
          have := h1 ((v % 7 - 1) :: w) pt' (by rw [hw]; rfl) (by rw [List.append_assoc] at hh; exact hh)
          rw [List.length_cons] at this
          rw [show j + 1 + w.length = j + (w.length + 1) by omega]
          exact this
        · intro hw
          exact h2 (by rw [hw]; rfl)
theorem yw_read {post : Int32 → SY → Prop} {most : Nat} {v : Int32} (hm : most ≤ 8) (h1 : ∀ w pt, gw_dv most v = some w → gw_hl pt w → post (nI w.length) (f_firstSize, f_size, f_otherSize, f_x, f_y, f_way, f_left, f_right, f_low, f_high, a_ruleSize, a_rules, a_first, a_actions, a_word, a_next, a_other, pt, a_seen)) (h2 : gw_dv most v = none → ∀ pt, post (-1) (f_firstSize, f_size, f_otherSize, f_x, f_y, f_way, f_left, f_right, f_low, f_high, a_ruleSize, a_rules, a_first, a_actions, a_word, a_next, a_other, pt, a_seen)) : wpY_read post (f_firstSize, f_size, f_otherSize, f_x, f_y, f_way, f_left, f_right, f_low, f_high, a_ruleSize, a_rules, a_first, a_actions, a_word, a_next, a_other, a_part, a_seen) v (nI most) := by
  rcases gw_cm v with ⟨h, e⟩ | ⟨h, h5, e⟩
  · refine ⟨1, br_t (Int32.le_of_lt h) (br_f ?_ (h2 (gw_dvN h) a_part))⟩
    intro z
    rw [z] at h
    exact absurd h (by decide)
  · generalize v.toNatClampNeg = j at h5 e
    subst e
    rw [gw_dvI h5] at h1 h2
    exact ⟨most + 1, yw_rd5 hm most 0 j a_part [] (Nat.zero_add _) rfl h5 (fun i hi => absurd hi (Nat.not_lt_zero i)) (fun w pt hw hh => by rw [Nat.zero_add]; exact h1 w pt hw hh) h2⟩
theorem yw_letA {post : Int32 → Prop} {v : Int32} (hv : v < 0 ∨ 6 ≤ v) (h : post 0) : wpY_isLetter post (f_firstSize, f_size, f_otherSize, f_x, f_y, f_way, f_left, f_right, f_low, f_high, a_ruleSize, a_rules, a_first, a_actions, a_word, a_next, a_other, a_part, a_seen) v := by
  by_cases c : v < 0
  · exact br_t c h
  · refine br_f c (br_t ?_ h)
    rcases hv with z | z
    · exact absurd z c
    · exact Int32.lt_of_lt_of_le (by decide) z
theorem yw_letB {post : Int32 → Prop} {c : Nat} (hc : c < 6) (h : post 1) : wpY_isLetter post (f_firstSize, f_size, f_otherSize, f_x, f_y, f_way, f_left, f_right, f_low, f_high, a_ruleSize, a_rules, a_first, a_actions, a_word, a_next, a_other, a_part, a_seen) (nI c) :=
  br_f (nI_pos (by omega)) (br_f (nI_nlt (a := 5) (by omega) (by omega)) h)
theorem yw_ruleA {post : Int32 → SY → Prop} {v1 v2 : Int32} (hv : v1 < 0 ∨ 6 ≤ v1) (h : post (-1) (f_firstSize, f_size, f_otherSize, f_x, f_y, f_way, f_left, f_right, f_low, f_high, a_ruleSize, a_rules, a_first, a_actions, a_word, a_next, a_other, a_part, a_seen)) : wpY_rule post (f_firstSize, f_size, f_otherSize, f_x, f_y, f_way, f_left, f_right, f_low, f_high, a_ruleSize, a_rules, a_first, a_actions, a_word, a_next, a_other, a_part, a_seen) v1 v2 := by
  unfold wpY_rule
  dsimp only
  refine yw_letA hv ?_
  exact br_t rfl h
theorem yw_ruleB {post : Int32 → SY → Prop} {c : Nat} {v2 : Int32} (hc : c < 6) (hv : gw_dv 4 v2 = none) (h : ∀ pt, post (-2) (f_firstSize, f_size, f_otherSize, f_x, f_y, f_way, f_left, f_right, f_low, f_high, a_ruleSize, a_rules, a_first, a_actions, a_word, a_next, a_other, pt, a_seen)) : wpY_rule post (f_firstSize, f_size, f_otherSize, f_x, f_y, f_way, f_left, f_right, f_low, f_high, a_ruleSize, a_rules, a_first, a_actions, a_word, a_next, a_other, a_part, a_seen) (nI c) v2 := by
  unfold wpY_rule
  dsimp only
  refine yw_letB hc ?_
  refine br_f (by decide) ?_
  refine yw_read (most := 4) (by omega) ?_ ?_
  · intro w pt hw
    rw [hv] at hw
    cases hw
  · intro _ pt
    exact br_f (by decide) (h pt)
theorem yw_rl34 {post : Int32 → SY → Prop} {c : Nat} {w : List Nat} {rl0 : Nat → Int32} (hc : c < 6) (h4 : w.length ≤ 4) (hp : gw_hl a_part w)
    (K : ∀ rl : Nat → Int32, (∀ i, i < w.length → rl (4 * c + i) = nI (w.getD i 0)) → (∀ j, (j < 4 * c ∨ 4 * c + 4 ≤ j) → rl j = rl0 j) → post (nI w.length) (f_firstSize, f_size, f_otherSize, f_x, f_y, f_way, f_left, f_right, f_low, f_high, a_ruleSize, rl, a_first, a_actions, a_word, a_next, a_other, a_part, a_seen)) :
    ∀ d j, j + d = w.length → ∀ rl : Nat → Int32, (∀ i, i < j → rl (4 * c + i) = nI (w.getD i 0)) → (∀ j, (j < 4 * c ∨ 4 * c + 4 ≤ j) → rl j = rl0 j) → wY_rule_34 post (nI c) (nI w.length) f_firstSize f_size f_otherSize f_x f_y f_way f_left f_right f_low f_high (d + 1) (nI j) a_ruleSize rl a_first a_actions a_word a_next a_other a_part a_seen := by
  intro d
  induction d with
  | zero =>
    intro j hj rl h1 h2
    have e : j = w.length := by omega
    subst e
    exact br_t (nI_le (by omega) (by omega)) (K rl h1 h2)
  | succ d ih =>
    intro j hj rl h1 h2
    have cj : (nI j).toNatClampNeg = j := nI_clamp (by omega)
    have e4 : 4 * nI c + nI j = nI (4 * c + j) := xw_mi 4 c j
    refine br_f (nI_ge (by omega) (by omega)) (And.intro (vp_in_nI (by omega) (by omega)) (And.intro (pk_in (4 * c + j) 24 (by omega) e4) (nm_r (e' := upd rl (4 * c + j) (nI (w.getD j 0))) (by rw [pk_cl _ e4, cj, hp j (by omega)]) (nm_r (e' := nI (j + 1)) (nI_1 j) ?_))))
    refine ih (j + 1) (by omega) _ ?_ ?_
    · intro i hi
      by_cases z : i = j
      · subst z; rw [pk_us]
      · rw [pk_un (by omega)]; exact h1 i (by omega)
    · intro i hi
      rw [pk_un (by omega)]
      exact h2 i hi
theorem yw_ruleC {post : Int32 → SY → Prop} {R : Nat → List Nat} {F : List Nat} {A : Nat → Nat} {c : Nat} {v2 : Int32} {w : List Nat} (ok : gw_ok R F A) (hI : yw_I R F A (f_firstSize, f_size, f_otherSize, f_x, f_y, f_way, f_left, f_right, f_low, f_high, a_ruleSize, a_rules, a_first, a_actions, a_word, a_next, a_other, a_part, a_seen)) (hc : c < 6) (hv : gw_dv 4 v2 = some w) (K : ∀ u, yw_I (gw_R1 R c w) F A u → post (nI w.length) u) : wpY_rule post (f_firstSize, f_size, f_otherSize, f_x, f_y, f_way, f_left, f_right, f_low, f_high, a_ruleSize, a_rules, a_first, a_actions, a_word, a_next, a_other, a_part, a_seen) (nI c) v2 := by
  have hI : gw_B R F A f_firstSize a_ruleSize a_rules a_first a_actions := hI
  obtain ⟨x, hx, e, hd⟩ := gw_dvV hv
  have hp := gw_deP hd
  have cc : (nI c).toNatClampNeg = c := nI_clamp (by omega)
  unfold wpY_rule
  dsimp only
  refine yw_letB hc ?_
  refine br_f (by decide) ?_
  refine yw_read (most := 4) (by omega) ?_ ?_
  · intro w' pt hw hh
    rw [hv] at hw
    cases hw
    refine br_t (nI_pos' (by omega)) (And.intro (vp_in_nI hc (by omega)) (nm_r (e' := upd a_ruleSize c (nI w.length)) (by rw [cc]) ⟨w.length + 1, ?_⟩))
    refine yw_rl34 (rl0 := a_rules) hc hp.1 hh ?_ w.length 0 (Nat.zero_add _) a_rules (fun i hi => absurd hi (Nat.not_lt_zero i)) (fun _ _ => rfl)
    intro rl h1 h2
    exact K _ (yw_IK (gw_BR hI ok.1 h1 h2))
  · intro hw
    rw [hv] at hw
    cases hw
theorem yw_beginA {post : Int32 → SY → Prop} {v : Int32} (hv : gw_dv 8 v = none ∨ gw_dv 8 v = some []) (h : ∀ pt, post (-1) (f_firstSize, f_size, f_otherSize, f_x, f_y, f_way, f_left, f_right, f_low, f_high, a_ruleSize, a_rules, a_first, a_actions, a_word, a_next, a_other, pt, a_seen)) : wpY_begin post (f_firstSize, f_size, f_otherSize, f_x, f_y, f_way, f_left, f_right, f_low, f_high, a_ruleSize, a_rules, a_first, a_actions, a_word, a_next, a_other, a_part, a_seen) v := by
  unfold wpY_begin
  dsimp only
  refine yw_read (most := 8) (by omega) ?_ ?_
  · intro w pt hw hh
    rw [hw] at hv
    rcases hv with z | z
    · cases z
    · cases z
      exact br_f (by decide) (h pt)
  · intro _ pt
    exact br_f (by decide) (h pt)
theorem yw_bg22 {post : Int32 → SY → Prop} {w : List Nat} (h8 : w.length ≤ 8) (hp : gw_hl a_part w)
    (K : ∀ ft : Nat → Int32, gw_hl ft w → post (nI w.length) (f_firstSize, f_size, f_otherSize, f_x, f_y, f_way, f_left, f_right, f_low, f_high, a_ruleSize, a_rules, ft, a_actions, a_word, a_next, a_other, a_part, a_seen)) :
    ∀ d j, j + d = w.length → ∀ ft : Nat → Int32, (∀ i, i < j → ft i = nI (w.getD i 0)) → wY_begin_22 post (nI w.length) f_firstSize f_size f_otherSize f_x f_y f_way f_left f_right f_low f_high (d + 1) (nI j) a_ruleSize a_rules ft a_actions a_word a_next a_other a_part a_seen := by
  intro d
  induction d with
  | zero =>
    intro j hj ft h1
    have e : j = w.length := by omega
    subst e
    exact br_t (nI_le (by omega) (by omega)) (K ft h1)
  | succ d ih =>
    intro j hj ft h1
    have cj : (nI j).toNatClampNeg = j := nI_clamp (by omega)
    have vj : vp_in (nI j) 8 := vp_in_nI (by omega) (by omega)
    refine br_f (nI_ge (by omega) (by omega)) (And.intro vj (And.intro vj (nm_r (e' := upd ft j (nI (w.getD j 0))) (by rw [cj, hp j (by omega)]) (nm_r (e' := nI (j + 1)) (nI_1 j) ?_))))
    refine ih (j + 1) (by omega) _ ?_
    intro i hi
    by_cases z : i = j
    · subst z; rw [pk_us]
    · rw [pk_un (by omega)]; exact h1 i (by omega)
theorem yw_beginB {post : Int32 → SY → Prop} {R : Nat → List Nat} {F : List Nat} {A : Nat → Nat} {v : Int32} {w : List Nat} (hI : yw_I R F A (f_firstSize, f_size, f_otherSize, f_x, f_y, f_way, f_left, f_right, f_low, f_high, a_ruleSize, a_rules, a_first, a_actions, a_word, a_next, a_other, a_part, a_seen)) (hv : gw_dv 8 v = some w) (h1 : 1 ≤ w.length) (K : ∀ u, yw_I R w A u → post (nI w.length) u) : wpY_begin post (f_firstSize, f_size, f_otherSize, f_x, f_y, f_way, f_left, f_right, f_low, f_high, a_ruleSize, a_rules, a_first, a_actions, a_word, a_next, a_other, a_part, a_seen) v := by
  have hI : gw_B R F A f_firstSize a_ruleSize a_rules a_first a_actions := hI
  obtain ⟨x, hx, e, hd⟩ := gw_dvV hv
  have hp := gw_deP hd
  unfold wpY_begin
  dsimp only
  refine yw_read (most := 8) (by omega) ?_ ?_
  · intro w' pt hw hh
    rw [hv] at hw
    cases hw
    refine br_t (nI_le (a := 1) h1 (by omega)) ⟨w.length + 1, ?_⟩
    refine yw_bg22 hp.1 hh ?_ w.length 0 (Nat.zero_add _) a_first (fun i hi => absurd hi (Nat.not_lt_zero i))
    intro ft hf
    exact K _ (yw_IK ⟨rfl, hI.2.1, hI.2.2.1, hf, hI.2.2.2.2⟩)
  · intro hw
    rw [hv] at hw
    cases hw
theorem yw_actionA {post : Int32 → SY → Prop} {v1 v2 : Int32} (hv : v1 < 0 ∨ 6 ≤ v1) (h : post (-1) (f_firstSize, f_size, f_otherSize, f_x, f_y, f_way, f_left, f_right, f_low, f_high, a_ruleSize, a_rules, a_first, a_actions, a_word, a_next, a_other, a_part, a_seen)) : wpY_action post (f_firstSize, f_size, f_otherSize, f_x, f_y, f_way, f_left, f_right, f_low, f_high, a_ruleSize, a_rules, a_first, a_actions, a_word, a_next, a_other, a_part, a_seen) v1 v2 := by
  unfold wpY_action
  dsimp only
  refine yw_letA hv ?_
  exact br_t rfl h
theorem yw_actionB {post : Int32 → SY → Prop} {c : Nat} {v2 : Int32} (hc : c < 6) (hv : v2 < 0 ∨ 4 ≤ v2) (h : post (-2) (f_firstSize, f_size, f_otherSize, f_x, f_y, f_way, f_left, f_right, f_low, f_high, a_ruleSize, a_rules, a_first, a_actions, a_word, a_next, a_other, a_part, a_seen)) : wpY_action post (f_firstSize, f_size, f_otherSize, f_x, f_y, f_way, f_left, f_right, f_low, f_high, a_ruleSize, a_rules, a_first, a_actions, a_word, a_next, a_other, a_part, a_seen) (nI c) v2 := by
  unfold wpY_action
  dsimp only
  refine yw_letB hc ?_
  refine br_f (by decide) ?_
  by_cases z : v2 < 0
  · exact br_t z h
  · refine br_f z (br_f ?_ h)
    rcases hv with y | y
    · exact absurd y z
    · intro x
      exact absurd (Int32.le_trans y x) (by decide)
theorem yw_actionC {post : Int32 → SY → Prop} {R : Nat → List Nat} {F : List Nat} {A : Nat → Nat} {c a : Nat} (hI : yw_I R F A (f_firstSize, f_size, f_otherSize, f_x, f_y, f_way, f_left, f_right, f_low, f_high, a_ruleSize, a_rules, a_first, a_actions, a_word, a_next, a_other, a_part, a_seen)) (hc : c < 6) (ha : a < 4) (K : ∀ u, yw_I R F (gw_A1 A c a) u → post (nI (A c)) u) : wpY_action post (f_firstSize, f_size, f_otherSize, f_x, f_y, f_way, f_left, f_right, f_low, f_high, a_ruleSize, a_rules, a_first, a_actions, a_word, a_next, a_other, a_part, a_seen) (nI c) (nI a) := by
  have hI : gw_B R F A f_firstSize a_ruleSize a_rules a_first a_actions := hI
  have cc : (nI c).toNatClampNeg = c := nI_clamp (by omega)
  have vc : vp_in (nI c) 6 := vp_in_nI hc (by omega)
  unfold wpY_action
  dsimp only
  refine yw_letB hc ?_
  refine br_f (by decide) (br_f (nI_pos (by omega)) (br_t (nI_le (b := 3) (by omega) (by omega)) (And.intro vc (nm_r (e' := nI (A c)) (by rw [cc, hI.2.2.2.2 c hc]) (And.intro vc (nm_r (e' := upd a_actions c (nI a)) (by rw [cc]) ?_))))))
  exact K _ (yw_IK (gw_BA hI))
theorem yw_in82 {post : SY → Prop} (hft : a_first 0 = 0) (hac : ∀ c, c < 6 → a_actions c = 0) (K : ∀ u, yw_I gw_R0 [0] gw_A0 u → post u) :
    ∀ d i, i + d = 6 → ∀ rz rl : Nat → Int32, (∀ c, c < i → rz c = 1 ∧ rl (4 * c) = nI c) → wY_init_82 post f_firstSize f_size f_otherSize f_x f_y f_way f_left f_right f_low f_high (d + 1) (nI i) rz rl a_first a_actions a_word a_next a_other a_part a_seen := by
  intro d
  induction d with
  | zero =>
    intro i hi rz rl h
    have e : i = 6 := by omega
    subst e
    exact br_t (nI_le (a := 6) (b := 6) (by omega) (by omega)) (K _ (yw_IK (gw_B0 h hft hac)))
  | succ d ih =>
    intro i hi rz rl h
    have ci : (nI i).toNatClampNeg = i := nI_clamp (by omega)
    have e4 : 4 * nI i = nI (4 * i) := pk_mul 4 i
    refine br_f (nI_ge (a := i) (b := 6) (by omega) (by omega)) (And.intro (vp_in_nI (by omega) (by omega)) (nm_r (e' := upd rz i 1) (by rw [ci]) (And.intro (pk_in (4 * i) 24 (by omega) e4) (nm_r (e' := upd rl (4 * i) (nI i)) (by rw [pk_cl _ e4]) (nm_r (e' := nI (i + 1)) (nI_1 i) (ih (i + 1) (by omega) _ _ ?_))))))
    intro c hc
    by_cases z : c = i
    · subst z; rw [pk_us, pk_us]; exact ⟨rfl, rfl⟩
    · rw [pk_un z, pk_un (by omega)]; exact h c (by omega)
end
theorem yw_init {post : SY → Prop} (K : ∀ u, yw_I gw_R0 [0] gw_A0 u → post u) : wpY_init post :=
  ⟨7, yw_in82 rfl (fun _ _ => rfl) K 6 0 rfl (fun _ => 0) (fun _ => 0) (fun c hc => absurd hc (Nat.not_lt_zero c))⟩
end
section
/-! the reference writes generations -/
theorem gw_i8 : ∀ d, d < 6 → (nI d).toInt8.toInt32 = nI d := by
  intro d hd
  have : d = 0 ∨ d = 1 ∨ d = 2 ∨ d = 3 ∨ d = 4 ∨ d = 5 := by omega
  rcases this with rfl | rfl | rfl | rfl | rfl | rfl <;> decide
theorem gw_nb {d : Nat} (hd : d < 6) : vp_nar .byte (nI d) = nI d := by
  rw [vp_nar_byte, gw_i8 d hd]
theorem gw_nb8 {d : Nat} (hd : d < 6) : vp_nar .byte (nI d).toInt8.toInt32 = nI d := by
  rw [gw_i8 d hd, gw_nb hd]
theorem gw_hlU {a : Nat → Int32} {u : List Nat} {q d : Nat} (h : gw_hl a u) (hq : u.length = q) : gw_hl (upd a q (nI d)) (u ++ [d]) := by
  intro i hi
  rw [List.length_append] at hi
  by_cases x : i = q
  · rw [x, pk_us, ← hq]
    simp
  · have hi2 : i < u.length := by simp at hi; omega
    rw [pk_un x, h i hi2]
    simp [List.getElem?_append_left hi2]
theorem gw_fm {R : Nat → List Nat} {w : List Nat} {p : Nat} (hp : p < w.length) : (w.take (p + 1)).flatMap R = (w.take p).flatMap R ++ R (w.getD p 0) := by
  rw [gw_tk hp, List.flatMap_append]
  simp
theorem gw_fmL {R : Nat → List Nat} {w : List Nat} {p : Nat} (hp : p < w.length) : ((w.take p).flatMap R).length + (R (w.getD p 0)).length ≤ (w.flatMap R).length := by
  have e : w.flatMap R = (w.take (p + 1)).flatMap R ++ (w.drop (p + 1)).flatMap R := by
    rw [← List.flatMap_append, List.take_append_drop]
  rw [e, gw_fm hp, List.length_append, List.length_append]
  omega
section
variable {f_firstSize f_size f_otherSize f_x f_y f_way f_left f_right f_low f_high : Int32} {a_ruleSize a_rules a_first a_actions a_word a_next a_other a_part a_seen : Nat → Int32}
theorem yw_gr98 {post : Int32 → SY → Prop} {w : List Nat} (hN : w.length ≤ 3000) (hM : ∀ d, d ∈ w → d < 6) (hn : gw_hl a_next w)
    (K : ∀ wd : Nat → Int32, gw_hl wd w → post 1 (f_firstSize, f_size, f_otherSize, f_x, f_y, f_way, f_left, f_right, f_low, f_high, a_ruleSize, a_rules, a_first, a_actions, wd, a_next, a_other, a_part, a_seen)) :
    ∀ d p, p + d = w.length → ∀ wd : Nat → Int32, (∀ i, i < p → wd i = nI (w.getD i 0)) → wY_grow_98 post (nI w.length) f_firstSize f_size f_otherSize f_x f_y f_way f_left f_right f_low f_high (d + 1) (nI p) a_ruleSize a_rules a_first a_actions wd a_next a_other a_part a_seen := by
  intro d
  induction d with
  | zero =>
    intro p hp wd h
    have e : p = w.length := by omega
    subst e
    exact br_t (nI_le (by omega) (by omega)) (K wd h)
  | succ d ih =>
    intro p hp wd h
    have cp : (nI p).toNatClampNeg = p := nI_clamp (by omega)
    have vp : vp_in (nI p) 3000 := vp_in_nI (by omega) (by omega)
    have hm := hM _ (gw_gm (w := w) (i := p) (by omega))
    refine br_f (nI_ge (by omega) (by omega)) (And.intro vp (And.intro vp (nm_r (e' := upd wd p (nI (w.getD p 0))) (by rw [cp, hn p (by omega), gw_nb hm]) (nm_r (e' := nI (p + 1)) (nI_1 p) (ih (p + 1) (by omega) _ ?_)))))
    intro i hi
    by_cases z : i = p
    · subst z; rw [pk_us]
    · rw [pk_un z]; exact h i (by omega)
theorem yw_gr38 {post : Int32 → SY → Prop} {J : Int32 → Int32 → (Nat → Int32) → (Nat → Int32) → (Nat → Int32) → (Nat → Int32) → (Nat → Int32) → (Nat → Int32) → (Nat → Int32) → (Nat → Int32) → (Nat → Int32) → Prop} {R : Nat → List Nat} {F : List Nat} {A : Nat → Nat} {c p : Nat} {u : List Nat} (ok : gw_ok R F A) (hB : gw_B R F A f_firstSize a_ruleSize a_rules a_first a_actions) (hc : c < 6) (hL : u.length + (R c).length ≤ 3000)
    (K : ∀ nx : Nat → Int32, gw_hl nx (u ++ R c) → J (nI (u.length + (R c).length)) (nI (p + 1)) a_ruleSize a_rules a_first a_actions a_word nx a_other a_part a_seen) :
    ∀ d i, i + d = (R c).length → ∀ nx : Nat → Int32, gw_hl nx (u ++ (R c).take i) → wY_grow_38 post J (nI u.length) (nI p) (nI c) f_firstSize f_size f_otherSize f_x f_y f_way f_left f_right f_low f_high (d + 1) (nI i) a_ruleSize a_rules a_first a_actions a_word nx a_other a_part a_seen := by
  have cc : (nI c).toNatClampNeg = c := nI_clamp (by omega)
  have vc : vp_in (nI c) 6 := vp_in_nI hc (by omega)
  have h4 := (ok.1 c).1
  intro d
  induction d with
  | zero =>
    intro i hi nx h
    have e : i = (R c).length := by omega
    subst e
    rw [List.take_length] at h
    refine And.intro vc (br_t (by rw [cc, hB.2.1 c hc]; exact nI_le (by omega) (by omega)) (And.intro vc (nm_r (e' := nI (u.length + (R c).length)) (by rw [cc, hB.2.1 c hc, nI_add]) (nm_r (e' := nI (p + 1)) (nI_1 p) (K nx h)))))
  | succ d ih =>
    intro i hi nx h
    have hi2 : i < (R c).length := by omega
    have e4 : 4 * nI c + nI i = nI (4 * c + i) := xw_mi 4 c i
    have e5 : nI u.length + nI i = nI (u.length + i) := nI_add _ _
    have hm : (R c).getD i 0 < 6 := (ok.1 c).2 _ (gw_gm hi2)
    refine And.intro vc (br_f (by rw [cc, hB.2.1 c hc]; exact nI_ge hi2 (by omega)) (And.intro (pk_in (4 * c + i) 24 (by omega) e4) (And.intro (pk_in (u.length + i) 3000 (by omega) e5) (nm_r (e' := upd nx (u.length + i) (nI ((R c).getD i 0))) ?_ (nm_r (e' := nI (i + 1)) (nI_1 i) (ih (i + 1) (by omega) _ ?_))))))
    · rw [pk_cl _ e4, pk_cl _ e5, hB.2.2.1 c hc i hi2, gw_nb8 hm]
    · rw [gw_tk hi2, ← List.append_assoc]
      refine gw_hlU h ?_
      rw [List.length_append, List.length_take]
      omega
theorem yw_gr4 {post : Int32 → SY → Prop} {R : Nat → List Nat} {F : List Nat} {A : Nat → Nat} {w : List Nat} (ok : gw_ok R F A) (hB : gw_B R F A f_firstSize a_ruleSize a_rules a_first a_actions) (hN : w.length ≤ 3000) (hM : ∀ d, d ∈ w → d < 6) (hS : f_size = nI w.length) (hw : gw_hl a_word w)
    (K1 : (w.flatMap R).length ≤ 3000 → ∀ nx wd : Nat → Int32, gw_hl wd (w.flatMap R) → post 1 (f_firstSize, nI (w.flatMap R).length, f_otherSize, f_x, f_y, f_way, f_left, f_right, f_low, f_high, a_ruleSize, a_rules, a_first, a_actions, wd, nx, a_other, a_part, a_seen))
    (K0 : ¬ (w.flatMap R).length ≤ 3000 → ∀ nx : Nat → Int32, post 0 (f_firstSize, f_size, f_otherSize, f_x, f_y, f_way, f_left, f_right, f_low, f_high, a_ruleSize, a_rules, a_first, a_actions, a_word, nx, a_other, a_part, a_seen)) :
    ∀ d p, p + d = w.length → ((w.take p).flatMap R).length ≤ 3000 → ∀ nx : Nat → Int32, gw_hl nx ((w.take p).flatMap R) → wY_grow_4 post f_firstSize f_size f_otherSize f_x f_y f_way f_left f_right f_low f_high (d + 1) (nI ((w.take p).flatMap R).length) (nI p) a_ruleSize a_rules a_first a_actions a_word nx a_other a_part a_seen := by
  intro d
  induction d with
  | zero =>
    intro p hp hL nx h
    have e : p = w.length := by omega
    subst e
    rw [List.take_length] at hL h ⊢
    refine br_t (by rw [hS]; exact nI_le (by omega) (by omega)) ⟨(w.flatMap R).length + 1, ?_⟩
    refine yw_gr98 (w := w.flatMap R) hL ?_ h (fun wd hwd => K1 hL nx wd hwd) _ 0 (Nat.zero_add _) a_word (fun i hi => absurd hi (Nat.not_lt_zero i))
    intro d hd
    rw [List.mem_flatMap] at hd
    obtain ⟨a, ha, hd⟩ := hd
    exact (ok.1 a).2 d hd
  | succ d ih =>
    intro p hp hL nx h
    have hp2 : p < w.length := by omega
    have cp : (nI p).toNatClampNeg = p := nI_clamp (by omega)
    have hm := hM _ (gw_gm hp2)
    have cc : (nI (w.getD p 0)).toNatClampNeg = w.getD p 0 := nI_clamp (by omega)
    have h4 := (ok.1 (w.getD p 0)).1
    refine br_f (by rw [hS]; exact nI_ge hp2 (by omega)) (And.intro (vp_in_nI (by omega) (by omega)) (nm_r (e' := nI (w.getD p 0)) (by rw [cp]; exact hw p hp2) (And.intro (vp_in_nI hm (by omega)) ?_)))
    have e1 : nI ((w.take p).flatMap R).length + a_ruleSize (nI (w.getD p 0)).toNatClampNeg = nI (((w.take p).flatMap R).length + (R (w.getD p 0)).length) := by
      rw [cc, hB.2.1 _ hm, nI_add]
    by_cases q : ((w.take p).flatMap R).length + (R (w.getD p 0)).length ≤ 3000
    · refine br_t (by rw [e1]; exact nI_le (b := 3000) q (by omega)) ⟨(R (w.getD p 0)).length + 1, ?_⟩
      refine yw_gr38 (u := (w.take p).flatMap R) ok hB hm q ?_ (R (w.getD p 0)).length 0 (Nat.zero_add _) nx (by rw [List.take_zero, List.append_nil]; exact h)
      intro nx' h'
      have ih' := ih (p + 1) (by omega)
      rw [gw_fm hp2, List.length_append] at ih'
      exact ih' q nx' h'
    · refine br_f (by rw [e1]; exact nI_ge (a := 3000) (by omega) (by omega)) (K0 ?_ nx)
      have := gw_fmL (R := R) hp2
      omega
theorem yw_grow {post : Int32 → SY → Prop} {R : Nat → List Nat} {F : List Nat} {A : Nat → Nat} {w : List Nat} (ok : gw_ok R F A) (hB : gw_B R F A f_firstSize a_ruleSize a_rules a_first a_actions) (hN : w.length ≤ 3000) (hM : ∀ d, d ∈ w → d < 6) (hw : gw_hl a_word w)
    (K1 : (w.flatMap R).length ≤ 3000 → ∀ nx wd : Nat → Int32, gw_hl wd (w.flatMap R) → post 1 (f_firstSize, nI (w.flatMap R).length, f_otherSize, f_x, f_y, f_way, f_left, f_right, f_low, f_high, a_ruleSize, a_rules, a_first, a_actions, wd, nx, a_other, a_part, a_seen))
    (K0 : ¬ (w.flatMap R).length ≤ 3000 → ∀ nx : Nat → Int32, post 0 (f_firstSize, nI w.length, f_otherSize, f_x, f_y, f_way, f_left, f_right, f_low, f_high, a_ruleSize, a_rules, a_first, a_actions, a_word, nx, a_other, a_part, a_seen)) : wpY_grow post (f_firstSize, nI w.length, f_otherSize, f_x, f_y, f_way, f_left, f_right, f_low, f_high, a_ruleSize, a_rules, a_first, a_actions, a_word, a_next, a_other, a_part, a_seen) :=
  ⟨w.length + 1, yw_gr4 (w := w) ok hB hN hM rfl hw K1 K0 w.length 0 (Nat.zero_add _) (Nat.zero_le _) a_next (fun i hi => absurd hi (Nat.not_lt_zero i))⟩
theorem yw_wr53 {post : Int32 → SY → Prop} {R : Nat → List Nat} {F : List Nat} {A : Nat → Nat} {n : Nat} (ok : gw_ok R F A) (hB : gw_B R F A f_firstSize a_ruleSize a_rules a_first a_actions) (hn : n < 13)
    (h0 : gw_rc R F n → ∀ nx wd : Nat → Int32, gw_hl wd (gw_G R F n) → post 0 (f_firstSize, nI (gw_G R F n).length, f_otherSize, f_x, f_y, f_way, f_left, f_right, f_low, f_high, a_ruleSize, a_rules, a_first, a_actions, wd, nx, a_other, a_part, a_seen))
    (h2 : ¬ gw_rc R F n → ∀ (sz : Int32) (nx wd : Nat → Int32), post (-2) (f_firstSize, sz, f_otherSize, f_x, f_y, f_way, f_left, f_right, f_low, f_high, a_ruleSize, a_rules, a_first, a_actions, wd, nx, a_other, a_part, a_seen)) :
    ∀ d g, g + d = n → gw_rc R F g → ∀ wd nx : Nat → Int32, gw_hl wd (gw_G R F g) → wY_write_53 post (nI n) (d + 2) 1 (nI g) f_firstSize (nI (gw_G R F g).length) f_otherSize f_x f_y f_way f_left f_right f_low f_high a_ruleSize a_rules a_first a_actions wd nx a_other a_part a_seen := by
  intro d
  induction d with
  | zero =>
    intro g hg hr wd nx hw
    have e : g = n := by omega
    subst e
    exact br_t (nI_le (by omega) (by omega)) (br_f (by decide) (h0 hr nx wd hw))
  | succ d ih =>
    intro g hg hr wd nx hw
    refine br_f (nI_ge (by omega) (by omega)) (br_f (by decide) ?_)
    refine yw_grow (w := gw_G R F g) ok hB (hr g (Nat.le_refl g)) (gw_GM ok g) hw ?_ ?_
    · intro hL nx' wd' hw'
      rw [← gw_GS] at hL hw' ⊢
      refine nm_r (e' := nI (g + 1)) (nI_1 g) (ih (g + 1) (by omega) ?_ wd' nx' hw')
      intro m hm
      by_cases z : m = g + 1
      · subst z; exact hL
      · exact hr m (by omega)
    · intro hL nx'
      rw [← gw_GS] at hL
      have hnr : ¬ gw_rc R F n := fun z => hL (z (g + 1) (by omega))
      refine nm_r (e' := nI (g + 1)) (nI_1 g) (br_c (fun _ => br_t rfl (h2 hnr _ nx' wd)) (fun _ => br_t rfl (br_t rfl (h2 hnr _ nx' wd))))
theorem yw_wr22 {post : Int32 → SY → Prop} {R : Nat → List Nat} {F : List Nat} {A : Nat → Nat} {n : Nat} (ok : gw_ok R F A) (hB : gw_B R F A f_firstSize a_ruleSize a_rules a_first a_actions) (hS : f_size = f_firstSize)
    (K : ∀ wd : Nat → Int32, gw_hl wd F → wY_write_53 post (nI n) (n + 2) 1 0 f_firstSize f_size f_otherSize f_x f_y f_way f_left f_right f_low f_high a_ruleSize a_rules a_first a_actions wd a_next a_other a_part a_seen) :
    ∀ d p, p + d = F.length → ∀ wd : Nat → Int32, (∀ i, i < p → wd i = nI (F.getD i 0)) → wY_write_22 post (nI n) f_firstSize f_size f_otherSize f_x f_y f_way f_left f_right f_low f_high (d + 1) (nI p) a_ruleSize a_rules a_first a_actions wd a_next a_other a_part a_seen := by
  have h8 := ok.2.1.2.1
  intro d
  induction d with
  | zero =>
    intro p hp wd h
    have e : p = F.length := by omega
    subst e
    exact br_t (by rw [hB.1]; exact nI_le (by omega) (by omega)) ⟨n + 2, K wd h⟩
  | succ d ih =>
    intro p hp wd h
    have cp : (nI p).toNatClampNeg = p := nI_clamp (by omega)
    have hm := ok.2.1.2.2 _ (gw_gm (w := F) (i := p) (by omega))
    refine br_f (by rw [hB.1]; exact nI_ge (by omega) (by omega)) (And.intro (vp_in_nI (by omega) (by omega)) (And.intro (vp_in_nI (by omega) (by omega)) (nm_r (e' := upd wd p (nI (F.getD p 0))) (by rw [cp, hB.2.2.2.1 p (by omega), gw_nb8 hm]) (nm_r (e' := nI (p + 1)) (nI_1 p) (ih (p + 1) (by omega) _ ?_)))))
    intro i hi
    by_cases z : i = p
    · subst z; rw [pk_us]
    · rw [pk_un z]; exact h i (by omega)
theorem yw_wrA {post : Int32 → SY → Prop} {v : Int32} (hv : v < 0 ∨ 13 ≤ v) (h : post (-1) (f_firstSize, f_size, f_otherSize, f_x, f_y, f_way, f_left, f_right, f_low, f_high, a_ruleSize, a_rules, a_first, a_actions, a_word, a_next, a_other, a_part, a_seen)) : wpY_write post (f_firstSize, f_size, f_otherSize, f_x, f_y, f_way, f_left, f_right, f_low, f_high, a_ruleSize, a_rules, a_first, a_actions, a_word, a_next, a_other, a_part, a_seen) v := by
  by_cases c : v < 0
  · exact br_t c h
  · refine br_f c (br_f ?_ h)
    rcases hv with z | z
    · exact absurd z c
    · intro x
      exact absurd (Int32.le_trans z x) (by decide)
theorem yw_wrB {post : Int32 → SY → Prop} {R : Nat → List Nat} {F : List Nat} {A : Nat → Nat} {n : Nat} (ok : gw_ok R F A) (hB : gw_B R F A f_firstSize a_ruleSize a_rules a_first a_actions) (hn : n < 13)
    (h0 : gw_rc R F n → ∀ nx wd : Nat → Int32, gw_hl wd (gw_G R F n) → post 0 (f_firstSize, nI (gw_G R F n).length, f_otherSize, f_x, f_y, f_way, f_left, f_right, f_low, f_high, a_ruleSize, a_rules, a_first, a_actions, wd, nx, a_other, a_part, a_seen))
    (h2 : ¬ gw_rc R F n → ∀ (sz : Int32) (nx wd : Nat → Int32), post (-2) (f_firstSize, sz, f_otherSize, f_x, f_y, f_way, f_left, f_right, f_low, f_high, a_ruleSize, a_rules, a_first, a_actions, wd, nx, a_other, a_part, a_seen)) : wpY_write post (f_firstSize, f_size, f_otherSize, f_x, f_y, f_way, f_left, f_right, f_low, f_high, a_ruleSize, a_rules, a_first, a_actions, a_word, a_next, a_other, a_part, a_seen) (nI n) := by
  refine br_f (nI_pos (by omega)) (br_t (nI_le (b := 12) (by omega) (by omega)) ⟨F.length + 1, ?_⟩)
  refine yw_wr22 (R := R) (F := F) (A := A) ok hB rfl ?_ F.length 0 (Nat.zero_add _) a_word (fun i hi => absurd hi (Nat.not_lt_zero i))
  intro wd hw
  have h8 := ok.2.1.2.1
  have hr0 : gw_rc R F 0 := by
    intro m hm
    have : m = 0 := by omega
    subst this
    rw [gw_G0]
    omega
  have fin := yw_wr53 ok hB hn h0 h2 n 0 (Nat.zero_add _) hr0 wd a_next (by rw [gw_G0]; exact hw)
  rw [gw_G0, ← hB.1] at fin
  exact fin
end
end
section
section
variable {f_firstSize f_size f_otherSize f_x f_y f_way f_left f_right f_low f_high : Int32} {a_ruleSize a_rules a_first a_actions a_word a_next a_other a_part a_seen : Nat → Int32}
theorem yw_length {post : Int32 → SY → Prop} {R : Nat → List Nat} {F : List Nat} {A : Nat → Nat} {v : Int32} (ok : gw_ok R F A) (hI : yw_I R F A (f_firstSize, f_size, f_otherSize, f_x, f_y, f_way, f_left, f_right, f_low, f_high, a_ruleSize, a_rules, a_first, a_actions, a_word, a_next, a_other, a_part, a_seen))
    (K : ∀ r u, gw_gq R F v (fun n r => r = nI (gw_G R F n).length) r → yw_I R F A u → post r u) : wpY_length post (f_firstSize, f_size, f_otherSize, f_x, f_y, f_way, f_left, f_right, f_low, f_high, a_ruleSize, a_rules, a_first, a_actions, a_word, a_next, a_other, a_part, a_seen) v := by
  have hB : gw_B R F A f_firstSize a_ruleSize a_rules a_first a_actions := hI
  unfold wpY_length
  dsimp only
  rcases gw_vc v with hv | ⟨n, hn, rfl⟩
  · exact yw_wrA hv (br_f (by decide) (K _ _ (gw_gqA hv) hI))
  · refine yw_wrB ok hB hn ?_ ?_
    · intro hrc nx wd hw
      exact br_t (by decide) (K _ _ (gw_gqC hn hrc rfl) (yw_IK hB))
    · intro hrc sz nx wd
      exact br_f (by decide) (K _ _ (gw_gqB hn hrc) (yw_IK hB))
theorem yw_letterAt {post : Int32 → SY → Prop} {R : Nat → List Nat} {F : List Nat} {A : Nat → Nat} {v v2 : Int32} (ok : gw_ok R F A) (hI : yw_I R F A (f_firstSize, f_size, f_otherSize, f_x, f_y, f_way, f_left, f_right, f_low, f_high, a_ruleSize, a_rules, a_first, a_actions, a_word, a_next, a_other, a_part, a_seen))
    (K : ∀ r u, gw_gq R F v (fun n r => gw_la (gw_G R F n) v2 r) r → yw_I R F A u → post r u) : wpY_letterAt post (f_firstSize, f_size, f_otherSize, f_x, f_y, f_way, f_left, f_right, f_low, f_high, a_ruleSize, a_rules, a_first, a_actions, a_word, a_next, a_other, a_part, a_seen) v v2 := by
  have hB : gw_B R F A f_firstSize a_ruleSize a_rules a_first a_actions := hI
  unfold wpY_letterAt
  dsimp only
  rcases gw_vc v with hv | ⟨n, hn, rfl⟩
  · exact yw_wrA hv (br_f (by decide) (K _ _ (gw_gqA hv) hI))
  · refine yw_wrB ok hB hn ?_ ?_
    · intro hrc nx wd hw
      have hL := hrc n (Nat.le_refl n)
      refine br_t (by decide) ?_
      by_cases h : v2 < 0
      · exact br_t h (K _ _ (gw_gqC hn hrc (Or.inr ⟨Or.inl h, rfl⟩)) (yw_IK hB))
      · refine br_f h ?_
        by_cases h2 : nI (gw_G R F n).length ≤ v2
        · exact br_t h2 (K _ _ (gw_gqC hn hrc (Or.inr ⟨Or.inr h2, rfl⟩)) (yw_IK hB))
        · obtain ⟨p, hp, e⟩ : ∃ p, p < (gw_G R F n).length ∧ v2 = nI p := by
            rcases pk_ix v2 (n := (gw_G R F n).length) (by omega) with z | z | z
            · exact absurd z h
            · exact absurd z h2
            · exact z
          subst e
          have cp : (nI p).toNatClampNeg = p := nI_clamp (by omega)
          refine br_f h2 (And.intro (vp_in_nI (by omega) (by omega)) ?_)
          show post (wd (nI p).toNatClampNeg) (f_firstSize, nI (gw_G R F n).length, f_otherSize, f_x, f_y, f_way, f_left, f_right, f_low, f_high, a_ruleSize, a_rules, a_first, a_actions, wd, nx, a_other, a_part, a_seen)
          rw [cp, hw p hp]
          exact K _ _ (gw_gqC hn hrc (Or.inl ⟨p, hp, rfl, rfl⟩)) (yw_IK hB)
    · intro hrc sz nx wd
      exact br_f (by decide) (K _ _ (gw_gqB hn hrc) (yw_IK hB))
theorem yw_ct32 {post : Int32 → SY → Prop} {w : List Nat} {x : Nat} {v3 v4 : Int32} (hN : w.length ≤ 3000) (hM : ∀ d, d ∈ w → d < 6) (hx : x < 6) (hS : f_size = nI w.length) (hw : gw_hl a_word w)
    (h : post (nI (gw_ct w x v3.toNatClampNeg v4.toNatClampNeg)) (f_firstSize, f_size, f_otherSize, f_x, f_y, f_way, f_left, f_right, f_low, f_high, a_ruleSize, a_rules, a_first, a_actions, a_word, a_next, a_other, a_part, a_seen)) :
    ∀ d p, p + d = w.length → wY_count_32 post (nI x) v3 v4 f_firstSize f_size f_otherSize f_x f_y f_way f_left f_right f_low f_high a_ruleSize a_rules a_first a_actions a_word a_next a_other a_part a_seen (d + 1) (nI (gw_cn (fun p => decide (v3.toNatClampNeg ≤ p) && (decide (p < v4.toNatClampNeg) && w.getD p 0 == x)) p)) (nI p) := by
  intro d
  induction d with
  | zero =>
    intro p hp
    have e : p = w.length := by omega
    subst e
    exact br_t (by rw [hS]; exact nI_le (by omega) (by omega)) h
  | succ d ih =>
    intro p hp
    have hp2 : p < w.length := by omega
    have cp : (nI p).toNatClampNeg = p := nI_clamp (by omega)
    have hm := hM _ (gw_gm hp2)
    have ih' := ih (p + 1) (by omega)
    rw [gw_cnS] at ih'
    refine br_f (by rw [hS]; exact nI_ge hp2 (by omega)) ?_
    by_cases a : p < v3.toNatClampNeg
    · rw [if_neg (by rw [decide_eq_false (by omega)]; simp), Nat.add_zero] at ih'
      exact br_t ((gw_cmL (by omega)).mpr a) (nm_r (nI_1 p) ih')
    · refine br_f (fun z => a ((gw_cmL (by omega)).mp z)) ?_
      by_cases b : v4.toNatClampNeg ≤ p
      · rw [if_neg (by rw [decide_eq_false (show ¬ p < v4.toNatClampNeg by omega)]; simp), Nat.add_zero] at ih'
        exact br_t ((gw_cmG (by omega)).mpr b) (nm_r (nI_1 p) ih')
      · refine br_f (fun z => b ((gw_cmG (by omega)).mp z)) (And.intro (vp_in_nI (by omega) (by omega)) ?_)
        by_cases c : w.getD p 0 = x
        · rw [if_pos (by rw [decide_eq_true (show v3.toNatClampNeg ≤ p by omega), decide_eq_true (show p < v4.toNatClampNeg by omega), c]; simp)] at ih'
          exact br_t (by rw [cp, hw p hp2, c]) (nm_r (nI_1 _) (nm_r (nI_1 p) ih'))
        · rw [if_neg (by rw [Bool.and_eq_true, Bool.and_eq_true, beq_iff_eq]; exact fun z => c z.2.2), Nat.add_zero] at ih'
          exact br_f (by rw [cp, hw p hp2, nI_eq (by omega) (by omega)]; exact c) (nm_r (nI_1 p) ih')
theorem yw_count {post : Int32 → SY → Prop} {R : Nat → List Nat} {F : List Nat} {A : Nat → Nat} {v v2 v3 v4 : Int32} (ok : gw_ok R F A) (hI : yw_I R F A (f_firstSize, f_size, f_otherSize, f_x, f_y, f_way, f_left, f_right, f_low, f_high, a_ruleSize, a_rules, a_first, a_actions, a_word, a_next, a_other, a_part, a_seen))
    (K : ∀ r u, gw_gq R F v (fun n r => gw_cb (gw_G R F n) v2 v3 v4 r) r → yw_I R F A u → post r u) : wpY_count post (f_firstSize, f_size, f_otherSize, f_x, f_y, f_way, f_left, f_right, f_low, f_high, a_ruleSize, a_rules, a_first, a_actions, a_word, a_next, a_other, a_part, a_seen) v v2 v3 v4 := by
  have hB : gw_B R F A f_firstSize a_ruleSize a_rules a_first a_actions := hI
  unfold wpY_count
  dsimp only
  rcases gw_vc v with hv | ⟨n, hn, rfl⟩
  · exact yw_wrA hv (br_f (by decide) (K _ _ (gw_gqA hv) hI))
  · refine yw_wrB ok hB hn ?_ ?_
    · intro hrc nx wd hw
      refine br_t (by decide) ?_
      by_cases h : v2 < 0 ∨ 6 ≤ v2
      · refine yw_letA h ?_
        exact br_t rfl (K _ _ (gw_gqC hn hrc (Or.inr ⟨h, rfl⟩)) (yw_IK hB))
      · obtain ⟨x, hx, e⟩ : ∃ p, p < 6 ∧ v2 = nI p := by
          rcases pk_ix v2 (n := 6) (by omega) with z | z | z
          · exact absurd (Or.inl z) h
          · exact absurd (Or.inr z) h
          · exact z
        subst e
        refine yw_letB hx ?_
        refine br_f (by decide) ⟨(gw_G R F n).length + 1, ?_⟩
        exact yw_ct32 (w := gw_G R F n) (hrc n (Nat.le_refl n)) (gw_GM ok n) hx rfl hw (K _ _ (gw_gqC hn hrc (Or.inl ⟨x, hx, rfl, rfl⟩)) (yw_IK hB)) _ 0 (Nat.zero_add _)
    · intro hrc sz nx wd
      exact br_f (by decide) (K _ _ (gw_gqB hn hrc) (yw_IK hB))
/-! the short word at a place -/
theorem yw_st17 {post : Int32 → Prop} {w P : List Nat} {p : Nat} (hN : w.length ≤ 3000) (hM : ∀ d, d ∈ w → d < 6) (hw : gw_hl a_word w) (hP : gw_hl a_part P) (hP4 : P.length ≤ 4) (hPl : ∀ d, d ∈ P → d < 6) (hp : p + P.length ≤ w.length)
    (h1 : gw_sb w P p = true → post 1) (h0 : gw_sb w P p = false → post 0) :
    ∀ d i, i + d = P.length → ∀ x3 : Int32, ((x3 = 1 ∧ ∀ e, e < i → w.getD (p + e) 0 = P.getD e 0) ∨ (x3 = 0 ∧ gw_sb w P p = false)) → wY_standsAt_17 post (nI p) (nI P.length) f_firstSize f_size f_otherSize f_x f_y f_way f_left f_right f_low f_high a_ruleSize a_rules a_first a_actions a_word a_next a_other a_part a_seen (d + 1) x3 (nI i) := by
  intro d
  induction d with
  | zero =>
    intro i hi x3 hx
    have e : i = P.length := by omega
    subst e
    refine br_t (nI_le (by omega) (by omega)) ?_
    rcases hx with ⟨rfl, hx⟩ | ⟨rfl, hx⟩
    · refine And.intro rfl (h1 ?_)
      unfold gw_sb
      rw [decide_eq_true_eq]
      exact hx
    · exact And.intro rfl (h0 hx)
  | succ d ih =>
    intro i hi x3 hx
    refine br_f (nI_ge (by omega) (by omega)) ?_
    rcases hx with ⟨rfl, hx⟩ | ⟨rfl, hx⟩
    · have e5 : nI p + nI i = nI (p + i) := nI_add _ _
      have ci : (nI i).toNatClampNeg = i := nI_clamp (by omega)
      have m1 := hM _ (gw_gm (w := w) (i := p + i) (by omega))
      have m2 := hPl _ (gw_gm (w := P) (i := i) (by omega))
      refine br_f (by decide) (And.intro (pk_in (p + i) 3000 (by omega) e5) (And.intro (vp_in_nI (by omega) (by omega)) ?_))
      by_cases z : w.getD (p + i) 0 = P.getD i 0
      · refine br_t (by rw [ci, pk_cl _ e5, hw _ (by omega), hP i (by omega), z]) (nm_r (e' := nI (i + 1)) (nI_1 i) (ih (i + 1) (by omega) 1 (Or.inl ⟨rfl, ?_⟩)))
        intro e he
        by_cases y : e = i
        · subst y; exact z
        · exact hx e (by omega)
      · refine br_f (by rw [ci, pk_cl _ e5, hw _ (by omega), hP i (by omega), nI_eq (by omega) (by omega)]; exact z) (nm_r (e' := nI (i + 1)) (nI_1 i) (ih (i + 1) (by omega) 0 (Or.inr ⟨rfl, ?_⟩)))
        unfold gw_sb
        rw [decide_eq_false_iff_not]
        exact fun y => z (y i (by omega))
    · exact br_t rfl (nm_r (e' := nI (i + 1)) (nI_1 i) (ih (i + 1) (by omega) 0 (Or.inr ⟨rfl, hx⟩)))
theorem yw_stands {post : Int32 → Prop} {w P : List Nat} {p : Nat} (hN : w.length ≤ 3000) (hM : ∀ d, d ∈ w → d < 6) (hS : f_size = nI w.length) (hw : gw_hl a_word w) (hP : gw_hl a_part P) (hP4 : P.length ≤ 4) (hPl : ∀ d, d ∈ P → d < 6) (hp : p ≤ 3000)
    (h1 : (decide (p + P.length ≤ w.length) && gw_sb w P p) = true → post 1) (h0 : (decide (p + P.length ≤ w.length) && gw_sb w P p) = false → post 0) : wpY_standsAt post (f_firstSize, f_size, f_otherSize, f_x, f_y, f_way, f_left, f_right, f_low, f_high, a_ruleSize, a_rules, a_first, a_actions, a_word, a_next, a_other, a_part, a_seen) (nI p) (nI P.length) := by
  have e5 : nI p + nI P.length = nI (p + P.length) := nI_add _ _
  by_cases c : p + P.length ≤ w.length
  · rw [decide_eq_true c, Bool.true_and] at h1 h0
    refine br_t (by rw [e5, hS]; exact nI_le c (by omega)) ⟨P.length + 1, ?_⟩
    exact yw_st17 hN hM hw hP hP4 hPl c h1 h0 P.length 0 (Nat.zero_add _) 1 (Or.inl ⟨rfl, fun e he => absurd he (Nat.not_lt_zero e)⟩)
  · rw [decide_eq_false c, Bool.false_and] at h0
    exact br_f (by rw [e5, hS]; exact nI_ge (by omega) (by omega)) (h0 rfl)
theorem yw_fd35 {post : Int32 → SY → Prop} {w P : List Nat} {v3 : Int32} (hN : w.length ≤ 3000) (hM : ∀ d, d ∈ w → d < 6) (hS : f_size = nI w.length) (hw : gw_hl a_word w) (hP : gw_hl a_part P) (hP1 : 1 ≤ P.length) (hP4 : P.length ≤ 4) (hPl : ∀ d, d ∈ P → d < 6)
    (K : ∀ r, gw_fa w P v3.toNatClampNeg r → post r (f_firstSize, f_size, f_otherSize, f_x, f_y, f_way, f_left, f_right, f_low, f_high, a_ruleSize, a_rules, a_first, a_actions, a_word, a_next, a_other, a_part, a_seen)) :
    ∀ d p, p + d = w.length → (∀ q, v3.toNatClampNeg ≤ q → q < p → ¬ gw_st w P q) → wY_find_35 post v3 (nI P.length) f_firstSize f_size f_otherSize f_x f_y f_way f_left f_right f_low f_high a_ruleSize a_rules a_first a_actions a_word a_next a_other a_part a_seen (d + 1) (nI p) := by
  have hst : ∀ p, (decide (p + P.length ≤ w.length) && gw_sb w P p) = true ↔ gw_st w P p := by
    intro p
    unfold gw_sb gw_st
    rw [Bool.and_eq_true, decide_eq_true_eq, decide_eq_true_eq]
  intro d
  induction d with
  | zero =>
    intro p hp hq
    have e : p = w.length := by omega
    subst e
    refine br_t (by rw [hS]; exact nI_le (by omega) (by omega)) (K _ (Or.inr ⟨rfl, fun q h1 h2 => ?_⟩))
    have := h2.1
    exact hq q h1 (by omega) h2
  | succ d ih =>
    intro p hp hq
    have hp2 : p < w.length := by omega
    refine br_f (by rw [hS]; exact nI_ge hp2 (by omega)) ?_
    by_cases a : p < v3.toNatClampNeg
    · refine br_t ((gw_cmL (by omega)).mpr a) (nm_r (e' := nI (p + 1)) (nI_1 p) (ih (p + 1) (by omega) ?_))
      intro q h1 h2
      exact hq q h1 (by omega)
    · refine br_f (fun z => a ((gw_cmL (by omega)).mp z)) ?_
      refine yw_stands (w := w) hN hM hS hw hP hP4 hPl (by omega) ?_ ?_
      · intro z
        exact br_f (by decide) (K _ (Or.inl ⟨p, rfl, by omega, (hst p).mp z, hq⟩))
      · intro z
        refine br_t rfl (nm_r (e' := nI (p + 1)) (nI_1 p) (ih (p + 1) (by omega) ?_))
        intro q h1 h2
        by_cases y : q = p
        · subst y
          intro x
          rw [(hst q).mpr x] at z
          cases z
        · exact hq q h1 (by omega)
theorem yw_find {post : Int32 → SY → Prop} {R : Nat → List Nat} {F : List Nat} {A : Nat → Nat} {v v2 v3 : Int32} (ok : gw_ok R F A) (hI : yw_I R F A (f_firstSize, f_size, f_otherSize, f_x, f_y, f_way, f_left, f_right, f_low, f_high, a_ruleSize, a_rules, a_first, a_actions, a_word, a_next, a_other, a_part, a_seen))
    (K : ∀ r u, gw_gq R F v (fun n r => gw_fb (gw_G R F n) v2 v3 r) r → yw_I R F A u → post r u) : wpY_find post (f_firstSize, f_size, f_otherSize, f_x, f_y, f_way, f_left, f_right, f_low, f_high, a_ruleSize, a_rules, a_first, a_actions, a_word, a_next, a_other, a_part, a_seen) v v2 v3 := by
  have hB : gw_B R F A f_firstSize a_ruleSize a_rules a_first a_actions := hI
  unfold wpY_find
  dsimp only
  rcases gw_vc v with hv | ⟨n, hn, rfl⟩
  · exact yw_wrA hv (br_f (by decide) (K _ _ (gw_gqA hv) hI))
  · refine yw_wrB ok hB hn ?_ ?_
    · intro hrc nx wd hw
      refine br_t (by decide) ?_
      refine yw_read (most := 4) (by omega) ?_ ?_
      · intro P pt hP hh
        obtain ⟨x, hx, e, hd⟩ := gw_dvV hP
        have hp := gw_deP hd
        by_cases c : 1 ≤ P.length
        · refine br_t (nI_le (a := 1) c (by omega)) ⟨(gw_G R F n).length + 1, ?_⟩
          refine yw_fd35 (w := gw_G R F n) (P := P) (hrc n (Nat.le_refl n)) (gw_GM ok n) rfl hw hh c hp.1 hp.2.1 ?_ _ 0 (Nat.zero_add _) (fun q _ h2 => absurd h2 (Nat.not_lt_zero q))
          intro r hr
          exact K _ _ (gw_gqC hn hrc (Or.inl ⟨P, hP, c, hr⟩)) (yw_IK hB)
        · have e0 : P = [] := List.eq_nil_of_length_eq_zero (by omega)
          subst e0
          exact br_f (by decide) (K _ _ (gw_gqC hn hrc (Or.inr ⟨Or.inr hP, rfl⟩)) (yw_IK hB))
      · intro hP pt
        exact br_f (by decide) (K _ _ (gw_gqC hn hrc (Or.inr ⟨Or.inl hP, rfl⟩)) (yw_IK hB))
    · intro hrc sz nx wd
      exact br_f (by decide) (K _ _ (gw_gqB hn hrc) (yw_IK hB))
theorem yw_oc35 {post : Int32 → SY → Prop} {w P : List Nat} (hN : w.length ≤ 3000) (hM : ∀ d, d ∈ w → d < 6) (hS : f_size = nI w.length) (hw : gw_hl a_word w) (hP : gw_hl a_part P) (hP4 : P.length ≤ 4) (hPl : ∀ d, d ∈ P → d < 6)
    (h : post (nI (gw_oc w P)) (f_firstSize, f_size, f_otherSize, f_x, f_y, f_way, f_left, f_right, f_low, f_high, a_ruleSize, a_rules, a_first, a_actions, a_word, a_next, a_other, a_part, a_seen)) :
    ∀ d p, p + d = w.length → wY_occurrences_35 post (nI P.length) f_firstSize f_size f_otherSize f_x f_y f_way f_left f_right f_low f_high a_ruleSize a_rules a_first a_actions a_word a_next a_other a_part a_seen (d + 1) (nI (gw_cn (fun p => decide (p + P.length ≤ w.length) && gw_sb w P p) p)) (nI p) := by
  intro d
  induction d with
  | zero =>
    intro p hp
    have e : p = w.length := by omega
    subst e
    exact br_t (by rw [hS]; exact nI_le (by omega) (by omega)) h
  | succ d ih =>
    intro p hp
    have hp2 : p < w.length := by omega
    have ih' := ih (p + 1) (by omega)
    rw [gw_cnS] at ih'
    refine br_f (by rw [hS]; exact nI_ge hp2 (by omega)) ?_
    refine yw_stands (w := w) hN hM hS hw hP hP4 hPl (by omega) ?_ ?_
    · intro z
      rw [if_pos z] at ih'
      exact br_f (by decide) (nm_r (nI_1 _) (nm_r (nI_1 p) ih'))
    · intro z
      rw [if_neg (by rw [z]; decide), Nat.add_zero] at ih'
      exact br_t rfl (nm_r (nI_1 p) ih')
theorem yw_occurrences {post : Int32 → SY → Prop} {R : Nat → List Nat} {F : List Nat} {A : Nat → Nat} {v v2 : Int32} (ok : gw_ok R F A) (hI : yw_I R F A (f_firstSize, f_size, f_otherSize, f_x, f_y, f_way, f_left, f_right, f_low, f_high, a_ruleSize, a_rules, a_first, a_actions, a_word, a_next, a_other, a_part, a_seen))
    (K : ∀ r u, gw_gq R F v (fun n r => gw_ob (gw_G R F n) v2 r) r → yw_I R F A u → post r u) : wpY_occurrences post (f_firstSize, f_size, f_otherSize, f_x, f_y, f_way, f_left, f_right, f_low, f_high, a_ruleSize, a_rules, a_first, a_actions, a_word, a_next, a_other, a_part, a_seen) v v2 := by
  have hB : gw_B R F A f_firstSize a_ruleSize a_rules a_first a_actions := hI
  unfold wpY_occurrences
  dsimp only
  rcases gw_vc v with hv | ⟨n, hn, rfl⟩
  · exact yw_wrA hv (br_f (by decide) (K _ _ (gw_gqA hv) hI))
  · refine yw_wrB ok hB hn ?_ ?_
    · intro hrc nx wd hw
      refine br_t (by decide) ?_
      refine yw_read (most := 4) (by omega) ?_ ?_
      · intro P pt hP hh
        obtain ⟨x, hx, e, hd⟩ := gw_dvV hP
        have hp := gw_deP hd
        by_cases c : 1 ≤ P.length
        · refine br_t (nI_le (a := 1) c (by omega)) ⟨(gw_G R F n).length + 1, ?_⟩
          exact yw_oc35 (w := gw_G R F n) (P := P) (hrc n (Nat.le_refl n)) (gw_GM ok n) rfl hw hh hp.1 hp.2.1 (K _ _ (gw_gqC hn hrc (Or.inl ⟨P, hP, c, rfl⟩)) (yw_IK hB)) _ 0 (Nat.zero_add _)
        · have e0 : P = [] := List.eq_nil_of_length_eq_zero (by omega)
          subst e0
          exact br_f (by decide) (K _ _ (gw_gqC hn hrc (Or.inr ⟨Or.inr hP, rfl⟩)) (yw_IK hB))
      · intro hP pt
        exact br_f (by decide) (K _ _ (gw_gqC hn hrc (Or.inr ⟨Or.inl hP, rfl⟩)) (yw_IK hB))
    · intro hrc sz nx wd
      exact br_f (by decide) (K _ _ (gw_gqB hn hrc) (yw_IK hB))
/-! runs -/
theorem yw_rn61 {post : Int32 → SY → Prop} {J : Int32 → Int32 → Int32 → Prop} {m z p : Nat} (hm : m < 2 ^ 30) (hz : z < 2 ^ 30) (h : J (nI (max m z)) (nI z) (nI (p + 1))) : wY_run_61 post J (nI m) (nI p) (nI z) f_firstSize f_size f_otherSize f_x f_y f_way f_left f_right f_low f_high a_ruleSize a_rules a_first a_actions a_word a_next a_other a_part a_seen := by
  by_cases c : z ≤ m
  · rw [show max m z = m by omega] at h
    exact br_t (nI_le c (by omega)) (nm_r (nI_1 p) h)
  · rw [show max m z = z by omega] at h
    exact br_f (nI_ge (by omega) (by omega)) (nm_r (nI_1 p) h)
theorem gw_rwB {s : gw_Run} {w : List Nat} {p : Nat} (hp : p < w.length) : (gw_rw s (w.take (p + 1))).2.2.1 = nI (w.getD p 0) := by
  rw [gw_tk hp, gw_rwA]
  show (gw_rs (nI (w.getD p 0)) (gw_rw s (w.take p))).2.2.1 = _
  generalize gw_rw s (w.take p) = t
  obtain ⟨fl, fr, bl, br, lg, tt⟩ := t
  rfl
theorem gw_rwC {s : gw_Run} {w : List Nat} {p : Nat} (hp : p < w.length) : (gw_rw s (w.take (p + 1))).2.2.2.1 = (if (gw_rw s (w.take p)).2.2.1 = nI (w.getD p 0) then (gw_rw s (w.take p)).2.2.2.1 + 1 else 1) ∧ (gw_rw s (w.take (p + 1))).2.2.2.2.1 = max (gw_rw s (w.take p)).2.2.2.2.1 (if (gw_rw s (w.take p)).2.2.1 = nI (w.getD p 0) then (gw_rw s (w.take p)).2.2.2.1 + 1 else 1) := by
  rw [gw_tk hp, gw_rwA]
  show (gw_rs (nI (w.getD p 0)) (gw_rw s (w.take p))).2.2.2.1 = _ ∧ (gw_rs (nI (w.getD p 0)) (gw_rw s (w.take p))).2.2.2.2.1 = _
  generalize gw_rw s (w.take p) = t
  obtain ⟨fl, fr, bl, br, lg, tt⟩ := t
  exact ⟨rfl, rfl⟩
theorem gw_rwL {w : List Nat} {p : Nat} (hp : p ≤ w.length) : (gw_rw gw_r0 (w.take p)).2.2.2.1 ≤ w.length ∧ (gw_rw gw_r0 (w.take p)).2.2.2.2.1 ≤ w.length := by
  have h1 := gw_riD (w.take p) gw_ri0
  have h2 := gw_rwT (w.take p) (q := gw_r0)
  have h3 : (gw_rw gw_r0 (w.take p)).2.2.2.2.2 = p := by
    rw [h2, List.length_take]
    show 0 + _ = _
    omega
  generalize gw_rw gw_r0 (w.take p) = t at h1 h3
  obtain ⟨fl, fr, bl, br, lg, tt⟩ := t
  unfold gw_ri at h1
  dsimp only at h1 h3 ⊢
  omega
theorem yw_rn20 {post : Int32 → SY → Prop} {w : List Nat} (hN : w.length ≤ 3000) (hM : ∀ d, d ∈ w → d < 6) (hS : f_size = nI w.length) (hw : gw_hl a_word w)
    (h : post (nI (gw_rw gw_r0 w).2.2.2.2.1) (f_firstSize, f_size, f_otherSize, f_x, f_y, f_way, f_left, f_right, f_low, f_high, a_ruleSize, a_rules, a_first, a_actions, a_word, a_next, a_other, a_part, a_seen)) :
    ∀ d p, p + d = w.length → wY_run_20 post f_firstSize f_size f_otherSize f_x f_y f_way f_left f_right f_low f_high a_ruleSize a_rules a_first a_actions a_word a_next a_other a_part a_seen (d + 1) (nI (gw_rw gw_r0 (w.take p)).2.2.2.2.1) (nI (gw_rw gw_r0 (w.take p)).2.2.2.1) (nI p) := by
  intro d
  induction d with
  | zero =>
    intro p hp
    have e : p = w.length := by omega
    subst e
    rw [List.take_length]
    exact br_t (by rw [hS]; exact nI_le (by omega) (by omega)) h
  | succ d ih =>
    intro p hp
    have hp2 : p < w.length := by omega
    have cp : (nI p).toNatClampNeg = p := nI_clamp (by omega)
    have hm := hM _ (gw_gm hp2)
    have hb := gw_rwL (w := w) (p := p) (by omega)
    have ih' := ih (p + 1) (by omega)
    rw [(gw_rwC hp2).1, (gw_rwC hp2).2] at ih'
    refine br_f (by rw [hS]; exact nI_ge hp2 (by omega)) ?_
    cases p with
    | zero =>
      have hn : ¬ (gw_rw gw_r0 (w.take 0)).2.2.1 = nI (w.getD 0 0) := gw_n1 (by omega)
      rw [if_neg hn] at ih'
      refine br_t (by decide) ?_
      exact yw_rn61 (z := 1) (by omega) (by omega) ih'
    | succ p =>
      have e1 : nI (p + 1) - 1 = nI p := nI_pred p
      rw [gw_rwB (by omega)] at ih'
      have hm2 := hM _ (gw_gm (w := w) (i := p) (by omega))
      refine br_f (nI_nle (by omega) (by omega)) (And.intro (vp_in_nI (by omega) (by omega)) (And.intro (pk_in p 3000 (by omega) e1) ?_))
      by_cases c : w.getD p 0 = w.getD (p + 1) 0
      · rw [if_pos (by rw [c])] at ih'
        refine br_t (by rw [cp, pk_cl _ e1, hw _ hp2, hw p (by omega), c]) ?_
        rw [nI_1]
        exact yw_rn61 (by omega) (by omega) ih'
      · rw [if_neg (by rw [nI_eq (by omega) (by omega)]; exact c)] at ih'
        refine br_f (by rw [cp, pk_cl _ e1, hw _ hp2, hw p (by omega), nI_eq (by omega) (by omega)]; exact fun z => c z.symm) ?_
        exact yw_rn61 (z := 1) (by omega) (by omega) ih'
theorem yw_run {post : Int32 → SY → Prop} {R : Nat → List Nat} {F : List Nat} {A : Nat → Nat} {v : Int32} (ok : gw_ok R F A) (hI : yw_I R F A (f_firstSize, f_size, f_otherSize, f_x, f_y, f_way, f_left, f_right, f_low, f_high, a_ruleSize, a_rules, a_first, a_actions, a_word, a_next, a_other, a_part, a_seen))
    (K : ∀ r u, gw_gq R F v (fun n r => r = nI (gw_rw gw_r0 (gw_G R F n)).2.2.2.2.1) r → yw_I R F A u → post r u) : wpY_run post (f_firstSize, f_size, f_otherSize, f_x, f_y, f_way, f_left, f_right, f_low, f_high, a_ruleSize, a_rules, a_first, a_actions, a_word, a_next, a_other, a_part, a_seen) v := by
  have hB : gw_B R F A f_firstSize a_ruleSize a_rules a_first a_actions := hI
  unfold wpY_run
  dsimp only
  rcases gw_vc v with hv | ⟨n, hn, rfl⟩
  · exact yw_wrA hv (br_f (by decide) (K _ _ (gw_gqA hv) hI))
  · refine yw_wrB ok hB hn ?_ ?_
    · intro hrc nx wd hw
      refine br_t (by decide) ⟨(gw_G R F n).length + 1, ?_⟩
      exact yw_rn20 (w := gw_G R F n) (hrc n (Nat.le_refl n)) (gw_GM ok n) rfl hw (K _ _ (gw_gqC hn hrc rfl) (yw_IK hB)) _ 0 (Nat.zero_add _)
    · intro hrc sz nx wd
      exact br_f (by decide) (K _ _ (gw_gqB hn hrc) (yw_IK hB))
end
end
section
section
variable {f_firstSize f_size f_otherSize f_x f_y f_way f_left f_right f_low f_high : Int32} {a_ruleSize a_rules a_first a_actions a_word a_next a_other a_part a_seen : Nat → Int32}
/-! two generations side by side -/
theorem yw_cm89 {post : Int32 → SY → Prop} {w u : List Nat} (hN : w.length ≤ 3000) (hU : u.length ≤ 3000) (hM : ∀ d, d ∈ w → d < 6) (hM2 : ∀ d, d ∈ u → d < 6) (hS : f_size = nI w.length) (hS2 : f_otherSize = nI u.length) (hw : gw_hl a_word w) (hu : gw_hl a_other u)
    (h : post (nI (gw_lc u w)) (f_firstSize, f_size, f_otherSize, f_x, f_y, f_way, f_left, f_right, f_low, f_high, a_ruleSize, a_rules, a_first, a_actions, a_word, a_next, a_other, a_part, a_seen)) :
    ∀ d p, p + d = w.length → gw_lc u w = p + gw_lc (u.drop p) (w.drop p) → wY_common_89 post f_firstSize f_size f_otherSize f_x f_y f_way f_left f_right f_low f_high a_ruleSize a_rules a_first a_actions a_word a_next a_other a_part a_seen (d + 1) (nI p) := by
  intro d
  induction d with
  | zero =>
    intro p hp hl
    have e : p = w.length := by omega
    rw [e, List.drop_length, gw_lcM, Nat.add_zero, ← e] at hl
    rw [hl] at h
    exact br_t (by rw [hS]; exact nI_le (by omega) (by omega)) h
  | succ d ih =>
    intro p hp hl
    have hp2 : p < w.length := by omega
    have cp : (nI p).toNatClampNeg = p := nI_clamp (by omega)
    have vp : vp_in (nI p) 3000 := vp_in_nI (by omega) (by omega)
    refine br_f (by rw [hS]; exact nI_ge hp2 (by omega)) ?_
    by_cases c : u.length ≤ p
    · rw [List.drop_eq_nil_of_le c, gw_lcN, Nat.add_zero] at hl
      rw [hl] at h
      exact br_t (by rw [hS2]; exact nI_le c (by omega)) h
    · have hp3 : p < u.length := by omega
      have m1 := hM _ (gw_gm hp2)
      have m2 := hM2 _ (gw_gm hp3)
      rw [gw_dp hp3, gw_dp hp2] at hl
      refine br_f (by rw [hS2]; exact nI_ge hp3 (by omega)) (And.intro vp (And.intro vp ?_))
      by_cases q : w.getD p 0 = u.getD p 0
      · rw [← q, gw_lcE] at hl
        exact br_t (by rw [cp, hw p hp2, hu p hp3, q]) (nm_r (e' := nI (p + 1)) (nI_1 p) (ih (p + 1) (by omega) (by omega)))
      · rw [gw_lcD _ _ (fun z => q z.symm), Nat.add_zero] at hl
        rw [hl] at h
        exact br_f (by rw [cp, hw p hp2, hu p hp3, nI_eq (by omega) (by omega)]; exact q) h
theorem yw_cm45 {post : Int32 → SY → Prop} {w : List Nat} {x2 : Int32} (hN : w.length ≤ 3000) (hM : ∀ d, d ∈ w → d < 6) (hS : f_size = nI w.length) (hw : gw_hl a_word w)
    (K : ∀ ot : Nat → Int32, gw_hl ot w → wpY_write (fun r_27 u => match u with | (f_firstSize, f_size, f_otherSize, f_x, f_y, f_way, f_left, f_right, f_low, f_high, a_ruleSize, a_rules, a_first, a_actions, a_word, a_next, a_other, a_part, a_seen) => (((0 ≤ r_27 → (∃ n89 : Nat, wY_common_89 post f_firstSize f_size f_otherSize f_x f_y f_way f_left f_right f_low f_high a_ruleSize a_rules a_first a_actions a_word a_next a_other a_part a_seen n89 0)) ∧ (¬ 0 ≤ r_27 → (post r_27 (f_firstSize, f_size, f_otherSize, f_x, f_y, f_way, f_left, f_right, f_low, f_high, a_ruleSize, a_rules, a_first, a_actions, a_word, a_next, a_other, a_part, a_seen)))))) (f_firstSize, f_size, f_otherSize, f_x, f_y, f_way, f_left, f_right, f_low, f_high, a_ruleSize, a_rules, a_first, a_actions, a_word, a_next, ot, a_part, a_seen) x2) :
    ∀ d p, p + d = w.length → ∀ ot : Nat → Int32, (∀ i, i < p → ot i = nI (w.getD i 0)) → wY_common_45 post x2 f_firstSize f_size f_otherSize f_x f_y f_way f_left f_right f_low f_high (d + 1) (nI p) a_ruleSize a_rules a_first a_actions a_word a_next ot a_part a_seen := by
  intro d
  induction d with
  | zero =>
    intro p hp ot h
    have e : p = w.length := by omega
    subst e
    exact br_t (by rw [hS]; exact nI_le (by omega) (by omega)) (K ot h)
  | succ d ih =>
    intro p hp ot h
    have hp2 : p < w.length := by omega
    have cp : (nI p).toNatClampNeg = p := nI_clamp (by omega)
    have vp : vp_in (nI p) 3000 := vp_in_nI (by omega) (by omega)
    have hm := hM _ (gw_gm hp2)
    refine br_f (by rw [hS]; exact nI_ge hp2 (by omega)) (And.intro vp (And.intro vp (nm_r (e' := upd ot p (nI (w.getD p 0))) (by rw [cp, hw p hp2, gw_nb hm]) (nm_r (e' := nI (p + 1)) (nI_1 p) (ih (p + 1) (by omega) _ ?_)))))
    intro i hi
    by_cases z : i = p
    · subst z; rw [pk_us]
    · rw [pk_un z]; exact h i (by omega)
theorem yw_common {post : Int32 → SY → Prop} {R : Nat → List Nat} {F : List Nat} {A : Nat → Nat} {v1 v2 : Int32} (ok : gw_ok R F A) (hI : yw_I R F A (f_firstSize, f_size, f_otherSize, f_x, f_y, f_way, f_left, f_right, f_low, f_high, a_ruleSize, a_rules, a_first, a_actions, a_word, a_next, a_other, a_part, a_seen))
    (K : ∀ r u, gw_gc R F v1 v2 r → yw_I R F A u → post r u) : wpY_common post (f_firstSize, f_size, f_otherSize, f_x, f_y, f_way, f_left, f_right, f_low, f_high, a_ruleSize, a_rules, a_first, a_actions, a_word, a_next, a_other, a_part, a_seen) v1 v2 := by
  have hB : gw_B R F A f_firstSize a_ruleSize a_rules a_first a_actions := hI
  by_cases a1 : v1 < 0
  · exact br_t a1 (K _ _ (Or.inl ⟨Or.inl (Or.inl a1), rfl⟩) hI)
  refine br_f a1 ?_
  by_cases a2 : 13 ≤ v1
  · exact br_t (Int32.lt_of_lt_of_le (by decide) a2) (K _ _ (Or.inl ⟨Or.inl (Or.inr a2), rfl⟩) hI)
  obtain ⟨n, hn, rfl⟩ : ∃ n, n < 13 ∧ v1 = nI n := by
    rcases gw_vc v1 with z | z
    · rcases z with z | z
      · exact absurd z a1
      · exact absurd z a2
    · exact z
  refine br_f (nI_nlt (a := 12) (by omega) (by omega)) ?_
  by_cases b1 : v2 < 0
  · exact br_t b1 (K _ _ (Or.inl ⟨Or.inr (Or.inl b1), rfl⟩) hI)
  refine br_f b1 ?_
  by_cases b2 : 13 ≤ v2
  · exact br_f (fun x => absurd (Int32.le_trans b2 x) (by decide)) (K _ _ (Or.inl ⟨Or.inr (Or.inr b2), rfl⟩) hI)
  obtain ⟨m, hm, rfl⟩ : ∃ n, n < 13 ∧ v2 = nI n := by
    rcases gw_vc v2 with z | z
    · rcases z with z | z
      · exact absurd z b1
      · exact absurd z b2
    · exact z
  refine br_t (nI_le (b := 12) (by omega) (by omega)) ?_
  refine yw_wrB ok hB hn ?_ ?_
  · intro hrn nx wd hw
    refine br_t (by decide) ⟨(gw_G R F n).length + 1, ?_⟩
    refine yw_cm45 (w := gw_G R F n) (hrn n (Nat.le_refl n)) (gw_GM ok n) rfl hw ?_ _ 0 (Nat.zero_add _) a_other (fun i hi => absurd hi (Nat.not_lt_zero i))
    intro ot hot
    refine yw_wrB ok hB hm ?_ ?_
    · intro hrm nx' wd' hw'
      refine br_t (by decide) ⟨(gw_G R F m).length + 1, ?_⟩
      refine yw_cm89 (w := gw_G R F m) (u := gw_G R F n) (hrm m (Nat.le_refl m)) (hrn n (Nat.le_refl n)) (gw_GM ok m) (gw_GM ok n) rfl rfl hw' hot ?_ _ 0 (Nat.zero_add _) (by simp)
      exact K _ _ (Or.inr ⟨n, m, hn, hm, rfl, rfl, Or.inr ⟨hrn, hrm, rfl⟩⟩) (yw_IK hB)
    · intro hrm sz nx' wd'
      exact br_f (by decide) (K _ _ (Or.inr ⟨n, m, hn, hm, rfl, rfl, Or.inl ⟨Or.inr hrm, rfl⟩⟩) (yw_IK hB))
  · intro hrn sz nx wd
    exact br_f (by decide) (K _ _ (Or.inr ⟨n, m, hn, hm, rfl, rfl, Or.inl ⟨Or.inl hrn, rfl⟩⟩) (yw_IK hB))
theorem yw_mr17 {post : Int32 → SY → Prop} {w : List Nat} (hN : w.length ≤ 3000) (hM : ∀ d, d ∈ w → d < 6) (hS : f_size = nI w.length) (hw : gw_hl a_word w)
    (K : ∀ r, gw_ma w r → post r (f_firstSize, f_size, f_otherSize, f_x, f_y, f_way, f_left, f_right, f_low, f_high, a_ruleSize, a_rules, a_first, a_actions, a_word, a_next, a_other, a_part, a_seen)) :
    ∀ d p, p + d = w.length → ∀ x3 : Int32, ((x3 = 1 ∧ ∀ q, q < p → w.getD q 0 = w.getD (w.length - 1 - q) 0) ∨ (x3 = 0 ∧ ¬ gw_pal w)) → wY_mirrored_17 post f_firstSize f_size f_otherSize f_x f_y f_way f_left f_right f_low f_high a_ruleSize a_rules a_first a_actions a_word a_next a_other a_part a_seen (d + 1) x3 (nI p) := by
  intro d
  induction d with
  | zero =>
    intro p hp x3 hx
    have e : p = w.length := by omega
    subst e
    refine br_t (by rw [hS]; exact nI_le (by omega) (by omega)) ?_
    rcases hx with ⟨rfl, hx⟩ | ⟨rfl, hx⟩
    · exact br_f (by decide) (K 1 (Or.inl ⟨rfl, hx⟩))
    · exact br_t rfl (K 0 (Or.inr ⟨rfl, hx⟩))
  | succ d ih =>
    intro p hp x3 hx
    have hp2 : p < w.length := by omega
    have cp : (nI p).toNatClampNeg = p := nI_clamp (by omega)
    have e3 : (f_size - 1) - nI p = nI (w.length - 1 - p) := by
      have h1 : nI w.length - 1 = nI (w.length - 1) := pk_sub (b := 1) (by omega)
      rw [hS, h1, pk_sub (by omega)]
    have m1 := hM _ (gw_gm hp2)
    have m2 := hM _ (gw_gm (w := w) (i := w.length - 1 - p) (by omega))
    refine br_f (by rw [hS]; exact nI_ge hp2 (by omega)) ?_
    rcases hx with ⟨rfl, hx⟩ | ⟨rfl, hx⟩
    · refine br_f (by decide) (And.intro (vp_in_nI (by omega) (by omega)) (And.intro (pk_in (w.length - 1 - p) 3000 (by omega) e3) ?_))
      by_cases z : w.getD p 0 = w.getD (w.length - 1 - p) 0
      · refine br_t (by rw [cp, pk_cl _ e3, hw p hp2, hw _ (by omega), z]) (nm_r (e' := nI (p + 1)) (nI_1 p) (ih (p + 1) (by omega) 1 (Or.inl ⟨rfl, ?_⟩)))
        intro q hq
        by_cases y : q = p
        · subst y; exact z
        · exact hx q (by omega)
      · exact br_f (by rw [cp, pk_cl _ e3, hw p hp2, hw _ (by omega), nI_eq (by omega) (by omega)]; exact z) (nm_r (e' := nI (p + 1)) (nI_1 p) (ih (p + 1) (by omega) 0 (Or.inr ⟨rfl, fun y => z (y p hp2)⟩)))
    · exact br_t rfl (nm_r (e' := nI (p + 1)) (nI_1 p) (ih (p + 1) (by omega) 0 (Or.inr ⟨rfl, hx⟩)))
theorem yw_mirrored {post : Int32 → SY → Prop} {R : Nat → List Nat} {F : List Nat} {A : Nat → Nat} {v : Int32} (ok : gw_ok R F A) (hI : yw_I R F A (f_firstSize, f_size, f_otherSize, f_x, f_y, f_way, f_left, f_right, f_low, f_high, a_ruleSize, a_rules, a_first, a_actions, a_word, a_next, a_other, a_part, a_seen))
    (K : ∀ r u, gw_gq R F v (fun n r => gw_ma (gw_G R F n) r) r → yw_I R F A u → post r u) : wpY_mirrored post (f_firstSize, f_size, f_otherSize, f_x, f_y, f_way, f_left, f_right, f_low, f_high, a_ruleSize, a_rules, a_first, a_actions, a_word, a_next, a_other, a_part, a_seen) v := by
  have hB : gw_B R F A f_firstSize a_ruleSize a_rules a_first a_actions := hI
  unfold wpY_mirrored
  dsimp only
  rcases gw_vc v with hv | ⟨n, hn, rfl⟩
  · exact yw_wrA hv (br_f (by decide) (K _ _ (gw_gqA hv) hI))
  · refine yw_wrB ok hB hn ?_ ?_
    · intro hrc nx wd hw
      refine br_t (by decide) ⟨(gw_G R F n).length + 1, ?_⟩
      refine yw_mr17 (w := gw_G R F n) (hrc n (Nat.le_refl n)) (gw_GM ok n) rfl hw ?_ _ 0 (Nat.zero_add _) 1 (Or.inl ⟨rfl, fun q hq => absurd hq (Nat.not_lt_zero q)⟩)
      intro r hr
      exact K _ _ (gw_gqC hn hrc hr) (yw_IK hB)
    · intro hrc sz nx wd
      exact br_f (by decide) (K _ _ (gw_gqB hn hrc) (yw_IK hB))
/-! windows -/
theorem yw_kd120 {post : Int32 → SY → Prop} {f : Nat → Bool} (hs : ∀ j, j < 216 → a_seen j = if f j = true then 1 else 0) (h : post (nI (gw_cn f 216)) (f_firstSize, f_size, f_otherSize, f_x, f_y, f_way, f_left, f_right, f_low, f_high, a_ruleSize, a_rules, a_first, a_actions, a_word, a_next, a_other, a_part, a_seen)) :
    ∀ d i, i + d = 216 → wY_kinds_120 post f_firstSize f_size f_otherSize f_x f_y f_way f_left f_right f_low f_high a_ruleSize a_rules a_first a_actions a_word a_next a_other a_part a_seen (d + 1) (nI (gw_cn f i)) (nI i) := by
  intro d
  induction d with
  | zero =>
    intro i hi
    have e : i = 216 := by omega
    subst e
    exact br_t (nI_le (a := 216) (b := 216) (by omega) (by omega)) h
  | succ d ih =>
    intro i hi
    have ci : (nI i).toNatClampNeg = i := nI_clamp (by omega)
    have ih' := ih (i + 1) (by omega)
    rw [gw_cnS] at ih'
    refine br_f (nI_ge (a := i) (b := 216) (by omega) (by omega)) (And.intro (vp_in_nI (by omega) (by omega)) ?_)
    by_cases z : f i = true
    · rw [if_pos z] at ih'
      exact br_f (by rw [ci, hs i (by omega), if_pos z]; decide) (nm_r (nI_1 _) (nm_r (nI_1 i) ih'))
    · rw [if_neg z, Nat.add_zero] at ih'
      exact br_t (by rw [ci, hs i (by omega), if_neg z]) (nm_r (nI_1 i) ih')
theorem yw_kd70 {post : Int32 → SY → Prop} {J : Int32 → (Nat → Int32) → (Nat → Int32) → (Nat → Int32) → (Nat → Int32) → (Nat → Int32) → (Nat → Int32) → (Nat → Int32) → (Nat → Int32) → (Nat → Int32) → Prop} {w : List Nat} {k p : Nat} (hN : w.length ≤ 3000) (hw : gw_hl a_word w) (hk : k ≤ 3) (hp : p + k ≤ w.length) (hc : gw_cd (fun i => w.getD i 0) p k < 216)
    (h : J (nI (p + 1)) a_ruleSize a_rules a_first a_actions a_word a_next a_other a_part (upd a_seen (gw_cd (fun i => w.getD i 0) p k) 1)) :
    ∀ d i, i + d = k → wY_kinds_70 post J (nI k) (nI p) f_firstSize f_size f_otherSize f_x f_y f_way f_left f_right f_low f_high a_ruleSize a_rules a_first a_actions a_word a_next a_other a_part a_seen (d + 1) (nI (gw_cd (fun i => w.getD i 0) p i)) (nI i) := by
  intro d
  induction d with
  | zero =>
    intro i hi
    have e : i = k := by omega
    subst e
    have cl : (nI (gw_cd (fun i => w.getD i 0) p i)).toNatClampNeg = gw_cd (fun i => w.getD i 0) p i := nI_clamp (by omega)
    exact br_t (nI_le (by omega) (by omega)) (And.intro (vp_in_nI hc (by omega)) (nm_r (e' := upd a_seen (gw_cd (fun i => w.getD i 0) p i) 1) (by rw [cl, gw_vb1]) (nm_r (nI_1 p) h)))
  | succ d ih =>
    intro i hi
    have e5 : nI p + nI i = nI (p + i) := nI_add _ _
    refine br_f (nI_ge (by omega) (by omega)) (And.intro (pk_in (p + i) 3000 (by omega) e5) (nm_r (e' := nI (gw_cd (fun i => w.getD i 0) p (i + 1))) ?_ (nm_r (e' := nI (i + 1)) (nI_1 i) (ih (i + 1) (by omega)))))
    rw [pk_cl _ e5, hw (p + i) (by omega)]
    exact xw_mi 6 _ _
theorem yw_kd53 {post : Int32 → SY → Prop} {w : List Nat} {k : Nat} (hN : w.length ≤ 3000) (hM : ∀ d, d ∈ w → d < 6) (hS : f_size = nI w.length) (hw : gw_hl a_word w) (hk1 : 1 ≤ k) (hk : k ≤ 3)
    (K : ∀ sn : Nat → Int32, post (nI (gw_cn (gw_yn (fun i => w.getD i 0) k (w.length + 1 - k)) 216)) (f_firstSize, f_size, f_otherSize, f_x, f_y, f_way, f_left, f_right, f_low, f_high, a_ruleSize, a_rules, a_first, a_actions, a_word, a_next, a_other, a_part, sn)) :
    ∀ d p, p + d = w.length + 1 - k → ∀ sn : Nat → Int32, (∀ j, j < 216 → sn j = if gw_yn (fun i => w.getD i 0) k p j = true then 1 else 0) → wY_kinds_53 post (nI k) f_firstSize f_size f_otherSize f_x f_y f_way f_left f_right f_low f_high (d + 1) (nI p) a_ruleSize a_rules a_first a_actions a_word a_next a_other a_part sn := by
  intro d
  induction d with
  | zero =>
    intro p hp sn hs
    have e : p = w.length + 1 - k := by omega
    have e5 : nI p + nI k = nI (p + k) := nI_add _ _
    refine br_t (by rw [e5, hS]; exact nI_lt (by omega) (by omega)) ⟨217, ?_⟩
    have K' := K sn
    rw [← e] at K'
    exact yw_kd120 hs K' 216 0 rfl
  | succ d ih =>
    intro p hp sn hs
    have e5 : nI p + nI k = nI (p + k) := nI_add _ _
    have hlt : ∀ j, j < w.length → w.getD j 0 < 6 := fun j hj => hM _ (gw_gm hj)
    have hcd := gw_cdL (W := fun i => w.getD i 0) (p := p) k (fun j hj => hlt _ (by omega))
    have h6 : 6 ^ k ≤ 216 := by
      have : 6 ^ k ≤ 6 ^ 3 := Nat.pow_le_pow_right (by decide) hk
      exact this
    refine br_f (by rw [e5, hS]; exact nI_nlt (by omega) (by omega)) ⟨k + 1, ?_⟩
    refine yw_kd70 (w := w) hN hw hk (by omega) (by omega) ?_ k 0 (Nat.zero_add _)
    refine ih (p + 1) (by omega) _ ?_
    rw [gw_ynS]
    exact gw_upB hs
theorem yw_kd28 {post : Int32 → SY → Prop} {w : List Nat} {k : Nat} (hN : w.length ≤ 3000) (hM : ∀ d, d ∈ w → d < 6) (hS : f_size = nI w.length) (hw : gw_hl a_word w) (hk1 : 1 ≤ k) (hk : k ≤ 3)
    (K : ∀ sn : Nat → Int32, post (nI (gw_cn (gw_yn (fun i => w.getD i 0) k (w.length + 1 - k)) 216)) (f_firstSize, f_size, f_otherSize, f_x, f_y, f_way, f_left, f_right, f_low, f_high, a_ruleSize, a_rules, a_first, a_actions, a_word, a_next, a_other, a_part, sn)) :
    ∀ d i, i + d = 216 → ∀ sn : Nat → Int32, (∀ j, j < i → sn j = 0) → wY_kinds_28 post (nI k) f_firstSize f_size f_otherSize f_x f_y f_way f_left f_right f_low f_high (d + 1) (nI i) a_ruleSize a_rules a_first a_actions a_word a_next a_other a_part sn := by
  intro d
  induction d with
  | zero =>
    intro i hi sn hs
    have e : i = 216 := by omega
    subst e
    refine br_t (nI_le (a := 216) (b := 216) (by omega) (by omega)) ⟨w.length + 1 - k + 1, ?_⟩
    exact yw_kd53 (w := w) hN hM hS hw hk1 hk K _ 0 (Nat.zero_add _) sn (fun j hj => by rw [hs j hj]; rfl)
  | succ d ih =>
    intro i hi sn hs
    have ci : (nI i).toNatClampNeg = i := nI_clamp (by omega)
    refine br_f (nI_ge (a := i) (b := 216) (by omega) (by omega)) (And.intro (vp_in_nI (by omega) (by omega)) (nm_r (e' := upd sn i 0) (by rw [ci, gw_vb0]) (nm_r (e' := nI (i + 1)) (nI_1 i) (ih (i + 1) (by omega) _ ?_))))
    intro j hj
    by_cases z : j = i
    · subst z; rw [pk_us]
    · rw [pk_un z]; exact hs j (by omega)
theorem yw_kinds {post : Int32 → SY → Prop} {R : Nat → List Nat} {F : List Nat} {A : Nat → Nat} {v v2 : Int32} (ok : gw_ok R F A) (hI : yw_I R F A (f_firstSize, f_size, f_otherSize, f_x, f_y, f_way, f_left, f_right, f_low, f_high, a_ruleSize, a_rules, a_first, a_actions, a_word, a_next, a_other, a_part, a_seen))
    (K : ∀ r u, gw_gq R F v (fun n r => gw_kb (gw_G R F n) v2 r) r → yw_I R F A u → post r u) : wpY_kinds post (f_firstSize, f_size, f_otherSize, f_x, f_y, f_way, f_left, f_right, f_low, f_high, a_ruleSize, a_rules, a_first, a_actions, a_word, a_next, a_other, a_part, a_seen) v v2 := by
  have hB : gw_B R F A f_firstSize a_ruleSize a_rules a_first a_actions := hI
  unfold wpY_kinds
  dsimp only
  rcases gw_vc v with hv | ⟨n, hn, rfl⟩
  · exact yw_wrA hv (br_f (by decide) (K _ _ (gw_gqA hv) hI))
  · refine yw_wrB ok hB hn ?_ ?_
    · intro hrc nx wd hw
      have hL := hrc n (Nat.le_refl n)
      refine br_t (by decide) ?_
      by_cases h1 : v2 < 1
      · exact br_t h1 (K _ _ (gw_gqC hn hrc (Or.inr ⟨Or.inl h1, rfl⟩)) (yw_IK hB))
      · refine br_f h1 ?_
        by_cases h3 : 3 < v2
        · exact br_f (Int32.not_le.mpr h3) (K _ _ (gw_gqC hn hrc (Or.inr ⟨Or.inr h3, rfl⟩)) (yw_IK hB))
        · refine br_t (Int32.not_lt.mp h3) ⟨217, ?_⟩
          obtain ⟨k, hk1, hk, e⟩ : ∃ k, 1 ≤ k ∧ k ≤ 3 ∧ v2 = nI k := by
            rcases gw_kc v2 with z | z | z | z
            · rcases z with z | z
              · exact absurd z h1
              · exact absurd z h3
            · exact ⟨1, by omega, by omega, z⟩
            · exact ⟨2, by omega, by omega, z⟩
            · exact ⟨3, by omega, by omega, z⟩
          subst e
          refine yw_kd28 (w := gw_G R F n) hL (gw_GM ok n) rfl hw hk1 hk ?_ 216 0 rfl a_seen (fun j hj => absurd hj (Nat.not_lt_zero j))
          intro sn
          exact K _ _ (gw_gqC hn hrc (Or.inl ⟨k, hk1, hk, rfl, rfl⟩)) (yw_IK hB)
    · intro hrc sz nx wd
      exact br_f (by decide) (K _ _ (gw_gqB hn hrc) (yw_IK hB))
end
end
section
section
variable {f_firstSize f_size f_otherSize f_x f_y f_way f_left f_right f_low f_high : Int32} {a_ruleSize a_rules a_first a_actions a_word a_next a_other a_part a_seen : Nat → Int32}
/-! the reference draws -/
theorem yw_d265 {post : SY → Prop} {J : Int32 → Int32 → Int32 → Int32 → Int32 → Int32 → Int32 → Int32 → Prop} {x1 z0 : Int32} {p : Nat} {y hy : Int} (by1 : xw_bb y) (bh : xw_bb hy)
    (h : J (nI (p + 1)) f_x (gi y) f_way f_left f_right z0 (gi (max hy y))) : wY_draw_265 post J x1 (nI p) z0 f_firstSize f_size f_otherSize f_x (gi y) f_way f_left f_right f_low (gi hy) a_ruleSize a_rules a_first a_actions a_word a_next a_other a_part a_seen := by
  by_cases c : y ≤ hy
  · rw [show max hy y = hy by omega] at h
    exact br_t ((gi_le by1 bh).mpr c) (nm_r (nI_1 p) h)
  · rw [show max hy y = y by omega] at h
    exact br_f (fun z => c ((gi_le by1 bh).mp z)) (nm_r (nI_1 p) h)
theorem yw_d239 {post : SY → Prop} {J : Int32 → Int32 → Int32 → Int32 → Int32 → Int32 → Int32 → Int32 → Prop} {x1 z0 : Int32} {p : Nat} {y ly hy : Int} (by1 : xw_bb y) (bl : xw_bb ly) (bh : xw_bb hy)
    (h : J (nI (p + 1)) f_x (gi y) f_way f_left z0 (gi (min ly y)) (gi (max hy y))) : wY_draw_239 post J x1 (nI p) z0 f_firstSize f_size f_otherSize f_x (gi y) f_way f_left f_right (gi ly) (gi hy) a_ruleSize a_rules a_first a_actions a_word a_next a_other a_part a_seen := by
  by_cases c : ly ≤ y
  · rw [show min ly y = ly by omega] at h
    exact br_t ((gi_le bl by1).mpr c) (yw_d265 by1 bh h)
  · rw [show min ly y = y by omega] at h
    exact br_f (fun z => c ((gi_le bl by1).mp z)) (yw_d265 by1 bh h)
theorem yw_d213 {post : SY → Prop} {J : Int32 → Int32 → Int32 → Int32 → Int32 → Int32 → Int32 → Int32 → Prop} {x1 z0 : Int32} {p : Nat} {x y hx ly hy : Int} (bx : xw_bb x) (by1 : xw_bb y) (bhx : xw_bb hx) (bl : xw_bb ly) (bh : xw_bb hy)
    (h : J (nI (p + 1)) (gi x) (gi y) f_way z0 (gi (max hx x)) (gi (min ly y)) (gi (max hy y))) : wY_draw_213 post J x1 (nI p) z0 f_firstSize f_size f_otherSize (gi x) (gi y) f_way f_left (gi hx) (gi ly) (gi hy) a_ruleSize a_rules a_first a_actions a_word a_next a_other a_part a_seen := by
  by_cases c : x ≤ hx
  · rw [show max hx x = hx by omega] at h
    exact br_t ((gi_le bx bhx).mpr c) (yw_d239 by1 bl bh h)
  · rw [show max hx x = x by omega] at h
    exact br_f (fun z => c ((gi_le bx bhx).mp z)) (yw_d239 by1 bl bh h)
theorem yw_d187 {post : SY → Prop} {J : Int32 → Int32 → Int32 → Int32 → Int32 → Int32 → Int32 → Int32 → Prop} {x1 z0 : Int32} {p : Nat} {x y lx hx ly hy : Int} (bx : xw_bb x) (by1 : xw_bb y) (blx : xw_bb lx) (bhx : xw_bb hx) (bl : xw_bb ly) (bh : xw_bb hy)
    (h : J (nI (p + 1)) (gi x) (gi y) z0 (gi (min lx x)) (gi (max hx x)) (gi (min ly y)) (gi (max hy y))) : wY_draw_187 post J x1 (nI p) z0 f_firstSize f_size f_otherSize (gi x) (gi y) f_way (gi lx) (gi hx) (gi ly) (gi hy) a_ruleSize a_rules a_first a_actions a_word a_next a_other a_part a_seen := by
  by_cases c : lx ≤ x
  · rw [show min lx x = lx by omega] at h
    exact br_t ((gi_le blx bx).mpr c) (yw_d213 bx by1 bhx bl bh h)
  · rw [show min lx x = x by omega] at h
    exact br_f (fun z => c ((gi_le blx bx).mp z)) (yw_d213 bx by1 bhx bl bh h)
theorem yw_d150 {post : SY → Prop} {J : Int32 → Int32 → Int32 → Int32 → Int32 → Int32 → Int32 → Int32 → Prop} {x1 : Int32} {p a t : Nat} {x y lx hx ly hy : Int} (ha : a < 4) (ht : t < 4) (bx : xw_bb x) (by1 : xw_bb y) (blx : xw_bb lx) (bhx : xw_bb hx) (bl : xw_bb ly) (bh : xw_bb hy)
    (h : J (nI (p + 1)) (gi x) (gi y) (nI ((t + gw_dt a) % 4)) (gi (min lx x)) (gi (max hx x)) (gi (min ly y)) (gi (max hy y))) : wY_draw_150 post J x1 (nI p) (nI a) f_firstSize f_size f_otherSize (gi x) (gi y) (nI t) (gi lx) (gi hx) (gi ly) (gi hy) a_ruleSize a_rules a_first a_actions a_word a_next a_other a_part a_seen := by
  have n4 : ¬ (4 : Int32) = 0 := by decide
  have r1 : (nI t + 1) - (nI t + 1) / 4 * 4 = nI ((t + 1) % 4) := by
    rw [nI_1]
    exact pk_rem (d := 4) (by omega) (by omega) (by omega)
  have r3 : (nI t + 3) - (nI t + 3) / 4 * 4 = nI ((t + 3) % 4) := by
    have : nI t + 3 = nI (t + 3) := nI_add t 3
    rw [this]
    exact pk_rem (d := 4) (by omega) (by omega) (by omega)
  rcases gw_t4 ha with rfl | rfl | rfl | rfl
  · refine br_f (by decide) (br_f (by decide) ?_)
    have e : (t + gw_dt 0) % 4 = t := by show (t + 0) % 4 = t; omega
    rw [e] at h
    exact yw_d187 bx by1 blx bhx bl bh h
  · refine br_f (by decide) (br_f (by decide) ?_)
    have e : (t + gw_dt 1) % 4 = t := by show (t + 0) % 4 = t; omega
    rw [e] at h
    exact yw_d187 bx by1 blx bhx bl bh h
  · refine br_t (by decide) (And.intro n4 ?_)
    rw [r1]
    exact yw_d187 bx by1 blx bhx bl bh h
  · refine br_f (by decide) (br_t (by decide) (And.intro n4 ?_))
    rw [r3]
    exact yw_d187 bx by1 blx bhx bl bh h
theorem yw_d105 {post : SY → Prop} {J : Int32 → Int32 → Int32 → Int32 → Int32 → Int32 → Int32 → Int32 → Prop} {x1 : Int32} {p t : Nat} {x y lx hx ly hy : Int} (ht : t < 4) (bx : xw_bb x) (by1 : -900000000 ≤ y ∧ y ≤ 900000000) (blx : xw_bb lx) (bhx : xw_bb hx) (bl : xw_bb ly) (bh : xw_bb hy)
    (h : J (nI (p + 1)) (gi x) (gi (y + gw_dy 1 t)) (nI ((t + gw_dt 1) % 4)) (gi (min lx x)) (gi (max hx x)) (gi (min ly (y + gw_dy 1 t))) (gi (max hy (y + gw_dy 1 t)))) : wY_draw_105 post J x1 (nI p) (nI 1) (gi x) f_firstSize f_size f_otherSize f_x (gi y) (nI t) (gi lx) (gi hx) (gi ly) (gi hy) a_ruleSize a_rules a_first a_actions a_word a_next a_other a_part a_seen := by
  have hd := gw_dxy 1 t
  have by2 : xw_bb (y + gw_dy 1 t) := ⟨by omega, by omega⟩
  have e1 : gi y + 1 = gi (y + 1) := gi_add y 1
  have e2 : gi y - 1 = gi (y + -1) := by
    have : gi y - gi 1 = gi (y - 1) := gi_sub y 1
    exact this
  rcases gw_t4 ht with rfl | rfl | rfl | rfl
  · refine br_f (by decide) (br_f (by decide) ?_)
    have e : y + gw_dy 1 0 = y := by show y + 0 = y; omega
    rw [e] at h by2
    exact yw_d150 (a := 1) (by omega) ht bx by2 blx bhx bl bh h
  · refine br_t (by decide) ?_
    rw [e1]
    exact yw_d150 (a := 1) (by omega) ht bx by2 blx bhx bl bh h
  · refine br_f (by decide) (br_f (by decide) ?_)
    have e : y + gw_dy 1 2 = y := by show y + 0 = y; omega
    rw [e] at h by2
    exact yw_d150 (a := 1) (by omega) ht bx by2 blx bhx bl bh h
  · refine br_f (by decide) (br_t (by decide) ?_)
    rw [e2]
    exact yw_d150 (a := 1) (by omega) ht bx by2 blx bhx bl bh h
theorem gw_drS {A : Nat → Nat} {q : gw_Pen} {w : List Nat} {p : Nat} (hp : p < w.length) : gw_dr A q (w.take (p + 1)) = gw_stp (A (w.getD p 0)) (gw_dr A q (w.take p)) := by
  rw [gw_tk hp, gw_drA]
  rfl
theorem yw_step {post : SY → Prop} {J : Int32 → Int32 → Int32 → Int32 → Int32 → Int32 → Int32 → Int32 → Prop} {x1 : Int32} {p a : Nat} {q : gw_Pen} {N : Int} (ha : a < 4) (hq : gw_bd N q) (hN : N ≤ 800000000)
    (h : J (nI (p + 1)) (gi (gw_stp a q).1) (gi (gw_stp a q).2.1) (nI (gw_stp a q).2.2.1) (gi (gw_stp a q).2.2.2.1) (gi (gw_stp a q).2.2.2.2.1) (gi (gw_stp a q).2.2.2.2.2.1) (gi (gw_stp a q).2.2.2.2.2.2)) :
    ((nI a = 1 → ((nI q.2.2.1 = 0 → wY_draw_105 post J x1 (nI p) (nI a) (gi q.1 + 1) f_firstSize f_size f_otherSize (gi q.1) (gi q.2.1) (nI q.2.2.1) (gi q.2.2.2.1) (gi q.2.2.2.2.1) (gi q.2.2.2.2.2.1) (gi q.2.2.2.2.2.2) a_ruleSize a_rules a_first a_actions a_word a_next a_other a_part a_seen) ∧ (¬ nI q.2.2.1 = 0 → ((nI q.2.2.1 = 2 → wY_draw_105 post J x1 (nI p) (nI a) (gi q.1 - 1) f_firstSize f_size f_otherSize (gi q.1) (gi q.2.1) (nI q.2.2.1) (gi q.2.2.2.1) (gi q.2.2.2.2.1) (gi q.2.2.2.2.2.1) (gi q.2.2.2.2.2.2) a_ruleSize a_rules a_first a_actions a_word a_next a_other a_part a_seen) ∧ (¬ nI q.2.2.1 = 2 → wY_draw_105 post J x1 (nI p) (nI a) (gi q.1) f_firstSize f_size f_otherSize (gi q.1) (gi q.2.1) (nI q.2.2.1) (gi q.2.2.2.1) (gi q.2.2.2.2.1) (gi q.2.2.2.2.2.1) (gi q.2.2.2.2.2.2) a_ruleSize a_rules a_first a_actions a_word a_next a_other a_part a_seen))))) ∧ (¬ nI a = 1 → wY_draw_150 post J x1 (nI p) (nI a) f_firstSize f_size f_otherSize (gi q.1) (gi q.2.1) (nI q.2.2.1) (gi q.2.2.2.1) (gi q.2.2.2.2.1) (gi q.2.2.2.2.2.1) (gi q.2.2.2.2.2.2) a_ruleSize a_rules a_first a_actions a_word a_next a_other a_part a_seen)) := by
  obtain ⟨x, y, t, lx, hx, ly, hy⟩ := q
  unfold gw_bd at hq
  unfold gw_stp at h
  dsimp only at hq h ⊢
  have ht := hq.1
  have hd := gw_dxy a t
  have e1 : gi x + 1 = gi (x + 1) := gi_add x 1
  have e2 : gi x - 1 = gi (x + -1) := by
    have : gi x - gi 1 = gi (x - 1) := gi_sub x 1
    exact this
  by_cases c : a = 1
  · subst c
    refine br_t rfl ?_
    rcases gw_t4 ht with rfl | rfl | rfl | rfl
    · refine br_t (by decide) ?_
      rw [e1]
      exact yw_d105 ht ⟨by omega, by omega⟩ ⟨by omega, by omega⟩ ⟨by omega, by omega⟩ ⟨by omega, by omega⟩ ⟨by omega, by omega⟩ ⟨by omega, by omega⟩ h
    · refine br_f (by decide) (br_f (by decide) ?_)
      have e : x + gw_dx 1 1 = x := by show x + 0 = x; omega
      rw [e] at h
      exact yw_d105 ht ⟨by omega, by omega⟩ ⟨by omega, by omega⟩ ⟨by omega, by omega⟩ ⟨by omega, by omega⟩ ⟨by omega, by omega⟩ ⟨by omega, by omega⟩ h
    · refine br_f (by decide) (br_t (by decide) ?_)
      rw [e2]
      exact yw_d105 ht ⟨by omega, by omega⟩ ⟨by omega, by omega⟩ ⟨by omega, by omega⟩ ⟨by omega, by omega⟩ ⟨by omega, by omega⟩ ⟨by omega, by omega⟩ h
    · refine br_f (by decide) (br_f (by decide) ?_)
      have e : x + gw_dx 1 3 = x := by show x + 0 = x; omega
      rw [e] at h
      exact yw_d105 ht ⟨by omega, by omega⟩ ⟨by omega, by omega⟩ ⟨by omega, by omega⟩ ⟨by omega, by omega⟩ ⟨by omega, by omega⟩ ⟨by omega, by omega⟩ h
  · refine br_f (fun z => c ((nI_eq (b := 1) (by omega) (by omega)).mp z)) ?_
    have ex : x + gw_dx a t = x := by unfold gw_dx; rw [if_neg c]; omega
    have ey : y + gw_dy a t = y := by unfold gw_dy; rw [if_neg c]; omega
    rw [ex, ey] at h
    exact yw_d150 ha ht ⟨by omega, by omega⟩ ⟨by omega, by omega⟩ ⟨by omega, by omega⟩ ⟨by omega, by omega⟩ ⟨by omega, by omega⟩ ⟨by omega, by omega⟩ h
theorem yw_dr37 {post : SY → Prop} {R : Nat → List Nat} {F : List Nat} {A : Nat → Nat} {w : List Nat} {v : Int32} (ok : gw_ok R F A) (hB : gw_B R F A f_firstSize a_ruleSize a_rules a_first a_actions) (hN : w.length ≤ 3000) (hM : ∀ d, d ∈ w → d < 6) (hS : f_size = nI w.length) (hw : gw_hl a_word w)
    (h : post (f_firstSize, f_size, f_otherSize, gi (gw_dr A gw_p0 (w.take v.toNatClampNeg)).1, gi (gw_dr A gw_p0 (w.take v.toNatClampNeg)).2.1, nI (gw_dr A gw_p0 (w.take v.toNatClampNeg)).2.2.1, gi (gw_dr A gw_p0 (w.take v.toNatClampNeg)).2.2.2.1, gi (gw_dr A gw_p0 (w.take v.toNatClampNeg)).2.2.2.2.1, gi (gw_dr A gw_p0 (w.take v.toNatClampNeg)).2.2.2.2.2.1, gi (gw_dr A gw_p0 (w.take v.toNatClampNeg)).2.2.2.2.2.2, a_ruleSize, a_rules, a_first, a_actions, a_word, a_next, a_other, a_part, a_seen)) :
    ∀ d p, p + d = w.length → p ≤ v.toNatClampNeg → wY_draw_37 post v f_firstSize f_size f_otherSize a_ruleSize a_rules a_first a_actions a_word a_next a_other a_part a_seen (d + 1) (nI p) (gi (gw_dr A gw_p0 (w.take p)).1) (gi (gw_dr A gw_p0 (w.take p)).2.1) (nI (gw_dr A gw_p0 (w.take p)).2.2.1) (gi (gw_dr A gw_p0 (w.take p)).2.2.2.1) (gi (gw_dr A gw_p0 (w.take p)).2.2.2.2.1) (gi (gw_dr A gw_p0 (w.take p)).2.2.2.2.2.1) (gi (gw_dr A gw_p0 (w.take p)).2.2.2.2.2.2) := by
  intro d
  induction d with
  | zero =>
    intro p hp hv
    have e : p = w.length := by omega
    subst e
    rw [List.take_of_length_le hv] at h
    rw [List.take_length]
    exact br_t (by rw [hS]; exact nI_le (by omega) (by omega)) h
  | succ d ih =>
    intro p hp hv
    have hp2 : p < w.length := by omega
    refine br_f (by rw [hS]; exact nI_ge hp2 (by omega)) ?_
    by_cases c : v.toNatClampNeg ≤ p
    · have e : v.toNatClampNeg = p := by omega
      rw [e] at h
      exact br_t ((gw_cmG (by omega)).mpr c) h
    · have cp : (nI p).toNatClampNeg = p := nI_clamp (by omega)
      have hm := hM _ (gw_gm hp2)
      have cc : (nI (w.getD p 0)).toNatClampNeg = w.getD p 0 := nI_clamp (by omega)
      have ih' := ih (p + 1) (by omega) (by omega)
      rw [gw_drS hp2] at ih'
      have bd := gw_bdD (A := A) (w.take p) gw_bd0
      have hl : (w.take p).length ≤ 3000 := by rw [List.length_take]; omega
      refine br_f (fun z => c ((gw_cmG (by omega)).mp z)) (And.intro (vp_in_nI (by omega) (by omega)) (And.intro (by rw [cp, hw p hp2]; exact vp_in_nI hm (by omega)) (nm_r (e' := nI (A (w.getD p 0))) (by rw [cp, hw p hp2, cc, hB.2.2.2.2 _ hm]) ?_)))
      exact yw_step (ok.2.2 _) bd (by omega) ih'
theorem yw_draw {post : SY → Prop} {R : Nat → List Nat} {F : List Nat} {A : Nat → Nat} {w : List Nat} {v : Int32} (ok : gw_ok R F A) (hB : gw_B R F A f_firstSize a_ruleSize a_rules a_first a_actions) (hN : w.length ≤ 3000) (hM : ∀ d, d ∈ w → d < 6) (hS : f_size = nI w.length) (hw : gw_hl a_word w)
    (h : post (f_firstSize, f_size, f_otherSize, gi (gw_dr A gw_p0 (w.take v.toNatClampNeg)).1, gi (gw_dr A gw_p0 (w.take v.toNatClampNeg)).2.1, nI (gw_dr A gw_p0 (w.take v.toNatClampNeg)).2.2.1, gi (gw_dr A gw_p0 (w.take v.toNatClampNeg)).2.2.2.1, gi (gw_dr A gw_p0 (w.take v.toNatClampNeg)).2.2.2.2.1, gi (gw_dr A gw_p0 (w.take v.toNatClampNeg)).2.2.2.2.2.1, gi (gw_dr A gw_p0 (w.take v.toNatClampNeg)).2.2.2.2.2.2, a_ruleSize, a_rules, a_first, a_actions, a_word, a_next, a_other, a_part, a_seen)) : wpY_draw post (f_firstSize, f_size, f_otherSize, f_x, f_y, f_way, f_left, f_right, f_low, f_high, a_ruleSize, a_rules, a_first, a_actions, a_word, a_next, a_other, a_part, a_seen) v :=
  ⟨w.length + 1, yw_dr37 ok hB hN hM hS hw h w.length 0 (Nat.zero_add _) (Nat.zero_le _)⟩
theorem yw_point {post : Int32 → SY → Prop} {R : Nat → List Nat} {F : List Nat} {A : Nat → Nat} {v v2 : Int32} (ok : gw_ok R F A) (hI : yw_I R F A (f_firstSize, f_size, f_otherSize, f_x, f_y, f_way, f_left, f_right, f_low, f_high, a_ruleSize, a_rules, a_first, a_actions, a_word, a_next, a_other, a_part, a_seen))
    (K : ∀ r u, gw_gq R F v (fun n r => r = gw_pa (gw_dr A gw_p0 ((gw_G R F n).take v2.toNatClampNeg))) r → yw_I R F A u → post r u) : wpY_point post (f_firstSize, f_size, f_otherSize, f_x, f_y, f_way, f_left, f_right, f_low, f_high, a_ruleSize, a_rules, a_first, a_actions, a_word, a_next, a_other, a_part, a_seen) v v2 := by
  have hB : gw_B R F A f_firstSize a_ruleSize a_rules a_first a_actions := hI
  unfold wpY_point
  dsimp only
  rcases gw_vc v with hv | ⟨n, hn, rfl⟩
  · exact yw_wrA hv (br_f (by decide) (K _ _ (gw_gqA hv) hI))
  · refine yw_wrB ok hB hn ?_ ?_
    · intro hrc nx wd hw
      refine br_t (by decide) ?_
      refine yw_draw (w := gw_G R F n) ok hB (hrc n (Nat.le_refl n)) (gw_GM ok n) rfl hw ?_
      exact K _ _ (gw_gqC hn hrc rfl) (yw_IK hB)
    · intro hrc sz nx wd
      exact br_f (by decide) (K _ _ (gw_gqB hn hrc) (yw_IK hB))
theorem gw_tkN {w : List Nat} (h : w.length ≤ 3000) : w.take (nI w.length).toNatClampNeg = w := by
  rw [nI_clamp (by omega), List.take_length]
theorem yw_direction {post : Int32 → SY → Prop} {R : Nat → List Nat} {F : List Nat} {A : Nat → Nat} {v : Int32} (ok : gw_ok R F A) (hI : yw_I R F A (f_firstSize, f_size, f_otherSize, f_x, f_y, f_way, f_left, f_right, f_low, f_high, a_ruleSize, a_rules, a_first, a_actions, a_word, a_next, a_other, a_part, a_seen))
    (K : ∀ r u, gw_gq R F v (fun n r => r = nI (gw_dr A gw_p0 (gw_G R F n)).2.2.1) r → yw_I R F A u → post r u) : wpY_direction post (f_firstSize, f_size, f_otherSize, f_x, f_y, f_way, f_left, f_right, f_low, f_high, a_ruleSize, a_rules, a_first, a_actions, a_word, a_next, a_other, a_part, a_seen) v := by
  have hB : gw_B R F A f_firstSize a_ruleSize a_rules a_first a_actions := hI
  unfold wpY_direction
  dsimp only
  rcases gw_vc v with hv | ⟨n, hn, rfl⟩
  · exact yw_wrA hv (br_f (by decide) (K _ _ (gw_gqA hv) hI))
  · refine yw_wrB ok hB hn ?_ ?_
    · intro hrc nx wd hw
      have hL := hrc n (Nat.le_refl n)
      refine br_t (by decide) ?_
      refine yw_draw (w := gw_G R F n) ok hB hL (gw_GM ok n) rfl hw ?_
      refine K _ _ (gw_gqC hn hrc ?_) (yw_IK hB)
      show nI (gw_dr A gw_p0 ((gw_G R F n).take (nI (gw_G R F n).length).toNatClampNeg)).2.2.1 = _
      rw [gw_tkN hL]
    · intro hrc sz nx wd
      exact br_f (by decide) (K _ _ (gw_gqB hn hrc) (yw_IK hB))
theorem yw_extent {post : Int32 → SY → Prop} {R : Nat → List Nat} {F : List Nat} {A : Nat → Nat} {v : Int32} (ok : gw_ok R F A) (hI : yw_I R F A (f_firstSize, f_size, f_otherSize, f_x, f_y, f_way, f_left, f_right, f_low, f_high, a_ruleSize, a_rules, a_first, a_actions, a_word, a_next, a_other, a_part, a_seen))
    (K : ∀ r u, gw_gq R F v (fun n r => r = gw_ea (gw_dr A gw_p0 (gw_G R F n))) r → yw_I R F A u → post r u) : wpY_extent post (f_firstSize, f_size, f_otherSize, f_x, f_y, f_way, f_left, f_right, f_low, f_high, a_ruleSize, a_rules, a_first, a_actions, a_word, a_next, a_other, a_part, a_seen) v := by
  have hB : gw_B R F A f_firstSize a_ruleSize a_rules a_first a_actions := hI
  unfold wpY_extent
  dsimp only
  rcases gw_vc v with hv | ⟨n, hn, rfl⟩
  · exact yw_wrA hv (br_f (by decide) (K _ _ (gw_gqA hv) hI))
  · refine yw_wrB ok hB hn ?_ ?_
    · intro hrc nx wd hw
      have hL := hrc n (Nat.le_refl n)
      refine br_t (by decide) ?_
      refine yw_draw (w := gw_G R F n) ok hB hL (gw_GM ok n) rfl hw ?_
      refine K _ _ (gw_gqC hn hrc ?_) (yw_IK hB)
      have e := gw_tkN hL
      generalize (gw_G R F n).take (nI (gw_G R F n).length).toNatClampNeg = u at e ⊢
      subst e
      unfold gw_ea
      rw [Int32.sub_eq_add_neg (_ + _), Int32.add_assoc, ← Int32.sub_eq_add_neg]
    · intro hrc sz nx wd
      exact br_f (by decide) (K _ _ (gw_gqB hn hrc) (yw_IK hB))
end
end
section
/-! each method over a state -/
theorem xu_length {post : Int32 → SX → Prop} {R : Nat → List Nat} {F : List Nat} {A : Nat → Nat} {v1 : Int32} (ok : gw_ok R F A) {u : SX} (hI : xw_I R F A u) (K : ∀ r u, gw_gq R F v1 (fun n r => r = nI (gw_G R F n).length) r → xw_I R F A u → post r u) : wpX_length post u v1 := by
  revert hI
  refine xw_el (P := fun u => xw_I R F A u → wpX_length post u v1) ?_ u
  intro f_firstSize f_known f_patternNumber f_patternSize f_penX f_penY f_penTurn f_lowX f_highX f_lowY f_highY f_frontLetter f_frontRun f_backLetter f_backRun f_longest f_total a_ruleSize a_rules a_first a_actions a_size a_numbers a_moveX a_moveY a_turn a_leastX a_mostX a_leastY a_mostY a_headLetter a_headRun a_tailLetter a_tailRun a_bestRun a_pattern a_stateAfter a_formState a_formHits a_top a_pile a_seen hI
  exact xw_length ok hI K
theorem xu_letterAt {post : Int32 → SX → Prop} {R : Nat → List Nat} {F : List Nat} {A : Nat → Nat} {v1 v2 : Int32} (ok : gw_ok R F A) {u : SX} (hI : xw_I R F A u) (K : ∀ r u, gw_gq R F v1 (fun n r => gw_la (gw_G R F n) v2 r) r → xw_I R F A u → post r u) : wpX_letterAt post u v1 v2 := by
  revert hI
  refine xw_el (P := fun u => xw_I R F A u → wpX_letterAt post u v1 v2) ?_ u
  intro f_firstSize f_known f_patternNumber f_patternSize f_penX f_penY f_penTurn f_lowX f_highX f_lowY f_highY f_frontLetter f_frontRun f_backLetter f_backRun f_longest f_total a_ruleSize a_rules a_first a_actions a_size a_numbers a_moveX a_moveY a_turn a_leastX a_mostX a_leastY a_mostY a_headLetter a_headRun a_tailLetter a_tailRun a_bestRun a_pattern a_stateAfter a_formState a_formHits a_top a_pile a_seen hI
  exact xw_letterAt ok hI K
theorem xu_count {post : Int32 → SX → Prop} {R : Nat → List Nat} {F : List Nat} {A : Nat → Nat} {v1 v2 v3 v4 : Int32} (ok : gw_ok R F A) {u : SX} (hI : xw_I R F A u) (K : ∀ r u, gw_gq R F v1 (fun n r => gw_cb (gw_G R F n) v2 v3 v4 r) r → xw_I R F A u → post r u) : wpX_count post u v1 v2 v3 v4 := by
  revert hI
  refine xw_el (P := fun u => xw_I R F A u → wpX_count post u v1 v2 v3 v4) ?_ u
  intro f_firstSize f_known f_patternNumber f_patternSize f_penX f_penY f_penTurn f_lowX f_highX f_lowY f_highY f_frontLetter f_frontRun f_backLetter f_backRun f_longest f_total a_ruleSize a_rules a_first a_actions a_size a_numbers a_moveX a_moveY a_turn a_leastX a_mostX a_leastY a_mostY a_headLetter a_headRun a_tailLetter a_tailRun a_bestRun a_pattern a_stateAfter a_formState a_formHits a_top a_pile a_seen hI
  exact xw_count ok hI K
theorem xu_find {post : Int32 → SX → Prop} {R : Nat → List Nat} {F : List Nat} {A : Nat → Nat} {v1 v2 v3 : Int32} (ok : gw_ok R F A) {u : SX} (hI : xw_I R F A u) (K : ∀ r u, gw_gq R F v1 (fun n r => gw_fb (gw_G R F n) v2 v3 r) r → xw_I R F A u → post r u) : wpX_find post u v1 v2 v3 := by
  revert hI
  refine xw_el (P := fun u => xw_I R F A u → wpX_find post u v1 v2 v3) ?_ u
  intro f_firstSize f_known f_patternNumber f_patternSize f_penX f_penY f_penTurn f_lowX f_highX f_lowY f_highY f_frontLetter f_frontRun f_backLetter f_backRun f_longest f_total a_ruleSize a_rules a_first a_actions a_size a_numbers a_moveX a_moveY a_turn a_leastX a_mostX a_leastY a_mostY a_headLetter a_headRun a_tailLetter a_tailRun a_bestRun a_pattern a_stateAfter a_formState a_formHits a_top a_pile a_seen hI
  exact xw_find ok hI K
theorem xu_occurrences {post : Int32 → SX → Prop} {R : Nat → List Nat} {F : List Nat} {A : Nat → Nat} {v1 v2 : Int32} (ok : gw_ok R F A) {u : SX} (hI : xw_I R F A u) (K : ∀ r u, gw_gq R F v1 (fun n r => gw_ob (gw_G R F n) v2 r) r → xw_I R F A u → post r u) : wpX_occurrences post u v1 v2 := by
  revert hI
  refine xw_el (P := fun u => xw_I R F A u → wpX_occurrences post u v1 v2) ?_ u
  intro f_firstSize f_known f_patternNumber f_patternSize f_penX f_penY f_penTurn f_lowX f_highX f_lowY f_highY f_frontLetter f_frontRun f_backLetter f_backRun f_longest f_total a_ruleSize a_rules a_first a_actions a_size a_numbers a_moveX a_moveY a_turn a_leastX a_mostX a_leastY a_mostY a_headLetter a_headRun a_tailLetter a_tailRun a_bestRun a_pattern a_stateAfter a_formState a_formHits a_top a_pile a_seen hI
  exact xw_occurrences ok hI K
theorem xu_run {post : Int32 → SX → Prop} {R : Nat → List Nat} {F : List Nat} {A : Nat → Nat} {v1 : Int32} (ok : gw_ok R F A) {u : SX} (hI : xw_I R F A u) (K : ∀ r u, gw_gq R F v1 (fun n r => r = nI (gw_rw gw_r0 (gw_G R F n)).2.2.2.2.1) r → xw_I R F A u → post r u) : wpX_run post u v1 := by
  revert hI
  refine xw_el (P := fun u => xw_I R F A u → wpX_run post u v1) ?_ u
  intro f_firstSize f_known f_patternNumber f_patternSize f_penX f_penY f_penTurn f_lowX f_highX f_lowY f_highY f_frontLetter f_frontRun f_backLetter f_backRun f_longest f_total a_ruleSize a_rules a_first a_actions a_size a_numbers a_moveX a_moveY a_turn a_leastX a_mostX a_leastY a_mostY a_headLetter a_headRun a_tailLetter a_tailRun a_bestRun a_pattern a_stateAfter a_formState a_formHits a_top a_pile a_seen hI
  exact xw_run ok hI K
theorem xu_common {post : Int32 → SX → Prop} {R : Nat → List Nat} {F : List Nat} {A : Nat → Nat} {v1 v2 : Int32} (ok : gw_ok R F A) {u : SX} (hI : xw_I R F A u) (K : ∀ r u, gw_gc R F v1 v2 r → xw_I R F A u → post r u) : wpX_common post u v1 v2 := by
  revert hI
  refine xw_el (P := fun u => xw_I R F A u → wpX_common post u v1 v2) ?_ u
  intro f_firstSize f_known f_patternNumber f_patternSize f_penX f_penY f_penTurn f_lowX f_highX f_lowY f_highY f_frontLetter f_frontRun f_backLetter f_backRun f_longest f_total a_ruleSize a_rules a_first a_actions a_size a_numbers a_moveX a_moveY a_turn a_leastX a_mostX a_leastY a_mostY a_headLetter a_headRun a_tailLetter a_tailRun a_bestRun a_pattern a_stateAfter a_formState a_formHits a_top a_pile a_seen hI
  exact xw_common ok hI K
theorem xu_mirrored {post : Int32 → SX → Prop} {R : Nat → List Nat} {F : List Nat} {A : Nat → Nat} {v1 : Int32} (ok : gw_ok R F A) {u : SX} (hI : xw_I R F A u) (K : ∀ r u, gw_gq R F v1 (fun n r => gw_ma (gw_G R F n) r) r → xw_I R F A u → post r u) : wpX_mirrored post u v1 := by
  revert hI
  refine xw_el (P := fun u => xw_I R F A u → wpX_mirrored post u v1) ?_ u
  intro f_firstSize f_known f_patternNumber f_patternSize f_penX f_penY f_penTurn f_lowX f_highX f_lowY f_highY f_frontLetter f_frontRun f_backLetter f_backRun f_longest f_total a_ruleSize a_rules a_first a_actions a_size a_numbers a_moveX a_moveY a_turn a_leastX a_mostX a_leastY a_mostY a_headLetter a_headRun a_tailLetter a_tailRun a_bestRun a_pattern a_stateAfter a_formState a_formHits a_top a_pile a_seen hI
  exact xw_mirrored ok hI K
theorem xu_kinds {post : Int32 → SX → Prop} {R : Nat → List Nat} {F : List Nat} {A : Nat → Nat} {v1 v2 : Int32} (ok : gw_ok R F A) {u : SX} (hI : xw_I R F A u) (K : ∀ r u, gw_gq R F v1 (fun n r => gw_kb (gw_G R F n) v2 r) r → xw_I R F A u → post r u) : wpX_kinds post u v1 v2 := by
  revert hI
  refine xw_el (P := fun u => xw_I R F A u → wpX_kinds post u v1 v2) ?_ u
  intro f_firstSize f_known f_patternNumber f_patternSize f_penX f_penY f_penTurn f_lowX f_highX f_lowY f_highY f_frontLetter f_frontRun f_backLetter f_backRun f_longest f_total a_ruleSize a_rules a_first a_actions a_size a_numbers a_moveX a_moveY a_turn a_leastX a_mostX a_leastY a_mostY a_headLetter a_headRun a_tailLetter a_tailRun a_bestRun a_pattern a_stateAfter a_formState a_formHits a_top a_pile a_seen hI
  exact xw_kinds ok hI K
theorem xu_point {post : Int32 → SX → Prop} {R : Nat → List Nat} {F : List Nat} {A : Nat → Nat} {v1 v2 : Int32} (ok : gw_ok R F A) {u : SX} (hI : xw_I R F A u) (K : ∀ r u, gw_gq R F v1 (fun n r => r = gw_pa (gw_dr A gw_p0 ((gw_G R F n).take v2.toNatClampNeg))) r → xw_I R F A u → post r u) : wpX_point post u v1 v2 := by
  revert hI
  refine xw_el (P := fun u => xw_I R F A u → wpX_point post u v1 v2) ?_ u
  intro f_firstSize f_known f_patternNumber f_patternSize f_penX f_penY f_penTurn f_lowX f_highX f_lowY f_highY f_frontLetter f_frontRun f_backLetter f_backRun f_longest f_total a_ruleSize a_rules a_first a_actions a_size a_numbers a_moveX a_moveY a_turn a_leastX a_mostX a_leastY a_mostY a_headLetter a_headRun a_tailLetter a_tailRun a_bestRun a_pattern a_stateAfter a_formState a_formHits a_top a_pile a_seen hI
  exact xw_point ok hI K
theorem xu_direction {post : Int32 → SX → Prop} {R : Nat → List Nat} {F : List Nat} {A : Nat → Nat} {v1 : Int32} (ok : gw_ok R F A) {u : SX} (hI : xw_I R F A u) (K : ∀ r u, gw_gq R F v1 (fun n r => r = nI (gw_dr A gw_p0 (gw_G R F n)).2.2.1) r → xw_I R F A u → post r u) : wpX_direction post u v1 := by
  revert hI
  refine xw_el (P := fun u => xw_I R F A u → wpX_direction post u v1) ?_ u
  intro f_firstSize f_known f_patternNumber f_patternSize f_penX f_penY f_penTurn f_lowX f_highX f_lowY f_highY f_frontLetter f_frontRun f_backLetter f_backRun f_longest f_total a_ruleSize a_rules a_first a_actions a_size a_numbers a_moveX a_moveY a_turn a_leastX a_mostX a_leastY a_mostY a_headLetter a_headRun a_tailLetter a_tailRun a_bestRun a_pattern a_stateAfter a_formState a_formHits a_top a_pile a_seen hI
  exact xw_direction ok hI K
theorem xu_extent {post : Int32 → SX → Prop} {R : Nat → List Nat} {F : List Nat} {A : Nat → Nat} {v1 : Int32} (ok : gw_ok R F A) {u : SX} (hI : xw_I R F A u) (K : ∀ r u, gw_gq R F v1 (fun n r => r = gw_ea (gw_dr A gw_p0 (gw_G R F n))) r → xw_I R F A u → post r u) : wpX_extent post u v1 := by
  revert hI
  refine xw_el (P := fun u => xw_I R F A u → wpX_extent post u v1) ?_ u
  intro f_firstSize f_known f_patternNumber f_patternSize f_penX f_penY f_penTurn f_lowX f_highX f_lowY f_highY f_frontLetter f_frontRun f_backLetter f_backRun f_longest f_total a_ruleSize a_rules a_first a_actions a_size a_numbers a_moveX a_moveY a_turn a_leastX a_mostX a_leastY a_mostY a_headLetter a_headRun a_tailLetter a_tailRun a_bestRun a_pattern a_stateAfter a_formState a_formHits a_top a_pile a_seen hI
  exact xw_extent ok hI K
theorem xu_ruleA {post : Int32 → SX → Prop} {R : Nat → List Nat} {F : List Nat} {A : Nat → Nat} {v1 v2 : Int32} (hv : v1 < 0 ∨ 6 ≤ v1) {u : SX} (hI : xw_I R F A u) (K : ∀ u, xw_I R F A u → post (-1) u) : wpX_rule post u v1 v2 := by
  revert hI
  refine xw_el (P := fun u => xw_I R F A u → wpX_rule post u v1 v2) ?_ u
  intro f_firstSize f_known f_patternNumber f_patternSize f_penX f_penY f_penTurn f_lowX f_highX f_lowY f_highY f_frontLetter f_frontRun f_backLetter f_backRun f_longest f_total a_ruleSize a_rules a_first a_actions a_size a_numbers a_moveX a_moveY a_turn a_leastX a_mostX a_leastY a_mostY a_headLetter a_headRun a_tailLetter a_tailRun a_bestRun a_pattern a_stateAfter a_formState a_formHits a_top a_pile a_seen hI
  exact xw_ruleA hv (K _ hI)
theorem xu_ruleB {post : Int32 → SX → Prop} {R : Nat → List Nat} {F : List Nat} {A : Nat → Nat} {c : Nat} {v2 : Int32} (hc : c < 6) (hv : gw_dv 4 v2 = none) {u : SX} (hI : xw_I R F A u) (K : ∀ u, xw_I R F A u → post (-2) u) : wpX_rule post u (nI c) v2 := by
  revert hI
  refine xw_el (P := fun u => xw_I R F A u → wpX_rule post u (nI c) v2) ?_ u
  intro f_firstSize f_known f_patternNumber f_patternSize f_penX f_penY f_penTurn f_lowX f_highX f_lowY f_highY f_frontLetter f_frontRun f_backLetter f_backRun f_longest f_total a_ruleSize a_rules a_first a_actions a_size a_numbers a_moveX a_moveY a_turn a_leastX a_mostX a_leastY a_mostY a_headLetter a_headRun a_tailLetter a_tailRun a_bestRun a_pattern a_stateAfter a_formState a_formHits a_top a_pile a_seen hI
  exact xw_ruleB hc hv (K _ hI)
theorem xu_ruleC {post : Int32 → SX → Prop} {R : Nat → List Nat} {F : List Nat} {A : Nat → Nat} {c : Nat} {v2 : Int32} {w : List Nat} (ok : gw_ok R F A) (hc : c < 6) (hv : gw_dv 4 v2 = some w) {u : SX} (hI : xw_I R F A u) (K : ∀ u, xw_I (gw_R1 R c w) F A u → post (nI w.length) u) : wpX_rule post u (nI c) v2 := by
  revert hI
  refine xw_el (P := fun u => xw_I R F A u → wpX_rule post u (nI c) v2) ?_ u
  intro f_firstSize f_known f_patternNumber f_patternSize f_penX f_penY f_penTurn f_lowX f_highX f_lowY f_highY f_frontLetter f_frontRun f_backLetter f_backRun f_longest f_total a_ruleSize a_rules a_first a_actions a_size a_numbers a_moveX a_moveY a_turn a_leastX a_mostX a_leastY a_mostY a_headLetter a_headRun a_tailLetter a_tailRun a_bestRun a_pattern a_stateAfter a_formState a_formHits a_top a_pile a_seen hI
  exact xw_ruleC ok hI hc hv K
theorem xu_beginA {post : Int32 → SX → Prop} {R : Nat → List Nat} {F : List Nat} {A : Nat → Nat} {v1 : Int32} (hv : gw_dv 8 v1 = none ∨ gw_dv 8 v1 = some []) {u : SX} (hI : xw_I R F A u) (K : ∀ u, xw_I R F A u → post (-1) u) : wpX_begin post u v1 := by
  revert hI
  refine xw_el (P := fun u => xw_I R F A u → wpX_begin post u v1) ?_ u
  intro f_firstSize f_known f_patternNumber f_patternSize f_penX f_penY f_penTurn f_lowX f_highX f_lowY f_highY f_frontLetter f_frontRun f_backLetter f_backRun f_longest f_total a_ruleSize a_rules a_first a_actions a_size a_numbers a_moveX a_moveY a_turn a_leastX a_mostX a_leastY a_mostY a_headLetter a_headRun a_tailLetter a_tailRun a_bestRun a_pattern a_stateAfter a_formState a_formHits a_top a_pile a_seen hI
  exact xw_beginA hv (K _ hI)
theorem xu_beginB {post : Int32 → SX → Prop} {R : Nat → List Nat} {F : List Nat} {A : Nat → Nat} {v1 : Int32} {w : List Nat} (hv : gw_dv 8 v1 = some w) (h1 : 1 ≤ w.length) {u : SX} (hI : xw_I R F A u) (K : ∀ u, xw_I R w A u → post (nI w.length) u) : wpX_begin post u v1 := by
  revert hI
  refine xw_el (P := fun u => xw_I R F A u → wpX_begin post u v1) ?_ u
  intro f_firstSize f_known f_patternNumber f_patternSize f_penX f_penY f_penTurn f_lowX f_highX f_lowY f_highY f_frontLetter f_frontRun f_backLetter f_backRun f_longest f_total a_ruleSize a_rules a_first a_actions a_size a_numbers a_moveX a_moveY a_turn a_leastX a_mostX a_leastY a_mostY a_headLetter a_headRun a_tailLetter a_tailRun a_bestRun a_pattern a_stateAfter a_formState a_formHits a_top a_pile a_seen hI
  exact xw_beginB hI hv h1 K
theorem xu_actionA {post : Int32 → SX → Prop} {R : Nat → List Nat} {F : List Nat} {A : Nat → Nat} {v1 v2 : Int32} (hv : v1 < 0 ∨ 6 ≤ v1) {u : SX} (hI : xw_I R F A u) (K : ∀ u, xw_I R F A u → post (-1) u) : wpX_action post u v1 v2 := by
  revert hI
  refine xw_el (P := fun u => xw_I R F A u → wpX_action post u v1 v2) ?_ u
  intro f_firstSize f_known f_patternNumber f_patternSize f_penX f_penY f_penTurn f_lowX f_highX f_lowY f_highY f_frontLetter f_frontRun f_backLetter f_backRun f_longest f_total a_ruleSize a_rules a_first a_actions a_size a_numbers a_moveX a_moveY a_turn a_leastX a_mostX a_leastY a_mostY a_headLetter a_headRun a_tailLetter a_tailRun a_bestRun a_pattern a_stateAfter a_formState a_formHits a_top a_pile a_seen hI
  exact xw_actionA hv (K _ hI)
theorem xu_actionB {post : Int32 → SX → Prop} {R : Nat → List Nat} {F : List Nat} {A : Nat → Nat} {c : Nat} {v2 : Int32} (hc : c < 6) (hv : v2 < 0 ∨ 4 ≤ v2) {u : SX} (hI : xw_I R F A u) (K : ∀ u, xw_I R F A u → post (-2) u) : wpX_action post u (nI c) v2 := by
  revert hI
  refine xw_el (P := fun u => xw_I R F A u → wpX_action post u (nI c) v2) ?_ u
  intro f_firstSize f_known f_patternNumber f_patternSize f_penX f_penY f_penTurn f_lowX f_highX f_lowY f_highY f_frontLetter f_frontRun f_backLetter f_backRun f_longest f_total a_ruleSize a_rules a_first a_actions a_size a_numbers a_moveX a_moveY a_turn a_leastX a_mostX a_leastY a_mostY a_headLetter a_headRun a_tailLetter a_tailRun a_bestRun a_pattern a_stateAfter a_formState a_formHits a_top a_pile a_seen hI
  exact xw_actionB hc hv (K _ hI)
theorem xu_actionC {post : Int32 → SX → Prop} {R : Nat → List Nat} {F : List Nat} {A : Nat → Nat} {c a : Nat} (hc : c < 6) (ha : a < 4) {u : SX} (hI : xw_I R F A u) (K : ∀ u, xw_I R F (gw_A1 A c a) u → post (nI (A c)) u) : wpX_action post u (nI c) (nI a) := by
  revert hI
  refine xw_el (P := fun u => xw_I R F A u → wpX_action post u (nI c) (nI a)) ?_ u
  intro f_firstSize f_known f_patternNumber f_patternSize f_penX f_penY f_penTurn f_lowX f_highX f_lowY f_highY f_frontLetter f_frontRun f_backLetter f_backRun f_longest f_total a_ruleSize a_rules a_first a_actions a_size a_numbers a_moveX a_moveY a_turn a_leastX a_mostX a_leastY a_mostY a_headLetter a_headRun a_tailLetter a_tailRun a_bestRun a_pattern a_stateAfter a_formState a_formHits a_top a_pile a_seen hI
  exact xw_actionC hI hc ha K
theorem yu_length {post : Int32 → SY → Prop} {R : Nat → List Nat} {F : List Nat} {A : Nat → Nat} {v1 : Int32} (ok : gw_ok R F A) {u : SY} (hI : yw_I R F A u) (K : ∀ r u, gw_gq R F v1 (fun n r => r = nI (gw_G R F n).length) r → yw_I R F A u → post r u) : wpY_length post u v1 := by
  revert hI
  refine yw_el (P := fun u => yw_I R F A u → wpY_length post u v1) ?_ u
  intro f_firstSize f_size f_otherSize f_x f_y f_way f_left f_right f_low f_high a_ruleSize a_rules a_first a_actions a_word a_next a_other a_part a_seen hI
  exact yw_length ok hI K
theorem yu_letterAt {post : Int32 → SY → Prop} {R : Nat → List Nat} {F : List Nat} {A : Nat → Nat} {v1 v2 : Int32} (ok : gw_ok R F A) {u : SY} (hI : yw_I R F A u) (K : ∀ r u, gw_gq R F v1 (fun n r => gw_la (gw_G R F n) v2 r) r → yw_I R F A u → post r u) : wpY_letterAt post u v1 v2 := by
  revert hI
  refine yw_el (P := fun u => yw_I R F A u → wpY_letterAt post u v1 v2) ?_ u
  intro f_firstSize f_size f_otherSize f_x f_y f_way f_left f_right f_low f_high a_ruleSize a_rules a_first a_actions a_word a_next a_other a_part a_seen hI
  exact yw_letterAt ok hI K
theorem yu_count {post : Int32 → SY → Prop} {R : Nat → List Nat} {F : List Nat} {A : Nat → Nat} {v1 v2 v3 v4 : Int32} (ok : gw_ok R F A) {u : SY} (hI : yw_I R F A u) (K : ∀ r u, gw_gq R F v1 (fun n r => gw_cb (gw_G R F n) v2 v3 v4 r) r → yw_I R F A u → post r u) : wpY_count post u v1 v2 v3 v4 := by
  revert hI
  refine yw_el (P := fun u => yw_I R F A u → wpY_count post u v1 v2 v3 v4) ?_ u
  intro f_firstSize f_size f_otherSize f_x f_y f_way f_left f_right f_low f_high a_ruleSize a_rules a_first a_actions a_word a_next a_other a_part a_seen hI
  exact yw_count ok hI K
theorem yu_find {post : Int32 → SY → Prop} {R : Nat → List Nat} {F : List Nat} {A : Nat → Nat} {v1 v2 v3 : Int32} (ok : gw_ok R F A) {u : SY} (hI : yw_I R F A u) (K : ∀ r u, gw_gq R F v1 (fun n r => gw_fb (gw_G R F n) v2 v3 r) r → yw_I R F A u → post r u) : wpY_find post u v1 v2 v3 := by
  revert hI
  refine yw_el (P := fun u => yw_I R F A u → wpY_find post u v1 v2 v3) ?_ u
  intro f_firstSize f_size f_otherSize f_x f_y f_way f_left f_right f_low f_high a_ruleSize a_rules a_first a_actions a_word a_next a_other a_part a_seen hI
  exact yw_find ok hI K
theorem yu_occurrences {post : Int32 → SY → Prop} {R : Nat → List Nat} {F : List Nat} {A : Nat → Nat} {v1 v2 : Int32} (ok : gw_ok R F A) {u : SY} (hI : yw_I R F A u) (K : ∀ r u, gw_gq R F v1 (fun n r => gw_ob (gw_G R F n) v2 r) r → yw_I R F A u → post r u) : wpY_occurrences post u v1 v2 := by
  revert hI
  refine yw_el (P := fun u => yw_I R F A u → wpY_occurrences post u v1 v2) ?_ u
  intro f_firstSize f_size f_otherSize f_x f_y f_way f_left f_right f_low f_high a_ruleSize a_rules a_first a_actions a_word a_next a_other a_part a_seen hI
  exact yw_occurrences ok hI K
theorem yu_run {post : Int32 → SY → Prop} {R : Nat → List Nat} {F : List Nat} {A : Nat → Nat} {v1 : Int32} (ok : gw_ok R F A) {u : SY} (hI : yw_I R F A u) (K : ∀ r u, gw_gq R F v1 (fun n r => r = nI (gw_rw gw_r0 (gw_G R F n)).2.2.2.2.1) r → yw_I R F A u → post r u) : wpY_run post u v1 := by
  revert hI
  refine yw_el (P := fun u => yw_I R F A u → wpY_run post u v1) ?_ u
  intro f_firstSize f_size f_otherSize f_x f_y f_way f_left f_right f_low f_high a_ruleSize a_rules a_first a_actions a_word a_next a_other a_part a_seen hI
  exact yw_run ok hI K
theorem yu_common {post : Int32 → SY → Prop} {R : Nat → List Nat} {F : List Nat} {A : Nat → Nat} {v1 v2 : Int32} (ok : gw_ok R F A) {u : SY} (hI : yw_I R F A u) (K : ∀ r u, gw_gc R F v1 v2 r → yw_I R F A u → post r u) : wpY_common post u v1 v2 := by
  revert hI
  refine yw_el (P := fun u => yw_I R F A u → wpY_common post u v1 v2) ?_ u
  intro f_firstSize f_size f_otherSize f_x f_y f_way f_left f_right f_low f_high a_ruleSize a_rules a_first a_actions a_word a_next a_other a_part a_seen hI
  exact yw_common ok hI K
theorem yu_mirrored {post : Int32 → SY → Prop} {R : Nat → List Nat} {F : List Nat} {A : Nat → Nat} {v1 : Int32} (ok : gw_ok R F A) {u : SY} (hI : yw_I R F A u) (K : ∀ r u, gw_gq R F v1 (fun n r => gw_ma (gw_G R F n) r) r → yw_I R F A u → post r u) : wpY_mirrored post u v1 := by
  revert hI
  refine yw_el (P := fun u => yw_I R F A u → wpY_mirrored post u v1) ?_ u
  intro f_firstSize f_size f_otherSize f_x f_y f_way f_left f_right f_low f_high a_ruleSize a_rules a_first a_actions a_word a_next a_other a_part a_seen hI
  exact yw_mirrored ok hI K
theorem yu_kinds {post : Int32 → SY → Prop} {R : Nat → List Nat} {F : List Nat} {A : Nat → Nat} {v1 v2 : Int32} (ok : gw_ok R F A) {u : SY} (hI : yw_I R F A u) (K : ∀ r u, gw_gq R F v1 (fun n r => gw_kb (gw_G R F n) v2 r) r → yw_I R F A u → post r u) : wpY_kinds post u v1 v2 := by
  revert hI
  refine yw_el (P := fun u => yw_I R F A u → wpY_kinds post u v1 v2) ?_ u
  intro f_firstSize f_size f_otherSize f_x f_y f_way f_left f_right f_low f_high a_ruleSize a_rules a_first a_actions a_word a_next a_other a_part a_seen hI
  exact yw_kinds ok hI K
theorem yu_point {post : Int32 → SY → Prop} {R : Nat → List Nat} {F : List Nat} {A : Nat → Nat} {v1 v2 : Int32} (ok : gw_ok R F A) {u : SY} (hI : yw_I R F A u) (K : ∀ r u, gw_gq R F v1 (fun n r => r = gw_pa (gw_dr A gw_p0 ((gw_G R F n).take v2.toNatClampNeg))) r → yw_I R F A u → post r u) : wpY_point post u v1 v2 := by
  revert hI
  refine yw_el (P := fun u => yw_I R F A u → wpY_point post u v1 v2) ?_ u
  intro f_firstSize f_size f_otherSize f_x f_y f_way f_left f_right f_low f_high a_ruleSize a_rules a_first a_actions a_word a_next a_other a_part a_seen hI
  exact yw_point ok hI K
theorem yu_direction {post : Int32 → SY → Prop} {R : Nat → List Nat} {F : List Nat} {A : Nat → Nat} {v1 : Int32} (ok : gw_ok R F A) {u : SY} (hI : yw_I R F A u) (K : ∀ r u, gw_gq R F v1 (fun n r => r = nI (gw_dr A gw_p0 (gw_G R F n)).2.2.1) r → yw_I R F A u → post r u) : wpY_direction post u v1 := by
  revert hI
  refine yw_el (P := fun u => yw_I R F A u → wpY_direction post u v1) ?_ u
  intro f_firstSize f_size f_otherSize f_x f_y f_way f_left f_right f_low f_high a_ruleSize a_rules a_first a_actions a_word a_next a_other a_part a_seen hI
  exact yw_direction ok hI K
theorem yu_extent {post : Int32 → SY → Prop} {R : Nat → List Nat} {F : List Nat} {A : Nat → Nat} {v1 : Int32} (ok : gw_ok R F A) {u : SY} (hI : yw_I R F A u) (K : ∀ r u, gw_gq R F v1 (fun n r => r = gw_ea (gw_dr A gw_p0 (gw_G R F n))) r → yw_I R F A u → post r u) : wpY_extent post u v1 := by
  revert hI
  refine yw_el (P := fun u => yw_I R F A u → wpY_extent post u v1) ?_ u
  intro f_firstSize f_size f_otherSize f_x f_y f_way f_left f_right f_low f_high a_ruleSize a_rules a_first a_actions a_word a_next a_other a_part a_seen hI
  exact yw_extent ok hI K
theorem yu_ruleA {post : Int32 → SY → Prop} {R : Nat → List Nat} {F : List Nat} {A : Nat → Nat} {v1 v2 : Int32} (hv : v1 < 0 ∨ 6 ≤ v1) {u : SY} (hI : yw_I R F A u) (K : ∀ u, yw_I R F A u → post (-1) u) : wpY_rule post u v1 v2 := by
  revert hI
  refine yw_el (P := fun u => yw_I R F A u → wpY_rule post u v1 v2) ?_ u
  intro f_firstSize f_size f_otherSize f_x f_y f_way f_left f_right f_low f_high a_ruleSize a_rules a_first a_actions a_word a_next a_other a_part a_seen hI
  exact yw_ruleA hv (K _ hI)
theorem yu_ruleB {post : Int32 → SY → Prop} {R : Nat → List Nat} {F : List Nat} {A : Nat → Nat} {c : Nat} {v2 : Int32} (hc : c < 6) (hv : gw_dv 4 v2 = none) {u : SY} (hI : yw_I R F A u) (K : ∀ u, yw_I R F A u → post (-2) u) : wpY_rule post u (nI c) v2 := by
  revert hI
  refine yw_el (P := fun u => yw_I R F A u → wpY_rule post u (nI c) v2) ?_ u
  intro f_firstSize f_size f_otherSize f_x f_y f_way f_left f_right f_low f_high a_ruleSize a_rules a_first a_actions a_word a_next a_other a_part a_seen hI
  exact yw_ruleB hc hv (fun pt => K _ (yw_IK hI))
theorem yu_ruleC {post : Int32 → SY → Prop} {R : Nat → List Nat} {F : List Nat} {A : Nat → Nat} {c : Nat} {v2 : Int32} {w : List Nat} (ok : gw_ok R F A) (hc : c < 6) (hv : gw_dv 4 v2 = some w) {u : SY} (hI : yw_I R F A u) (K : ∀ u, yw_I (gw_R1 R c w) F A u → post (nI w.length) u) : wpY_rule post u (nI c) v2 := by
  revert hI
  refine yw_el (P := fun u => yw_I R F A u → wpY_rule post u (nI c) v2) ?_ u
  intro f_firstSize f_size f_otherSize f_x f_y f_way f_left f_right f_low f_high a_ruleSize a_rules a_first a_actions a_word a_next a_other a_part a_seen hI
  exact yw_ruleC ok hI hc hv K
theorem yu_beginA {post : Int32 → SY → Prop} {R : Nat → List Nat} {F : List Nat} {A : Nat → Nat} {v1 : Int32} (hv : gw_dv 8 v1 = none ∨ gw_dv 8 v1 = some []) {u : SY} (hI : yw_I R F A u) (K : ∀ u, yw_I R F A u → post (-1) u) : wpY_begin post u v1 := by
  revert hI
  refine yw_el (P := fun u => yw_I R F A u → wpY_begin post u v1) ?_ u
  intro f_firstSize f_size f_otherSize f_x f_y f_way f_left f_right f_low f_high a_ruleSize a_rules a_first a_actions a_word a_next a_other a_part a_seen hI
  exact yw_beginA hv (fun pt => K _ (yw_IK hI))
theorem yu_beginB {post : Int32 → SY → Prop} {R : Nat → List Nat} {F : List Nat} {A : Nat → Nat} {v1 : Int32} {w : List Nat} (hv : gw_dv 8 v1 = some w) (h1 : 1 ≤ w.length) {u : SY} (hI : yw_I R F A u) (K : ∀ u, yw_I R w A u → post (nI w.length) u) : wpY_begin post u v1 := by
  revert hI
  refine yw_el (P := fun u => yw_I R F A u → wpY_begin post u v1) ?_ u
  intro f_firstSize f_size f_otherSize f_x f_y f_way f_left f_right f_low f_high a_ruleSize a_rules a_first a_actions a_word a_next a_other a_part a_seen hI
  exact yw_beginB hI hv h1 K
theorem yu_actionA {post : Int32 → SY → Prop} {R : Nat → List Nat} {F : List Nat} {A : Nat → Nat} {v1 v2 : Int32} (hv : v1 < 0 ∨ 6 ≤ v1) {u : SY} (hI : yw_I R F A u) (K : ∀ u, yw_I R F A u → post (-1) u) : wpY_action post u v1 v2 := by
  revert hI
  refine yw_el (P := fun u => yw_I R F A u → wpY_action post u v1 v2) ?_ u
  intro f_firstSize f_size f_otherSize f_x f_y f_way f_left f_right f_low f_high a_ruleSize a_rules a_first a_actions a_word a_next a_other a_part a_seen hI
  exact yw_actionA hv (K _ hI)
theorem yu_actionB {post : Int32 → SY → Prop} {R : Nat → List Nat} {F : List Nat} {A : Nat → Nat} {c : Nat} {v2 : Int32} (hc : c < 6) (hv : v2 < 0 ∨ 4 ≤ v2) {u : SY} (hI : yw_I R F A u) (K : ∀ u, yw_I R F A u → post (-2) u) : wpY_action post u (nI c) v2 := by
  revert hI
  refine yw_el (P := fun u => yw_I R F A u → wpY_action post u (nI c) v2) ?_ u
  intro f_firstSize f_size f_otherSize f_x f_y f_way f_left f_right f_low f_high a_ruleSize a_rules a_first a_actions a_word a_next a_other a_part a_seen hI
  exact yw_actionB hc hv (K _ hI)
theorem yu_actionC {post : Int32 → SY → Prop} {R : Nat → List Nat} {F : List Nat} {A : Nat → Nat} {c a : Nat} (hc : c < 6) (ha : a < 4) {u : SY} (hI : yw_I R F A u) (K : ∀ u, yw_I R F (gw_A1 A c a) u → post (nI (A c)) u) : wpY_action post u (nI c) (nI a) := by
  revert hI
  refine yw_el (P := fun u => yw_I R F A u → wpY_action post u (nI c) (nI a)) ?_ u
  intro f_firstSize f_size f_otherSize f_x f_y f_way f_left f_right f_low f_high a_ruleSize a_rules a_first a_actions a_word a_next a_other a_part a_seen hI
  exact yw_actionC hI hc ha K
end
section
/-! what is owed -/
def i_Rel (k : Nat) (u : SX) (v : SY) : Prop := ∃ R F A, gw_ok R F A ∧ xw_I R F A u ∧ yw_I R F A v
theorem zz_rel {k : Nat} {u : SX} {v : SY} {R : Nat → List Nat} {F : List Nat} {A : Nat → Nat} (ok : gw_ok R F A) (hx : xw_I R F A u) (hy : yw_I R F A v) : i_Rel k u v := by
  unfold i_Rel
  exact ⟨R, F, A, ok, hx, hy⟩
theorem i_up {k : Nat} {u : SX} {v : SY} (h : i_Rel k u v) : i_Rel (k + 5) u v := h
theorem i_vc0 : wpX_init (fun u => wpY_init (fun v => i_Rel 0 u v)) := by
  refine xw_init ?_
  intro u hu
  refine yw_init ?_
  intro v hv
  exact zz_rel gw_ok0 hu hv
theorem i_vc_rule {k : Nat} {u : SX} {v : SY} (I : i_Rel k u v) (hk : k + 5 ≤ 2560) (v1 : Int32) (v2 : Int32) : wpX_rule (fun r u' => wpY_rule (fun r' v' => r' = r ∧ i_Rel (k + 5) u' v') v v1 v2) u v1 v2 := by
  obtain ⟨R, F, A, ok, hX, hY⟩ := I
  by_cases h1 : v1 < 0 ∨ 6 ≤ v1
  · skip
    refine xu_ruleA h1 hX ?_
    intro u' hu'
    refine yu_ruleA h1 hY ?_
    intro v' hv'
    exact And.intro rfl (zz_rel ok hu' hv')
  · skip
    obtain ⟨c, hc, e⟩ : ∃ c, c < 6 ∧ v1 = nI c := by
      rcases pk_ix v1 (n := 6) (by omega) with z | z | z
      · exact absurd (Or.inl z) h1
      · exact absurd (Or.inr z) h1
      · exact z
    subst e
    cases hw : gw_dv 4 v2 with
    | none =>
      refine xu_ruleB hc hw hX ?_
      intro u' hu'
      refine yu_ruleB hc hw hY ?_
      intro v' hv'
      exact And.intro rfl (zz_rel ok hu' hv')
    | some w =>
      obtain ⟨x, hx, e, hd⟩ := gw_dvV hw
      have hp := gw_deP hd
      refine xu_ruleC ok hc hw hX ?_
      intro u' hu'
      refine yu_ruleC ok hc hw hY ?_
      intro v' hv'
      exact And.intro rfl (zz_rel (gw_okR ok hp.1 hp.2.1) hu' hv')
theorem i_vc_begin {k : Nat} {u : SX} {v : SY} (I : i_Rel k u v) (hk : k + 5 ≤ 2560) (v1 : Int32) : wpX_begin (fun r u' => wpY_begin (fun r' v' => r' = r ∧ i_Rel (k + 5) u' v') v v1) u v1 := by
  obtain ⟨R, F, A, ok, hX, hY⟩ := I
  cases hw : gw_dv 8 v1 with
  | none =>
    refine xu_beginA (Or.inl hw) hX ?_
    intro u' hu'
    refine yu_beginA (Or.inl hw) hY ?_
    intro v' hv'
    exact And.intro rfl (zz_rel ok hu' hv')
  | some w =>
    obtain ⟨x, hx, e, hd⟩ := gw_dvV hw
    have hp := gw_deP hd
    by_cases h1 : 1 ≤ w.length
    · skip
      refine xu_beginB hw h1 hX ?_
      intro u' hu'
      refine yu_beginB hw h1 hY ?_
      intro v' hv'
      exact And.intro rfl (zz_rel (gw_okF ok h1 hp.1 hp.2.1) hu' hv')
    · have e0 : w = [] := List.eq_nil_of_length_eq_zero (by omega)
      subst e0
      refine xu_beginA (Or.inr hw) hX ?_
      intro u' hu'
      refine yu_beginA (Or.inr hw) hY ?_
      intro v' hv'
      exact And.intro rfl (zz_rel ok hu' hv')
theorem i_vc_action {k : Nat} {u : SX} {v : SY} (I : i_Rel k u v) (hk : k + 5 ≤ 2560) (v1 : Int32) (v2 : Int32) : wpX_action (fun r u' => wpY_action (fun r' v' => r' = r ∧ i_Rel (k + 5) u' v') v v1 v2) u v1 v2 := by
  obtain ⟨R, F, A, ok, hX, hY⟩ := I
  by_cases h1 : v1 < 0 ∨ 6 ≤ v1
  · skip
    refine xu_actionA h1 hX ?_
    intro u' hu'
    refine yu_actionA h1 hY ?_
    intro v' hv'
    exact And.intro rfl (zz_rel ok hu' hv')
  · skip
    obtain ⟨c, hc, e⟩ : ∃ c, c < 6 ∧ v1 = nI c := by
      rcases pk_ix v1 (n := 6) (by omega) with z | z | z
      · exact absurd (Or.inl z) h1
      · exact absurd (Or.inr z) h1
      · exact z
    subst e
    by_cases h2 : v2 < 0 ∨ 4 ≤ v2
    · skip
      refine xu_actionB hc h2 hX ?_
      intro u' hu'
      refine yu_actionB hc h2 hY ?_
      intro v' hv'
      exact And.intro rfl (zz_rel ok hu' hv')
    · obtain ⟨a, ha, e⟩ : ∃ a, a < 4 ∧ v2 = nI a := by
        rcases pk_ix v2 (n := 4) (by omega) with z | z | z
        · exact absurd (Or.inl z) h2
        · exact absurd (Or.inr z) h2
        · exact z
      subst e
      refine xu_actionC hc ha hX ?_
      intro u' hu'
      refine yu_actionC hc ha hY ?_
      intro v' hv'
      exact And.intro rfl (zz_rel (gw_okA ok ha) hu' hv')
theorem i_vc_length {k : Nat} {u : SX} {v : SY} (I : i_Rel k u v) (hk : k + 5 ≤ 2560) (v1 : Int32) : wpX_length (fun r u' => wpY_length (fun r' v' => r' = r ∧ i_Rel (k + 5) u' v') v v1) u v1 := by
  obtain ⟨R, F, A, ok, hX, hY⟩ := I
  refine xu_length ok hX ?_
  intro r u' hr hu'
  refine yu_length ok hY ?_
  intro r' v' hr' hv'
  refine And.intro ?_ (zz_rel ok hu' hv')
  refine gw_gqU ?_ hr hr'
  intro n hn hc r r' h h'
  exact h'.trans h.symm
theorem i_vc_letterAt {k : Nat} {u : SX} {v : SY} (I : i_Rel k u v) (hk : k + 5 ≤ 2560) (v1 : Int32) (v2 : Int32) : wpX_letterAt (fun r u' => wpY_letterAt (fun r' v' => r' = r ∧ i_Rel (k + 5) u' v') v v1 v2) u v1 v2 := by
  obtain ⟨R, F, A, ok, hX, hY⟩ := I
  refine xu_letterAt ok hX ?_
  intro r u' hr hu'
  refine yu_letterAt ok hY ?_
  intro r' v' hr' hv'
  refine And.intro ?_ (zz_rel ok hu' hv')
  refine gw_gqU ?_ hr hr'
  intro n hn hc r r' h h'
  exact gw_laU (hc n (Nat.le_refl n)) h h'
theorem i_vc_count {k : Nat} {u : SX} {v : SY} (I : i_Rel k u v) (hk : k + 5 ≤ 2560) (v1 : Int32) (v2 : Int32) (v3 : Int32) (v4 : Int32) : wpX_count (fun r u' => wpY_count (fun r' v' => r' = r ∧ i_Rel (k + 5) u' v') v v1 v2 v3 v4) u v1 v2 v3 v4 := by
  obtain ⟨R, F, A, ok, hX, hY⟩ := I
  refine xu_count ok hX ?_
  intro r u' hr hu'
  refine yu_count ok hY ?_
  intro r' v' hr' hv'
  refine And.intro ?_ (zz_rel ok hu' hv')
  refine gw_gqU ?_ hr hr'
  intro n hn hc r r' h h'
  exact gw_cbU h h'
theorem i_vc_find {k : Nat} {u : SX} {v : SY} (I : i_Rel k u v) (hk : k + 5 ≤ 2560) (v1 : Int32) (v2 : Int32) (v3 : Int32) : wpX_find (fun r u' => wpY_find (fun r' v' => r' = r ∧ i_Rel (k + 5) u' v') v v1 v2 v3) u v1 v2 v3 := by
  obtain ⟨R, F, A, ok, hX, hY⟩ := I
  refine xu_find ok hX ?_
  intro r u' hr hu'
  refine yu_find ok hY ?_
  intro r' v' hr' hv'
  refine And.intro ?_ (zz_rel ok hu' hv')
  refine gw_gqU ?_ hr hr'
  intro n hn hc r r' h h'
  exact gw_fbU h h'
theorem i_vc_occurrences {k : Nat} {u : SX} {v : SY} (I : i_Rel k u v) (hk : k + 5 ≤ 2560) (v1 : Int32) (v2 : Int32) : wpX_occurrences (fun r u' => wpY_occurrences (fun r' v' => r' = r ∧ i_Rel (k + 5) u' v') v v1 v2) u v1 v2 := by
  obtain ⟨R, F, A, ok, hX, hY⟩ := I
  refine xu_occurrences ok hX ?_
  intro r u' hr hu'
  refine yu_occurrences ok hY ?_
  intro r' v' hr' hv'
  refine And.intro ?_ (zz_rel ok hu' hv')
  refine gw_gqU ?_ hr hr'
  intro n hn hc r r' h h'
  exact gw_obU h h'
theorem i_vc_run {k : Nat} {u : SX} {v : SY} (I : i_Rel k u v) (hk : k + 5 ≤ 2560) (v1 : Int32) : wpX_run (fun r u' => wpY_run (fun r' v' => r' = r ∧ i_Rel (k + 5) u' v') v v1) u v1 := by
  obtain ⟨R, F, A, ok, hX, hY⟩ := I
  refine xu_run ok hX ?_
  intro r u' hr hu'
  refine yu_run ok hY ?_
  intro r' v' hr' hv'
  refine And.intro ?_ (zz_rel ok hu' hv')
  refine gw_gqU ?_ hr hr'
  intro n hn hc r r' h h'
  exact h'.trans h.symm
theorem i_vc_common {k : Nat} {u : SX} {v : SY} (I : i_Rel k u v) (hk : k + 5 ≤ 2560) (v1 : Int32) (v2 : Int32) : wpX_common (fun r u' => wpY_common (fun r' v' => r' = r ∧ i_Rel (k + 5) u' v') v v1 v2) u v1 v2 := by
  obtain ⟨R, F, A, ok, hX, hY⟩ := I
  refine xu_common ok hX ?_
  intro r u' hr hu'
  refine yu_common ok hY ?_
  intro r' v' hr' hv'
  refine And.intro ?_ (zz_rel ok hu' hv')
  exact gw_gcU hr hr'
theorem i_vc_mirrored {k : Nat} {u : SX} {v : SY} (I : i_Rel k u v) (hk : k + 5 ≤ 2560) (v1 : Int32) : wpX_mirrored (fun r u' => wpY_mirrored (fun r' v' => r' = r ∧ i_Rel (k + 5) u' v') v v1) u v1 := by
  obtain ⟨R, F, A, ok, hX, hY⟩ := I
  refine xu_mirrored ok hX ?_
  intro r u' hr hu'
  refine yu_mirrored ok hY ?_
  intro r' v' hr' hv'
  refine And.intro ?_ (zz_rel ok hu' hv')
  refine gw_gqU ?_ hr hr'
  intro n hn hc r r' h h'
  exact gw_maU h h'
theorem i_vc_kinds {k : Nat} {u : SX} {v : SY} (I : i_Rel k u v) (hk : k + 5 ≤ 2560) (v1 : Int32) (v2 : Int32) : wpX_kinds (fun r u' => wpY_kinds (fun r' v' => r' = r ∧ i_Rel (k + 5) u' v') v v1 v2) u v1 v2 := by
  obtain ⟨R, F, A, ok, hX, hY⟩ := I
  refine xu_kinds ok hX ?_
  intro r u' hr hu'
  refine yu_kinds ok hY ?_
  intro r' v' hr' hv'
  refine And.intro ?_ (zz_rel ok hu' hv')
  refine gw_gqU ?_ hr hr'
  intro n hn hc r r' h h'
  exact gw_kbU h h'
theorem i_vc_point {k : Nat} {u : SX} {v : SY} (I : i_Rel k u v) (hk : k + 5 ≤ 2560) (v1 : Int32) (v2 : Int32) : wpX_point (fun r u' => wpY_point (fun r' v' => r' = r ∧ i_Rel (k + 5) u' v') v v1 v2) u v1 v2 := by
  obtain ⟨R, F, A, ok, hX, hY⟩ := I
  refine xu_point ok hX ?_
  intro r u' hr hu'
  refine yu_point ok hY ?_
  intro r' v' hr' hv'
  refine And.intro ?_ (zz_rel ok hu' hv')
  refine gw_gqU ?_ hr hr'
  intro n hn hc r r' h h'
  exact h'.trans h.symm
theorem i_vc_direction {k : Nat} {u : SX} {v : SY} (I : i_Rel k u v) (hk : k + 5 ≤ 2560) (v1 : Int32) : wpX_direction (fun r u' => wpY_direction (fun r' v' => r' = r ∧ i_Rel (k + 5) u' v') v v1) u v1 := by
  obtain ⟨R, F, A, ok, hX, hY⟩ := I
  refine xu_direction ok hX ?_
  intro r u' hr hu'
  refine yu_direction ok hY ?_
  intro r' v' hr' hv'
  refine And.intro ?_ (zz_rel ok hu' hv')
  refine gw_gqU ?_ hr hr'
  intro n hn hc r r' h h'
  exact h'.trans h.symm
theorem i_vc_extent {k : Nat} {u : SX} {v : SY} (I : i_Rel k u v) (hk : k + 5 ≤ 2560) (v1 : Int32) : wpX_extent (fun r u' => wpY_extent (fun r' v' => r' = r ∧ i_Rel (k + 5) u' v') v v1) u v1 := by
  obtain ⟨R, F, A, ok, hX, hY⟩ := I
  refine xu_extent ok hX ?_
  intro r u' hr hu'
  refine yu_extent ok hY ?_
  intro r' v' hr' hv'
  refine And.intro ?_ (zz_rel ok hu' hv')
  refine gw_gqU ?_ hr hr'
  intro n hn hc r r' h h'
  exact h'.trans h.symm
end
