section
theorem pk_us {f : Nat → Int32} {k : Nat} {x : Int32} : upd f k x k = x := if_pos rfl
theorem pk_un {f : Nat → Int32} {k j : Nat} {x : Int32} (h : j ≠ k) : upd f k x j = f j := if_neg h
theorem pk_sub {a b : Nat} (h : b ≤ a) : nI a - nI b = nI (a - b) := by
  obtain ⟨c, rfl⟩ : ∃ c, a = c + b := ⟨a - b, by omega⟩
  rw [← nI_add, Int32.add_sub_cancel, Nat.add_sub_cancel]
theorem pk_m1 (n : Nat) : nI (n + 1) + (-1) = nI n := by
  rw [← nI_1, Int32.add_assoc, show (1 : Int32) + (-1) = 0 from rfl, Int32.add_zero]
theorem pk_mul (a b : Nat) : nI a * nI b = nI (a * b) := (Int32.ofNat_mul a b).symm
theorem pk_div {a d : Nat} (ha : a < 2 ^ 31) (h0 : 0 < d) (hd : d < 2 ^ 31) : nI a / nI d = nI (a / d) := by
  apply Int32.toInt_inj.mp
  rw [lg_idiv_nonneg (by rw [nI_toInt ha]; omega) (by rw [nI_toInt hd]; omega), nI_toInt ha, nI_toInt hd, nI_toInt (Nat.lt_of_le_of_lt (Nat.div_le_self a d) ha)]
  first | rfl | exact (Int.natCast_ediv _ _).symm
theorem pk_rem {a d : Nat} (ha : a < 2 ^ 31) (h0 : 0 < d) (hd : d < 2 ^ 31) : nI a - nI a / nI d * nI d = nI (a % d) := by
  rw [pk_div ha h0 hd, pk_mul, pk_sub (Nat.div_mul_le_self a d)]
  exact congrArg nI (by have := Nat.div_add_mod' a d; omega)
theorem pk_sub_toInt {a b : Nat} (ha : a < 2 ^ 30) (hb : b < 2 ^ 30) : (nI a - nI b).toInt = (a : Int) - b := by
  rw [Int32.toInt_sub, nI_toInt (by omega), nI_toInt (by omega)]
  exact Int.bmod_eq_of_le (by omega) (by omega)
theorem pk_sneg {a b : Nat} (hb : b < 2 ^ 30) (h : a < b) : nI a - nI b < 0 := by
  rw [Int32.lt_iff_toInt_lt, pk_sub_toInt (by omega) hb, show (0 : Int32).toInt = 0 from by decide]
  omega
theorem pk_ix (x : Int32) {n : Nat} (hn : n < 2 ^ 31) : x < 0 ∨ nI n ≤ x ∨ ∃ j : Nat, j < n ∧ x = nI j := by
  by_cases h : x < 0
  · exact Or.inl h
  · obtain ⟨j, hj, rfl⟩ := nI_of h
    by_cases h2 : j < n
    · exact Or.inr (Or.inr ⟨j, h2, rfl⟩)
    · exact Or.inr (Or.inl (nI_le (by omega) hj))
theorem pk_le {x y : Int32} {A B : Prop} (a b : Nat) (f : a ≤ b → A) (g : b < a → B) (hx : x = nI a := by rfl) (hy : y = nI b := by rfl) (ha : a < 2 ^ 31 := by omega) (hb : b < 2 ^ 31 := by omega) : (x ≤ y → A) ∧ (¬ x ≤ y → B) := by
  subst hx hy
  rw [nI_leI ha hb]
  exact ⟨f, fun z => g (by omega)⟩
theorem pk_lt {x y : Int32} {A B : Prop} (a b : Nat) (f : a < b → A) (g : b ≤ a → B) (hx : x = nI a := by rfl) (hy : y = nI b := by rfl) (ha : a < 2 ^ 31 := by omega) (hb : b < 2 ^ 31 := by omega) : (x < y → A) ∧ (¬ x < y → B) := by
  subst hx hy
  rw [nI_ltI ha hb]
  exact ⟨f, fun z => g (by omega)⟩
theorem pk_eq {x y : Int32} {A B : Prop} (a b : Nat) (f : a = b → A) (g : a ≠ b → B) (hx : x = nI a := by rfl) (hy : y = nI b := by rfl) (ha : a < 2 ^ 31 := by omega) (hb : b < 2 ^ 31 := by omega) : (x = y → A) ∧ (¬ x = y → B) := by
  subst hx hy
  rw [nI_eq ha hb]
  exact ⟨f, g⟩
theorem pk_in {x : Int32} (n N : Nat) (h : n < N) (hx : x = nI n := by rfl) (hN : N < 2 ^ 31 := by omega) : vp_in x N := by
  subst hx
  exact vp_in_nI h hN
theorem pk_cl {x : Int32} (n : Nat) (hx : x = nI n := by rfl) (h : n < 2 ^ 31 := by omega) : x.toNatClampNeg = n := by
  subst hx
  exact nI_clamp h
theorem pk_tn {n : Nat} (h : n < 2 ^ 32) : (nI n).toBitVec.toNat = n := Nat.mod_eq_of_lt h
theorem pk_and (x : Int32) {m : Int32} (k : Nat) (hm : m.toBitVec.toNat = 2 ^ k - 1) : x &&& m = nI (x.toBitVec.toNat % 2 ^ k) := by
  apply Int32.toBitVec_inj.mp
  apply BitVec.eq_of_toNat_eq
  rw [Int32.toBitVec_and, BitVec.toNat_and, hm, Nat.and_two_pow_sub_one_eq_mod]
  show _ = (BitVec.ofNat 32 _).toNat
  rw [BitVec.toNat_ofNat]
  exact (Nat.mod_eq_of_lt (Nat.lt_of_le_of_lt (Nat.mod_le _ _) x.toBitVec.isLt)).symm
theorem pk_andN {n : Nat} (h : n < 2 ^ 32) {m : Int32} (k : Nat) (hm : m.toBitVec.toNat = 2 ^ k - 1) : nI n &&& m = nI (n % 2 ^ k) := by
  rw [pk_and _ k hm, pk_tn h]
theorem pk_andE (x : Int32) {m : Int32} (k : Nat) (hm : m.toBitVec.toNat = 2 ^ k - 1) : ∃ j : Nat, j < 2 ^ k ∧ x &&& m = nI j := ⟨_, Nat.mod_lt _ (Nat.two_pow_pos k), pk_and x k hm⟩
theorem pk_andIn (x : Int32) {m : Int32} (k : Nat) (hm : m.toBitVec.toNat = 2 ^ k - 1) (hk : k ≤ 30) : vp_in (x &&& m) (2 ^ k) := by
  obtain ⟨j, hj, e⟩ := pk_andE x k hm
  rw [e]
  exact vp_in_nI hj (Nat.lt_of_le_of_lt (Nat.pow_le_pow_right (by decide) hk) (by decide))
theorem pk_shl (a s : Int32) (k : Nat) (hs : (s.toBitVec.smod 32).toNat = k) : (a <<< s).toBitVec.toNat = a.toBitVec.toNat * 2 ^ k % 2 ^ 32 := by
  show (a.toBitVec <<< (s.toBitVec.smod 32).toNat).toNat = _
  rw [hs, BitVec.toNat_shiftLeft, Nat.shiftLeft_eq]
theorem pk_shlN {n : Nat} (s : Int32) (k : Nat) (hs : (s.toBitVec.smod 32).toNat = k) (h : n * 2 ^ k < 2 ^ 32) : nI n <<< s = nI (n * 2 ^ k) := by
  apply Int32.toBitVec_inj.mp
  apply BitVec.eq_of_toNat_eq
  have hn : n < 2 ^ 32 := Nat.lt_of_le_of_lt (Nat.le_mul_of_pos_right n (Nat.two_pow_pos k)) h
  rw [pk_shl _ _ k hs, pk_tn hn, pk_tn h, Nat.mod_eq_of_lt h]
theorem pk_shr (a s : Int32) (k : Nat) (hs : (s.toBitVec.smod 32).toNat = k) : (a >>> s).toInt = a.toInt >>> k := by
  show (a.toBitVec.sshiftRight (s.toBitVec.smod 32).toNat).toInt = _
  rw [hs, BitVec.toInt_sshiftRight]
  rfl
theorem pk_shrN {n : Nat} (h : n < 2 ^ 31) (s : Int32) (k : Nat) (hs : (s.toBitVec.smod 32).toNat = k) : nI n >>> s = nI (n / 2 ^ k) := by
  apply Int32.toInt_inj.mp
  have h2 : n / 2 ^ k ≤ n := Nat.div_le_self _ _
  rw [pk_shr _ _ k hs, nI_toInt h, nI_toInt (by omega), Int.shiftRight_eq_div_pow]
  rfl
end
section
/-! pure: numbers -/
theorem sc_i0 : (0 : Int32).toInt = 0 := by decide
theorem sc_nc {x : Int32} (h : 0 ≤ x.toInt) : nI x.toNatClampNeg = x := by
  obtain ⟨j, hj, rfl⟩ := nI_of (x := x) (by rw [Int32.lt_iff_toInt_lt, sc_i0]; omega)
  rw [nI_clamp hj]
theorem sc_nn {x : Int32} (h : 0 ≤ x.toInt) : (x.toNatClampNeg : Int) = x.toInt := by
  obtain ⟨j, hj, rfl⟩ := nI_of (x := x) (by rw [Int32.lt_iff_toInt_lt, sc_i0]; omega)
  rw [nI_clamp hj, nI_toInt hj]
theorem sc_neg {x : Int32} (h : -7 ≤ x.toInt ∧ x.toInt ≤ 7) : (-x).toInt = -x.toInt := by
  rw [Int32.toInt_neg]
  exact Int.bmod_eq_of_le (by omega) (by omega)
theorem sc_a15 {x : Int32} (h : -7 ≤ x.toInt ∧ x.toInt ≤ 7) : (x + 15).toInt = x.toInt + 15 := by
  rw [Int32.toInt_add, show (15 : Int32).toInt = 15 from by decide]
  exact Int.bmod_eq_of_le (by omega) (by omega)
/-! the greater of two, the window -/
def sc_mx (a b : Nat) : Nat := if a ≤ b then b else a
theorem sc_mxl (a b : Nat) : a ≤ sc_mx a b := by unfold sc_mx; split <;> omega
theorem sc_mxr (a b : Nat) : b ≤ sc_mx a b := by unfold sc_mx; split <;> omega
theorem sc_mxm {a b m : Nat} (ha : a ≤ m) (hb : b ≤ m) : sc_mx a b ≤ m := by unfold sc_mx; split <;> omega
def sc_W (mp : Nat → Int32) : Nat → Nat → Nat → Nat
  | 0, c, l => if 15 ≤ c ∧ c < 31 ∧ 15 ≤ l ∧ l < 31 then (mp ((l - 15) * 16 + (c - 15))).toNatClampNeg else 0
  | h + 1, c, l => sc_mx (sc_mx (sc_W mp h c l) (sc_W mp h (c + 2 ^ h) l)) (sc_mx (sc_W mp h c (l + 2 ^ h)) (sc_W mp h (c + 2 ^ h) (l + 2 ^ h)))
theorem sc_W0 {mp : Nat → Int32} {c l : Nat} : sc_W mp 0 c l = if 15 ≤ c ∧ c < 31 ∧ 15 ≤ l ∧ l < 31 then (mp ((l - 15) * 16 + (c - 15))).toNatClampNeg else 0 := rfl
theorem sc_Ws {mp : Nat → Int32} {h c l : Nat} : sc_W mp (h + 1) c l = sc_mx (sc_mx (sc_W mp h c l) (sc_W mp h (c + 2 ^ h) l)) (sc_mx (sc_W mp h c (l + 2 ^ h)) (sc_W mp h (c + 2 ^ h) (l + 2 ^ h))) := rfl
def sc_Mp (mp : Nat → Int32) : Prop := ∀ j, 0 ≤ (mp j).toInt ∧ (mp j).toInt ≤ 9
theorem sc_W9 {mp : Nat → Int32} (hm : sc_Mp mp) : ∀ h c l, sc_W mp h c l ≤ 9 := by
  intro h
  induction h with
  | zero =>
    intro c l
    rw [sc_W0]
    split
    · have h1 := hm ((l - 15) * 16 + (c - 15))
      have h2 := sc_nn h1.1
      omega
    · omega
  | succ h ih =>
    intro c l
    rw [sc_Ws]
    exact sc_mxm (sc_mxm (ih _ _) (ih _ _)) (sc_mxm (ih _ _) (ih _ _))
theorem sc_Wz {mp : Nat → Int32} : ∀ h c l, 31 ≤ c ∨ 31 ≤ l → sc_W mp h c l = 0 := by
  intro h
  induction h with
  | zero =>
    intro c l hc
    rw [sc_W0, if_neg (by omega)]
  | succ h ih =>
    intro c l hc
    have h0 : 0 < 2 ^ h := Nat.two_pow_pos h
    generalize e : 2 ^ h = m at *
    rw [sc_Ws, e, ih c l hc, ih _ _ (by omega), ih _ _ (by omega), ih _ _ (by omega)]
    rfl
theorem sc_Wm {mp : Nat → Int32} : ∀ h c l dx dy, dx < 2 ^ h → dy < 2 ^ h → sc_W mp 0 (c + dx) (l + dy) ≤ sc_W mp h c l := by
  intro h
  induction h with
  | zero =>
    intro c l dx dy hx hy
    have e1 : dx = 0 := by omega
    have e2 : dy = 0 := by omega
    subst e1 e2
    exact Nat.le_refl _
  | succ h ih =>
    intro c l dx dy hx hy
    rw [Nat.pow_succ] at hx hy
    rw [sc_Ws]
    by_cases h1 : dx < 2 ^ h
    · by_cases h2 : dy < 2 ^ h
      · exact Nat.le_trans (ih c l dx dy h1 h2) (Nat.le_trans (sc_mxl _ _) (sc_mxl _ _))
      · have h3 := ih c (l + 2 ^ h) dx (dy - 2 ^ h) h1 (by omega)
        rw [show l + 2 ^ h + (dy - 2 ^ h) = l + dy from by omega] at h3
        exact Nat.le_trans h3 (Nat.le_trans (sc_mxl _ _) (sc_mxr _ _))
    · by_cases h2 : dy < 2 ^ h
      · have h3 := ih (c + 2 ^ h) l (dx - 2 ^ h) dy (by omega) h2
        rw [show c + 2 ^ h + (dx - 2 ^ h) = c + dx from by omega] at h3
        exact Nat.le_trans h3 (Nat.le_trans (sc_mxr _ _) (sc_mxl _ _))
      · have h3 := ih (c + 2 ^ h) (l + 2 ^ h) (dx - 2 ^ h) (dy - 2 ^ h) (by omega) (by omega)
        rw [show l + 2 ^ h + (dy - 2 ^ h) = l + dy from by omega, show c + 2 ^ h + (dx - 2 ^ h) = c + dx from by omega] at h3
        exact Nat.le_trans h3 (Nat.le_trans (sc_mxr _ _) (sc_mxr _ _))
/-! points, turns -/
def sc_Pt (p : Nat → Int32) : Prop := ∀ j, -7 ≤ (p j).toInt ∧ (p j).toInt ≤ 7
def sc_cl (x : Int32) : Nat := (x + 15).toNatClampNeg
theorem sc_cle {x : Int32} (h : -7 ≤ x.toInt ∧ x.toInt ≤ 7) : x + 15 = nI (sc_cl x) ∧ 8 ≤ sc_cl x ∧ sc_cl x ≤ 22 := by
  have e := sc_a15 h
  have h0 : 0 ≤ (x + 15).toInt := by omega
  have h1 := sc_nn h0
  refine ⟨(sc_nc h0).symm, ?_, ?_⟩
  · unfold sc_cl; omega
  · unfold sc_cl; omega
def sc_tu (r : Nat) (pu pv : Nat → Int32) (i : Nat) : Int32 := if r = 0 then pu i else if r = 1 then -(pv i) else if r = 2 then -(pu i) else pv i
def sc_tv (r : Nat) (pu pv : Nat → Int32) (i : Nat) : Int32 := if r = 0 then pv i else if r = 1 then pu i else if r = 2 then -(pv i) else -(pu i)
theorem sc_Ptn {x : Int32} (h : -7 ≤ x.toInt ∧ x.toInt ≤ 7) : -7 ≤ (-x).toInt ∧ (-x).toInt ≤ 7 := by
  rw [sc_neg h]; omega
theorem sc_Ptu {r : Nat} {pu pv : Nat → Int32} (hu : sc_Pt pu) (hv : sc_Pt pv) : sc_Pt (sc_tu r pu pv) := by
  intro j
  unfold sc_tu
  split
  · exact hu j
  · split
    · exact sc_Ptn (hv j)
    · split
      · exact sc_Ptn (hu j)
      · exact hv j
theorem sc_Ptv {r : Nat} {pu pv : Nat → Int32} (hu : sc_Pt pu) (hv : sc_Pt pv) : sc_Pt (sc_tv r pu pv) := by
  intro j
  unfold sc_tv
  split
  · exact hv j
  · split
    · exact hu j
    · split
      · exact sc_Ptn (hv j)
      · exact sc_Ptn (hu j)
/-! bounds and scores -/
def sc_B (mp tu tv : Nat → Int32) (h x y : Nat) : Nat → Nat
  | 0 => 0
  | i + 1 => sc_B mp tu tv h x y i + sc_W mp h (x + sc_cl (tu i)) (y + sc_cl (tv i))
theorem sc_Bs {mp tu tv : Nat → Int32} {h x y i : Nat} : sc_B mp tu tv h x y (i + 1) = sc_B mp tu tv h x y i + sc_W mp h (x + sc_cl (tu i)) (y + sc_cl (tv i)) := rfl
theorem sc_B9 {mp tu tv : Nat → Int32} (hm : sc_Mp mp) {h x y : Nat} : ∀ i, sc_B mp tu tv h x y i ≤ 9 * i := by
  intro i
  induction i with
  | zero => exact Nat.le_refl _
  | succ i ih =>
    rw [sc_Bs]
    have := sc_W9 hm h (x + sc_cl (tu i)) (y + sc_cl (tv i))
    omega
theorem sc_Bm {mp tu tv : Nat → Int32} {h x y dx dy : Nat} (hx : dx < 2 ^ h) (hy : dy < 2 ^ h) : ∀ i, sc_B mp tu tv 0 (x + dx) (y + dy) i ≤ sc_B mp tu tv h x y i := by
  intro i
  induction i with
  | zero => exact Nat.le_refl _
  | succ i ih =>
    rw [sc_Bs, sc_Bs]
    have h3 := sc_Wm (mp := mp) h (x + sc_cl (tu i)) (y + sc_cl (tv i)) dx dy hx hy
    rw [show x + sc_cl (tu i) + dx = x + dx + sc_cl (tu i) from by omega, show y + sc_cl (tv i) + dy = y + dy + sc_cl (tv i) from by omega] at h3
    omega
def sc_S (mp pu pv : Nat → Int32) (c p : Nat) : Nat := sc_B mp (sc_tu (p / 256) pu pv) (sc_tv (p / 256) pu pv) 0 (p % 16) (p / 16 % 16) c
theorem sc_S9 {mp pu pv : Nat → Int32} (hm : sc_Mp mp) {c p : Nat} (hc : c ≤ 10) : sc_S mp pu pv c p ≤ 90 := by
  have := sc_B9 (tu := sc_tu (p / 256) pu pv) (tv := sc_tv (p / 256) pu pv) (h := 0) (x := p % 16) (y := p / 16 % 16) hm c
  unfold sc_S
  omega
theorem sc_Spose {mp pu pv : Nat → Int32} {c r x y : Nat} (hx : x < 16) (hy : y < 16) : sc_S mp pu pv c (r * 256 + y * 16 + x) = sc_B mp (sc_tu r pu pv) (sc_tv r pu pv) 0 x y c := by
  unfold sc_S
  rw [show (r * 256 + y * 16 + x) / 256 = r from by omega, show (r * 256 + y * 16 + x) % 16 = x from by omega, show (r * 256 + y * 16 + x) / 16 % 16 = y from by omega]
/-! the filled part of the window -/
def sc_WW (mp : Nat → Int32) (m : Nat) : Nat := sc_W mp (m / 961) (m % 961 % 31) (m % 961 / 31)
def sc_Win (mp wd : Nat → Int32) (N : Nat) : Prop := ∀ m, m < N → wd m = nI (sc_WW mp m)
theorem sc_WWe {mp : Nat → Int32} {h c l : Nat} (hc : c < 31) (hl : l < 31) : sc_WW mp (h * 961 + l * 31 + c) = sc_W mp h c l := by
  unfold sc_WW
  rw [show (h * 961 + l * 31 + c) / 961 = h from by omega, show (h * 961 + l * 31 + c) % 961 % 31 = c from by omega, show (h * 961 + l * 31 + c) % 961 / 31 = l from by omega]
theorem sc_Winr {mp wd : Nat → Int32} {N h c l : Nat} (hw : sc_Win mp wd N) (hN : h * 961 + l * 31 + c < N) (hc : c < 31) (hl : l < 31) : wd (h * 961 + l * 31 + c) = nI (sc_W mp h c l) := by
  rw [hw _ hN, sc_WWe hc hl]
theorem sc_Win0 {mp wd : Nat → Int32} : sc_Win mp wd 0 := fun _ h => absurd h (Nat.not_lt_zero _)
theorem sc_Winu {mp wd : Nat → Int32} {h c l : Nat} {x : Int32} (hw : sc_Win mp wd (h * 961 + l * 31 + c)) (hc : c < 31) (hl : l < 31) (hx : x = nI (sc_W mp h c l)) : sc_Win mp (upd wd (h * 961 + l * 31 + c) x) (h * 961 + l * 31 + (c + 1)) := by
  intro m hm
  by_cases e : m = h * 961 + l * 31 + c
  · subst e
    rw [pk_us, sc_WWe hc hl, hx]
  · rw [pk_un e]
    exact hw m (by omega)
/-! sums -/
def sc_sm (f : Nat → Nat) : Nat → Nat
  | 0 => 0
  | n + 1 => sc_sm f n + f n
theorem sc_sms {f : Nat → Nat} {n : Nat} : sc_sm f (n + 1) = sc_sm f n + f n := rfl
theorem sc_smc {f g : Nat → Nat} : ∀ {n : Nat}, (∀ j, j < n → f j = g j) → sc_sm f n = sc_sm g n := by
  intro n
  induction n with
  | zero => intro _; rfl
  | succ n ih =>
    intro h
    rw [sc_sms, sc_sms, ih (fun j hj => h j (by omega)), h n (by omega)]
theorem sc_smw {f g : Nat → Nat} {k : Nat} (h1 : g (k + 1) = f k) (h2 : g k = f (k + 1)) (h3 : ∀ j, j ≠ k → j ≠ k + 1 → g j = f j) : ∀ {n : Nat}, k + 1 < n → sc_sm g n = sc_sm f n := by
  intro n
  induction n with
  | zero => intro h; omega
  | succ n ih =>
    intro h
    by_cases e : n = k + 1
    · subst e
      rw [sc_sms, sc_sms, sc_sms, sc_sms, h1, h2, sc_smc (f := g) (g := f) (fun j hj => h3 j (by omega) (by omega))]
      omega
    · rw [sc_sms, sc_sms, ih (by omega), h3 n (by omega) e]
theorem sc_smge {f : Nat → Nat} : ∀ {n : Nat}, (∀ j, j < n → 1 ≤ f j) → n ≤ sc_sm f n := by
  intro n
  induction n with
  | zero => intro _; exact Nat.zero_le _
  | succ n ih =>
    intro h
    have h1 := ih (fun j hj => h j (by omega))
    have h2 := h n (by omega)
    rw [sc_sms]
    omega
theorem sc_smle {f g : Nat → Nat} : ∀ {n : Nat}, (∀ j, j < n → f j ≤ g j) → sc_sm f n ≤ sc_sm g n := by
  intro n
  induction n with
  | zero => intro _; exact Nat.le_refl _
  | succ n ih =>
    intro h
    have h1 := ih (fun j hj => h j (by omega))
    have h2 := h n (by omega)
    rw [sc_sms, sc_sms]
    omega
theorem sc_sma (f : Nat → Nat) (a : Nat) : ∀ b : Nat, sc_sm f (a + b) = sc_sm f a + sc_sm (fun i => f (a + i)) b := by
  intro b
  induction b with
  | zero => rfl
  | succ b ih =>
    rw [← Nat.add_assoc, sc_sms, ih, sc_sms]
    omega
theorem sc_smp (f g : Nat → Nat) : ∀ n : Nat, sc_sm (fun i => f i + g i) n = sc_sm f n + sc_sm g n := by
  intro n
  induction n with
  | zero => rfl
  | succ n ih =>
    rw [sc_sms, ih, sc_sms, sc_sms]
    omega
theorem sc_smm (f : Nat → Nat) (k : Nat) : ∀ n : Nat, sc_sm f (n * k) = sc_sm (fun y => sc_sm (fun x => f (y * k + x)) k) n := by
  intro n
  induction n with
  | zero => rw [Nat.zero_mul]; rfl
  | succ n ih =>
    rw [Nat.succ_mul, sc_sma, ih, sc_sms]
theorem sc_sm0 {f : Nat → Nat} : ∀ {n : Nat}, (∀ j, j < n → f j = 0) → sc_sm f n = 0 := by
  intro n
  induction n with
  | zero => intro _; rfl
  | succ n ih =>
    intro h
    rw [sc_sms, ih (fun j hj => h j (by omega)), h n (by omega)]
theorem sc_sm4 (f : Nat → Nat) : sc_sm f 4 = f 0 + f 1 + f 2 + f 3 := by
  show 0 + f 0 + f 1 + f 2 + f 3 = _
  omega
/-! the count of a square -/
def sc_cn (g : Nat → Nat → Nat) : Nat → Nat → Nat → Nat
  | 0, x, y => g x y
  | h + 1, x, y => sc_cn g h x y + sc_cn g h (x + 2 ^ h) y + sc_cn g h x (y + 2 ^ h) + sc_cn g h (x + 2 ^ h) (y + 2 ^ h)
theorem sc_cns {g : Nat → Nat → Nat} {h x y : Nat} : sc_cn g (h + 1) x y = sc_cn g h x y + sc_cn g h (x + 2 ^ h) y + sc_cn g h x (y + 2 ^ h) + sc_cn g h (x + 2 ^ h) (y + 2 ^ h) := rfl
theorem sc_cne (g : Nat → Nat → Nat) : ∀ h x y, sc_cn g h x y = sc_sm (fun dy => sc_sm (fun dx => g (x + dx) (y + dy)) (2 ^ h)) (2 ^ h) := by
  intro h
  induction h with
  | zero =>
    intro x y
    show g x y = 0 + (0 + g (x + 0) (y + 0))
    rw [Nat.zero_add, Nat.zero_add]
    rfl
  | succ h ih =>
    intro x y
    have e : 2 ^ (h + 1) = 2 ^ h + 2 ^ h := by rw [Nat.pow_succ]; omega
    have e2 : ∀ y', sc_sm (fun dx => g (x + dx) y') (2 ^ h + 2 ^ h) = sc_sm (fun dx => g (x + dx) y') (2 ^ h) + sc_sm (fun dx => g (x + 2 ^ h + dx) y') (2 ^ h) := by
      intro y'
      rw [sc_sma]
      congr 1
      apply sc_smc
      intro j _
      show g (x + (2 ^ h + j)) y' = g (x + 2 ^ h + j) y'
      rw [Nat.add_assoc]
    have e3 : ∀ y', sc_sm (fun dy => sc_sm (fun dx => g (x + dx) (y' + dy)) (2 ^ h + 2 ^ h)) (2 ^ h) = sc_cn g h x y' + sc_cn g h (x + 2 ^ h) y' := by
      intro y'
      rw [ih, ih, ← sc_smp]
      apply sc_smc
      intro j _
      exact e2 (y' + j)
    rw [sc_cns, e, sc_sma, e3 y]
    have e4 : sc_sm (fun i => sc_sm (fun dx => g (x + dx) (y + (2 ^ h + i))) (2 ^ h + 2 ^ h)) (2 ^ h) = sc_cn g h x (y + 2 ^ h) + sc_cn g h (x + 2 ^ h) (y + 2 ^ h) := by
      rw [← e3 (y + 2 ^ h)]
      apply sc_smc
      intro j _
      show sc_sm (fun dx => g (x + dx) (y + (2 ^ h + j))) (2 ^ h + 2 ^ h) = sc_sm (fun dx => g (x + dx) (y + 2 ^ h + j)) (2 ^ h + 2 ^ h)
      rw [Nat.add_assoc]
    rw [e4]
    omega
theorem sc_cn0 {g : Nat → Nat → Nat} {h x y : Nat} (hg : ∀ dx dy, dx < 2 ^ h → dy < 2 ^ h → g (x + dx) (y + dy) = 0) : sc_cn g h x y = 0 := by
  rw [sc_cne]
  exact sc_sm0 (fun j hj => sc_sm0 (fun i hi => hg i j hi hj))
end
section
/-! which of two poses is better: (s', p') better than (s, p) -/
def sc_Bt (s p s' p' : Int32) : Prop := s < s' ∨ (s = s' ∧ p' < p)
theorem sc_Bti {s p s' p' : Int32} : sc_Bt s p s' p' ↔ (s.toInt < s'.toInt ∨ (s.toInt = s'.toInt ∧ p'.toInt < p.toInt)) := by
  unfold sc_Bt
  rw [Int32.lt_iff_toInt_lt, Int32.lt_iff_toInt_lt, Int32.toInt_inj]
theorem sc_Btt {s0 p0 s1 p1 s2 p2 : Int32} (h1 : ¬ sc_Bt s2 p2 s1 p1) (h2 : ¬ sc_Bt s1 p1 s0 p0) : ¬ sc_Bt s2 p2 s0 p0 := by
  rw [sc_Bti] at *
  omega
theorem sc_Btr (s p : Int32) : ¬ sc_Bt s p s p := by
  rw [sc_Bti]
  omega
theorem sc_Bta {s p s' p' : Int32} (h : sc_Bt s p s' p') : ¬ sc_Bt s' p' s p := by
  rw [sc_Bti] at *
  omega
def sc_Bst (P : Nat → Prop) (SP : Nat → Nat) (s0 p0 s p : Int32) : Prop :=
  ((s = s0 ∧ p = p0) ∨ ∃ q, q < 1024 ∧ P q ∧ s = nI (SP q) ∧ p = nI q) ∧ ¬ sc_Bt s p s0 p0 ∧ ∀ q, q < 1024 → P q → ¬ sc_Bt s p (nI (SP q)) (nI q)
theorem sc_Bst0 {P : Nat → Prop} {SP : Nat → Nat} {s p : Int32} (h : ∀ q, ¬ P q) : sc_Bst P SP s p s p :=
  ⟨Or.inl ⟨rfl, rfl⟩, sc_Btr s p, fun q _ hq => absurd hq (h q)⟩
theorem sc_Bstt {P1 P2 P : Nat → Prop} {SP : Nat → Nat} {s0 p0 s1 p1 s2 p2 : Int32} (h1 : sc_Bst P1 SP s0 p0 s1 p1) (h2 : sc_Bst P2 SP s1 p1 s2 p2) (hP : ∀ q, P q ↔ (P1 q ∨ P2 q)) : sc_Bst P SP s0 p0 s2 p2 := by
  obtain ⟨a1, b1, c1⟩ := h1
  obtain ⟨a2, b2, c2⟩ := h2
  refine ⟨?_, sc_Btt b2 b1, ?_⟩
  · rcases a2 with ⟨e1, e2⟩ | ⟨q, hq, hp, e1, e2⟩
    · rcases a1 with ⟨e3, e4⟩ | ⟨q, hq, hp, e3, e4⟩
      · exact Or.inl ⟨e1.trans e3, e2.trans e4⟩
      · exact Or.inr ⟨q, hq, (hP q).mpr (Or.inl hp), e1.trans e3, e2.trans e4⟩
    · exact Or.inr ⟨q, hq, (hP q).mpr (Or.inr hp), e1, e2⟩
  · intro q hq hp
    rcases (hP q).mp hp with h | h
    · exact sc_Btt b2 (c1 q hq h)
    · exact c2 q hq h
theorem sc_Bste {P P' : Nat → Prop} {SP : Nat → Nat} {s0 p0 s p : Int32} (h : sc_Bst P SP s0 p0 s p) (hP : ∀ q, q < 1024 → (P q ↔ P' q)) : sc_Bst P' SP s0 p0 s p := by
  obtain ⟨a, b, c⟩ := h
  refine ⟨?_, b, fun q hq hp => c q hq ((hP q hq).mpr hp)⟩
  rcases a with e | ⟨q, hq, hp, e⟩
  · exact Or.inl e
  · exact Or.inr ⟨q, hq, (hP q hq).mp hp, e⟩
def sc_Top (P : Nat → Prop) (SP : Nat → Nat) (q : Nat) : Prop := q < 1024 ∧ P q ∧ ∀ q', q' < 1024 → P q' → ¬ (SP q < SP q' ∨ (SP q = SP q' ∧ q' < q))
theorem sc_Topu {P : Nat → Prop} {SP : Nat → Nat} {q q' : Nat} (h : sc_Top P SP q) (h' : sc_Top P SP q') : q = q' := by
  have a := h.2.2 q' h'.1 h'.2.1
  have b := h'.2.2 q h.1 h.2.1
  omega
theorem sc_im1 : (-1 : Int32).toInt = -1 := by decide
theorem sc_Bstp {P : Nat → Prop} {SP : Nat → Nat} {s0 p0 s p : Int32} (hs0 : s0.toInt < 0) (hS : ∀ q, SP q ≤ 90) (h : sc_Bst P SP s0 p0 s p) (hP : ∃ q, q < 1024 ∧ P q) : ∃ q, sc_Top P SP q ∧ s = nI (SP q) ∧ p = nI q := by
  obtain ⟨a, b, c⟩ := h
  obtain ⟨q0, h0, hp0⟩ := hP
  rcases a with ⟨e1, e2⟩ | ⟨q, hq, hp, e1, e2⟩
  · exfalso
    apply c q0 h0 hp0
    have := hS q0
    rw [sc_Bti, e1, nI_toInt (by omega)]
    omega
  · refine ⟨q, ⟨hq, hp, ?_⟩, e1, e2⟩
    intro q' hq' hp' hb
    apply c q' hq' hp'
    have h1 := hS q
    have h2 := hS q'
    rw [sc_Bti, e1, e2, nI_toInt (by omega), nI_toInt (by omega), nI_toInt (by omega), nI_toInt (by omega)]
    omega
/-! squares -/
abbrev sc_Sq : Type := Nat × Nat × Nat
def sc_q (x y h q : Nat) : sc_Sq := (x + q % 2 * 2 ^ h, y + q / 2 * 2 ^ h, h)
def sc_In (x y : Nat) (s : sc_Sq) : Nat := if s.1 ≤ x ∧ x < s.1 + 2 ^ s.2.2 ∧ s.2.1 ≤ y ∧ y < s.2.1 + 2 ^ s.2.2 then 1 else 0
def sc_mt (lX hX lY hY : Int32) (s : sc_Sq) : Bool :=
  decide ((s.1 : Int) ≤ hX.toInt ∧ lX.toInt < ((s.1 + 2 ^ s.2.2 : Nat) : Int) ∧ (s.2.1 : Int) ≤ hY.toInt ∧ lY.toInt < ((s.2.1 + 2 ^ s.2.2 : Nat) : Int))
def sc_br (bX bY : Int32) (x y : Nat) : Prop :=
  0 ≤ bX.toInt ∧ -3 < (x : Int) - bX.toInt ∧ (x : Int) - bX.toInt < 3 ∧ -3 < (y : Int) - bY.toInt ∧ (y : Int) - bY.toInt < 3
def sc_A (lX hX lY hY bX bY : Int32) (x y : Nat) : Prop := sc_mt lX hX lY hY (x, y, 0) = true ∧ ¬ sc_br bX bY x y
theorem sc_Ini {x y : Nat} {s : sc_Sq} : sc_In x y s = 1 ↔ (s.1 ≤ x ∧ x < s.1 + 2 ^ s.2.2 ∧ s.2.1 ≤ y ∧ y < s.2.1 + 2 ^ s.2.2) := by
  unfold sc_In
  split
  · rename_i h; simp only [h, and_self]
  · rename_i h; simp only [h, iff_false]; omega
theorem sc_Inz {x y : Nat} {s : sc_Sq} (h : ¬ sc_In x y s = 1) : sc_In x y s = 0 := by
  unfold sc_In at *
  split
  · rename_i h1; rw [if_pos h1] at h; exact absurd rfl h
  · rfl
theorem sc_mti {lX hX lY hY : Int32} {x y h : Nat} : sc_mt lX hX lY hY (x, y, h) = true ↔ ((x : Int) ≤ hX.toInt ∧ lX.toInt < ((x + 2 ^ h : Nat) : Int) ∧ (y : Int) ≤ hY.toInt ∧ lY.toInt < ((y + 2 ^ h : Nat) : Int)) := by
  unfold sc_mt
  exact decide_eq_true_iff
theorem sc_Inq {x y x0 y0 h : Nat} (hi : sc_In x y (x0, y0, h + 1) = 1) : ∃ q, q < 4 ∧ sc_In x y (sc_q x0 y0 h q) = 1 := by
  rw [sc_Ini] at hi
  have hi : x0 ≤ x ∧ x < x0 + 2 ^ (h + 1) ∧ y0 ≤ y ∧ y < y0 + 2 ^ (h + 1) := hi
  rw [Nat.pow_succ] at hi
  have key : ∀ q, (x0 + q % 2 * 2 ^ h ≤ x ∧ x < x0 + q % 2 * 2 ^ h + 2 ^ h ∧ y0 + q / 2 * 2 ^ h ≤ y ∧ y < y0 + q / 2 * 2 ^ h + 2 ^ h) → sc_In x y (sc_q x0 y0 h q) = 1 := by
    intro q hq
    rw [sc_Ini]
    exact hq
  generalize 2 ^ h = m at *
  by_cases h1 : x < x0 + m
  · by_cases h2 : y < y0 + m
    · exact ⟨0, by omega, key 0 (by simp only [Nat.zero_mod, Nat.zero_mul, Nat.zero_div]; omega)⟩
    · exact ⟨2, by omega, key 2 (by simp only [Nat.reduceMod, Nat.reduceDiv, Nat.zero_mul, Nat.one_mul]; omega)⟩
  · by_cases h2 : y < y0 + m
    · exact ⟨1, by omega, key 1 (by simp only [Nat.reduceMod, Nat.reduceDiv, Nat.zero_mul, Nat.one_mul]; omega)⟩
    · exact ⟨3, by omega, key 3 (by simp only [Nat.reduceMod, Nat.reduceDiv, Nat.zero_mul, Nat.one_mul]; omega)⟩
theorem sc_mtq {lX hX lY hY : Int32} {x y : Nat} {s : sc_Sq} (hm : sc_mt lX hX lY hY (x, y, 0) = true) (hi : sc_In x y s = 1) : sc_mt lX hX lY hY s = true := by
  obtain ⟨a, b, h⟩ := s
  rw [sc_Ini] at hi
  have hi : a ≤ x ∧ x < a + 2 ^ h ∧ b ≤ y ∧ y < b + 2 ^ h := hi
  rw [sc_mti] at *
  rw [Nat.pow_zero] at hm
  omega
theorem sc_qv {x y h q : Nat} (hx : x + 2 ^ (h + 1) ≤ 16) (hy : y + 2 ^ (h + 1) ≤ 16) (hq : q < 4) : x + q % 2 * 2 ^ h + 2 ^ h ≤ 16 ∧ y + q / 2 * 2 ^ h + 2 ^ h ≤ 16 := by
  rw [Nat.pow_succ] at hx hy
  generalize 2 ^ h = m at *
  have h1 : q = 0 ∨ q = 1 ∨ q = 2 ∨ q = 3 := by omega
  rcases h1 with rfl | rfl | rfl | rfl <;> simp only [Nat.reduceMod, Nat.reduceDiv, Nat.zero_mul, Nat.one_mul] <;> omega
/-! the number of squares in a square -/
def sc_T : Nat → Nat
  | 0 => 1
  | h + 1 => 4 * sc_T h + 1
theorem sc_Tp : ∀ h, 1 ≤ sc_T h
  | 0 => Nat.le_refl _
  | h + 1 => Nat.le_add_left _ _
theorem sc_T4 : sc_T 4 = 341 := rfl
end
section
section
variable {fl fc fw lX hX lY hY bX bY bs bp : Int32} {mp wd pu pv tu tv cx cy sl sb : Nat → Int32}
theorem sc_i16 : (16 : Int32).toInt = 16 := by decide
theorem sc_i15 : (15 : Int32).toInt = 15 := by decide
theorem sc_10 : ¬ (1 : Int32) = 0 := by decide
theorem sc_160 : ¬ (16 : Int32) = 0 := by decide
theorem sc_2560 : ¬ (256 : Int32) = 0 := by decide
theorem sc_15 (x : Int32) : 15 < x ↔ ¬ x < 16 := by
  rw [Int32.lt_iff_toInt_lt, Int32.lt_iff_toInt_lt, sc_i15, sc_i16]; omega
abbrev sc_Ce (x y : Int32) : Prop := ¬ x < 0 ∧ x < 16 ∧ ¬ y < 0 ∧ y < 16
theorem sc_CeN {x y : Int32} (h : sc_Ce x y) : ∃ a b : Nat, a < 16 ∧ b < 16 ∧ x = nI a ∧ y = nI b := by
  obtain ⟨h1, h2, h3, h4⟩ := h
  obtain ⟨a, ha, rfl⟩ := nI_of h1
  obtain ⟨b, hb, rfl⟩ := nI_of h3
  have h5 : a < 16 := (nI_ltI (b := 16) ha (by decide)).mp h2
  have h6 : b < 16 := (nI_ltI (b := 16) hb (by decide)).mp h4
  exact ⟨a, b, h5, h6, rfl, rfl⟩
theorem sc_Cen {a b : Nat} (ha : a < 16) (hb : b < 16) : sc_Ce (nI a) (nI b) :=
  ⟨nI_pos (by omega), nI_lt (b := 16) ha (by decide), nI_pos (by omega), nI_lt (b := 16) hb (by decide)⟩
theorem sx_in {u : SX} {x y : Int32} {A B C : Prop} (h : sc_Ce x y) (k : A) : wpX_off (fun r => (r = 0 → wpX_off (fun r' => (r' = 0 → A) ∧ (¬ r' = 0 → B)) u y) ∧ (¬ r = 0 → C)) u x := by
  obtain ⟨fl, fc, fw, lX, hX, lY, hY, bX, bY, bs, bp, mp, wd, pu, pv, tu, tv, cx, cy, sl, sb⟩ := u
  exact br_f h.1 (br_t h.2.1 (br_t rfl (br_f h.2.2.1 (br_t h.2.2.2 (br_t rfl k)))))
theorem sx_out {u : SX} {x y : Int32} {A B : Prop} (h : ¬ sc_Ce x y) (k : B) : wpX_off (fun r => (r = 0 → wpX_off (fun r' => (r' = 0 → A) ∧ (¬ r' = 0 → B)) u y) ∧ (¬ r = 0 → B)) u x := by
  obtain ⟨fl, fc, fw, lX, hX, lY, hY, bX, bY, bs, bp, mp, wd, pu, pv, tu, tv, cx, cy, sl, sb⟩ := u
  by_cases h0 : x < 0
  · exact br_t h0 (br_f sc_10 k)
  · by_cases h1 : x < 16
    · refine br_f h0 (br_t h1 (br_t rfl ?_))
      by_cases h2 : y < 0
      · exact br_t h2 (br_f sc_10 k)
      · exact br_f h2 (br_f (fun h3 => h ⟨h0, h1, h2, h3⟩) (br_f sc_10 k))
    · exact br_f h0 (br_f h1 (br_f sc_10 k))
theorem sy_in {v : SY} {x y : Int32} {A B : Prop} (h : sc_Ce x y) (k0 : B) : wpY_isCell (fun r => (r = 0 → A) ∧ (¬ r = 0 → B)) v x y := by
  obtain ⟨fc, mp, pu, pv⟩ := v
  have k : (fun r : Int32 => (r = 0 → A) ∧ (¬ r = 0 → B)) 1 := br_f sc_10 k0
  exact br_f h.1 (br_f (fun z => (sc_15 x).mp z h.2.1) (br_f h.2.2.1 (br_f (fun z => (sc_15 y).mp z h.2.2.2) k)))
theorem sy_out {v : SY} {x y : Int32} {A B : Prop} (h : ¬ sc_Ce x y) (k0 : A) : wpY_isCell (fun r => (r = 0 → A) ∧ (¬ r = 0 → B)) v x y := by
  obtain ⟨fc, mp, pu, pv⟩ := v
  have k : (fun r : Int32 => (r = 0 → A) ∧ (¬ r = 0 → B)) 0 := br_t rfl k0
  by_cases h0 : x < 0
  · exact br_t h0 k
  · by_cases h1 : 15 < x
    · exact br_f h0 (br_t h1 k)
    · by_cases h2 : y < 0
      · exact br_f h0 (br_f h1 (br_t h2 k))
      · by_cases h3 : 15 < y
        · exact br_f h0 (br_f h1 (br_f h2 (br_t h3 k)))
        · exfalso
          apply h
          rw [sc_15] at h1 h3
          exact ⟨h0, Decidable.not_not.mp h1, h2, Decidable.not_not.mp h3⟩
/-! the index of a cell -/
theorem sc_ixe (a b : Nat) : nI b * 16 + nI a = nI (b * 16 + a) := by
  rw [show (16 : Int32) = nI 16 from rfl, pk_mul, nI_add]
theorem sc_ixc (x y : Int32) : 16 * y + x = y * 16 + x := by rw [Int32.mul_comm]
theorem sc_ix {x y : Int32} (h : sc_Ce x y) : vp_in (y * 16 + x) 256 := by
  obtain ⟨a, b, ha, hb, rfl, rfl⟩ := sc_CeN h
  rw [sc_ixe]
  exact vp_in_nI (by omega) (by omega)
theorem sc_ix' {x y : Int32} (h : sc_Ce x y) : vp_in (16 * y + x) 256 := by
  rw [sc_ixc]
  exact sc_ix h
def sc_wt (mp : Nat → Int32) (x y : Int32) : Int32 := if sc_Ce x y then mp (y * 16 + x).toNatClampNeg else 0
theorem sx_wtAt {post : Int32 → Prop} {x y : Int32} (k : post (sc_wt mp x y)) : wpX_weightAt post (fl, fc, fw, lX, hX, lY, hY, bX, bY, bs, bp, mp, wd, pu, pv, tu, tv, cx, cy, sl, sb) x y := by
  by_cases h : sc_Ce x y
  · rw [sc_wt, if_pos h] at k
    exact sx_in h ⟨sc_ix h, k⟩
  · rw [sc_wt, if_neg h] at k
    exact sx_out h k
theorem sy_wt {post : Int32 → Prop} {x y : Int32} (k : post (sc_wt mp x y)) : wpY_weight post (fc, mp, pu, pv) x y := by
  by_cases h : sc_Ce x y
  · rw [sc_wt, if_pos h, ← sc_ixc] at k
    exact sy_in (v := (fc, mp, pu, pv)) h ⟨sc_ix' h, k⟩
  · rw [sc_wt, if_neg h] at k
    exact sy_out (v := (fc, mp, pu, pv)) h k
theorem sc_wtW (hm : sc_Mp mp) {c l : Nat} (hc : c < 100) (hl : l < 100) : sc_wt mp (nI c - 15) (nI l - 15) = nI (sc_W mp 0 c l) := by
  by_cases h : 15 ≤ c ∧ c < 31 ∧ 15 ≤ l ∧ l < 31
  · have e1 : nI c - 15 = nI (c - 15) := pk_sub (b := 15) (by omega)
    have e2 : nI l - 15 = nI (l - 15) := pk_sub (b := 15) (by omega)
    rw [e1, e2, sc_wt, if_pos (sc_Cen (by omega) (by omega)), sc_ixe, nI_clamp (by omega), sc_W0, if_pos h, sc_nc (hm _).1]
  · rw [sc_W0, if_neg h, sc_wt, if_neg ?_, nI_0]
    intro hce
    obtain ⟨a1, a2, a3, a4⟩ := hce
    have t1 : (nI c - 15).toInt = (c : Int) - 15 := pk_sub_toInt (b := 15) (by omega) (by omega)
    have t2 : (nI l - 15).toInt = (l : Int) - 15 := pk_sub_toInt (b := 15) (by omega) (by omega)
    rw [Int32.lt_iff_toInt_lt, t1, sc_i0] at a1
    rw [Int32.lt_iff_toInt_lt, t1, sc_i16] at a2
    rw [Int32.lt_iff_toInt_lt, t2, sc_i0] at a3
    rw [Int32.lt_iff_toInt_lt, t2, sc_i16] at a4
    omega
/-! stores keep the ranges -/
theorem sc_Mpu {k : Nat} {x : Int32} (hm : sc_Mp mp) (hx : 0 ≤ x.toInt ∧ x.toInt ≤ 9) : sc_Mp (upd mp k x) := by
  intro j
  by_cases e : j = k
  · subst e; rw [pk_us]; exact hx
  · rw [pk_un e]; exact hm j
theorem sc_Ptp {k : Nat} {x : Int32} (hm : sc_Pt pu) (hx : -7 ≤ x.toInt ∧ x.toInt ≤ 7) : sc_Pt (upd pu k x) := by
  intro j
  by_cases e : j = k
  · subst e; rw [pk_us]; exact hx
  · rw [pk_un e]; exact hm j
/-! weights, points -/
theorem sc_i9 : (9 : Int32).toInt = 9 := by decide
theorem sc_i1 : (1 : Int32).toInt = 1 := by decide
theorem sc_i7 : (7 : Int32).toInt = 7 := by decide
theorem sc_im7 : (-7 : Int32).toInt = -7 := by decide
theorem sc_wr {w : Int32} (h0 : ¬ w < 0) (h9 : w ≤ 9) : 0 ≤ w.toInt ∧ w.toInt ≤ 9 := by
  rw [Int32.lt_iff_toInt_lt, sc_i0] at h0
  rw [Int32.le_iff_toInt_le, sc_i9] at h9
  omega
abbrev sc_Go (u v : Int32) : Prop := ¬ u < -7 ∧ ¬ 7 < u ∧ ¬ v < -7 ∧ ¬ 7 < v
theorem sc_Gor {u v : Int32} (h : sc_Go u v) : (-7 ≤ u.toInt ∧ u.toInt ≤ 7) ∧ (-7 ≤ v.toInt ∧ v.toInt ≤ 7) := by
  obtain ⟨a1, a2, a3, a4⟩ := h
  rw [Int32.lt_iff_toInt_lt, sc_im7] at a1 a3
  rw [Int32.lt_iff_toInt_lt, sc_i7] at a2 a4
  omega
theorem sx_go {u : SX} {x y : Int32} {A B : Prop} (h : sc_Go x y) (k0 : A) : wpX_badPoint (fun r => (r = 0 → A) ∧ (¬ r = 0 → B)) u x y := by
  obtain ⟨fl, fc, fw, lX, hX, lY, hY, bX, bY, bs, bp, mp, wd, pu, pv, tu, tv, cx, cy, sl, sb⟩ := u
  have k : (fun r : Int32 => (r = 0 → A) ∧ (¬ r = 0 → B)) 0 := br_t rfl k0
  exact br_f h.1 (br_f h.2.1 (br_f h.2.2.1 (br_t (Int32.not_lt.mp h.2.2.2) k)))
theorem sx_ngo {u : SX} {x y : Int32} {A B : Prop} (h : ¬ sc_Go x y) (k0 : B) : wpX_badPoint (fun r => (r = 0 → A) ∧ (¬ r = 0 → B)) u x y := by
  obtain ⟨fl, fc, fw, lX, hX, lY, hY, bX, bY, bs, bp, mp, wd, pu, pv, tu, tv, cx, cy, sl, sb⟩ := u
  have k : (fun r : Int32 => (r = 0 → A) ∧ (¬ r = 0 → B)) 1 := br_f sc_10 k0
  by_cases h0 : x < -7
  · exact br_t h0 k
  · by_cases h1 : 7 < x
    · exact br_f h0 (br_t h1 k)
    · by_cases h2 : y < -7
      · exact br_f h0 (br_f h1 (br_t h2 k))
      · by_cases h3 : y ≤ 7
        · exact absurd ⟨h0, h1, h2, Int32.not_lt.mpr h3⟩ h
        · exact br_f h0 (br_f h1 (br_f h2 (br_f h3 k)))
theorem sy_go {v : SY} {x y : Int32} {A B : Prop} (h : sc_Go x y) (k0 : B) : wpY_isPoint (fun r => (r = 0 → A) ∧ (¬ r = 0 → B)) v x y := by
  obtain ⟨fc, mp, pu, pv⟩ := v
  have k : (fun r : Int32 => (r = 0 → A) ∧ (¬ r = 0 → B)) 1 := br_f sc_10 k0
  exact br_f h.1 (br_f h.2.1 (br_f h.2.2.1 (br_f h.2.2.2 k)))
theorem sy_ngo {v : SY} {x y : Int32} {A B : Prop} (h : ¬ sc_Go x y) (k0 : A) : wpY_isPoint (fun r => (r = 0 → A) ∧ (¬ r = 0 → B)) v x y := by
  obtain ⟨fc, mp, pu, pv⟩ := v
  have k : (fun r : Int32 => (r = 0 → A) ∧ (¬ r = 0 → B)) 0 := br_t rfl k0
  by_cases h0 : x < -7
  · exact br_t h0 k
  · by_cases h1 : 7 < x
    · exact br_f h0 (br_t h1 k)
    · by_cases h2 : y < -7
      · exact br_f h0 (br_f h1 (br_t h2 k))
      · by_cases h3 : 7 < y
        · exact br_f h0 (br_f h1 (br_f h2 (br_t h3 k)))
        · exact absurd ⟨h0, h1, h2, h3⟩ h
end
end
section
section
variable {fl fc fw lX hX lY hY bX bY bs bp : Int32} {mp wd pu pv tu tv cx cy sl sb : Nat → Int32}
/-! set -/
theorem sz_set (hm : sc_Mp mp) (x y w : Int32) : ∃ (r fl' : Int32) (mp' : Nat → Int32), sc_Mp mp' ∧ (fl' = 0 ∨ (fl' = fl ∧ mp' = mp)) ∧
    (∀ post : Int32 → SX → Prop, post r (fl', fc, fw, lX, hX, lY, hY, bX, bY, bs, bp, mp', wd, pu, pv, tu, tv, cx, cy, sl, sb) → wpX_set post (fl, fc, fw, lX, hX, lY, hY, bX, bY, bs, bp, mp, wd, pu, pv, tu, tv, cx, cy, sl, sb) x y w) ∧
    (∀ post : Int32 → SY → Prop, post r (fc, mp', pu, pv) → wpY_set post (fc, mp, pu, pv) x y w) := by
  by_cases h : sc_Ce x y
  · by_cases h0 : w < 0
    · exact ⟨-1, fl, mp, hm, Or.inr ⟨rfl, rfl⟩, fun post k => sx_in h (br_t h0 (br_f sc_10 k)), fun post k => sy_in (v := (fc, mp, pu, pv)) h ((br_t h0 (br_t rfl k)))⟩
    · by_cases h9 : w ≤ 9
      · refine ⟨mp (y * 16 + x).toNatClampNeg, 0, upd mp (y * 16 + x).toNatClampNeg w, sc_Mpu hm (sc_wr h0 h9), Or.inl rfl, fun post k => ?_, fun post k => ?_⟩
        · exact sx_in h (br_f h0 (br_t h9 (br_t rfl ⟨sc_ix h, nm_e ⟨sc_ix h, nm_e k⟩⟩)))
        · rw [← sc_ixc] at k
          exact sy_in (v := (fc, mp, pu, pv)) h ((br_f h0 (br_f (Int32.not_lt.mpr h9) (br_f sc_10 ⟨sc_ix' h, nm_e ⟨sc_ix' h, nm_e k⟩⟩))))
      · exact ⟨-1, fl, mp, hm, Or.inr ⟨rfl, rfl⟩, fun post k => sx_in h (br_f h0 (br_f h9 (br_f sc_10 k))), fun post k => sy_in (v := (fc, mp, pu, pv)) h ((br_f h0 (br_t (Int32.not_le.mp h9) (br_t rfl k))))⟩
  · exact ⟨-1, fl, mp, hm, Or.inr ⟨rfl, rfl⟩, fun post k => sx_out h k, fun post k => sy_out (v := (fc, mp, pu, pv)) h (k)⟩
/-! fade -/
theorem sz_fade : ∀ (d i : Nat) (lf : Int32) (mp : Nat → Int32), i + d = 256 → sc_Mp mp → ∃ (r : Int32) (mp' : Nat → Int32), sc_Mp mp' ∧
    (∀ post : Int32 → SX → Prop, post r (0, fc, fw, lX, hX, lY, hY, bX, bY, bs, bp, mp', wd, pu, pv, tu, tv, cx, cy, sl, sb) → wX_fade_4 post fl fc fw lX hX lY hY bX bY bs bp (d + 1) lf (nI i) mp wd pu pv tu tv cx cy sl sb) ∧
    (∀ post : Int32 → SY → Prop, post r (fc, mp', pu, pv) → wY_fade_4 post fc (d + 1) lf (nI i) mp pu pv) := by
  intro d
  induction d with
  | zero =>
    intro i lf mp hi hm
    have h : (256 : Int32) ≤ nI i := nI_le (a := 256) (by omega) (by omega)
    exact ⟨lf, mp, hm, fun post k => br_t h k, fun post k => br_t h k⟩
  | succ d ih =>
    intro i lf mp hi hm
    have h : ¬ (256 : Int32) ≤ nI i := nI_ge (b := 256) (by omega) (by decide)
    have hv : vp_in (nI i) 256 := vp_in_nI (by omega) (by omega)
    have e : (nI i).toNatClampNeg = i := nI_clamp (by omega)
    by_cases z : mp i ≤ 0
    · have z0 : mp i = 0 := by
        have h1 := (hm i).1
        rw [Int32.le_iff_toInt_le, sc_i0] at z
        apply Int32.toInt_inj.mp
        rw [sc_i0]
        omega
      have z' : mp (nI i).toNatClampNeg ≤ 0 := by rw [e]; exact z
      have eu : upd mp (nI i).toNatClampNeg 0 = mp := by
        funext j
        rw [e]
        by_cases ej : j = i
        · subst ej; rw [pk_us, z0]
        · rw [pk_un ej]
      obtain ⟨r, mp', hm', kX, kY⟩ := ih (i + 1) lf mp (by omega) hm
      refine ⟨r, mp', hm', fun post k => ?_, fun post k => ?_⟩
      · exact br_f h ⟨hv, br_t z' ⟨hv, br_t z' (nm_r (nI_1 i) (kX post k))⟩⟩
      · exact br_f h ⟨hv, br_t z' ⟨hv, nm_r eu ⟨hv, br_t z' (nm_r (nI_1 i) (kY post k))⟩⟩⟩
    · have z' : ¬ mp (nI i).toNatClampNeg ≤ 0 := by rw [e]; exact z
      have eu : upd mp (nI i).toNatClampNeg (mp (nI i).toNatClampNeg - 1) = upd mp i (mp i - 1) := by rw [e]
      have hr : 0 ≤ (mp i - 1).toInt ∧ (mp i - 1).toInt ≤ 9 := by
        have h1 := hm i
        rw [Int32.le_iff_toInt_le, sc_i0] at z
        rw [Int32.toInt_sub, sc_i1, Int.bmod_eq_of_le (by omega) (by omega)]
        omega
      have hm2 : sc_Mp (upd mp i (mp i - 1)) := sc_Mpu hm hr
      by_cases q : mp i - 1 ≤ 0
      · have q' : upd mp i (mp i - 1) (nI i).toNatClampNeg ≤ 0 := by rw [e, pk_us]; exact q
        obtain ⟨r, mp', hm', kX, kY⟩ := ih (i + 1) lf _ (by omega) hm2
        refine ⟨r, mp', hm', fun post k => ?_, fun post k => ?_⟩
        · exact br_f h ⟨hv, br_f z' ⟨hv, hv, nm_r eu ⟨hv, br_t q' (nm_r (nI_1 i) (kX post k))⟩⟩⟩
        · exact br_f h ⟨hv, br_f z' ⟨hv, hv, nm_r eu ⟨hv, br_t q' (nm_r (nI_1 i) (kY post k))⟩⟩⟩
      · have q' : ¬ upd mp i (mp i - 1) (nI i).toNatClampNeg ≤ 0 := by rw [e, pk_us]; exact q
        obtain ⟨r, mp', hm', kX, kY⟩ := ih (i + 1) (lf + 1) _ (by omega) hm2
        refine ⟨r, mp', hm', fun post k => ?_, fun post k => ?_⟩
        · exact br_f h ⟨hv, br_f z' ⟨hv, hv, nm_r eu ⟨hv, br_f q' (nm_e (nm_r (nI_1 i) (kX post k)))⟩⟩⟩
        · exact br_f h ⟨hv, br_f z' ⟨hv, hv, nm_r eu ⟨hv, br_f q' (nm_e (nm_r (nI_1 i) (kY post k)))⟩⟩⟩
/-! scan, point -/
theorem sz_scan (hu : sc_Pt pu) (hv : sc_Pt pv) {c : Nat} (hc1 : 1 ≤ c) (hc : c ≤ 10) (u v : Int32) : ∃ (r : Int32) (c' : Nat) (pu' pv' : Nat → Int32), 1 ≤ c' ∧ c' ≤ 10 ∧ sc_Pt pu' ∧ sc_Pt pv' ∧
    (∀ post : Int32 → SX → Prop, post r (fl, nI c', fw, lX, hX, lY, hY, bX, bY, bs, bp, mp, wd, pu', pv', tu, tv, cx, cy, sl, sb) → wpX_scan post (fl, nI c, fw, lX, hX, lY, hY, bX, bY, bs, bp, mp, wd, pu, pv, tu, tv, cx, cy, sl, sb) u v) ∧
    (∀ post : Int32 → SY → Prop, post r (nI c', mp, pu', pv') → wpY_scan post (nI c, mp, pu, pv) u v) := by
  by_cases h : sc_Go u v
  · exact ⟨1, 1, upd pu 0 u, upd pv 0 v, by omega, by omega, sc_Ptp hu (sc_Gor h).1, sc_Ptp hv (sc_Gor h).2, fun post k => sx_go (u := (fl, nI c, fw, lX, hX, lY, hY, bX, bY, bs, bp, mp, wd, pu, pv, tu, tv, cx, cy, sl, sb)) h ((nm_e (nm_e k))), fun post k => sy_go (v := (nI c, mp, pu, pv)) h ((nm_e (nm_e k)))⟩
  · exact ⟨-1, c, pu, pv, hc1, hc, hu, hv, fun post k => sx_ngo (u := (fl, nI c, fw, lX, hX, lY, hY, bX, bY, bs, bp, mp, wd, pu, pv, tu, tv, cx, cy, sl, sb)) h (k), fun post k => sy_ngo (v := (nI c, mp, pu, pv)) h (k)⟩
theorem sz_point (hu : sc_Pt pu) (hv : sc_Pt pv) {c : Nat} (hc1 : 1 ≤ c) (hc : c ≤ 10) (u v : Int32) : ∃ (r : Int32) (c' : Nat) (pu' pv' : Nat → Int32), 1 ≤ c' ∧ c' ≤ 10 ∧ sc_Pt pu' ∧ sc_Pt pv' ∧
    (∀ post : Int32 → SX → Prop, post r (fl, nI c', fw, lX, hX, lY, hY, bX, bY, bs, bp, mp, wd, pu', pv', tu, tv, cx, cy, sl, sb) → wpX_point post (fl, nI c, fw, lX, hX, lY, hY, bX, bY, bs, bp, mp, wd, pu, pv, tu, tv, cx, cy, sl, sb) u v) ∧
    (∀ post : Int32 → SY → Prop, post r (nI c', mp, pu', pv') → wpY_point post (nI c, mp, pu, pv) u v) := by
  by_cases h : sc_Go u v
  · by_cases h10 : c = 10
    · have e : nI c = 10 := by rw [h10]; rfl
      exact ⟨-2, c, pu, pv, hc1, hc, hu, hv, fun post k => sx_go (u := (fl, nI c, fw, lX, hX, lY, hY, bX, bY, bs, bp, mp, wd, pu, pv, tu, tv, cx, cy, sl, sb)) h ((br_t e k)), fun post k => sy_go (v := (nI c, mp, pu, pv)) h ((br_t e k))⟩
    · have ne : ¬ nI c = 10 := fun z => h10 ((nI_eq (b := 10) (by omega) (by decide)).mp z)
      have hi : vp_in (nI c) 10 := vp_in_nI (by omega) (by omega)
      have e : (nI c).toNatClampNeg = c := nI_clamp (by omega)
      exact ⟨nI (c + 1), c + 1, upd pu c u, upd pv c v, by omega, by omega, sc_Ptp hu (sc_Gor h).1, sc_Ptp hv (sc_Gor h).2,
        fun post k => sx_go (u := (fl, nI c, fw, lX, hX, lY, hY, bX, bY, bs, bp, mp, wd, pu, pv, tu, tv, cx, cy, sl, sb)) h ((br_f ne ⟨hi, nm_r (by rw [e]) ⟨hi, nm_r (by rw [e]) (nm_r (nI_1 c) k)⟩⟩)),
        fun post k => sy_go (v := (nI c, mp, pu, pv)) h ((br_f ne ⟨hi, nm_r (by rw [e]) ⟨hi, nm_r (by rw [e]) (nm_r (nI_1 c) k)⟩⟩))⟩
  · exact ⟨-1, c, pu, pv, hc1, hc, hu, hv, fun post k => sx_ngo (u := (fl, nI c, fw, lX, hX, lY, hY, bX, bY, bs, bp, mp, wd, pu, pv, tu, tv, cx, cy, sl, sb)) h (k), fun post k => sy_ngo (v := (nI c, mp, pu, pv)) h (k)⟩
/-! wall -/
theorem sx_wall1 {post : Int32 → SX → Prop} {J : Int32 → Int32 → (Nat → Int32) → (Nat → Int32) → (Nat → Int32) → (Nat → Int32) → (Nat → Int32) → (Nat → Int32) → (Nat → Int32) → (Nat → Int32) → (Nat → Int32) → (Nat → Int32) → Prop} {x y dn n w ca cb dd : Int32} {i : Nat} (hin : sc_Ce ca cb) (k : J (dd + 1) (nI (i + 1)) (upd mp (cb * 16 + ca).toNatClampNeg w) wd pu pv tu tv cx cy sl sb) :
    wX_wall_91 post J x y dn n w dd (nI i) ca cb fl fc fw lX hX lY hY bX bY bs bp mp wd pu pv tu tv cx cy sl sb :=
  sx_in hin ⟨sc_ix hin, nm_e (nm_e (nm_r (nI_1 i) k))⟩
theorem sx_wall0 {post : Int32 → SX → Prop} {J : Int32 → Int32 → (Nat → Int32) → (Nat → Int32) → (Nat → Int32) → (Nat → Int32) → (Nat → Int32) → (Nat → Int32) → (Nat → Int32) → (Nat → Int32) → (Nat → Int32) → (Nat → Int32) → Prop} {x y dn n w ca cb dd : Int32} {i : Nat} (hin : ¬ sc_Ce ca cb) (k : J dd (nI (i + 1)) mp wd pu pv tu tv cx cy sl sb) :
    wX_wall_91 post J x y dn n w dd (nI i) ca cb fl fc fw lX hX lY hY bX bY bs bp mp wd pu pv tu tv cx cy sl sb :=
  sx_out hin (nm_r (nI_1 i) k)
theorem sy_wall1 {post : Int32 → SY → Prop} {J : Int32 → Int32 → (Nat → Int32) → (Nat → Int32) → (Nat → Int32) → Prop} {x y dn p w ca cb dd : Int32} (hw : p - p / 16 * 16 = w) {i : Nat} (hin : sc_Ce ca cb) (k : J (dd + 1) (nI (i + 1)) (upd mp (cb * 16 + ca).toNatClampNeg w) pu pv) :
    wY_wall_78 post J x y dn p dd (nI i) ca cb fc mp pu pv := by
  rw [← sc_ixc, ← hw] at k
  exact sy_in hin (⟨sc_160, sc_ix' hin, nm_e (nm_e (nm_r (nI_1 i) k))⟩)
theorem sy_wall0 {post : Int32 → SY → Prop} {J : Int32 → Int32 → (Nat → Int32) → (Nat → Int32) → (Nat → Int32) → Prop} {x y dn p ca cb dd : Int32} {i : Nat} (hin : ¬ sc_Ce ca cb) (k : J dd (nI (i + 1)) mp pu pv) :
    wY_wall_78 post J x y dn p dd (nI i) ca cb fc mp pu pv :=
  sy_out hin ((nm_r (nI_1 i) k))
theorem sz_wall {x y dn p w : Int32} {N : Nat} (hN : N ≤ 16) (hp : p / 16 = nI N) (hw : p - p / 16 * 16 = w) (hr : 0 ≤ w.toInt ∧ w.toInt ≤ 9) : ∀ (d i : Nat) (dd : Int32) (mp : Nat → Int32), i + d = N → sc_Mp mp → ∃ (r : Int32) (mp' : Nat → Int32), sc_Mp mp' ∧
    (∀ post : Int32 → SX → Prop, post r (0, fc, fw, lX, hX, lY, hY, bX, bY, bs, bp, mp', wd, pu, pv, tu, tv, cx, cy, sl, sb) → wX_wall_58 post x y dn (nI N) w fl fc fw lX hX lY hY bX bY bs bp (d + 1) dd (nI i) mp wd pu pv tu tv cx cy sl sb) ∧
    (∀ post : Int32 → SY → Prop, post r (fc, mp', pu, pv) → wY_wall_42 post x y dn p fc (d + 1) dd (nI i) mp pu pv) := by
  intro d
  induction d with
  | zero =>
    intro i dd mp hi hm
    have h : nI N ≤ nI i := nI_le (by omega) (by omega)
    have h' : p / 16 ≤ nI i := by rw [hp]; exact h
    exact ⟨dd, mp, hm, fun post k => br_t h k, fun post k => ⟨sc_160, br_t h' k⟩⟩
  | succ d ih =>
    intro i dd mp hi hm
    have h : ¬ nI N ≤ nI i := nI_ge (by omega) (by omega)
    have h' : ¬ p / 16 ≤ nI i := by rw [hp]; exact h
    by_cases hd : dn = 0
    · by_cases hin : sc_Ce (x + nI i) y
      · obtain ⟨r, mp', hm', kX, kY⟩ := ih (i + 1) (dd + 1) (upd mp (y * 16 + (x + nI i)).toNatClampNeg w) (by omega) (sc_Mpu hm hr)
        exact ⟨r, mp', hm', fun post k => br_f h (br_t hd (br_t hd (sx_wall1 hin (kX post k)))), fun post k => ⟨sc_160, br_f h' (br_t hd (br_t hd (sy_wall1 hw hin (kY post k))))⟩⟩
      · obtain ⟨r, mp', hm', kX, kY⟩ := ih (i + 1) dd mp (by omega) hm
        exact ⟨r, mp', hm', fun post k => br_f h (br_t hd (br_t hd (sx_wall0 hin (kX post k)))), fun post k => ⟨sc_160, br_f h' (br_t hd (br_t hd (sy_wall0 hin (kY post k))))⟩⟩
    · by_cases hin : sc_Ce x (y + nI i)
      · obtain ⟨r, mp', hm', kX, kY⟩ := ih (i + 1) (dd + 1) (upd mp ((y + nI i) * 16 + x).toNatClampNeg w) (by omega) (sc_Mpu hm hr)
        exact ⟨r, mp', hm', fun post k => br_f h (br_f hd (br_f hd (sx_wall1 hin (kX post k)))), fun post k => ⟨sc_160, br_f h' (br_f hd (br_f hd (sy_wall1 hw hin (kY post k))))⟩⟩
      · obtain ⟨r, mp', hm', kX, kY⟩ := ih (i + 1) dd mp (by omega) hm
        exact ⟨r, mp', hm', fun post k => br_f h (br_f hd (br_f hd (sx_wall0 hin (kX post k)))), fun post k => ⟨sc_160, br_f h' (br_f hd (br_f hd (sy_wall0 hin (kY post k))))⟩⟩
theorem sz_wallT (hm : sc_Mp mp) (x y dn p : Int32) : ∃ (r fl' : Int32) (mp' : Nat → Int32), sc_Mp mp' ∧ (fl' = 0 ∨ (fl' = fl ∧ mp' = mp)) ∧
    (∀ post : Int32 → SX → Prop, post r (fl', fc, fw, lX, hX, lY, hY, bX, bY, bs, bp, mp', wd, pu, pv, tu, tv, cx, cy, sl, sb) → wpX_wall post (fl, fc, fw, lX, hX, lY, hY, bX, bY, bs, bp, mp, wd, pu, pv, tu, tv, cx, cy, sl, sb) x y dn p) ∧
    (∀ post : Int32 → SY → Prop, post r (fc, mp', pu, pv) → wpY_wall post (fc, mp, pu, pv) x y dn p) := by
  by_cases h : sc_Ce x y
  · by_cases h0 : p < 0
    · exact ⟨-1, fl, mp, hm, Or.inr ⟨rfl, rfl⟩, fun post k => nm_e (nm_e (sx_in h (br_t h0 k))), fun post k => sy_in (v := (fc, mp, pu, pv)) h ((br_t h0 k))⟩
    · obtain ⟨P, hP, rfl⟩ := nI_of h0
      have e1 : nI P >>> ((4 : Int32) &&& 31) = nI (P / 16) := pk_shrN hP _ 4 (by decide)
      have e2 : nI P &&& 15 = nI (P % 16) := pk_andN (by omega) 4 (by decide)
      have e3 : nI P / 16 = nI (P / 16) := pk_div (d := 16) hP (by decide) (by decide)
      have e4 : nI P - nI P / 16 * 16 = nI (P % 16) := pk_rem (d := 16) hP (by decide) (by decide)
      by_cases h1 : 16 < P / 16
      · have h1' : (16 : Int32) < nI (P / 16) := nI_lt (a := 16) h1 (by omega)
        have h1'' : (16 : Int32) < nI P / 16 := by rw [e3]; exact h1'
        exact ⟨-1, fl, mp, hm, Or.inr ⟨rfl, rfl⟩, fun post k => nm_r e1 (nm_e (sx_in h (br_f h0 (br_t h1' k)))), fun post k => sy_in (v := (fc, mp, pu, pv)) h ((br_f h0 ⟨sc_160, br_t h1'' k⟩))⟩
      · have h1' : ¬ (16 : Int32) < nI (P / 16) := nI_nlt (b := P / 16) (a := 16) (by omega) (by omega)
        have h1'' : ¬ (16 : Int32) < nI P / 16 := by rw [e3]; exact h1'
        have hw0 : ¬ nI (P % 16) < 0 := nI_pos (by omega)
        by_cases h9 : P % 16 ≤ 9
        · have h9' : nI (P % 16) ≤ 9 := nI_le (b := 9) h9 (by decide)
          have h9'' : nI P - nI P / 16 * 16 ≤ 9 := by rw [e4]; exact h9'
          obtain ⟨r, mp', hm', kX, kY⟩ := sz_wall (fl := fl) (fc := fc) (fw := fw) (lX := lX) (hX := hX) (lY := lY) (hY := hY) (bX := bX) (bY := bY) (bs := bs) (bp := bp) (wd := wd) (pu := pu) (pv := pv) (tu := tu) (tv := tv) (cx := cx) (cy := cy) (sl := sl) (sb := sb) (x := x) (y := y) (dn := dn) (N := P / 16) (by omega) e3 e4 (sc_wr hw0 h9') (P / 16) 0 0 mp (by omega) hm
          exact ⟨r, 0, mp', hm', Or.inl rfl, fun post k => nm_r e1 (nm_r e2 (sx_in h (br_f h0 (br_f h1' (br_f hw0 (br_t h9' (br_t rfl ⟨_, kX post k⟩))))))), fun post k => sy_in (v := (fc, mp, pu, pv)) h ((br_f h0 ⟨sc_160, br_f h1'' ⟨sc_160, br_t h9'' ⟨_, kY post k⟩⟩⟩))⟩
        · have h9' : ¬ nI (P % 16) ≤ 9 := nI_ge (a := 9) (by omega) (by omega)
          have h9'' : ¬ nI P - nI P / 16 * 16 ≤ 9 := by rw [e4]; exact h9'
          exact ⟨-1, fl, mp, hm, Or.inr ⟨rfl, rfl⟩, fun post k => nm_r e1 (nm_r e2 (sx_in h (br_f h0 (br_f h1' (br_f hw0 (br_f h9' (br_f sc_10 k))))))), fun post k => sy_in (v := (fc, mp, pu, pv)) h ((br_f h0 ⟨sc_160, br_f h1'' ⟨sc_160, br_f h9'' k⟩⟩))⟩
  · exact ⟨-1, fl, mp, hm, Or.inr ⟨rfl, rfl⟩, fun post k => nm_e (nm_e (sx_out h k)), fun post k => sy_out (v := (fc, mp, pu, pv)) h (k)⟩
end
end
section
section
variable {fl fc fw lX hX lY hY bX bY bs bp : Int32} {mp wd pu pv tu tv cx cy sl sb : Nat → Int32}
theorem sl_a (a k : Nat) : nI a + (nI k - 7) = nI (a + k) - 7 := by
  rw [← nI_add, Int32.sub_eq_add_neg, Int32.sub_eq_add_neg, Int32.add_assoc]
theorem sl_1 (k : Nat) : nI k - 7 + 1 = nI (k + 1) - 7 := by
  rw [← nI_1, Int32.sub_eq_add_neg, Int32.sub_eq_add_neg, Int32.add_assoc, Int32.add_assoc, Int32.add_comm 1]
theorem sl_s (a k : Nat) : nI (a + k) - 7 - nI a = nI k - 7 := by
  rw [← sl_a, Int32.sub_eq_add_neg (nI a + _), Int32.add_comm (nI a), Int32.add_assoc, Int32.add_right_neg, Int32.add_zero]
theorem sl_t {k : Nat} (h : k < 100) : (nI k - 7).toInt = (k : Int) - 7 := pk_sub_toInt (b := 7) (by omega) (by omega)
theorem sl_lt {k : Nat} (h : k < 100) : 7 < nI k - 7 ↔ 15 ≤ k := by
  rw [Int32.lt_iff_toInt_lt, sl_t h, sc_i7]; omega
theorem sl_lt2 {a k : Nat} (ha : a < 16) (h : k < 50) : nI a + 7 < nI (a + k) - 7 ↔ 15 ≤ k := by
  have e : nI a + 7 = nI (a + 7) := nI_add a 7
  rw [e, Int32.lt_iff_toInt_lt, sl_t (by omega), nI_toInt (by omega)]; omega
theorem sz_look1 {a b m : Nat} {w : Int32} (ha : a < 16) (hb : b < 16) (hmm : m < 15) : ∀ (d k f : Nat) (pu pv : Nat → Int32), k + d = 15 → f ≤ 10 → sc_Pt pu → sc_Pt pv → ∃ (f' : Nat) (pu' pv' : Nat → Int32), f' ≤ 10 ∧ sc_Pt pu' ∧ sc_Pt pv' ∧
    (∀ (post : Int32 → SX → Prop) (J : Int32 → Int32 → (Nat → Int32) → (Nat → Int32) → (Nat → Int32) → (Nat → Int32) → (Nat → Int32) → (Nat → Int32) → (Nat → Int32) → (Nat → Int32) → (Nat → Int32) → (Nat → Int32) → Prop), J (nI f') (nI (m + 1) - 7) mp wd pu' pv' tu tv cx cy sl sb → wX_look_47 post J (nI a) (nI b) w (nI m - 7) fl fc fw lX hX lY hY bX bY bs bp (d + 1) (nI f) (nI k - 7) mp wd pu pv tu tv cx cy sl sb) ∧
    (∀ (post : Int32 → SY → Prop) (J : Int32 → Int32 → (Nat → Int32) → (Nat → Int32) → (Nat → Int32) → Prop), J (nI f') (nI (b + (m + 1)) - 7) mp pu' pv' → wY_look_46 post J (nI a) (nI b) w (nI (b + m) - 7) fc (d + 1) (nI f) (nI (a + k) - 7) mp pu pv) := by
  intro d
  induction d with
  | zero =>
    intro k f pu pv hk hf hu hv
    have h1 : 7 < nI k - 7 := (sl_lt (by omega)).mpr (by omega)
    have h2 : nI a + 7 < nI (a + k) - 7 := (sl_lt2 ha (by omega)).mpr (by omega)
    exact ⟨f, pu, pv, hf, hu, hv, fun post J h => br_t h1 (nm_r (sl_1 m) h), fun post J h => br_t h2 (nm_r (sl_1 (b + m)) h)⟩
  | succ d ih =>
    intro k f pu pv hk hf hu hv
    have h1 : ¬ 7 < nI k - 7 := fun z => absurd ((sl_lt (by omega)).mp z) (by omega)
    have h2 : ¬ nI a + 7 < nI (a + k) - 7 := fun z => absurd ((sl_lt2 ha (by omega)).mp z) (by omega)
    by_cases c1 : sc_wt mp (nI (a + k) - 7) (nI (b + m) - 7) < w
    · have c1' : sc_wt mp (nI a + (nI k - 7)) (nI b + (nI m - 7)) < w := by rw [sl_a, sl_a]; exact c1
      obtain ⟨f', pu', pv', hf', hu', hv', kX, kY⟩ := ih (k + 1) f pu pv (by omega) hf hu hv
      refine ⟨f', pu', pv', hf', hu', hv', fun post J h => ?_, fun post J h => ?_⟩
      · exact br_f h1 (sx_wtAt (br_t c1' (nm_r (sl_1 k) (kX post J h))))
      · exact br_f h2 (sy_wt (br_t c1 (nm_r (sl_1 (a + k)) (kY post J h))))
    · have c1' : ¬ sc_wt mp (nI a + (nI k - 7)) (nI b + (nI m - 7)) < w := by rw [sl_a, sl_a]; exact c1
      by_cases c2 : f = 10
      · have c2' : (10 : Int32) ≤ nI f := nI_le (a := 10) (by omega) (by omega)
        obtain ⟨f', pu', pv', hf', hu', hv', kX, kY⟩ := ih (k + 1) f pu pv (by omega) hf hu hv
        refine ⟨f', pu', pv', hf', hu', hv', fun post J h => ?_, fun post J h => ?_⟩
        · exact br_f h1 (sx_wtAt (br_f c1' (br_t c2' (nm_r (sl_1 k) (kX post J h)))))
        · exact br_f h2 (sy_wt (br_f c1 (br_t c2' (nm_r (sl_1 (a + k)) (kY post J h)))))
      · have c2' : ¬ (10 : Int32) ≤ nI f := nI_ge (b := 10) (by omega) (by decide)
        have hi : vp_in (nI f) 10 := vp_in_nI (by omega) (by omega)
        have e : (nI f).toNatClampNeg = f := nI_clamp (by omega)
        have rk : -7 ≤ (nI k - 7).toInt ∧ (nI k - 7).toInt ≤ 7 := by rw [sl_t (by omega)]; omega
        have rm : -7 ≤ (nI m - 7).toInt ∧ (nI m - 7).toInt ≤ 7 := by rw [sl_t (by omega)]; omega
        obtain ⟨f', pu', pv', hf', hu', hv', kX, kY⟩ := ih (k + 1) (f + 1) (upd pu f (nI k - 7)) (upd pv f (nI m - 7)) (by omega) (by omega) (sc_Ptp hu rk) (sc_Ptp hv rm)
        refine ⟨f', pu', pv', hf', hu', hv', fun post J h => ?_, fun post J h => ?_⟩
        · exact br_f h1 (sx_wtAt (br_f c1' (br_f c2' ⟨hi, nm_r (e' := upd pu f (nI k - 7)) (by rw [e]) ⟨hi, nm_r (e' := upd pv f (nI m - 7)) (by rw [e]) (nm_r (nI_1 f) (nm_r (sl_1 k) (kX post J h)))⟩⟩)))
        · exact br_f h2 (sy_wt (br_f c1 (br_f c2' ⟨hi, nm_r (e' := upd pu f (nI k - 7)) (by rw [e, sl_s]) ⟨hi, nm_r (e' := upd pv f (nI m - 7)) (by rw [e, sl_s]) (nm_r (nI_1 f) (nm_r (sl_1 (a + k)) (kY post J h)))⟩⟩)))
theorem sc_m7 : nI 0 - 7 = -7 := by decide
theorem sz_look2 {a b c : Nat} {w : Int32} (ha : a < 16) (hb : b < 16) (hc1 : 1 ≤ c) (hc : c ≤ 10) : ∀ (d m f : Nat) (pu pv : Nat → Int32), m + d = 15 → f ≤ 10 → sc_Pt pu → sc_Pt pv → ∃ (r : Int32) (c' : Nat) (pu' pv' : Nat → Int32), 1 ≤ c' ∧ c' ≤ 10 ∧ sc_Pt pu' ∧ sc_Pt pv' ∧
    (∀ post : Int32 → SX → Prop, post r (fl, nI c', fw, lX, hX, lY, hY, bX, bY, bs, bp, mp, wd, pu', pv', tu, tv, cx, cy, sl, sb) → wX_look_36 post (nI a) (nI b) w fl (nI c) fw lX hX lY hY bX bY bs bp (d + 1) (nI f) (nI m - 7) mp wd pu pv tu tv cx cy sl sb) ∧
    (∀ post : Int32 → SY → Prop, post r (nI c', mp, pu', pv') → wY_look_31 post (nI a) (nI b) w (nI c) (d + 1) (nI f) (nI (b + m) - 7) mp pu pv) := by
  intro d
  induction d with
  | zero =>
    intro m f pu pv hk hf hu hv
    have h1 : 7 < nI m - 7 := (sl_lt (by omega)).mpr (by omega)
    have h2 : nI b + 7 < nI (b + m) - 7 := (sl_lt2 hb (by omega)).mpr (by omega)
    by_cases z : f = 0
    · have z' : nI f = 0 := by rw [z]; rfl
      exact ⟨-4, c, pu, pv, hc1, hc, hu, hv, fun post k => br_t h1 (br_t z' k), fun post k => br_t h2 (br_t z' k)⟩
    · have z' : ¬ nI f = 0 := nI_ne0 (by omega) (by omega)
      exact ⟨nI f, f, pu, pv, by omega, hf, hu, hv, fun post k => br_t h1 (br_f z' k), fun post k => br_t h2 (br_f z' k)⟩
  | succ d ih =>
    intro m f pu pv hk hf hu hv
    have h1 : ¬ 7 < nI m - 7 := fun z => absurd ((sl_lt (by omega)).mp z) (by omega)
    have h2 : ¬ nI b + 7 < nI (b + m) - 7 := fun z => absurd ((sl_lt2 hb (by omega)).mp z) (by omega)
    obtain ⟨f1, pu1, pv1, hf1, hu1, hv1, kX1, kY1⟩ := sz_look1 (fl := fl) (fc := nI c) (fw := fw) (lX := lX) (hX := hX) (lY := lY) (hY := hY) (bX := bX) (bY := bY) (bs := bs) (bp := bp) (mp := mp) (wd := wd) (tu := tu) (tv := tv) (cx := cx) (cy := cy) (sl := sl) (sb := sb) (w := w) (m := m) ha hb (by omega) 15 0 f pu pv (by omega) hf hu hv
    obtain ⟨r, c', pu', pv', hc1', hc', hu', hv', kX, kY⟩ := ih (m + 1) f1 pu1 pv1 (by omega) hf1 hu1 hv1
    rw [sc_m7] at kX1
    exact ⟨r, c', pu', pv', hc1', hc', hu', hv', fun post k => br_f h1 ⟨_, kX1 post _ (kX post k)⟩, fun post k => br_f h2 (nm_e ⟨_, kY1 post _ (kY post k)⟩)⟩
theorem sz_lookT {c : Nat} (hc1 : 1 ≤ c) (hc : c ≤ 10) (hu : sc_Pt pu) (hv : sc_Pt pv) (x y w : Int32) : ∃ (r : Int32) (c' : Nat) (pu' pv' : Nat → Int32), 1 ≤ c' ∧ c' ≤ 10 ∧ sc_Pt pu' ∧ sc_Pt pv' ∧
    (∀ post : Int32 → SX → Prop, post r (fl, nI c', fw, lX, hX, lY, hY, bX, bY, bs, bp, mp, wd, pu', pv', tu, tv, cx, cy, sl, sb) → wpX_look post (fl, nI c, fw, lX, hX, lY, hY, bX, bY, bs, bp, mp, wd, pu, pv, tu, tv, cx, cy, sl, sb) x y w) ∧
    (∀ post : Int32 → SY → Prop, post r (nI c', mp, pu', pv') → wpY_look post (nI c, mp, pu, pv) x y w) := by
  by_cases h : sc_Ce x y
  · by_cases h1 : w < 1
    · exact ⟨-1, c, pu, pv, hc1, hc, hu, hv, fun post k => sx_in h (br_t h1 k), fun post k => sy_in (v := (nI c, mp, pu, pv)) h ((br_t h1 k))⟩
    · by_cases h9 : w ≤ 9
      · obtain ⟨a, b, ha, hb, rfl, rfl⟩ := sc_CeN h
        obtain ⟨r, c', pu', pv', hc1', hc', hu', hv', kX, kY⟩ := sz_look2 (fl := fl) (fw := fw) (lX := lX) (hX := hX) (lY := lY) (hY := hY) (bX := bX) (bY := bY) (bs := bs) (bp := bp) (mp := mp) (wd := wd) (tu := tu) (tv := tv) (cx := cx) (cy := cy) (sl := sl) (sb := sb) (w := w) ha hb hc1 hc 15 0 0 pu pv (by omega) (by omega) hu hv
        rw [sc_m7] at kX
        exact ⟨r, c', pu', pv', hc1', hc', hu', hv', fun post k => sx_in h (br_f h1 (br_t h9 ⟨_, kX post k⟩)), fun post k => sy_in (v := (nI c, mp, pu, pv)) h ((br_f h1 (br_t h9 (nm_e ⟨_, kY post k⟩))))⟩
      · exact ⟨-1, c, pu, pv, hc1, hc, hu, hv, fun post k => sx_in h (br_f h1 (br_f h9 k)), fun post k => sy_in (v := (nI c, mp, pu, pv)) h ((br_f h1 (br_f h9 k)))⟩
  · exact ⟨-1, c, pu, pv, hc1, hc, hu, hv, fun post k => sx_out h k, fun post k => sy_out (v := (nI c, mp, pu, pv)) h (k)⟩
end
end
section
section
variable {fl fc fw lX hX lY hY bX bY bs bp : Int32} {mp wd pu pv tu tv cx cy sl sb : Nat → Int32}
theorem sx_turn2 {r c : Nat} (hr : r < 4) (hc : c ≤ 10) {post : SX → Prop} (K : ∀ tu' tv' : Nat → Int32, (∀ i, i < c → tu' i = sc_tu r pu pv i ∧ tv' i = sc_tv r pu pv i) → post (fl, nI c, fw, lX, hX, lY, hY, bX, bY, bs, bp, mp, wd, pu, pv, tu', tv', cx, cy, sl, sb)) :
    ∀ (d i : Nat) (tu tv : Nat → Int32), i + d = c → (∀ j, j < i → tu j = sc_tu r pu pv j ∧ tv j = sc_tv r pu pv j) → wX_turn_2 post (nI r) fl (nI c) fw lX hX lY hY bX bY bs bp (d + 1) (nI i) mp wd pu pv tu tv cx cy sl sb := by
  intro d
  induction d with
  | zero =>
    intro i tu tv hi h
    have h1 : nI c ≤ nI i := nI_le (by omega) (by omega)
    exact br_t h1 (K tu tv (fun j hj => h j (by omega)))
  | succ d ih =>
    intro i tu tv hi h
    have h1 : ¬ nI c ≤ nI i := nI_ge (by omega) (by omega)
    have hv : vp_in (nI i) 10 := vp_in_nI (by omega) (by omega)
    have e : (nI i).toNatClampNeg = i := nI_clamp (by omega)
    have H := ih (i + 1) (upd tu i (sc_tu r pu pv i)) (upd tv i (sc_tv r pu pv i)) (by omega) (by
      intro j hj
      by_cases ej : j = i
      · subst ej; rw [pk_us, pk_us]; exact ⟨rfl, rfl⟩
      · rw [pk_un ej, pk_un ej]; exact h j (by omega))
    have h4 : r = 0 ∨ r = 1 ∨ r = 2 ∨ r = 3 := by omega
    have n10 : ¬ nI 1 = 0 := by decide
    have n20 : ¬ nI 2 = 0 := by decide
    have n21 : ¬ nI 2 = 1 := by decide
    have n30 : ¬ nI 3 = 0 := by decide
    have n31 : ¬ nI 3 = 1 := by decide
    have n32 : ¬ nI 3 = 2 := by decide
    rcases h4 with rfl | rfl | rfl | rfl
    · exact br_f h1 ⟨hv, nm_r (e' := pu i) (by rw [e]) ⟨hv, nm_r (e' := pv i) (by rw [e]) (br_t rfl ⟨hv, nm_r (e' := upd tu i (sc_tu 0 pu pv i)) (by rw [e]; rfl) (br_t rfl ⟨hv, nm_r (e' := upd tv i (sc_tv 0 pu pv i)) (by rw [e]; rfl) (nm_r (nI_1 i) H)⟩)⟩)⟩⟩
    · exact br_f h1 ⟨hv, nm_r (e' := pu i) (by rw [e]) ⟨hv, nm_r (e' := pv i) (by rw [e]) (br_f n10 (br_t rfl ⟨hv, nm_r (e' := upd tu i (sc_tu 1 pu pv i)) (by rw [e]; rfl) (br_f n10 (br_t rfl ⟨hv, nm_r (e' := upd tv i (sc_tv 1 pu pv i)) (by rw [e]; rfl) (nm_r (nI_1 i) H)⟩))⟩))⟩⟩
    · exact br_f h1 ⟨hv, nm_r (e' := pu i) (by rw [e]) ⟨hv, nm_r (e' := pv i) (by rw [e]) (br_f n20 (br_f n21 (br_t rfl ⟨hv, nm_r (e' := upd tu i (sc_tu 2 pu pv i)) (by rw [e]; rfl) (br_f n20 (br_f n21 (br_t rfl ⟨hv, nm_r (e' := upd tv i (sc_tv 2 pu pv i)) (by rw [e]; rfl) (nm_r (nI_1 i) H)⟩)))⟩)))⟩⟩
    · exact br_f h1 ⟨hv, nm_r (e' := pu i) (by rw [e]) ⟨hv, nm_r (e' := pv i) (by rw [e]) (br_f n30 (br_f n31 (br_f n32 ⟨hv, nm_r (e' := upd tu i (sc_tu 3 pu pv i)) (by rw [e]; rfl) (br_f n30 (br_f n31 (br_f n32 ⟨hv, nm_r (e' := upd tv i (sc_tv 3 pu pv i)) (by rw [e]; rfl) (nm_r (nI_1 i) H)⟩)))⟩)))⟩⟩
theorem sx_turn {r c : Nat} (hr : r < 4) (hc : c ≤ 10) {post : SX → Prop} (K : ∀ tu' tv' : Nat → Int32, (∀ i, i < c → tu' i = sc_tu r pu pv i ∧ tv' i = sc_tv r pu pv i) → post (fl, nI c, fw, lX, hX, lY, hY, bX, bY, bs, bp, mp, wd, pu, pv, tu', tv', cx, cy, sl, sb)) :
    wpX_turn post (fl, nI c, fw, lX, hX, lY, hY, bX, bY, bs, bp, mp, wd, pu, pv, tu, tv, cx, cy, sl, sb) (nI r) :=
  ⟨c + 1, sx_turn2 hr hc K c 0 tu tv (by omega) (fun j hj => absurd hj (Nat.not_lt_zero _))⟩
/-! a pose -/
theorem sy_xOf {post : Int32 → Prop} {i P : Nat} (hi : i < 10) (hP : P < 1024) (k : post (nI (P % 16) + sc_tu (P / 256) pu pv i)) : wpY_xOf post (fc, mp, pu, pv) (nI i) (nI P) := by
  have e3 : nI P / 256 = nI (P / 256) := pk_div (d := 256) (by omega) (by decide) (by decide)
  have e4 : nI P - nI P / 16 * 16 = nI (P % 16) := pk_rem (d := 16) (by omega) (by decide) (by decide)
  have e : (nI i).toNatClampNeg = i := nI_clamp (by omega)
  have hv : vp_in (nI i) 10 := vp_in_nI (by omega) (by omega)
  rw [← e4] at k
  have h4 : P / 256 = 0 ∨ P / 256 = 1 ∨ P / 256 = 2 ∨ P / 256 = 3 := by omega
  have n10 : ¬ nI 1 = 0 := by decide
  have n20 : ¬ nI 2 = 0 := by decide
  have n21 : ¬ nI 2 = 1 := by decide
  have n30 : ¬ nI 3 = 0 := by decide
  have n31 : ¬ nI 3 = 1 := by decide
  have n32 : ¬ nI 3 = 2 := by decide
  rcases h4 with hr | hr | hr | hr <;> rw [hr] at e3 k
  · exact ⟨sc_2560, nm_r e3 (br_t rfl ⟨hv, nm_r (e' := pu i) (by rw [e]) ⟨sc_160, k⟩⟩)⟩
  · exact ⟨sc_2560, nm_r e3 (br_f n10 (br_t rfl ⟨hv, nm_r (e' := -(pv i)) (by rw [e]) ⟨sc_160, k⟩⟩))⟩
  · exact ⟨sc_2560, nm_r e3 (br_f n20 (br_f n21 (br_t rfl ⟨hv, nm_r (e' := -(pu i)) (by rw [e]) ⟨sc_160, k⟩⟩)))⟩
  · exact ⟨sc_2560, nm_r e3 (br_f n30 (br_f n31 (br_f n32 ⟨hv, nm_r (e' := pv i) (by rw [e]) ⟨sc_160, k⟩⟩)))⟩
theorem sy_yOf {post : Int32 → Prop} {i P : Nat} (hi : i < 10) (hP : P < 1024) (k : post (nI (P / 16 % 16) + sc_tv (P / 256) pu pv i)) : wpY_yOf post (fc, mp, pu, pv) (nI i) (nI P) := by
  have e3 : nI P / 256 = nI (P / 256) := pk_div (d := 256) (by omega) (by decide) (by decide)
  have e5 : nI P / 16 = nI (P / 16) := pk_div (d := 16) (by omega) (by decide) (by decide)
  have e4 : nI P / 16 - nI P / 16 / 16 * 16 = nI (P / 16 % 16) := by
    rw [e5]
    exact pk_rem (d := 16) (by omega) (by decide) (by decide)
  have e : (nI i).toNatClampNeg = i := nI_clamp (by omega)
  have hv : vp_in (nI i) 10 := vp_in_nI (by omega) (by omega)
  rw [← e4] at k
  have h4 : P / 256 = 0 ∨ P / 256 = 1 ∨ P / 256 = 2 ∨ P / 256 = 3 := by omega
  have n10 : ¬ nI 1 = 0 := by decide
  have n20 : ¬ nI 2 = 0 := by decide
  have n21 : ¬ nI 2 = 1 := by decide
  have n30 : ¬ nI 3 = 0 := by decide
  have n31 : ¬ nI 3 = 1 := by decide
  have n32 : ¬ nI 3 = 2 := by decide
  rcases h4 with hr | hr | hr | hr <;> rw [hr] at e3 k
  · have k' : post (nI P / 16 - nI P / 16 / 16 * 16 + pv (nI i).toNatClampNeg) := by rw [e]; exact k
    exact ⟨sc_2560, nm_r e3 (br_t rfl ⟨hv, sc_160, sc_160, k'⟩)⟩
  · have k' : post (nI P / 16 - nI P / 16 / 16 * 16 + pu (nI i).toNatClampNeg) := by rw [e]; exact k
    exact ⟨sc_2560, nm_r e3 (br_f n10 (br_t rfl ⟨hv, sc_160, sc_160, k'⟩))⟩
  · have k' : post (nI P / 16 - nI P / 16 / 16 * 16 + -(pv (nI i).toNatClampNeg)) := by rw [e]; exact k
    exact ⟨sc_2560, nm_r e3 (br_f n20 (br_f n21 (br_t rfl ⟨hv, sc_160, sc_160, k'⟩)))⟩
  · have k' : post (nI P / 16 - nI P / 16 / 16 * 16 + -(pu (nI i).toNatClampNeg)) := by rw [e]; exact k
    exact ⟨sc_2560, nm_r e3 (br_f n30 (br_f n31 (br_f n32 ⟨hv, sc_160, sc_160, k'⟩)))⟩
theorem sy_po1 {A B : Prop} {v : SY} {P : Nat} (hP : P < 1024) (k0 : B) : wpY_isPose (fun r => (r = 0 → A) ∧ (¬ r = 0 → B)) v (nI P) := by
  obtain ⟨fc, mp, pu, pv⟩ := v
  have k : (fun r : Int32 => (r = 0 → A) ∧ (¬ r = 0 → B)) 1 := br_f sc_10 k0
  exact br_f (nI_pos (by omega)) (br_f (nI_nlt (a := 1023) (by omega) (by omega)) k)
theorem sy_po0 {A B : Prop} {v : SY} {p : Int32} (hp : p < 0 ∨ 1024 ≤ p) (k0 : A) : wpY_isPose (fun r => (r = 0 → A) ∧ (¬ r = 0 → B)) v p := by
  obtain ⟨fc, mp, pu, pv⟩ := v
  have k : (fun r : Int32 => (r = 0 → A) ∧ (¬ r = 0 → B)) 0 := br_t rfl k0
  by_cases h : p < 0
  · exact br_t h k
  · have h2 : 1023 < p := by
      have h3 := hp.resolve_left h
      rw [Int32.le_iff_toInt_le, show (1024 : Int32).toInt = 1024 from by decide] at h3
      rw [Int32.lt_iff_toInt_lt, show (1023 : Int32).toInt = 1023 from by decide]
      omega
    exact br_f h (br_t h2 k)
/-! stamp -/
theorem sz_stamp {P c : Nat} {w : Int32} (hP : P < 1024) (hc : c ≤ 10) (hw1 : ¬ w < 1) (hw9 : w ≤ 9) (ht : ∀ i, i < c → tu i = sc_tu (P / 256) pu pv i ∧ tv i = sc_tv (P / 256) pu pv i) :
    ∀ (d i : Nat) (ii : Int32) (mp : Nat → Int32), i + d = c → sc_Mp mp → ∃ (r : Int32) (mp' : Nat → Int32), sc_Mp mp' ∧
    (∀ post : Int32 → SX → Prop, post r (0, nI c, fw, lX, hX, lY, hY, bX, bY, bs, bp, mp', wd, pu, pv, tu, tv, cx, cy, sl, sb) → wX_stamp_37 post (nI P) w fl (nI c) fw lX hX lY hY bX bY bs bp (d + 1) ii (nI i) mp wd pu pv tu tv cx cy sl sb) ∧
    (∀ post : Int32 → SY → Prop, post r (nI c, mp', pu, pv) → wY_stamp_26 post (nI P) w (nI c) (d + 1) ii (nI i) mp pu pv) := by
  have e1 : nI P &&& 15 = nI (P % 16) := pk_andN (by omega) 4 (by decide)
  have e2 : nI P >>> ((4 : Int32) &&& 31) = nI (P / 16) := pk_shrN (by omega) _ 4 (by decide)
  have e3 : nI (P / 16) &&& 15 = nI (P / 16 % 16) := pk_andN (by omega) 4 (by decide)
  intro d
  induction d with
  | zero =>
    intro i ii mp hi hm
    have h : nI c ≤ nI i := nI_le (by omega) (by omega)
    exact ⟨ii, mp, hm, fun post k => br_t h k, fun post k => br_t h k⟩
  | succ d ih =>
    intro i ii mp hi hm
    have h : ¬ nI c ≤ nI i := nI_ge (by omega) (by omega)
    have hv : vp_in (nI i) 10 := vp_in_nI (by omega) (by omega)
    have e : (nI i).toNatClampNeg = i := nI_clamp (by omega)
    have ex : (nI P &&& 15) + tu (nI i).toNatClampNeg = nI (P % 16) + sc_tu (P / 256) pu pv i := by rw [e1, e, (ht i (by omega)).1]
    have ey : ((nI P >>> ((4 : Int32) &&& 31)) &&& 15) + tv (nI i).toNatClampNeg = nI (P / 16 % 16) + sc_tv (P / 256) pu pv i := by rw [e2, e3, e, (ht i (by omega)).2]
    by_cases hin : sc_Ce (nI (P % 16) + sc_tu (P / 256) pu pv i) (nI (P / 16 % 16) + sc_tv (P / 256) pu pv i)
    · generalize hxx : nI (P % 16) + sc_tu (P / 256) pu pv i = xx at *
      generalize hyy : nI (P / 16 % 16) + sc_tv (P / 256) pu pv i = yy at *
      have hmx := hm (yy * 16 + xx).toNatClampNeg
      have hwr : 1 ≤ w.toInt ∧ w.toInt ≤ 9 := by
        rw [Int32.lt_iff_toInt_lt, sc_i1] at hw1
        rw [Int32.le_iff_toInt_le, sc_i9] at hw9
        omega
      have hs : (mp (yy * 16 + xx).toNatClampNeg + w).toInt = (mp (yy * 16 + xx).toNatClampNeg).toInt + w.toInt := by
        rw [Int32.toInt_add]
        exact Int.bmod_eq_of_le (by omega) (by omega)
      by_cases h9 : mp (yy * 16 + xx).toNatClampNeg + w ≤ 9
      · have hr : 0 ≤ (mp (yy * 16 + xx).toNatClampNeg + w).toInt ∧ (mp (yy * 16 + xx).toNatClampNeg + w).toInt ≤ 9 := by
          rw [Int32.le_iff_toInt_le, sc_i9] at h9
          omega
        obtain ⟨r, mp', hm', kX, kY⟩ := ih (i + 1) (ii + 1) (upd mp (yy * 16 + xx).toNatClampNeg (mp (yy * 16 + xx).toNatClampNeg + w)) (by omega) (sc_Mpu hm hr)
        refine ⟨r, mp', hm', fun post k => ?_, fun post k => ?_⟩
        · exact br_f h ⟨hv, nm_r ex ⟨hv, nm_r ey (sx_in hin ⟨sc_ix hin, nm_e (br_t h9 ⟨sc_ix hin, nm_e (nm_e (nm_r (nI_1 i) (kX post k)))⟩)⟩)⟩⟩
        · have kY' := kY post k
          rw [← sc_ixc] at kY' h9
          refine br_f h (sy_xOf (by omega) hP (sy_yOf (by omega) hP ?_))
          rw [hxx, hyy]
          exact sy_in hin (⟨sc_ix' hin, nm_e (br_t h9 ⟨sc_ix' hin, nm_e (nm_e (nm_r (nI_1 i) kY'))⟩)⟩)
      · obtain ⟨r, mp', hm', kX, kY⟩ := ih (i + 1) (ii + 1) (upd mp (yy * 16 + xx).toNatClampNeg 9) (by omega) (sc_Mpu hm (by rw [sc_i9]; omega))
        refine ⟨r, mp', hm', fun post k => ?_, fun post k => ?_⟩
        · exact br_f h ⟨hv, nm_r ex ⟨hv, nm_r ey (sx_in hin ⟨sc_ix hin, nm_e (br_f h9 ⟨sc_ix hin, nm_e (nm_e (nm_r (nI_1 i) (kX post k)))⟩)⟩)⟩⟩
        · have kY' := kY post k
          rw [← sc_ixc] at kY' h9
          refine br_f h (sy_xOf (by omega) hP (sy_yOf (by omega) hP ?_))
          rw [hxx, hyy]
          exact sy_in hin (⟨sc_ix' hin, nm_e (br_f h9 ⟨sc_ix' hin, nm_e (nm_e (nm_r (nI_1 i) kY'))⟩)⟩)
    · obtain ⟨r, mp', hm', kX, kY⟩ := ih (i + 1) ii mp (by omega) hm
      refine ⟨r, mp', hm', fun post k => ?_, fun post k => ?_⟩
      · exact br_f h ⟨hv, nm_r ex ⟨hv, nm_r ey (sx_out hin (nm_r (nI_1 i) (kX post k)))⟩⟩
      · exact br_f h (sy_xOf (by omega) hP (sy_yOf (by omega) hP (sy_out hin ((nm_r (nI_1 i) (kY post k))))))
theorem sz_stampT {c : Nat} (hm : sc_Mp mp) (hc : c ≤ 10) (p w : Int32) {post : Int32 → SX → Prop}
    (K : ∀ (r fl' : Int32) (mp' tu' tv' : Nat → Int32), sc_Mp mp' → (fl' = 0 ∨ (fl' = fl ∧ mp' = mp)) → (∀ q : Int32 → SY → Prop, q r (nI c, mp', pu, pv) → wpY_stamp q (nI c, mp, pu, pv) p w) → post r (fl', nI c, fw, lX, hX, lY, hY, bX, bY, bs, bp, mp', wd, pu, pv, tu', tv', cx, cy, sl, sb)) :
    wpX_stamp post (fl, nI c, fw, lX, hX, lY, hY, bX, bY, bs, bp, mp, wd, pu, pv, tu, tv, cx, cy, sl, sb) p w := by
  by_cases h0 : p < 0
  · exact br_t h0 (K (-1) fl mp tu tv hm (Or.inr ⟨rfl, rfl⟩) (fun q k => sy_po0 (v := (nI c, mp, pu, pv)) (Or.inl h0) (k)))
  · by_cases h1 : 1024 ≤ p
    · exact br_f h0 (br_t h1 (K (-1) fl mp tu tv hm (Or.inr ⟨rfl, rfl⟩) (fun q k => sy_po0 (v := (nI c, mp, pu, pv)) (Or.inr h1) (k))))
    · obtain ⟨P, hP, rfl⟩ := nI_of h0
      have hP4 : P < 1024 := by
        apply Decidable.not_not.mp
        intro z
        exact h1 (nI_le (a := 1024) (by omega) hP)
      by_cases h2 : w < 1
      · exact br_f h0 (br_f h1 (br_t h2 (K (-1) fl mp tu tv hm (Or.inr ⟨rfl, rfl⟩) (fun q k => sy_po1 (v := (nI c, mp, pu, pv)) hP4 ((br_t h2 k))))))
      · by_cases h9 : w ≤ 9
        · have e8 : nI P >>> ((8 : Int32) &&& 31) = nI (P / 256) := pk_shrN hP _ 8 (by decide)
          refine br_f h0 (br_f h1 (br_f h2 (br_t h9 ?_)))
          rw [e8]
          refine sx_turn (by omega) hc (fun tu' tv' ht => ?_)
          obtain ⟨r, mp', hm', kX, kY⟩ := sz_stamp (fl := fl) (fw := fw) (lX := lX) (hX := hX) (lY := lY) (hY := hY) (bX := bX) (bY := bY) (bs := bs) (bp := bp) (wd := wd) (cx := cx) (cy := cy) (sl := sl) (sb := sb) hP4 hc h2 h9 ht c 0 0 mp (by omega) hm
          exact ⟨_, kX post (K r 0 mp' tu' tv' hm' (Or.inl rfl) (fun q k => sy_po1 (v := (nI c, mp, pu, pv)) hP4 ((br_f h2 (br_t h9 ⟨_, kY q k⟩)))))⟩
        · exact br_f h0 (br_f h1 (br_f h2 (br_f h9 (K (-1) fl mp tu tv hm (Or.inr ⟨rfl, rfl⟩) (fun q k => sy_po1 (v := (nI c, mp, pu, pv)) hP4 ((br_f h2 (br_f h9 k))))))))
end
end
section
section
variable {fl fc fw lX hX lY hY bX bY bs bp : Int32} {mp wd pu pv tu tv cx cy sl sb : Nat → Int32}
theorem sc_wix (h l c : Nat) : nI h * 961 + nI l * 31 + nI c = nI (h * 961 + l * 31 + c) := by
  rw [show (961 : Int32) = nI 961 from rfl, show (31 : Int32) = nI 31 from rfl, pk_mul, pk_mul, nI_add, nI_add]
theorem sc_wix0 (l c : Nat) : nI l * 31 + nI c = nI (0 * 961 + l * 31 + c) := by
  rw [show (31 : Int32) = nI 31 from rfl, pk_mul, nI_add]
  exact congrArg nI (by omega)
theorem sx_wnd {post : Int32 → Prop} {N h c l : Nat} {a b d : Int32} (hw : sc_Win mp wd N) (hN : (h + 1) * 961 ≤ N) (hh : h ≤ 4) (hc : c < 200) (hl : l < 200) (ea : a = nI h) (eb : b = nI c) (ed : d = nI l) (k : post (nI (sc_W mp h c l))) : wpX_windowAt post (fl, fc, fw, lX, hX, lY, hY, bX, bY, bs, bp, mp, wd, pu, pv, tu, tv, cx, cy, sl, sb) a b d := by
  subst ea eb ed
  by_cases h1 : 31 ≤ c
  · rw [sc_Wz h c l (Or.inl h1), nI_0] at k
    exact br_t (nI_le (a := 31) h1 (by omega)) k
  · by_cases h2 : l < 31
    · refine br_f (nI_ge (b := 31) (by omega) (by decide)) (br_t (nI_lt (b := 31) h2 (by decide)) ?_)
      rw [sc_wix, nI_clamp (by omega), sc_Winr hw (by omega) (by omega) h2]
      exact ⟨vp_in_nI (by omega) (by omega), k⟩
    · rw [sc_Wz h c l (Or.inr (by omega)), nI_0] at k
      exact br_f (nI_ge (b := 31) (by omega) (by decide)) (br_f (nI_nlt (b := 31) (by omega) (by omega)) k)
theorem sx_gr {post : Int32 → Prop} {a b : Nat} (ha : a ≤ 9) (hb : b ≤ 9) (k : post (nI (sc_mx a b))) : wpX_greater post (fl, fc, fw, lX, hX, lY, hY, bX, bY, bs, bp, mp, wd, pu, pv, tu, tv, cx, cy, sl, sb) (nI a) (nI b) := by
  by_cases h : a ≤ b
  · rw [sc_mx, if_pos h] at k
    exact br_t (nI_le h (by omega)) k
  · rw [sc_mx, if_neg h] at k
    exact br_f (nI_ge (by omega) (by omega)) k
theorem sc_p8 {g : Nat} (hg : g < 4) : 2 ^ g ≤ 8 := Nat.pow_le_pow_right (n := 2) (i := g) (j := 3) (by decide) (by omega)
theorem sc_p16 {g : Nat} (hg : g ≤ 4) : 2 ^ g ≤ 16 := Nat.pow_le_pow_right (n := 2) (i := g) (j := 4) (by decide) (by omega)
theorem sx_fl17 {g l : Nat} (hm : sc_Mp mp) (hg : g < 4) (hl : l < 31) {post : SX → Prop} {J : Int32 → (Nat → Int32) → (Nat → Int32) → (Nat → Int32) → (Nat → Int32) → (Nat → Int32) → (Nat → Int32) → (Nat → Int32) → (Nat → Int32) → (Nat → Int32) → (Nat → Int32) → Prop}
    (K : ∀ wd' : Nat → Int32, sc_Win mp wd' ((g + 1) * 961 + l * 31 + 31) → J (nI (l + 1)) mp wd' pu pv tu tv cx cy sl sb) :
    ∀ (d c : Nat) (wd : Nat → Int32), c + d = 31 → sc_Win mp wd ((g + 1) * 961 + l * 31 + c) → wX_fillLevel_17 post J (nI (g + 1)) (nI (2 ^ g)) (nI l) fl fc fw lX hX lY hY bX bY bs bp (d + 1) (nI c) mp wd pu pv tu tv cx cy sl sb := by
  have h8 := sc_p8 hg
  intro d
  induction d with
  | zero =>
    intro c wd hc hw
    have h : (31 : Int32) ≤ nI c := nI_le (a := 31) (by omega) (by omega)
    have ec : c = 31 := by omega
    subst ec
    exact br_t h (nm_r (nI_1 l) (K wd hw))
  | succ d ih =>
    intro c wd hc hw
    have h : ¬ (31 : Int32) ≤ nI c := nI_ge (b := 31) (by omega) (by decide)
    have W9 := sc_W9 hm
    have H := ih (c + 1) (upd wd ((g + 1) * 961 + l * 31 + c) (nI (sc_W mp (g + 1) c l))) (by omega) (sc_Winu hw (by omega) hl rfl)
    have hi : vp_in (nI (g + 1) * 961 + nI l * 31 + nI c) 4805 := by rw [sc_wix]; exact vp_in_nI (by omega) (by omega)
    refine br_f h (sx_wnd (h := g) (c := c) (l := l) hw (by omega) (by omega) (by omega) (by omega) (nI_pred g) rfl rfl ?_)
    refine sx_wnd (h := g) (c := c + 2 ^ g) (l := l) hw (by omega) (by omega) (by omega) (by omega) (nI_pred g) (nI_add _ _) rfl ?_
    refine sx_wnd (h := g) (c := c) (l := l + 2 ^ g) hw (by omega) (by omega) (by omega) (by omega) (nI_pred g) rfl (nI_add _ _) ?_
    refine sx_wnd (h := g) (c := c + 2 ^ g) (l := l + 2 ^ g) hw (by omega) (by omega) (by omega) (by omega) (nI_pred g) (nI_add _ _) (nI_add _ _) ?_
    refine sx_gr (W9 _ _ _) (W9 _ _ _) ?_
    refine sx_gr (W9 _ _ _) (W9 _ _ _) ?_
    refine sx_gr (sc_mxm (W9 _ _ _) (W9 _ _ _)) (sc_mxm (W9 _ _ _) (W9 _ _ _)) ?_
    refine ⟨hi, nm_r (e' := upd wd ((g + 1) * 961 + l * 31 + c) (nI (sc_W mp (g + 1) c l))) ?_ (nm_r (nI_1 c) H)⟩
    rw [sc_wix, nI_clamp (by omega), sc_Ws]
theorem sx_fl8 {g : Nat} (hm : sc_Mp mp) (hg : g < 4) {post : SX → Prop} (K : ∀ wd' : Nat → Int32, sc_Win mp wd' ((g + 2) * 961) → post (fl, fc, fw, lX, hX, lY, hY, bX, bY, bs, bp, mp, wd', pu, pv, tu, tv, cx, cy, sl, sb)) :
    ∀ (d l : Nat) (wd : Nat → Int32), l + d = 31 → sc_Win mp wd ((g + 1) * 961 + l * 31) → wX_fillLevel_8 post (nI (g + 1)) (nI (2 ^ g)) fl fc fw lX hX lY hY bX bY bs bp (d + 1) (nI l) mp wd pu pv tu tv cx cy sl sb := by
  intro d
  induction d with
  | zero =>
    intro l wd hl hw
    have h : (31 : Int32) ≤ nI l := nI_le (a := 31) (by omega) (by omega)
    have el : l = 31 := by omega
    subst el
    exact br_t h (K wd (by rw [show (g + 2) * 961 = (g + 1) * 961 + 31 * 31 from by omega]; exact hw))
  | succ d ih =>
    intro l wd hl hw
    have h : ¬ (31 : Int32) ≤ nI l := nI_ge (b := 31) (by omega) (by decide)
    refine br_f h ⟨31 + 1, sx_fl17 hm hg (by omega) (fun wd' hw' => ?_) 31 0 wd (by omega) hw⟩
    exact ih (l + 1) wd' (by omega) (by rw [show (g + 1) * 961 + (l + 1) * 31 = (g + 1) * 961 + l * 31 + 31 from by omega]; exact hw')
theorem sc_sh : ∀ g, g < 5 → (1 : Int32) <<< (nI g &&& 31) = nI (2 ^ g) := by decide +kernel
theorem sx_fl {g : Nat} (hm : sc_Mp mp) (hg : g < 4) {post : SX → Prop} (hw : sc_Win mp wd ((g + 1) * 961)) (K : ∀ wd' : Nat → Int32, sc_Win mp wd' ((g + 2) * 961) → post (fl, fc, fw, lX, hX, lY, hY, bX, bY, bs, bp, mp, wd', pu, pv, tu, tv, cx, cy, sl, sb)) :
    wpX_fillLevel post (fl, fc, fw, lX, hX, lY, hY, bX, bY, bs, bp, mp, wd, pu, pv, tu, tv, cx, cy, sl, sb) (nI (g + 1)) := by
  have e : (1 : Int32) <<< ((nI (g + 1) - 1) &&& 31) = nI (2 ^ g) := by rw [nI_pred]; exact sc_sh g (by omega)
  exact nm_r e ⟨31 + 1, sx_fl8 hm hg K 31 0 wd (by omega) (by rw [Nat.zero_mul]; exact hw)⟩
theorem sx_ly61 (hm : sc_Mp mp) {post : SX → Prop} (K : ∀ wd' : Nat → Int32, sc_Win mp wd' 4805 → post (1, fc, fw, lX, hX, lY, hY, bX, bY, bs, bp, mp, wd', pu, pv, tu, tv, cx, cy, sl, sb)) :
    ∀ (d g : Nat) (wd : Nat → Int32), g + d = 4 → sc_Win mp wd ((g + 1) * 961) → wX_layer_61 post (d + 1) (nI (g + 1)) fl fc fw lX hX lY hY bX bY bs bp mp wd pu pv tu tv cx cy sl sb := by
  intro d
  induction d with
  | zero =>
    intro g wd hg hw
    have h : (4 : Int32) < nI (g + 1) := nI_lt (a := 4) (by omega) (by omega)
    have eg : g = 4 := by omega
    subst eg
    exact br_t h (K wd hw)
  | succ d ih =>
    intro g wd hg hw
    have h : ¬ (4 : Int32) < nI (g + 1) := nI_nlt (a := 4) (by omega) (by decide)
    refine br_f h (sx_fl hm (by omega) hw (fun wd' hw' => ?_))
    exact nm_r (nI_1 (g + 1)) (ih (g + 1) wd' (by omega) hw')
theorem sx_ly18 {l : Nat} (hm : sc_Mp mp) (hl : l < 31) {post : SX → Prop} {J : Int32 → (Nat → Int32) → (Nat → Int32) → (Nat → Int32) → (Nat → Int32) → (Nat → Int32) → (Nat → Int32) → (Nat → Int32) → (Nat → Int32) → (Nat → Int32) → (Nat → Int32) → Prop}
    (K : ∀ wd' : Nat → Int32, sc_Win mp wd' (0 * 961 + l * 31 + 31) → J (nI (l + 1)) mp wd' pu pv tu tv cx cy sl sb) :
    ∀ (d c : Nat) (wd : Nat → Int32), c + d = 31 → sc_Win mp wd (0 * 961 + l * 31 + c) → wX_layer_18 post J (nI l) fl fc fw lX hX lY hY bX bY bs bp (d + 1) (nI c) mp wd pu pv tu tv cx cy sl sb := by
  intro d
  induction d with
  | zero =>
    intro c wd hc hw
    have h : (31 : Int32) ≤ nI c := nI_le (a := 31) (by omega) (by omega)
    have ec : c = 31 := by omega
    subst ec
    exact br_t h (nm_r (nI_1 l) (K wd hw))
  | succ d ih =>
    intro c wd hc hw
    have h : ¬ (31 : Int32) ≤ nI c := nI_ge (b := 31) (by omega) (by decide)
    have H := ih (c + 1) (upd wd (0 * 961 + l * 31 + c) (nI (sc_W mp 0 c l))) (by omega) (sc_Winu hw (by omega) hl rfl)
    have hi : vp_in (nI l * 31 + nI c) 4805 := by rw [sc_wix0]; exact vp_in_nI (by omega) (by omega)
    refine br_f h (sx_wtAt ⟨hi, nm_r (e' := upd wd (0 * 961 + l * 31 + c) (nI (sc_W mp 0 c l))) ?_ (nm_r (nI_1 c) H)⟩)
    rw [sc_wix0, nI_clamp (by omega), sc_wtW hm (by omega) (by omega)]
theorem sx_ly10 (hm : sc_Mp mp) {post : SX → Prop} (K : ∀ wd' : Nat → Int32, sc_Win mp wd' 4805 → post (1, fc, fw, lX, hX, lY, hY, bX, bY, bs, bp, mp, wd', pu, pv, tu, tv, cx, cy, sl, sb)) :
    ∀ (d l : Nat) (wd : Nat → Int32), l + d = 31 → sc_Win mp wd (0 * 961 + l * 31) → wX_layer_10 post fl fc fw lX hX lY hY bX bY bs bp (d + 1) (nI l) mp wd pu pv tu tv cx cy sl sb := by
  intro d
  induction d with
  | zero =>
    intro l wd hl hw
    have h : (31 : Int32) ≤ nI l := nI_le (a := 31) (by omega) (by omega)
    have el : l = 31 := by omega
    subst el
    exact br_t h ⟨4 + 1, sx_ly61 hm K 4 0 wd (by omega) hw⟩
  | succ d ih =>
    intro l wd hl hw
    have h : ¬ (31 : Int32) ≤ nI l := nI_ge (b := 31) (by omega) (by decide)
    refine br_f h ⟨31 + 1, sx_ly18 hm (by omega) (fun wd' hw' => ?_) 31 0 wd (by omega) hw⟩
    exact ih (l + 1) wd' (by omega) (by rw [show 0 * 961 + (l + 1) * 31 = 0 * 961 + l * 31 + 31 from by omega]; exact hw')
theorem sx_layer (hm : sc_Mp mp) {post : SX → Prop} (hf : fl = 0 ∨ sc_Win mp wd 4805) (K : ∀ (fl' : Int32) (wd' : Nat → Int32), sc_Win mp wd' 4805 → post (fl', fc, fw, lX, hX, lY, hY, bX, bY, bs, bp, mp, wd', pu, pv, tu, tv, cx, cy, sl, sb)) :
    wpX_layer post (fl, fc, fw, lX, hX, lY, hY, bX, bY, bs, bp, mp, wd, pu, pv, tu, tv, cx, cy, sl, sb) := by
  by_cases h : fl = 0
  · exact br_t h ⟨31 + 1, sx_ly10 hm (fun wd' hw' => K 1 wd' hw') 31 0 wd (by omega) (fun m hm => absurd hm (by omega))⟩
  · exact br_f h (K fl wd (hf.resolve_left h))
end
end
section
section
variable {fl fc fw lX hX lY hY bX bY bs bp : Int32} {mp wd pu pv tu tv cx cy sl sb : Nat → Int32} {TU TV : Nat → Int32} {c : Nat}
def sc_Env (mp wd tu tv TU TV : Nat → Int32) (c : Nat) : Prop :=
  sc_Win mp wd 4805 ∧ c ≤ 10 ∧ sc_Mp mp ∧ sc_Pt TU ∧ sc_Pt TV ∧ ∀ i, i < c → tu i = TU i ∧ tv i = TV i
theorem sc_col {x : Nat} {t : Int32} (h : -7 ≤ t.toInt ∧ t.toInt ≤ 7) : nI x + t + 15 = nI (x + sc_cl t) := by
  rw [Int32.add_assoc, (sc_cle h).1, nI_add]
theorem sx_bd6 {post : Int32 → Prop} {x y h : Nat} (he : sc_Env mp wd tu tv TU TV c) (hx : x ≤ 16) (hy : y ≤ 16) (hh : h ≤ 4) (k : post (nI (sc_B mp TU TV h x y c))) :
    ∀ d i : Nat, i + d = c → wX_bound_6 post (nI x) (nI y) (nI h) fl (nI c) fw lX hX lY hY bX bY bs bp mp wd pu pv tu tv cx cy sl sb (d + 1) (nI (sc_B mp TU TV h x y i)) (nI i) := by
  obtain ⟨hw, hc, hm, hU, hV, ht⟩ := he
  intro d
  induction d with
  | zero =>
    intro i hi
    have h1 : nI c ≤ nI i := nI_le (by omega) (by omega)
    have ei : i = c := by omega
    subst ei
    exact br_t h1 k
  | succ d ih =>
    intro i hi
    have h1 : ¬ nI c ≤ nI i := nI_ge (by omega) (by omega)
    have hv : vp_in (nI i) 10 := vp_in_nI (by omega) (by omega)
    have e : (nI i).toNatClampNeg = i := nI_clamp (by omega)
    have ex : nI x + tu (nI i).toNatClampNeg + 15 = nI (x + sc_cl (TU i)) := by rw [e, (ht i (by omega)).1, sc_col (hU i)]
    have ey : nI y + tv (nI i).toNatClampNeg + 15 = nI (y + sc_cl (TV i)) := by rw [e, (ht i (by omega)).2, sc_col (hV i)]
    have b1 := sc_cle (hU i)
    have b2 := sc_cle (hV i)
    have H := ih (i + 1) (by omega)
    refine br_f h1 ⟨hv, nm_r ex ⟨hv, nm_r ey (br_f (nI_pos (by omega)) (br_f (nI_pos (by omega)) ?_))⟩⟩
    refine sx_wnd (h := h) (c := x + sc_cl (TU i)) (l := y + sc_cl (TV i)) hw (by omega) hh (by omega) (by omega) rfl rfl rfl ?_
    exact nm_r (nI_add _ _) (nm_r (nI_1 i) H)
theorem sx_bound {post : Int32 → Prop} {x y h : Nat} (he : sc_Env mp wd tu tv TU TV c) (hx : x ≤ 16) (hy : y ≤ 16) (hh : h ≤ 4) (k : post (nI (sc_B mp TU TV h x y c))) :
    wpX_bound post (fl, nI c, fw, lX, hX, lY, hY, bX, bY, bs, bp, mp, wd, pu, pv, tu, tv, cx, cy, sl, sb) (nI x) (nI y) (nI h) :=
  ⟨c + 1, sx_bd6 he hx hy hh k c 0 (by omega)⟩
theorem sx_enq {post : SX → Prop} {w x y h : Nat} (he : sc_Env mp wd tu tv TU TV c) (hw : w < 64) (hx : x ≤ 16) (hy : y ≤ 16) (hh : h ≤ 4)
    (k : post (fl, nI c, nI (w + 1), lX, hX, lY, hY, bX, bY, bs, bp, mp, wd, pu, pv, tu, tv, upd cx w (nI x), upd cy w (nI y), upd sl w (nI h), upd sb w (nI (sc_B mp TU TV h x y c)))) :
    wpX_enqueue post (fl, nI c, nI w, lX, hX, lY, hY, bX, bY, bs, bp, mp, wd, pu, pv, tu, tv, cx, cy, sl, sb) (nI x) (nI y) (nI h) := by
  have hv : vp_in (nI w) 64 := vp_in_nI (by omega) (by omega)
  have e : (nI w).toNatClampNeg = w := nI_clamp (by omega)
  refine ⟨hv, nm_r (e' := upd cx w (nI x)) (by rw [e]) ⟨hv, nm_r (e' := upd cy w (nI y)) (by rw [e]) ⟨hv, nm_r (e' := upd sl w (nI h)) (by rw [e]) ?_⟩⟩⟩
  refine sx_bound he hx hy hh ?_
  exact ⟨hv, nm_r (e' := upd sb w (nI (sc_B mp TU TV h x y c))) (by rw [e]) (nm_r (nI_1 w) k)⟩
theorem sx_mt1 {post : Int32 → Prop} {x y h : Nat} (hx : x ≤ 16) (hy : y ≤ 16) (hh : h ≤ 4) (hmt : sc_mt lX hX lY hY (x, y, h) = true) (k : post 1) : wpX_meets post (fl, fc, fw, lX, hX, lY, hY, bX, bY, bs, bp, mp, wd, pu, pv, tu, tv, cx, cy, sl, sb) (nI x) (nI y) (nI h) := by
  have h16 := sc_p16 hh
  rw [sc_mti] at hmt
  obtain ⟨m1, m2, m3, m4⟩ := hmt
  have a1 : ¬ hX < nI x := by rw [Int32.lt_iff_toInt_lt, nI_toInt (by omega)]; omega
  have a2 : ¬ nI x + nI (2 ^ h) ≤ lX := by rw [nI_add, Int32.le_iff_toInt_le, nI_toInt (by omega)]; omega
  have a3 : ¬ hY < nI y := by rw [Int32.lt_iff_toInt_lt, nI_toInt (by omega)]; omega
  have a4 : ¬ nI y + nI (2 ^ h) ≤ lY := by rw [nI_add, Int32.le_iff_toInt_le, nI_toInt (by omega)]; omega
  exact nm_r (sc_sh h (by omega)) (br_f a1 (br_f a2 (br_f a3 (br_f a4 k))))
theorem sx_mt0 {post : Int32 → Prop} {x y h : Nat} (hx : x ≤ 16) (hy : y ≤ 16) (hh : h ≤ 4) (hmt : ¬ sc_mt lX hX lY hY (x, y, h) = true) (k : post 0) : wpX_meets post (fl, fc, fw, lX, hX, lY, hY, bX, bY, bs, bp, mp, wd, pu, pv, tu, tv, cx, cy, sl, sb) (nI x) (nI y) (nI h) := by
  have h16 := sc_p16 hh
  rw [sc_mti] at hmt
  refine nm_r (sc_sh h (by omega)) ?_
  by_cases a1 : hX < nI x
  · exact br_t a1 k
  · by_cases a2 : nI x + nI (2 ^ h) ≤ lX
    · exact br_f a1 (br_t a2 k)
    · by_cases a3 : hY < nI y
      · exact br_f a1 (br_f a2 (br_t a3 k))
      · by_cases a4 : nI y + nI (2 ^ h) ≤ lY
        · exact br_f a1 (br_f a2 (br_f a3 (br_t a4 k)))
        · exfalso
          apply hmt
          rw [Int32.lt_iff_toInt_lt, nI_toInt (by omega)] at a1 a3
          rw [nI_add, Int32.le_iff_toInt_le, nI_toInt (by omega)] at a2 a4
          omega
theorem sc_im3 : (-3 : Int32).toInt = -3 := by decide
theorem sc_i3 : (3 : Int32).toInt = 3 := by decide
abbrev sc_Rb (bX bY : Int32) : Prop := (-1 ≤ bX.toInt ∧ bX.toInt ≤ 15) ∧ (-1 ≤ bY.toInt ∧ bY.toInt ≤ 15)
theorem sc_dx {x : Nat} {b : Int32} (hx : x ≤ 16) (hb : -1 ≤ b.toInt ∧ b.toInt ≤ 15) : (nI x - b).toInt = (x : Int) - b.toInt := by
  rw [Int32.toInt_sub, nI_toInt (by omega)]
  exact Int.bmod_eq_of_le (by omega) (by omega)
theorem sx_br1 {post : Int32 → Prop} {x y : Nat} (hx : x ≤ 16) (hy : y ≤ 16) (hb : sc_Rb bX bY) (h : sc_br bX bY x y) (k : post 1) : wpX_barred post (fl, fc, fw, lX, hX, lY, hY, bX, bY, bs, bp, mp, wd, pu, pv, tu, tv, cx, cy, sl, sb) (nI x) (nI y) := by
  obtain ⟨h0, h1, h2, h3, h4⟩ := h
  have a0 : 0 ≤ bX := by rw [Int32.le_iff_toInt_le, sc_i0]; exact h0
  have a1 : ¬ nI x - bX ≤ -3 := by rw [Int32.le_iff_toInt_le, sc_dx hx hb.1, sc_im3]; omega
  have a2 : ¬ 3 ≤ nI x - bX := by rw [Int32.le_iff_toInt_le, sc_dx hx hb.1, sc_i3]; omega
  have a3 : ¬ nI y - bY ≤ -3 := by rw [Int32.le_iff_toInt_le, sc_dx hy hb.2, sc_im3]; omega
  have a4 : ¬ 3 ≤ nI y - bY := by rw [Int32.le_iff_toInt_le, sc_dx hy hb.2, sc_i3]; omega
  exact br_t a0 (nm_e (nm_e (br_f a1 (br_f a2 (br_f a3 (br_f a4 k))))))
theorem sx_br0 {post : Int32 → Prop} {x y : Nat} (hx : x ≤ 16) (hy : y ≤ 16) (hb : sc_Rb bX bY) (h : ¬ sc_br bX bY x y) (k : post 0) : wpX_barred post (fl, fc, fw, lX, hX, lY, hY, bX, bY, bs, bp, mp, wd, pu, pv, tu, tv, cx, cy, sl, sb) (nI x) (nI y) := by
  by_cases a0 : 0 ≤ bX
  · refine br_t a0 (nm_e (nm_e ?_))
    by_cases a1 : nI x - bX ≤ -3
    · exact br_t a1 k
    · by_cases a2 : 3 ≤ nI x - bX
      · exact br_f a1 (br_t a2 k)
      · by_cases a3 : nI y - bY ≤ -3
        · exact br_f a1 (br_f a2 (br_t a3 k))
        · by_cases a4 : 3 ≤ nI y - bY
          · exact br_f a1 (br_f a2 (br_f a3 (br_t a4 k)))
          · exfalso
            apply h
            rw [Int32.le_iff_toInt_le, sc_i0] at a0
            rw [Int32.le_iff_toInt_le, sc_dx hx hb.1, sc_im3] at a1
            rw [Int32.le_iff_toInt_le, sc_dx hx hb.1, sc_i3] at a2
            rw [Int32.le_iff_toInt_le, sc_dx hy hb.2, sc_im3] at a3
            rw [Int32.le_iff_toInt_le, sc_dx hy hb.2, sc_i3] at a4
            unfold sc_br
            omega
  · exact br_f a0 k
end
end
section
section
variable {fl fc fw lX hX lY hY bX bY bs bp : Int32} {mp wd pu pv tu tv cx cy sl sb : Nat → Int32}
/-! the stack: square j is Q j -/
def sc_H (B : Nat → Nat → Nat → Nat) (Q : Nat → sc_Sq) (w : Nat) (cx cy sl sb : Nat → Int32) : Prop :=
  ∀ j, j < w → cx j = nI (Q j).1 ∧ cy j = nI (Q j).2.1 ∧ sl j = nI (Q j).2.2 ∧ sb j = nI (B (Q j).2.2 (Q j).1 (Q j).2.1)
def sc_K (B : Nat → Nat → Nat → Nat) (w w1 : Nat) (Q0 : Nat → sc_Sq) (V : sc_Sq → Prop) (G : (sc_Sq → Nat) → Nat) (Q : Nat → sc_Sq) (cx cy sl sb : Nat → Int32) : Prop :=
  sc_H B Q w1 cx cy sl sb ∧ (∀ j, j < w → Q j = Q0 j) ∧ (∀ j, w ≤ j → j < w1 → V (Q j)) ∧ ∀ f : sc_Sq → Nat, sc_sm (fun j => f (Q j)) w1 = G f
def sc_si (k j : Nat) : Nat := if j = k + 1 then k else if j = k then k + 1 else j
theorem sc_si1 (k : Nat) : sc_si k (k + 1) = k := if_pos rfl
theorem sc_si0 (k : Nat) : sc_si k k = k + 1 := by
  unfold sc_si
  rw [if_neg (by omega), if_pos rfl]
theorem sc_sin {k j : Nat} (h1 : j ≠ k) (h2 : j ≠ k + 1) : sc_si k j = j := by
  unfold sc_si
  rw [if_neg h2, if_neg h1]
theorem sc_usw (a : Nat → Int32) (k : Nat) : upd (upd a (k + 1) (a k)) k (a (k + 1)) = fun j => a (sc_si k j) := by
  funext j
  by_cases h1 : j = k
  · subst h1
    rw [pk_us, sc_si0]
  · by_cases h2 : j = k + 1
    · subst h2
      rw [pk_un h1, pk_us, sc_si1]
    · rw [pk_un h1, pk_un h2, sc_sin h1 h2]
theorem sc_sir {k w w1 j : Nat} (hk : w ≤ k) (hk1 : k + 1 < w1) (h1 : w ≤ j) (h2 : j < w1) : w ≤ sc_si k j ∧ sc_si k j < w1 := by
  by_cases e1 : j = k
  · subst e1; rw [sc_si0]; omega
  · by_cases e2 : j = k + 1
    · subst e2; rw [sc_si1]; omega
    · rw [sc_sin e1 e2]; omega
theorem sc_Ksw {B : Nat → Nat → Nat → Nat} {w w1 k : Nat} {Q0 Q : Nat → sc_Sq} {V : sc_Sq → Prop} {G : (sc_Sq → Nat) → Nat} (h : sc_K B w w1 Q0 V G Q cx cy sl sb) (hk : w ≤ k) (hk1 : k + 1 < w1) :
    sc_K B w w1 Q0 V G (fun j => Q (sc_si k j)) (fun j => cx (sc_si k j)) (fun j => cy (sc_si k j)) (fun j => sl (sc_si k j)) (fun j => sb (sc_si k j)) := by
  obtain ⟨h1, h2, h3, h4⟩ := h
  refine ⟨?_, ?_, ?_, ?_⟩
  · intro j hj
    exact h1 (sc_si k j) (sc_sir (w := 0) (by omega) hk1 (by omega) hj).2
  · intro j hj
    show Q (sc_si k j) = Q0 j
    rw [sc_sin (by omega) (by omega)]
    exact h2 j hj
  · intro j a b
    have := sc_sir hk hk1 a b
    exact h3 (sc_si k j) this.1 this.2
  · intro f
    rw [← h4 f]
    refine sc_smw (k := k) ?_ ?_ ?_ hk1
    · show f (Q (sc_si k (k + 1))) = f (Q k)
      rw [sc_si1]
    · show f (Q (sc_si k k)) = f (Q (k + 1))
      rw [sc_si0]
    · intro j a b
      show f (Q (sc_si k j)) = f (Q j)
      rw [sc_sin a b]
theorem sc_KG {B : Nat → Nat → Nat → Nat} {w w1 : Nat} {Q0 Q : Nat → sc_Sq} {V : sc_Sq → Prop} {G G' : (sc_Sq → Nat) → Nat} (h : sc_K B w w1 Q0 V G Q cx cy sl sb) (hG : ∀ f, G f = G' f) : sc_K B w w1 Q0 V G' Q cx cy sl sb :=
  ⟨h.1, h.2.1, h.2.2.1, fun f => (h.2.2.2 f).trans (hG f)⟩
theorem sc_Hpush {B : Nat → Nat → Nat → Nat} {w : Nat} {Q : Nat → sc_Sq} (h : sc_H B Q w cx cy sl sb) (s : sc_Sq) :
    sc_H B (fun j => if j = w then s else Q j) (w + 1) (upd cx w (nI s.1)) (upd cy w (nI s.2.1)) (upd sl w (nI s.2.2)) (upd sb w (nI (B s.2.2 s.1 s.2.1))) := by
  intro j hj
  by_cases e : j = w
  · subst e
    rw [pk_us, pk_us, pk_us, pk_us]
    dsimp only
    rw [if_pos rfl]
    exact ⟨rfl, rfl, rfl, rfl⟩
  · rw [pk_un e, pk_un e, pk_un e, pk_un e]
    dsimp only
    rw [if_neg e]
    exact h j (by omega)
theorem sc_Kpush {B : Nat → Nat → Nat → Nat} {w w1 : Nat} {Q0 Q : Nat → sc_Sq} {V : sc_Sq → Prop} {G : (sc_Sq → Nat) → Nat} (h : sc_K B w w1 Q0 V G Q cx cy sl sb) (hw : w ≤ w1) (s : sc_Sq) (hV : V s) :
    sc_K B w (w1 + 1) Q0 V (fun f => G f + f s) (fun j => if j = w1 then s else Q j) (upd cx w1 (nI s.1)) (upd cy w1 (nI s.2.1)) (upd sl w1 (nI s.2.2)) (upd sb w1 (nI (B s.2.2 s.1 s.2.1))) := by
  obtain ⟨h1, h2, h3, h4⟩ := h
  refine ⟨sc_Hpush h1 s, ?_, ?_, ?_⟩
  · intro j hj
    dsimp only
    rw [if_neg (by omega)]
    exact h2 j hj
  · intro j a b
    dsimp only
    by_cases e : j = w1
    · rw [if_pos e]; exact hV
    · rw [if_neg e]; exact h3 j a (by omega)
  · intro f
    rw [sc_sms]
    dsimp only
    rw [if_pos rfl, ← h4 f]
    congr 1
    apply sc_smc
    intro j hj
    rw [if_neg (by omega)]
/-! exchange -/
theorem sx_exch {post : SX → Prop} {k : Nat} (hk : k + 1 < 64) (K : post (fl, fc, fw, lX, hX, lY, hY, bX, bY, bs, bp, mp, wd, pu, pv, tu, tv, fun j => cx (sc_si k j), fun j => cy (sc_si k j), fun j => sl (sc_si k j), fun j => sb (sc_si k j))) :
    wpX_exchange post (fl, fc, fw, lX, hX, lY, hY, bX, bY, bs, bp, mp, wd, pu, pv, tu, tv, cx, cy, sl, sb) (nI (k + 1)) (nI k) := by
  have h0 : vp_in (nI (k + 1)) 64 := vp_in_nI (by omega) (by omega)
  have h1 : vp_in (nI k) 64 := vp_in_nI (by omega) (by omega)
  have e0 : (nI (k + 1)).toNatClampNeg = k + 1 := nI_clamp (by omega)
  have e1 : (nI k).toNatClampNeg = k := nI_clamp (by omega)
  refine ⟨h0, nm_r (e' := cx (k + 1)) (by rw [e0]) ⟨h0, nm_r (e' := cy (k + 1)) (by rw [e0]) ⟨h0, nm_r (e' := sl (k + 1)) (by rw [e0]) ⟨h0, nm_r (e' := sb (k + 1)) (by rw [e0]) ?_⟩⟩⟩⟩
  refine ⟨h1, h0, nm_r (e' := upd cx (k + 1) (cx k)) (by rw [e0, e1]) ⟨h1, h0, nm_r (e' := upd cy (k + 1) (cy k)) (by rw [e0, e1]) ⟨h1, h0, nm_r (e' := upd sl (k + 1) (sl k)) (by rw [e0, e1]) ⟨h1, h0, nm_r (e' := upd sb (k + 1) (sb k)) (by rw [e0, e1]) ?_⟩⟩⟩⟩
  exact ⟨h1, nm_r (e' := fun j => cx (sc_si k j)) (by rw [e1]; exact sc_usw cx k) ⟨h1, nm_r (e' := fun j => cy (sc_si k j)) (by rw [e1]; exact sc_usw cy k) ⟨h1, nm_r (e' := fun j => sl (sc_si k j)) (by rw [e1]; exact sc_usw sl k) ⟨h1, nm_r (e' := fun j => sb (sc_si k j)) (by rw [e1]; exact sc_usw sb k) K⟩⟩⟩⟩
abbrev sc_JS : Type := Int32 → Int32 → Int32 → Int32 → Int32 → Int32 → Int32 → Int32 → Int32 → Int32 → Int32 → Int32 → (Nat → Int32) → (Nat → Int32) → (Nat → Int32) → (Nat → Int32) → (Nat → Int32) → (Nat → Int32) → (Nat → Int32) → (Nat → Int32) → (Nat → Int32) → (Nat → Int32) → Prop
/-! the sort keeps the squares -/
theorem sx_q88 {B : Nat → Nat → Nat → Nat} {w w1 i : Nat} {Q0 : Nat → sc_Sq} {V : sc_Sq → Prop} {G : (sc_Sq → Nat) → Nat} (hw1 : w1 ≤ 64) (hi : i < w1) {post : SX → Prop} {J : sc_JS}
    (KJ : ∀ (Q : Nat → sc_Sq) (cx cy sl sb : Nat → Int32), sc_K B w w1 Q0 V G Q cx cy sl sb → J (nI (i + 1)) fl fc (nI w1) lX hX lY hY bX bY bs bp mp wd pu pv tu tv cx cy sl sb) :
    ∀ (d : Nat) (Q : Nat → sc_Sq) (cx cy sl sb : Nat → Int32), w + d ≤ i → sc_K B w w1 Q0 V G Q cx cy sl sb → wX_quarter_88 post J (nI w) (nI i) (d + 1) (nI (w + d)) fl fc (nI w1) lX hX lY hY bX bY bs bp mp wd pu pv tu tv cx cy sl sb := by
  intro d
  induction d with
  | zero =>
    intro Q cx cy sl sb hk hK
    have h : nI (w + 0) ≤ nI w := nI_le (by omega) (by omega)
    exact br_t h (nm_r (nI_1 i) (KJ Q cx cy sl sb hK))
  | succ d ih =>
    intro Q cx cy sl sb hk hK
    have h : ¬ nI (w + d + 1) ≤ nI w := nI_ge (by omega) (by omega)
    have h0 : vp_in (nI (w + d + 1)) 64 := vp_in_nI (by omega) (by omega)
    have h1 : vp_in (nI (w + d + 1) - 1) 64 := by rw [nI_pred]; exact vp_in_nI (by omega) (by omega)
    by_cases c : sb (nI (w + d + 1) - 1).toNatClampNeg ≤ sb (nI (w + d + 1)).toNatClampNeg
    · exact br_f h ⟨h0, h1, br_t c (nm_r (pk_m1 (w + d)) (ih Q cx cy sl sb (by omega) hK))⟩
    · refine br_f h ⟨h0, h1, br_f c ?_⟩
      rw [show nI (w + (d + 1)) - 1 = nI (w + d) from nI_pred (w + d)]
      refine sx_exch (k := w + d) (by omega) ?_
      exact nm_r (pk_m1 (w + d)) (ih _ _ _ _ _ (by omega) (sc_Ksw (k := w + d) hK (by omega) (by omega)))
theorem sx_q75 {B : Nat → Nat → Nat → Nat} {w w1 : Nat} {Q0 : Nat → sc_Sq} {V : sc_Sq → Prop} {G : (sc_Sq → Nat) → Nat} (hw1 : w1 ≤ 64) {post : SX → Prop}
    (K : ∀ (Q : Nat → sc_Sq) (cx cy sl sb : Nat → Int32), sc_K B w w1 Q0 V G Q cx cy sl sb → post (fl, fc, nI w1, lX, hX, lY, hY, bX, bY, bs, bp, mp, wd, pu, pv, tu, tv, cx, cy, sl, sb)) :
    ∀ (d i : Nat) (Q : Nat → sc_Sq) (cx cy sl sb : Nat → Int32), w1 ≤ i + d → w ≤ i → i ≤ 100 → sc_K B w w1 Q0 V G Q cx cy sl sb → wX_quarter_75 post (nI w) (d + 1) (nI i) fl fc (nI w1) lX hX lY hY bX bY bs bp mp wd pu pv tu tv cx cy sl sb := by
  intro d
  induction d with
  | zero =>
    intro i Q cx cy sl sb h1 h2 h3 hK
    have h : nI w1 ≤ nI i := nI_le (by omega) (by omega)
    exact br_t h (K Q cx cy sl sb hK)
  | succ d ih =>
    intro i Q cx cy sl sb h1 h2 h3 hK
    by_cases hi : w1 ≤ i
    · have h : nI w1 ≤ nI i := nI_le (by omega) (by omega)
      exact br_t h (K Q cx cy sl sb hK)
    · have h : ¬ nI w1 ≤ nI i := nI_ge (by omega) (by omega)
      have H := sx_q88 (fl := fl) (fc := fc) (lX := lX) (hX := hX) (lY := lY) (hY := hY) (bX := bX) (bY := bY) (bs := bs) (bp := bp) (mp := mp) (wd := wd) (pu := pu) (pv := pv) (tu := tu) (tv := tv) (post := post) (i := i) (J := wX_quarter_75 post (nI w) (d + 1)) hw1 (by omega) (fun Q' cx' cy' sl' sb' hK' => ih (i + 1) Q' cx' cy' sl' sb' (by omega) (by omega) (by omega) hK') (i - w) Q cx cy sl sb (by omega) hK
      rw [show w + (i - w) = i from by omega] at H
      exact br_f h ⟨_, H⟩
end
end
section
section
variable {fl fc fw lX hX lY hY bX bY bs bp : Int32} {mp wd pu pv tu tv cx cy sl sb : Nat → Int32} {TU TV : Nat → Int32} {c : Nat}
/-! the four quarters -/
def sc_V (lX hX lY hY : Int32) (h : Nat) (s : sc_Sq) : Prop := s.2.2 = h ∧ s.1 + 2 ^ h ≤ 16 ∧ s.2.1 + 2 ^ h ≤ 16 ∧ sc_mt lX hX lY hY s = true
def sc_G (lX hX lY hY : Int32) (Q0 : Nat → sc_Sq) (w x y h n : Nat) (f : sc_Sq → Nat) : Nat :=
  sc_sm (fun j => f (Q0 j)) w + sc_sm (fun q => if sc_mt lX hX lY hY (sc_q x y h q) = true then f (sc_q x y h q) else 0) n
theorem sc_Gs1 {Q0 : Nat → sc_Sq} {w x y h n : Nat} {f : sc_Sq → Nat} (hm : sc_mt lX hX lY hY (sc_q x y h n) = true) : sc_G lX hX lY hY Q0 w x y h n f + f (sc_q x y h n) = sc_G lX hX lY hY Q0 w x y h (n + 1) f := by
  unfold sc_G
  rw [sc_sms (n := n)]
  rw [if_pos hm]
  omega
theorem sc_Gs0 {Q0 : Nat → sc_Sq} {w x y h n : Nat} {f : sc_Sq → Nat} (hm : ¬ sc_mt lX hX lY hY (sc_q x y h n) = true) : sc_G lX hX lY hY Q0 w x y h n f = sc_G lX hX lY hY Q0 w x y h (n + 1) f := by
  unfold sc_G
  rw [sc_sms (n := n)]
  rw [if_neg hm]
  omega
theorem sx_q14 {x y h w : Nat} {Q0 : Nat → sc_Sq} (he : sc_Env mp wd tu tv TU TV c) (hh : h < 4) (hx : x + 2 ^ (h + 1) ≤ 16) (hy : y + 2 ^ (h + 1) ≤ 16) (hw : w + 4 ≤ 64) {post : SX → Prop}
    (K : ∀ (w1 : Nat) (Q : Nat → sc_Sq) (cx cy sl sb : Nat → Int32), w ≤ w1 → w1 ≤ w + 4 → sc_K (fun h x y => sc_B mp TU TV h x y c) w w1 Q0 (sc_V lX hX lY hY h) (sc_G lX hX lY hY Q0 w x y h 4) Q cx cy sl sb → post (fl, nI c, nI w1, lX, hX, lY, hY, bX, bY, bs, bp, mp, wd, pu, pv, tu, tv, cx, cy, sl, sb)) :
    ∀ (d q w1 : Nat) (Q : Nat → sc_Sq) (cx cy sl sb : Nat → Int32), q + d = 4 → w ≤ w1 → w1 ≤ w + q → sc_K (fun h x y => sc_B mp TU TV h x y c) w w1 Q0 (sc_V lX hX lY hY h) (sc_G lX hX lY hY Q0 w x y h q) Q cx cy sl sb →
      wX_quarter_14 post (nI x) (nI y) (nI h) (nI (2 ^ h)) (nI w) (d + 1) (nI q) fl (nI c) (nI w1) lX hX lY hY bX bY bs bp mp wd pu pv tu tv cx cy sl sb := by
  intro d
  induction d with
  | zero =>
    intro q w1 Q cx cy sl sb h1 h2 h3 hK
    have eq : q = 4 := by omega
    subst eq
    have H := sx_q75 (fl := fl) (fc := nI c) (lX := lX) (hX := hX) (lY := lY) (hY := hY) (bX := bX) (bY := bY) (bs := bs) (bp := bp) (mp := mp) (wd := wd) (pu := pu) (pv := pv) (tu := tu) (tv := tv) (post := post) (w := w) (w1 := w1) (by omega) (fun Q' cx' cy' sl' sb' hK' => K w1 Q' cx' cy' sl' sb' h2 h3 hK') 4 (w + 1) Q cx cy sl sb (by omega) (by omega) (by omega) hK
    exact br_t (nI_le (a := 4) (by omega) (by omega)) (nm_r (nI_1 w) ⟨_, H⟩)
  | succ d ih =>
    intro q w1 Q cx cy sl sb h1 h2 h3 hK
    have h4 : ¬ (4 : Int32) ≤ nI q := nI_ge (b := 4) (by omega) (by decide)
    have e1 : nI q &&& 1 = nI (q % 2) := pk_andN (by omega) 1 (by decide)
    have e2 : nI q >>> ((1 : Int32) &&& 31) = nI (q / 2) := pk_shrN (by omega) _ 1 (by decide)
    have ex : nI x + (nI q &&& 1) * nI (2 ^ h) = nI (x + q % 2 * 2 ^ h) := by rw [e1, pk_mul, nI_add]
    have ey : nI y + (nI q >>> ((1 : Int32) &&& 31)) * nI (2 ^ h) = nI (y + q / 2 * 2 ^ h) := by rw [e2, pk_mul, nI_add]
    obtain ⟨v1, v2⟩ := sc_qv hx hy (q := q) (by omega)
    have p0 : 0 < 2 ^ h := Nat.two_pow_pos h
    refine br_f h4 (nm_r ex (nm_r ey ?_))
    by_cases hm : sc_mt lX hX lY hY (x + q % 2 * 2 ^ h, y + q / 2 * 2 ^ h, h) = true
    · refine sx_mt1 (by omega) (by omega) (by omega) hm (br_f sc_10 ?_)
      refine sx_enq he (by omega) (by omega) (by omega) (by omega) ?_
      refine nm_r (nI_1 q) (ih (q + 1) (w1 + 1) (fun j => if j = w1 then sc_q x y h q else Q j) _ _ _ _ (by omega) (by omega) (by omega) ?_)
      exact sc_KG (sc_Kpush hK h2 (sc_q x y h q) ⟨rfl, v1, v2, hm⟩) (fun f => sc_Gs1 hm)
    · refine sx_mt0 (by omega) (by omega) (by omega) hm (br_t rfl ?_)
      refine nm_r (nI_1 q) (ih (q + 1) w1 Q cx cy sl sb (by omega) (by omega) (by omega) ?_)
      exact sc_KG hK (fun f => sc_Gs0 hm)
theorem sx_quarter {x y h w : Nat} {Q0 : Nat → sc_Sq} (he : sc_Env mp wd tu tv TU TV c) (hh : h < 4) (hx : x + 2 ^ (h + 1) ≤ 16) (hy : y + 2 ^ (h + 1) ≤ 16) (hw : w + 4 ≤ 64) {post : SX → Prop}
    (hQ : sc_H (fun h x y => sc_B mp TU TV h x y c) Q0 w cx cy sl sb)
    (K : ∀ (w1 : Nat) (Q : Nat → sc_Sq) (cx cy sl sb : Nat → Int32), w ≤ w1 → w1 ≤ w + 4 → sc_K (fun h x y => sc_B mp TU TV h x y c) w w1 Q0 (sc_V lX hX lY hY h) (sc_G lX hX lY hY Q0 w x y h 4) Q cx cy sl sb → post (fl, nI c, nI w1, lX, hX, lY, hY, bX, bY, bs, bp, mp, wd, pu, pv, tu, tv, cx, cy, sl, sb)) :
    wpX_quarter post (fl, nI c, nI w, lX, hX, lY, hY, bX, bY, bs, bp, mp, wd, pu, pv, tu, tv, cx, cy, sl, sb) (nI x) (nI y) (nI h) := by
  refine nm_r (sc_sh h (by omega)) ⟨4 + 1, sx_q14 he hh hx hy hw K 4 0 w Q0 cx cy sl sb (by omega) (by omega) (by omega) ?_⟩
  exact ⟨hQ, fun j _ => rfl, fun j a b => absurd b (by omega), fun f => rfl⟩
end
end
section
section
variable {fl fc fw lX hX lY hY bX bY bs bp : Int32} {mp wd pu pv tu tv cx cy sl sb : Nat → Int32}
/-! what holds of the stack between rounds -/
def sc_St (lX hX lY hY : Int32) (w : Nat) (Q : Nat → sc_Sq) : Prop :=
  ∀ j, j < w → (Q j).1 + 2 ^ (Q j).2.2 ≤ 16 ∧ (Q j).2.1 + 2 ^ (Q j).2.2 ≤ 16 ∧ j + 3 * (Q j).2.2 ≤ 12 ∧ ((Q j).2.2 = 0 → sc_mt lX hX lY hY (Q j) = true)
def sc_Tm (Q : Nat → sc_Sq) (w : Nat) : Nat := sc_sm (fun j => sc_T (Q j).2.2) w
theorem sc_Tmw {Q : Nat → sc_Sq} {w : Nat} : w ≤ sc_Tm Q w := sc_smge (fun j _ => sc_Tp _)
theorem sc_Tms {Q : Nat → sc_Sq} {w : Nat} : sc_Tm Q (w + 1) = sc_Tm Q w + sc_T (Q w).2.2 := rfl
theorem sc_Stp {Q : Nat → sc_Sq} {w : Nat} (h : sc_St lX hX lY hY (w + 1) Q) : sc_St lX hX lY hY w Q := fun j hj => h j (by omega)
theorem sc_Stq {B : Nat → Nat → Nat → Nat} {Q Q' : Nat → sc_Sq} {w w1 x y h : Nat} (hS : sc_St lX hX lY hY (w + 1) Q) (hq : Q w = (x, y, h + 1)) (h1 : w1 ≤ w + 4)
    (hK : sc_K B w w1 Q (sc_V lX hX lY hY h) (sc_G lX hX lY hY Q w x y h 4) Q' cx cy sl sb) : sc_St lX hX lY hY w1 Q' := by
  obtain ⟨k1, k2, k3, k4⟩ := hK
  intro j hj
  by_cases a : j < w
  · rw [k2 j a]
    exact hS j (by omega)
  · obtain ⟨v1, v2, v3, v4⟩ := k3 j (by omega) hj
    have hw := (hS w (by omega)).2.2.1
    rw [hq] at hw
    have hw : w + 3 * (h + 1) ≤ 12 := hw
    rw [v1]
    exact ⟨v2, v3, by omega, fun _ => v4⟩
theorem sc_Tmq {B : Nat → Nat → Nat → Nat} {Q Q' : Nat → sc_Sq} {V : sc_Sq → Prop} {w w1 x y h : Nat} (hq : Q w = (x, y, h + 1))
    (hK : sc_K B w w1 Q V (sc_G lX hX lY hY Q w x y h 4) Q' cx cy sl sb) : sc_Tm Q' w1 + 1 ≤ sc_Tm Q (w + 1) := by
  have h4 := hK.2.2.2 (fun s => sc_T s.2.2)
  have e : sc_Tm Q' w1 = sc_sm (fun j => sc_T (Q j).2.2) w + sc_sm (fun q => if sc_mt lX hX lY hY (sc_q x y h q) = true then sc_T (sc_q x y h q).2.2 else 0) 4 := h4
  have l : sc_sm (fun q => if sc_mt lX hX lY hY (sc_q x y h q) = true then sc_T (sc_q x y h q).2.2 else 0) 4 ≤ sc_sm (fun _ => sc_T h) 4 := by
    apply sc_smle
    intro j _
    split
    · exact Nat.le_refl _
    · exact Nat.zero_le _
  rw [sc_sm4 (fun _ => sc_T h)] at l
  rw [sc_Tms, hq, e]
  show _ ≤ sc_Tm Q w + (4 * sc_T h + 1)
  unfold sc_Tm
  omega
/-! the search -/
def sc_Mo (B : Nat → Nat → Nat → Nat) : Prop := (∀ h x y dx dy, dx < 2 ^ h → dy < 2 ^ h → B 0 (x + dx) (y + dy) ≤ B h x y) ∧ ∀ h x y, B h x y ≤ 90
def sc_Se (lX hX lY hY bX bY : Int32) (B : Nat → Nat → Nat → Nat) (r : Nat) (s0 p0 : Int32) (w : Nat) (Q : Nat → sc_Sq) (bs bp : Int32) : Prop :=
  ((bs = s0 ∧ bp = p0) ∨ ∃ x y, x < 16 ∧ y < 16 ∧ sc_A lX hX lY hY bX bY x y ∧ bs = nI (B 0 x y) ∧ bp = nI (r * 256 + y * 16 + x)) ∧ ¬ sc_Bt bs bp s0 p0 ∧
  ∀ x y, x < 16 → y < 16 → sc_A lX hX lY hY bX bY x y → sc_Bt bs bp (nI (B 0 x y)) (nI (r * 256 + y * 16 + x)) → 1 ≤ sc_sm (fun j => sc_In x y (Q j)) w
theorem sc_Inx {x y x0 y0 h : Nat} (hi : sc_In x y (x0, y0, h) = 1) : ∃ dx dy, dx < 2 ^ h ∧ dy < 2 ^ h ∧ x = x0 + dx ∧ y = y0 + dy := by
  rw [sc_Ini] at hi
  have hi : x0 ≤ x ∧ x < x0 + 2 ^ h ∧ y0 ≤ y ∧ y < y0 + 2 ^ h := hi
  exact ⟨x - x0, y - y0, by omega, by omega, by omega, by omega⟩
theorem sc_drop {B : Nat → Nat → Nat → Nat} {Q : Nat → sc_Sq} {r w x0 y0 h : Nat} {s0 p0 : Int32} (hB : sc_Mo B) (hr : r < 4) (hq : Q w = (x0, y0, h)) (hn : ¬ sc_Bt bs bp (nI (B h x0 y0)) (nI (r * 256 + y0 * 16 + x0)))
    (hS : sc_Se lX hX lY hY bX bY B r s0 p0 (w + 1) Q bs bp) : sc_Se lX hX lY hY bX bY B r s0 p0 w Q bs bp := by
  obtain ⟨a, b, c⟩ := hS
  refine ⟨a, b, ?_⟩
  intro x y hx hy hA hbt
  have h1 := c x y hx hy hA hbt
  rw [sc_sms, hq] at h1
  by_cases hi : sc_In x y (x0, y0, h) = 1
  · exfalso
    obtain ⟨dx, dy, d1, d2, rfl, rfl⟩ := sc_Inx hi
    have m1 := hB.1 h x0 y0 dx dy d1 d2
    have m2 := hB.2 h x0 y0
    rw [sc_Bti, nI_toInt (by omega), nI_toInt (by omega)] at hbt hn
    omega
  · rw [sc_Inz hi] at h1
    exact h1
theorem sc_sm1 {f : Nat → Nat} : ∀ {n q : Nat}, q < n → 1 ≤ f q → 1 ≤ sc_sm f n := by
  intro n
  induction n with
  | zero => intro q h; omega
  | succ n ih =>
    intro q h h1
    rw [sc_sms]
    by_cases e : q = n
    · subst e; omega
    · have := ih (q := q) (by omega) h1
      omega
theorem sc_split {B B' : Nat → Nat → Nat → Nat} {V : sc_Sq → Prop} {Q Q' : Nat → sc_Sq} {r w w1 x0 y0 h : Nat} {s0 p0 : Int32} (hq : Q w = (x0, y0, h + 1))
    (hK : sc_K B' w w1 Q V (sc_G lX hX lY hY Q w x0 y0 h 4) Q' cx cy sl sb)
    (hS : sc_Se lX hX lY hY bX bY B r s0 p0 (w + 1) Q bs bp) : sc_Se lX hX lY hY bX bY B r s0 p0 w1 Q' bs bp := by
  obtain ⟨a, b, c⟩ := hS
  refine ⟨a, b, ?_⟩
  intro x y hx hy hA hbt
  have h1 := c x y hx hy hA hbt
  rw [sc_sms, hq] at h1
  rw [hK.2.2.2 (sc_In x y)]
  unfold sc_G
  by_cases hi : sc_In x y (x0, y0, h + 1) = 1
  · obtain ⟨q, q4, hqi⟩ := sc_Inq hi
    have h2 : 1 ≤ sc_sm (fun q => if sc_mt lX hX lY hY (sc_q x0 y0 h q) = true then sc_In x y (sc_q x0 y0 h q) else 0) 4 := by
      apply sc_sm1 q4
      rw [if_pos (sc_mtq hA.1 hqi), hqi]
      exact Nat.le_refl _
    omega
  · rw [sc_Inz hi] at h1
    omega
theorem sc_bar {B : Nat → Nat → Nat → Nat} {Q : Nat → sc_Sq} {r w x0 y0 : Nat} {s0 p0 : Int32} (hq : Q w = (x0, y0, 0)) (hb : sc_br bX bY x0 y0)
    (hS : sc_Se lX hX lY hY bX bY B r s0 p0 (w + 1) Q bs bp) : sc_Se lX hX lY hY bX bY B r s0 p0 w Q bs bp := by
  obtain ⟨a, b, c⟩ := hS
  refine ⟨a, b, ?_⟩
  intro x y hx hy hA hbt
  have h1 := c x y hx hy hA hbt
  rw [sc_sms, hq] at h1
  by_cases hi : sc_In x y (x0, y0, 0) = 1
  · exfalso
    obtain ⟨dx, dy, d1, d2, e1, e2⟩ := sc_Inx hi
    rw [Nat.pow_zero] at d1 d2
    have f1 : x = x0 := by omega
    have f2 : y = y0 := by omega
    subst f1 f2
    exact hA.2 hb
  · rw [sc_Inz hi] at h1
    exact h1
theorem sc_take {B : Nat → Nat → Nat → Nat} {Q : Nat → sc_Sq} {r w x0 y0 : Nat} {s0 p0 : Int32} (hq : Q w = (x0, y0, 0)) (hx0 : x0 < 16) (hy0 : y0 < 16) (hA0 : sc_A lX hX lY hY bX bY x0 y0)
    (hh : sc_Bt bs bp (nI (B 0 x0 y0)) (nI (r * 256 + y0 * 16 + x0)))
    (hS : sc_Se lX hX lY hY bX bY B r s0 p0 (w + 1) Q bs bp) : sc_Se lX hX lY hY bX bY B r s0 p0 w Q (nI (B 0 x0 y0)) (nI (r * 256 + y0 * 16 + x0)) := by
  obtain ⟨a, b, c⟩ := hS
  refine ⟨Or.inr ⟨x0, y0, hx0, hy0, hA0, rfl, rfl⟩, sc_Btt (sc_Bta hh) b, ?_⟩
  intro x y hx hy hA hbt
  have hbt2 : sc_Bt bs bp (nI (B 0 x y)) (nI (r * 256 + y * 16 + x)) := by
    rw [sc_Bti] at *
    omega
  have h1 := c x y hx hy hA hbt2
  rw [sc_sms, hq] at h1
  by_cases hi : sc_In x y (x0, y0, 0) = 1
  · exfalso
    obtain ⟨dx, dy, d1, d2, e1, e2⟩ := sc_Inx hi
    rw [Nat.pow_zero] at d1 d2
    have f1 : x = x0 := by omega
    have f2 : y = y0 := by omega
    subst f1 f2
    exact sc_Btr _ _ hbt
  · rw [sc_Inz hi] at h1
    exact h1
/-- the allowed poses of turn r -/
def sc_P (lX hX lY hY bX bY : Int32) (r q : Nat) : Prop := q / 256 = r ∧ sc_A lX hX lY hY bX bY (q % 16) (q / 16 % 16)
theorem sc_done {B : Nat → Nat → Nat → Nat} {SP : Nat → Nat} {Q : Nat → sc_Sq} {r : Nat} {s0 p0 : Int32} (hr : r < 4) (hSP : ∀ x y, x < 16 → y < 16 → SP (r * 256 + y * 16 + x) = B 0 x y)
    (hS : sc_Se lX hX lY hY bX bY B r s0 p0 0 Q bs bp) : sc_Bst (sc_P lX hX lY hY bX bY r) SP s0 p0 bs bp := by
  obtain ⟨a, b, c⟩ := hS
  refine ⟨?_, b, ?_⟩
  · rcases a with e | ⟨x, y, hx, hy, hA, e1, e2⟩
    · exact Or.inl e
    · refine Or.inr ⟨r * 256 + y * 16 + x, by omega, ⟨by omega, ?_⟩, by rw [hSP x y hx hy]; exact e1, e2⟩
      rw [show (r * 256 + y * 16 + x) % 16 = x from by omega, show (r * 256 + y * 16 + x) / 16 % 16 = y from by omega]
      exact hA
  · intro q hq hP hbt
    obtain ⟨hP1, hP2⟩ := hP
    have e : q = r * 256 + q / 16 % 16 * 16 + q % 16 := by omega
    have h1 := c (q % 16) (q / 16 % 16) (by omega) (by omega) hP2 (by
      rw [← hSP _ _ (by omega) (by omega), ← e]
      exact hbt)
    exact absurd h1 (by show ¬ 1 ≤ 0; omega)
/-! the count -/
def sc_g (B : Nat → Nat → Nat → Nat) (s : Int32) (x y : Nat) : Nat := if nI (B 0 x y) < s then 0 else 1
def sc_Co (B : Nat → Nat → Nat → Nat) (s : Int32) (w : Nat) (Q : Nat → sc_Sq) : Nat := sc_sm (fun j => sc_cn (sc_g B s) (Q j).2.2 (Q j).1 (Q j).2.1) w
theorem sc_Cos {B : Nat → Nat → Nat → Nat} {s : Int32} {w : Nat} {Q : Nat → sc_Sq} : sc_Co B s (w + 1) Q = sc_Co B s w Q + sc_cn (sc_g B s) (Q w).2.2 (Q w).1 (Q w).2.1 := rfl
theorem sc_cdrop {B : Nat → Nat → Nat → Nat} {s : Int32} {x y h : Nat} (hB : sc_Mo B) (hl : nI (B h x y) < s) : sc_cn (sc_g B s) h x y = 0 := by
  apply sc_cn0
  intro dx dy d1 d2
  have m1 := hB.1 h x y dx dy d1 d2
  have m2 := hB.2 h x y
  unfold sc_g
  rw [if_pos]
  rw [Int32.lt_iff_toInt_lt, nI_toInt (by omega)] at *
  omega
theorem sc_csplit {B B' : Nat → Nat → Nat → Nat} {s : Int32} {Q Q' : Nat → sc_Sq} {V : sc_Sq → Prop} {w w1 x y h : Nat} (hx : x + 2 ^ (h + 1) ≤ 16) (hy : y + 2 ^ (h + 1) ≤ 16)
    (hall : ∀ s : sc_Sq, s.1 < 16 → s.2.1 < 16 → sc_mt lX hX lY hY s = true)
    (hK : sc_K B' w w1 Q V (sc_G lX hX lY hY Q w x y h 4) Q' cx cy sl sb) : sc_Co B s w1 Q' = sc_Co B s w Q + sc_cn (sc_g B s) (h + 1) x y := by
  have h4 : sc_Co B s w1 Q' = sc_G lX hX lY hY Q w x y h 4 (fun t => sc_cn (sc_g B s) t.2.2 t.1 t.2.1) := hK.2.2.2 (fun t => sc_cn (sc_g B s) t.2.2 t.1 t.2.1)
  have p0 : 0 < 2 ^ h := Nat.two_pow_pos h
  rw [h4]
  unfold sc_G sc_Co
  congr 1
  have e : sc_sm (fun q => if sc_mt lX hX lY hY (sc_q x y h q) = true then sc_cn (sc_g B s) (sc_q x y h q).2.2 (sc_q x y h q).1 (sc_q x y h q).2.1 else 0) 4 = sc_sm (fun q => sc_cn (sc_g B s) h (x + q % 2 * 2 ^ h) (y + q / 2 * 2 ^ h)) 4 := by
    apply sc_smc
    intro j hj
    have hv := sc_qv hx hy (q := j) hj
    rw [if_pos (hall _ (show x + j % 2 * 2 ^ h < 16 from by omega) (show y + j / 2 * 2 ^ h < 16 from by omega))]
    rfl
  rw [e, sc_sm4, sc_cns]
  simp only [Nat.zero_mod, Nat.zero_div, Nat.reduceMod, Nat.reduceDiv, Nat.zero_mul, Nat.one_mul, Nat.add_zero]
end
end
section
section
variable {fl fc fw lX hX lY hY bX bY bs bp : Int32} {mp wd pu pv tu tv cx cy sl sb : Nat → Int32} {TU TV : Nat → Int32} {c : Nat}
theorem sc_MoB (hm : sc_Mp mp) (hc : c ≤ 10) : sc_Mo (fun h x y => sc_B mp TU TV h x y c) := by
  refine ⟨fun h x y dx dy d1 d2 => sc_Bm d1 d2 c, fun h x y => ?_⟩
  have := sc_B9 (tu := TU) (tv := TV) (h := h) (x := x) (y := y) hm c
  show sc_B mp TU TV h x y c ≤ 90
  omega
theorem sc_hop1 {A0 A1 : Prop} {m l : Int32} (h : sc_Bt bs bp m l) (k : A1) : (bs < m → A1) ∧ (¬ bs < m → ((m = bs → ((bp ≤ l → A0) ∧ (¬ bp ≤ l → A1))) ∧ (¬ m = bs → A0))) := by
  by_cases h1 : bs < m
  · exact br_t h1 k
  · rcases h with h2 | ⟨h2, h3⟩
    · exact absurd h2 h1
    · exact br_f h1 (br_t h2.symm (br_f (Int32.not_le.mpr h3) k))
theorem sc_hop0 {A0 A1 : Prop} {m l : Int32} (h : ¬ sc_Bt bs bp m l) (k : A0) : (bs < m → A1) ∧ (¬ bs < m → ((m = bs → ((bp ≤ l → A0) ∧ (¬ bp ≤ l → A1))) ∧ (¬ m = bs → A0))) := by
  refine br_f (fun z => h (Or.inl z)) ?_
  by_cases h2 : m = bs
  · exact br_t h2 (br_t (Int32.not_lt.mp (fun z => h (Or.inr ⟨h2.symm, z⟩))) k)
  · exact br_f h2 k
theorem sc_pose (r x y : Nat) : nI r * 256 + nI y * 16 + nI x = nI (r * 256 + y * 16 + x) := by
  rw [show (256 : Int32) = nI 256 from rfl, show (16 : Int32) = nI 16 from rfl, pk_mul, pk_mul, nI_add, nI_add]
/-! one round, behind the choice -/
theorem sx_r0 {post : SX → Prop} {J : sc_JS} {x1 x3 x4 x5 x6 x7 : Int32} {rd : Nat} (k : J (nI (rd + 1)) fl fc fw lX hX lY hY bX bY bs bp mp wd pu pv tu tv cx cy sl sb) : wX_searchTurn_132 post J x1 (nI rd) x3 x4 x5 x6 x7 fl fc fw lX hX lY hY bX bY bs bp mp wd pu pv tu tv cx cy sl sb :=
  br_t rfl (br_t rfl (nm_r (nI_1 rd) k))
theorem sx_rb {post : SX → Prop} {J : sc_JS} {x1 x6 x7 : Int32} {x y rd : Nat} (hx : x ≤ 16) (hy : y ≤ 16) (hb : sc_Rb bX bY) (h : sc_br bX bY x y) (k : J (nI (rd + 1)) fl fc fw lX hX lY hY bX bY bs bp mp wd pu pv tu tv cx cy sl sb) : wX_searchTurn_128 post J x1 (nI rd) (nI x) (nI y) (nI 0) x6 x7 fl fc fw lX hX lY hY bX bY bs bp mp wd pu pv tu tv cx cy sl sb :=
  br_f sc_10 (br_t (nI_le (a := 0) (b := 0) (by omega) (by decide)) (br_f sc_10 (sx_br1 hx hy hb h (br_f sc_10 (nm_r (nI_1 rd) k)))))
theorem sx_rt {post : SX → Prop} {J : sc_JS} {x1 x6 x7 : Int32} {x y rd : Nat} (hx : x ≤ 16) (hy : y ≤ 16) (hb : sc_Rb bX bY) (h : ¬ sc_br bX bY x y) (k : J (nI (rd + 1)) fl fc fw lX hX lY hY bX bY x6 x7 mp wd pu pv tu tv cx cy sl sb) : wX_searchTurn_128 post J x1 (nI rd) (nI x) (nI y) (nI 0) x6 x7 fl fc fw lX hX lY hY bX bY bs bp mp wd pu pv tu tv cx cy sl sb :=
  br_f sc_10 (br_t (nI_le (a := 0) (b := 0) (by omega) (by decide)) (br_f sc_10 (sx_br0 hx hy hb h (br_t rfl (nm_r (nI_1 rd) k)))))
theorem sx_rq {post : SX → Prop} {J : sc_JS} {x1 x6 x7 : Int32} {x y h w rd : Nat} {Q0 : Nat → sc_Sq} (he : sc_Env mp wd tu tv TU TV c) (hh : h < 4) (hx : x + 2 ^ (h + 1) ≤ 16) (hy : y + 2 ^ (h + 1) ≤ 16) (hw : w + 4 ≤ 64)
    (hQ : sc_H (fun h x y => sc_B mp TU TV h x y c) Q0 w cx cy sl sb)
    (K : ∀ (w1 : Nat) (Q : Nat → sc_Sq) (cx cy sl sb : Nat → Int32), w ≤ w1 → w1 ≤ w + 4 → sc_K (fun h x y => sc_B mp TU TV h x y c) w w1 Q0 (sc_V lX hX lY hY h) (sc_G lX hX lY hY Q0 w x y h 4) Q cx cy sl sb → J (nI (rd + 1)) fl (nI c) (nI w1) lX hX lY hY bX bY bs bp mp wd pu pv tu tv cx cy sl sb) :
    wX_searchTurn_128 post J x1 (nI rd) (nI x) (nI y) (nI (h + 1)) x6 x7 fl (nI c) (nI w) lX hX lY hY bX bY bs bp mp wd pu pv tu tv cx cy sl sb := by
  have h0 : ¬ nI (h + 1) ≤ 0 := nI_nle (by omega) (by omega)
  refine br_f sc_10 (br_f h0 ?_)
  rw [nI_pred]
  refine sx_quarter he hh hx hy hw hQ (fun w1 Q cx cy sl sb h1 h2 hK => ?_)
  exact nm_r (nI_1 rd) (K w1 Q cx cy sl sb h1 h2 hK)
theorem sx_s19 {r : Nat} {s0 p0 : Int32} (he : sc_Env mp wd tu tv TU TV c) (hr : r < 4) (hb : sc_Rb bX bY) {post : SX → Prop}
    (K : ∀ (w : Nat) (Q : Nat → sc_Sq) (bs bp : Int32) (cx cy sl sb : Nat → Int32), sc_Se lX hX lY hY bX bY (fun h x y => sc_B mp TU TV h x y c) r s0 p0 0 Q bs bp → post (fl, nI c, nI w, lX, hX, lY, hY, bX, bY, bs, bp, mp, wd, pu, pv, tu, tv, cx, cy, sl, sb)) :
    ∀ (d rd w : Nat) (Q : Nat → sc_Sq) (bs bp : Int32) (cx cy sl sb : Nat → Int32), rd + d = 341 → sc_H (fun h x y => sc_B mp TU TV h x y c) Q w cx cy sl sb → sc_St lX hX lY hY w Q → sc_Tm Q w + rd ≤ 341 →
      sc_Se lX hX lY hY bX bY (fun h x y => sc_B mp TU TV h x y c) r s0 p0 w Q bs bp → wX_searchTurn_19 post (nI r) (d + 1) (nI rd) fl (nI c) (nI w) lX hX lY hY bX bY bs bp mp wd pu pv tu tv cx cy sl sb := by
  have hM : sc_Mo (fun h x y => sc_B mp TU TV h x y c) := sc_MoB he.2.2.1 he.2.1
  intro d
  induction d with
  | zero =>
    intro rd w Q bs bp cx cy sl sb hrd hQ hS hT hE
    have hw := sc_Tmw (Q := Q) (w := w)
    have ew : w = 0 := by omega
    subst ew
    exact br_t (nI_le (a := 341) (by omega) (by omega)) (K 0 Q bs bp cx cy sl sb hE)
  | succ d ih =>
    intro rd w Q bs bp cx cy sl sb hrd hQ hS hT hE
    have h341 : ¬ (341 : Int32) ≤ nI rd := nI_ge (b := 341) (by omega) (by decide)
    cases w with
    | zero => exact br_f h341 (br_t (nI_le (a := 0) (b := 0) (by omega) (by decide)) (K 0 Q bs bp cx cy sl sb hE))
    | succ w =>
      have h0 : ¬ nI (w + 1) ≤ 0 := nI_nle (by omega) (by have := sc_Tmw (Q := Q) (w := w + 1); omega)
      obtain ⟨t1, t2, t3, t4⟩ := hS w (by omega)
      obtain ⟨q1, q2, q3, q4⟩ := hQ w (by omega)
      have hQ' : sc_H (fun h x y => sc_B mp TU TV h x y c) Q w cx cy sl sb := fun j hj => hQ j (by omega)
      obtain ⟨x, y, h, hq⟩ : ∃ x y h, Q w = (x, y, h) := ⟨(Q w).1, (Q w).2.1, (Q w).2.2, rfl⟩
      rw [hq] at t1 t2 t3 t4 q1 q2 q3 q4
      dsimp only at t1 t2 t3 t4 q1 q2 q3 q4
      have p0 : 0 < 2 ^ h := Nat.two_pow_pos h
      have hv : vp_in (nI w) 64 := vp_in_nI (by omega) (by omega)
      have e : (nI w).toNatClampNeg = w := nI_clamp (by omega)
      refine br_f h341 (br_f h0 (nm_r (nI_pred w) ⟨hv, nm_r (e' := nI x) (by rw [e]; exact q1) ⟨hv, nm_r (e' := nI y) (by rw [e]; exact q2) ⟨hv, nm_r (e' := nI h) (by rw [e]; exact q3) ⟨hv, nm_r (e' := nI (sc_B mp TU TV h x y c)) (by rw [e]; exact q4) (nm_r (sc_pose r x y) ?_)⟩⟩⟩⟩))
      by_cases hop : sc_Bt bs bp (nI (sc_B mp TU TV h x y c)) (nI (r * 256 + y * 16 + x))
      · refine sc_hop1 hop ?_
        cases h with
        | zero =>
          by_cases hbr : sc_br bX bY x y
          · exact sx_rb (by omega) (by omega) hb hbr (ih (rd + 1) w Q bs bp cx cy sl sb (by omega) hQ' (sc_Stp hS) (by rw [sc_Tms] at hT; have := sc_Tp (Q w).2.2; omega) (sc_bar hq hbr hE))
          · exact sx_rt (by omega) (by omega) hb hbr (ih (rd + 1) w Q _ _ cx cy sl sb (by omega) hQ' (sc_Stp hS) (by rw [sc_Tms] at hT; have := sc_Tp (Q w).2.2; omega) (sc_take hq (by omega) (by omega) ⟨t4 rfl, hbr⟩ hop hE))
        | succ h =>
          refine sx_rq he (by omega) t1 t2 (by omega) hQ' (fun w1 Q' cx' cy' sl' sb' h1 h2 hK => ?_)
          exact ih (rd + 1) w1 Q' bs bp cx' cy' sl' sb' (by omega) hK.1 (sc_Stq hS hq h2 hK) (by have := sc_Tmq hq hK; omega) (sc_split hq hK hE)
      · refine sc_hop0 hop (sx_r0 ?_)
        exact ih (rd + 1) w Q bs bp cx cy sl sb (by omega) hQ' (sc_Stp hS) (by rw [sc_Tms] at hT; have := sc_Tp (Q w).2.2; omega) (sc_drop hM hr hq hop hE)
/-! the first square -/
def sc_Q1 : Nat → sc_Sq := fun j => if j = 0 then (0, 0, 4) else (0, 0, 0)
theorem sc_St1 : sc_St lX hX lY hY 1 sc_Q1 := by
  intro j hj
  have e : j = 0 := by omega
  subst e
  exact ⟨by decide, by decide, by decide, fun z => absurd z (by decide)⟩
theorem sc_Tm1 : sc_Tm sc_Q1 1 = 341 := rfl
theorem sc_Se1 {B : Nat → Nat → Nat → Nat} {r : Nat} : sc_Se lX hX lY hY bX bY B r bs bp 1 sc_Q1 bs bp := by
  refine ⟨Or.inl ⟨rfl, rfl⟩, sc_Btr _ _, ?_⟩
  intro x y hx hy hA hbt
  have e : sc_In x y (0, 0, 4) = 1 := by
    rw [sc_Ini]
    show 0 ≤ x ∧ x < 0 + 16 ∧ 0 ≤ y ∧ y < 0 + 16
    omega
  show 1 ≤ 0 + sc_In x y (0, 0, 4)
  omega
theorem sx_search {r : Nat} (hw : sc_Win mp wd 4805) (hc : c ≤ 10) (hm : sc_Mp mp) (hu : sc_Pt pu) (hv : sc_Pt pv) (hr : r < 4) (hb : sc_Rb bX bY) {post : SX → Prop}
    (K : ∀ (fw bs' bp' : Int32) (tu tv cx cy sl sb : Nat → Int32), sc_Bst (sc_P lX hX lY hY bX bY r) (sc_S mp pu pv c) bs bp bs' bp' → post (fl, nI c, fw, lX, hX, lY, hY, bX, bY, bs', bp', mp, wd, pu, pv, tu, tv, cx, cy, sl, sb)) :
    wpX_searchTurn post (fl, nI c, fw, lX, hX, lY, hY, bX, bY, bs, bp, mp, wd, pu, pv, tu, tv, cx, cy, sl, sb) (nI r) := by
  refine sx_turn hr hc (fun tu' tv' ht => ?_)
  have he : sc_Env mp wd tu' tv' (sc_tu r pu pv) (sc_tv r pu pv) c := ⟨hw, hc, hm, sc_Ptu hu hv, sc_Ptv hu hv, ht⟩
  refine sx_enq (w := 0) (x := 0) (y := 0) (h := 4) he (by omega) (by omega) (by omega) (by omega) ?_
  refine ⟨341 + 1, sx_s19 he hr hb (s0 := bs) (p0 := bp) (fun w Q bs' bp' cx' cy' sl' sb' hE => ?_) 341 0 1 sc_Q1 bs bp _ _ _ _ (by omega) ?_ sc_St1 (by rw [sc_Tm1]; omega) sc_Se1⟩
  · exact K _ _ _ _ _ _ _ _ _ (sc_done hr (fun x y hx hy => sc_Spose hx hy) hE)
  · exact sc_Hpush (Q := fun _ => (0, 0, 0)) (fun j hj => absurd hj (by omega)) (0, 0, 4)
end
end
section
section
variable {fl fc fw lX hX lY hY bX bY bs bp : Int32} {mp wd pu pv tu tv cx cy sl sb : Nat → Int32} {TU TV : Nat → Int32} {c : Nat}
theorem sx_c22 {s : Int32} {tot : Nat} (he : sc_Env mp wd tu tv TU TV c) (hall : ∀ s : sc_Sq, s.1 < 16 → s.2.1 < 16 → sc_mt lX hX lY hY s = true) {post : Int32 → SX → Prop}
    (K : ∀ (w : Nat) (cx cy sl sb : Nat → Int32), post (nI tot) (fl, nI c, nI w, lX, hX, lY, hY, bX, bY, bs, bp, mp, wd, pu, pv, tu, tv, cx, cy, sl, sb)) :
    ∀ (d rd w f : Nat) (Q : Nat → sc_Sq) (cx cy sl sb : Nat → Int32), rd + d = 341 → sc_H (fun h x y => sc_B mp TU TV h x y c) Q w cx cy sl sb → sc_St lX hX lY hY w Q → sc_Tm Q w + rd ≤ 341 →
      f + sc_Co (fun h x y => sc_B mp TU TV h x y c) s w Q = tot → wX_countTurn_22 post s (d + 1) (nI f) (nI rd) fl (nI c) (nI w) lX hX lY hY bX bY bs bp mp wd pu pv tu tv cx cy sl sb := by
  have hM : sc_Mo (fun h x y => sc_B mp TU TV h x y c) := sc_MoB he.2.2.1 he.2.1
  intro d
  induction d with
  | zero =>
    intro rd w f Q cx cy sl sb hrd hQ hS hT hE
    have hw := sc_Tmw (Q := Q) (w := w)
    have ew : w = 0 := by omega
    subst ew
    have ef : f = tot := hE
    subst ef
    exact br_t (nI_le (a := 341) (by omega) (by omega)) (K 0 cx cy sl sb)
  | succ d ih =>
    intro rd w f Q cx cy sl sb hrd hQ hS hT hE
    have h341 : ¬ (341 : Int32) ≤ nI rd := nI_ge (b := 341) (by omega) (by decide)
    cases w with
    | zero =>
      have ef : f = tot := hE
      subst ef
      exact br_f h341 (br_t (nI_le (a := 0) (b := 0) (by omega) (by decide)) (K 0 cx cy sl sb))
    | succ w =>
      have h0 : ¬ nI (w + 1) ≤ 0 := nI_nle (by omega) (by have := sc_Tmw (Q := Q) (w := w + 1); omega)
      obtain ⟨t1, t2, t3, t4⟩ := hS w (by omega)
      obtain ⟨q1, q2, q3, q4⟩ := hQ w (by omega)
      have hQ' : sc_H (fun h x y => sc_B mp TU TV h x y c) Q w cx cy sl sb := fun j hj => hQ j (by omega)
      obtain ⟨x, y, h, hq⟩ : ∃ x y h, Q w = (x, y, h) := ⟨(Q w).1, (Q w).2.1, (Q w).2.2, rfl⟩
      rw [sc_Cos] at hE
      rw [hq] at t1 t2 t3 t4 q1 q2 q3 q4 hE
      dsimp only at t1 t2 t3 t4 q1 q2 q3 q4 hE
      have p0 : 0 < 2 ^ h := Nat.two_pow_pos h
      have hv : vp_in (nI w) 64 := vp_in_nI (by omega) (by omega)
      have e : (nI w).toNatClampNeg = w := nI_clamp (by omega)
      have eb : sb (nI w).toNatClampNeg = nI (sc_B mp TU TV h x y c) := by rw [e]; exact q4
      refine br_f h341 (br_f h0 (nm_r (nI_pred w) ⟨hv, nm_r (e' := nI h) (by rw [e]; exact q3) ⟨hv, ?_⟩⟩))
      by_cases l : nI (sc_B mp TU TV h x y c) < s
      · refine br_t (by rw [eb]; exact l) (nm_r (nI_1 rd) (ih (rd + 1) w f Q cx cy sl sb (by omega) hQ' (sc_Stp hS) (by rw [sc_Tms] at hT; have := sc_Tp (Q w).2.2; omega) ?_))
        rw [sc_cdrop (B := fun h x y => sc_B mp TU TV h x y c) hM l] at hE
        exact hE
      · refine br_f (by rw [eb]; exact l) ?_
        cases h with
        | zero =>
          refine br_t rfl (nm_r (nI_1 f) (nm_r (nI_1 rd) (ih (rd + 1) w (f + 1) Q cx cy sl sb (by omega) hQ' (sc_Stp hS) (by rw [sc_Tms] at hT; have := sc_Tp (Q w).2.2; omega) ?_)))
          have g1 : sc_cn (sc_g (fun h x y => sc_B mp TU TV h x y c) s) 0 x y = 1 := if_neg l
          rw [g1] at hE
          omega
        | succ h =>
          refine br_f (nI_ne0 (by omega) (by omega)) ⟨hv, hv, ?_⟩
          rw [e, q1, q2, nI_pred]
          refine sx_quarter he (by omega) t1 t2 (by omega) hQ' (fun w1 Q' cx' cy' sl' sb' h1 h2 hK => ?_)
          refine nm_r (nI_1 rd) (ih (rd + 1) w1 f Q' cx' cy' sl' sb' (by omega) hK.1 (sc_Stq hS hq h2 hK) (by have := sc_Tmq hq hK; omega) ?_)
          rw [sc_csplit t1 t2 hall hK]
          exact hE
/-- how many places of turn r have at least this score -/
def sc_Ct (mp pu pv : Nat → Int32) (c : Nat) (s : Int32) (r : Nat) : Nat := sc_cn (sc_g (fun h x y => sc_B mp (sc_tu r pu pv) (sc_tv r pu pv) h x y c) s) 4 0 0
theorem sx_count {r : Nat} {s : Int32} (hw : sc_Win mp wd 4805) (hc : c ≤ 10) (hm : sc_Mp mp) (hu : sc_Pt pu) (hv : sc_Pt pv) (hr : r < 4) (hall : ∀ s : sc_Sq, s.1 < 16 → s.2.1 < 16 → sc_mt lX hX lY hY s = true) {post : Int32 → SX → Prop}
    (K : ∀ (fw : Int32) (tu tv cx cy sl sb : Nat → Int32), post (nI (sc_Ct mp pu pv c s r)) (fl, nI c, fw, lX, hX, lY, hY, bX, bY, bs, bp, mp, wd, pu, pv, tu, tv, cx, cy, sl, sb)) :
    wpX_countTurn post (fl, nI c, fw, lX, hX, lY, hY, bX, bY, bs, bp, mp, wd, pu, pv, tu, tv, cx, cy, sl, sb) (nI r) s := by
  refine sx_turn hr hc (fun tu' tv' ht => ?_)
  have he : sc_Env mp wd tu' tv' (sc_tu r pu pv) (sc_tv r pu pv) c := ⟨hw, hc, hm, sc_Ptu hu hv, sc_Ptv hu hv, ht⟩
  refine sx_enq (w := 0) (x := 0) (y := 0) (h := 4) he (by omega) (by omega) (by omega) (by omega) ?_
  refine ⟨341 + 1, sx_c22 he hall (tot := sc_Ct mp pu pv c s r) (fun w cx' cy' sl' sb' => ?_) 341 0 1 0 sc_Q1 _ _ _ _ (by omega) ?_ sc_St1 (by rw [sc_Tm1]; omega) ?_⟩
  · exact K _ _ _ _ _ _ _
  · exact sc_Hpush (Q := fun _ => (0, 0, 0)) (fun j hj => absurd hj (by omega)) (0, 0, 4)
  · show 0 + (0 + sc_Ct mp pu pv c s r) = sc_Ct mp pu pv c s r
    omega
theorem sc_CtS {s : Int32} {r : Nat} : sc_Ct mp pu pv c s r = sc_sm (fun p => if nI (sc_S mp pu pv c (r * 256 + p)) < s then 0 else 1) 256 := by
  unfold sc_Ct
  rw [sc_cne]
  rw [show sc_sm (fun p => if nI (sc_S mp pu pv c (r * 256 + p)) < s then 0 else 1) 256 = sc_sm (fun p => if nI (sc_S mp pu pv c (r * 256 + p)) < s then 0 else 1) (16 * 16) from rfl, sc_smm]
  apply sc_smc
  intro y hy
  apply sc_smc
  intro x hx
  have e := sc_Spose (mp := mp) (pu := pu) (pv := pv) (c := c) (r := r) (x := x) (y := y) hx hy
  rw [Nat.add_assoc] at e
  rw [e, Nat.zero_add, Nat.zero_add]
  rfl
theorem sc_Ct4 {s : Int32} : sc_sm (sc_Ct mp pu pv c s) 4 = sc_sm (fun p => if nI (sc_S mp pu pv c p) < s then 0 else 1) 1024 := by
  rw [show sc_sm (fun p => if nI (sc_S mp pu pv c p) < s then 0 else 1) 1024 = sc_sm (fun p => if nI (sc_S mp pu pv c p) < s then 0 else 1) (4 * 256) from rfl, sc_smm]
  apply sc_smc
  intro r hr
  exact sc_CtS
end
end
section
section
variable {fl fc fw lX hX lY hY bX bY bs bp : Int32} {mp wd pu pv tu tv cx cy sl sb : Nat → Int32} {c : Nat}
theorem sc_all (s : sc_Sq) (h1 : s.1 < 16) (h2 : s.2.1 < 16) : sc_mt 0 15 0 15 s = true := by
  obtain ⟨x, y, h⟩ := s
  have h1 : x < 16 := h1
  have h2 : y < 16 := h2
  have p0 : 0 < 2 ^ h := Nat.two_pow_pos h
  rw [sc_mti, sc_i0, sc_i15]
  omega
theorem sx_allow (hm : sc_Mp mp) {post : SX → Prop} (hf : fl = 0 ∨ sc_Win mp wd 4805)
    (K : ∀ (fl : Int32) (wd : Nat → Int32), sc_Win mp wd 4805 → post (fl, fc, fw, 0, 15, 0, 15, -1, -1, -1, 1024, mp, wd, pu, pv, tu, tv, cx, cy, sl, sb)) : wpX_allowAll post (fl, fc, fw, lX, hX, lY, hY, bX, bY, bs, bp, mp, wd, pu, pv, tu, tv, cx, cy, sl, sb) := by
  unfold wpX_allowAll
  exact sx_layer hm hf (fun fl' wd' hw => K fl' wd' hw)
theorem sc_S90 (hm : sc_Mp mp) (hc : c ≤ 10) : ∀ q, sc_S mp pu pv c q ≤ 90 := fun q => sc_S9 hm hc
/-- poses of turns below i that are allowed -/
def sc_Pi (A : Nat → Prop) (i q : Nat) : Prop := q / 256 < i ∧ A q
theorem sc_Pis {A : Nat → Prop} {i q : Nat} : sc_Pi A (i + 1) q ↔ (sc_Pi A i q ∨ (q / 256 = i ∧ A q)) := by
  unfold sc_Pi
  by_cases h : A q
  · simp only [h, and_true]; omega
  · simp only [h, and_false, or_false]
theorem sc_Atrue {x y : Nat} (hx : x < 16) (hy : y < 16) : sc_A 0 15 0 15 (-1) (bY) x y := by
  refine ⟨sc_all (x, y, 0) hx hy, ?_⟩
  intro h
  have := h.1
  rw [sc_im1] at this
  omega
theorem sc_Rb1 : sc_Rb (-1) (-1) := by decide
theorem sx_sa6 {s0 p0 : Int32} (hw : sc_Win mp wd 4805) (hc : c ≤ 10) (hm : sc_Mp mp) (hu : sc_Pt pu) (hv : sc_Pt pv) {post : SX → Prop}
    (K : ∀ (fw bs bp : Int32) (tu tv cx cy sl sb : Nat → Int32), sc_Bst (sc_Pi (fun _ => True) 4) (sc_S mp pu pv c) s0 p0 bs bp → post (fl, nI c, fw, 0, 15, 0, 15, -1, -1, bs, bp, mp, wd, pu, pv, tu, tv, cx, cy, sl, sb)) :
    ∀ (d i : Nat) (fw bs bp : Int32) (tu tv cx cy sl sb : Nat → Int32), i + d = 4 → sc_Bst (sc_Pi (fun _ => True) i) (sc_S mp pu pv c) s0 p0 bs bp → wX_searchAll_6 post (d + 1) (nI i) fl (nI c) fw 0 15 0 15 (-1) (-1) bs bp mp wd pu pv tu tv cx cy sl sb := by
  intro d
  induction d with
  | zero =>
    intro i fw bs bp tu tv cx cy sl sb hi hB
    have ei : i = 4 := by omega
    subst ei
    exact br_t (nI_le (a := 4) (b := 4) (by omega) (by decide)) (K fw bs bp tu tv cx cy sl sb hB)
  | succ d ih =>
    intro i fw bs bp tu tv cx cy sl sb hi hB
    have h4 : ¬ (4 : Int32) ≤ nI i := nI_ge (b := 4) (by omega) (by decide)
    refine br_f h4 (sx_search hw hc hm hu hv (by omega) sc_Rb1 (fun fw' bs' bp' tu' tv' cx' cy' sl' sb' hB' => ?_))
    refine nm_r (nI_1 i) (ih (i + 1) fw' bs' bp' tu' tv' cx' cy' sl' sb' (by omega) ?_)
    have hB2 : sc_Bst (fun q => q / 256 = i ∧ True) (sc_S mp pu pv c) bs bp bs' bp' := sc_Bste hB' (fun q hq => ⟨fun z => ⟨z.1, trivial⟩, fun z => ⟨z.1, sc_Atrue (by omega) (by omega)⟩⟩)
    exact sc_Bstt hB hB2 (fun q => sc_Pis)
theorem sc_Pi0 {A : Nat → Prop} {SP : Nat → Nat} {s p : Int32} : sc_Bst (sc_Pi A 0) SP s p s p := sc_Bst0 (fun q h => absurd h.1 (by omega))
theorem sx_searchAll (hm : sc_Mp mp) (hc : c ≤ 10) (hu : sc_Pt pu) (hv : sc_Pt pv) (hf : fl = 0 ∨ sc_Win mp wd 4805) {post : SX → Prop}
    (K : ∀ (fl fw : Int32) (q : Nat) (wd tu tv cx cy sl sb : Nat → Int32), sc_Win mp wd 4805 → sc_Top (fun _ => True) (sc_S mp pu pv c) q → post (fl, nI c, fw, 0, 15, 0, 15, -1, -1, nI (sc_S mp pu pv c q), nI q, mp, wd, pu, pv, tu, tv, cx, cy, sl, sb)) :
    wpX_searchAll post (fl, nI c, fw, lX, hX, lY, hY, bX, bY, bs, bp, mp, wd, pu, pv, tu, tv, cx, cy, sl, sb) := by
  unfold wpX_searchAll
  refine sx_allow hm hf (fun fl' wd' hw => ?_)
  refine ⟨4 + 1, sx_sa6 hw hc hm hu hv (s0 := -1) (p0 := 1024) (fun fw' bs' bp' tu' tv' cx' cy' sl' sb' hB => ?_) 4 0 fw (-1) 1024 tu tv cx cy sl sb (by omega) sc_Pi0⟩
  have hB2 : sc_Bst (fun _ => True) (sc_S mp pu pv c) (-1) 1024 bs' bp' := sc_Bste hB (fun q hq => ⟨fun _ => trivial, fun _ => ⟨by omega, trivial⟩⟩)
  obtain ⟨q, hq, e1, e2⟩ := sc_Bstp (by decide) (sc_S90 hm hc) hB2 ⟨0, by omega, trivial⟩
  rw [e1, e2]
  exact K fl' fw' q wd' tu' tv' cx' cy' sl' sb' hw hq
/-! the questions -/
theorem sx_best (hm : sc_Mp mp) (hc : c ≤ 10) (hu : sc_Pt pu) (hv : sc_Pt pv) (hf : fl = 0 ∨ sc_Win mp wd 4805) {post : Int32 → SX → Prop}
    (K : ∀ (fl fw lX hX lY hY bX bY bs bp : Int32) (q : Nat) (wd tu tv cx cy sl sb : Nat → Int32), sc_Win mp wd 4805 → sc_Top (fun _ => True) (sc_S mp pu pv c) q → post (nI (sc_S mp pu pv c q)) (fl, nI c, fw, lX, hX, lY, hY, bX, bY, bs, bp, mp, wd, pu, pv, tu, tv, cx, cy, sl, sb)) :
    wpX_best post (fl, nI c, fw, lX, hX, lY, hY, bX, bY, bs, bp, mp, wd, pu, pv, tu, tv, cx, cy, sl, sb) := by
  unfold wpX_best
  exact sx_searchAll hm hc hu hv hf (fun fl' fw' q wd' tu' tv' cx' cy' sl' sb' hw hq => K fl' fw' _ _ _ _ _ _ _ _ q wd' tu' tv' cx' cy' sl' sb' hw hq)
theorem sx_match (hm : sc_Mp mp) (hc : c ≤ 10) (hu : sc_Pt pu) (hv : sc_Pt pv) (hf : fl = 0 ∨ sc_Win mp wd 4805) {post : Int32 → SX → Prop}
    (K : ∀ (fl fw lX hX lY hY bX bY bs bp : Int32) (q : Nat) (wd tu tv cx cy sl sb : Nat → Int32), sc_Win mp wd 4805 → sc_Top (fun _ => True) (sc_S mp pu pv c) q → post (nI q) (fl, nI c, fw, lX, hX, lY, hY, bX, bY, bs, bp, mp, wd, pu, pv, tu, tv, cx, cy, sl, sb)) :
    wpX_match post (fl, nI c, fw, lX, hX, lY, hY, bX, bY, bs, bp, mp, wd, pu, pv, tu, tv, cx, cy, sl, sb) := by
  unfold wpX_match
  exact sx_searchAll hm hc hu hv hf (fun fl' fw' q wd' tu' tv' cx' cy' sl' sb' hw hq => K fl' fw' _ _ _ _ _ _ _ _ q wd' tu' tv' cx' cy' sl' sb' hw hq)
theorem sx_score {P : Nat} (hP : P < 1024) (hm : sc_Mp mp) (hc : c ≤ 10) (hu : sc_Pt pu) (hv : sc_Pt pv) (hf : fl = 0 ∨ sc_Win mp wd 4805) {post : Int32 → SX → Prop}
    (K : ∀ (fl : Int32) (wd tu tv : Nat → Int32), sc_Win mp wd 4805 → post (nI (sc_S mp pu pv c P)) (fl, nI c, fw, lX, hX, lY, hY, bX, bY, bs, bp, mp, wd, pu, pv, tu, tv, cx, cy, sl, sb)) :
    wpX_score post (fl, nI c, fw, lX, hX, lY, hY, bX, bY, bs, bp, mp, wd, pu, pv, tu, tv, cx, cy, sl, sb) (nI P) := by
  have e1 : nI P &&& 15 = nI (P % 16) := pk_andN (by omega) 4 (by decide)
  have e2 : nI P >>> ((4 : Int32) &&& 31) = nI (P / 16) := pk_shrN (by omega) _ 4 (by decide)
  have e3 : nI (P / 16) &&& 15 = nI (P / 16 % 16) := pk_andN (by omega) 4 (by decide)
  have e8 : nI P >>> ((8 : Int32) &&& 31) = nI (P / 256) := pk_shrN (by omega) _ 8 (by decide)
  refine br_f (nI_pos (by omega)) (br_t (nI_lt (b := 1024) hP (by decide)) ?_)
  rw [e8, e1, e2, e3]
  refine sx_layer hm hf (fun fl' wd' hw => ?_)
  refine sx_turn (by omega) hc (fun tu' tv' ht => ?_)
  exact sx_bound (x := P % 16) (y := P / 16 % 16) (h := 0) ⟨hw, hc, hm, sc_Ptu hu hv, sc_Ptv hu hv, ht⟩ (by omega) (by omega) (by omega) (K fl' wd' tu' tv' hw)
/-! at least -/
theorem sx_al8 {s : Int32} (hw : sc_Win mp wd 4805) (hc : c ≤ 10) (hm : sc_Mp mp) (hu : sc_Pt pu) (hv : sc_Pt pv) {post : Int32 → SX → Prop}
    (K : ∀ (fw : Int32) (tu tv cx cy sl sb : Nat → Int32), post (nI (sc_sm (sc_Ct mp pu pv c s) 4)) (fl, nI c, fw, 0, 15, 0, 15, bX, bY, bs, bp, mp, wd, pu, pv, tu, tv, cx, cy, sl, sb)) :
    ∀ (d i : Nat) (fw : Int32) (tu tv cx cy sl sb : Nat → Int32), i + d = 4 → wX_atLeast_8 post s (d + 1) (nI (sc_sm (sc_Ct mp pu pv c s) i)) (nI i) fl (nI c) fw 0 15 0 15 bX bY bs bp mp wd pu pv tu tv cx cy sl sb := by
  intro d
  induction d with
  | zero =>
    intro i fw tu tv cx cy sl sb hi
    have ei : i = 4 := by omega
    subst ei
    exact br_t (nI_le (a := 4) (b := 4) (by omega) (by decide)) (K fw tu tv cx cy sl sb)
  | succ d ih =>
    intro i fw tu tv cx cy sl sb hi
    have h4 : ¬ (4 : Int32) ≤ nI i := nI_ge (b := 4) (by omega) (by decide)
    refine br_f h4 (sx_count hw hc hm hu hv (by omega) sc_all (fun fw' tu' tv' cx' cy' sl' sb' => ?_))
    exact nm_r (nI_add _ _) (nm_r (nI_1 i) (ih (i + 1) fw' tu' tv' cx' cy' sl' sb' (by omega)))
theorem sx_atLeast {s : Int32} (hm : sc_Mp mp) (hc : c ≤ 10) (hu : sc_Pt pu) (hv : sc_Pt pv) (hf : fl = 0 ∨ sc_Win mp wd 4805) {post : Int32 → SX → Prop}
    (K : ∀ (fl fw lX hX lY hY bX bY bs bp : Int32) (wd tu tv cx cy sl sb : Nat → Int32), sc_Win mp wd 4805 → post (nI (sc_sm (fun p => if nI (sc_S mp pu pv c p) < s then 0 else 1) 1024)) (fl, nI c, fw, lX, hX, lY, hY, bX, bY, bs, bp, mp, wd, pu, pv, tu, tv, cx, cy, sl, sb)) :
    wpX_atLeast post (fl, nI c, fw, lX, hX, lY, hY, bX, bY, bs, bp, mp, wd, pu, pv, tu, tv, cx, cy, sl, sb) s := by
  unfold wpX_atLeast
  refine sx_allow hm hf (fun fl' wd' hw => ?_)
  refine ⟨4 + 1, sx_al8 hw hc hm hu hv (fun fw' tu' tv' cx' cy' sl' sb' => ?_) 4 0 fw tu tv cx cy sl sb (by omega)⟩
  rw [sc_Ct4]
  exact K fl' fw' _ _ _ _ _ _ _ _ wd' tu' tv' cx' cy' sl' sb' hw
end
end
section
section
variable {fl fc fw lX hX lY hY bX bY bs bp : Int32} {mp wd pu pv tu tv cx cy sl sb : Nat → Int32} {c : Nat}
def sc_Nr (R px py D q : Nat) : Prop := q / 256 = R ∧ (q % 16 ≤ px + D ∧ px ≤ q % 16 + D) ∧ (q / 16 % 16 ≤ py + D ∧ py ≤ q / 16 % 16 + D)
theorem sc_nbr {x y : Nat} : ¬ sc_br (-1) bY x y := by
  intro h
  have := h.1
  rw [sc_im1] at this
  omega
theorem sc_AN {px py D x y : Nat} (hx : px < 16) (hy : py < 16) (hD : D < 16) : sc_A (nI px - nI D) (nI (px + D)) (nI py - nI D) (nI (py + D)) (-1) (-1) x y ↔ ((x ≤ px + D ∧ px ≤ x + D) ∧ (y ≤ py + D ∧ py ≤ y + D)) := by
  unfold sc_A
  rw [sc_mti, pk_sub_toInt (by omega) (by omega), pk_sub_toInt (by omega) (by omega), nI_toInt (by omega), nI_toInt (by omega), Nat.pow_zero]
  constructor
  · intro h
    omega
  · intro h
    exact ⟨by omega, sc_nbr⟩
theorem sx_near {R L D : Nat} (hR : R < 4) (hL : L < 256) (hD : D < 16) (hm : sc_Mp mp) (hc : c ≤ 10) (hu : sc_Pt pu) (hv : sc_Pt pv) (hf : fl = 0 ∨ sc_Win mp wd 4805) {post : Int32 → SX → Prop}
    (K : ∀ (fl fw lX hX lY hY bX bY bs bp : Int32) (q : Nat) (wd tu tv cx cy sl sb : Nat → Int32), sc_Win mp wd 4805 → sc_Top (sc_Nr R (L % 16) (L / 16) D) (sc_S mp pu pv c) q → post (nI q) (fl, nI c, fw, lX, hX, lY, hY, bX, bY, bs, bp, mp, wd, pu, pv, tu, tv, cx, cy, sl, sb)) :
    wpX_matchNear post (fl, nI c, fw, lX, hX, lY, hY, bX, bY, bs, bp, mp, wd, pu, pv, tu, tv, cx, cy, sl, sb) (nI R) (nI L) (nI D) := by
  have e1 : nI L &&& 15 = nI (L % 16) := pk_andN (by omega) 4 (by decide)
  have e2 : nI L >>> ((4 : Int32) &&& 31) = nI (L / 16) := pk_shrN (by omega) _ 4 (by decide)
  refine br_f (nI_pos (by omega)) (br_f (nI_nlt (a := 3) (by omega) (by omega)) (br_f (nI_pos (by omega)) (br_f (nI_nlt (a := 255) (by omega) (by omega)) (br_f (nI_pos (by omega)) (br_t (nI_le (b := 15) (by omega) (by decide)) ?_)))))
  rw [e1, e2]
  refine sx_allow hm hf (fun fl' wd' hw => ?_)
  refine nm_e (nm_r (nI_add _ _) (nm_e (nm_r (nI_add _ _) ?_)))
  refine sx_search hw hc hm hu hv hR sc_Rb1 (fun fw' bs' bp' tu' tv' cx' cy' sl' sb' hB => ?_)
  have hB2 : sc_Bst (sc_Nr R (L % 16) (L / 16) D) (sc_S mp pu pv c) (-1) 1024 bs' bp' := sc_Bste hB (fun q hq => by
    unfold sc_P sc_Nr
    rw [sc_AN (by omega) (by omega) hD])
  obtain ⟨q, hq, e3, e4⟩ := sc_Bstp (by decide) (sc_S90 hm hc) hB2 ⟨R * 256 + L / 16 * 16 + L % 16, by omega, by unfold sc_Nr; omega⟩
  rw [e4]
  exact K fl' fw' _ _ _ _ _ _ _ _ q wd' tu' tv' cx' cy' sl' sb' hw hq
/-! rival -/
def sc_Rv (q0 q : Nat) : Prop := ¬ sc_Nr (q0 / 256) (q0 % 16) (q0 / 16 % 16) 2 q
theorem sc_RvP {q0 q i : Nat} (hi : i = q0 / 256) : sc_P 0 15 0 15 (nI (q0 % 16)) (nI (q0 / 16 % 16)) i q ↔ (q / 256 = i ∧ sc_Rv q0 q) := by
  unfold sc_P sc_A sc_Rv sc_Nr sc_br
  rw [nI_toInt (by omega), nI_toInt (by omega)]
  have ha := sc_all (q % 16, q / 16 % 16, 0) (show q % 16 < 16 from by omega) (show q / 16 % 16 < 16 from by omega)
  simp only [ha, true_and]
  omega
theorem sc_RvN {q0 q i : Nat} (hi : i ≠ q0 / 256) : sc_P 0 15 0 15 (-1) (-1) i q ↔ (q / 256 = i ∧ sc_Rv q0 q) := by
  unfold sc_P sc_Rv sc_Nr
  constructor
  · intro h
    exact ⟨h.1, fun z => by omega⟩
  · intro h
    exact ⟨h.1, sc_Atrue (by omega) (by omega)⟩
theorem sx_rv15 {q0 : Nat} (hq0 : q0 < 1024) (hw : sc_Win mp wd 4805) (hc : c ≤ 10) (hm : sc_Mp mp) (hu : sc_Pt pu) (hv : sc_Pt pv) {post : Int32 → SX → Prop}
    (K : ∀ (fw bX bY bs bp : Int32) (q : Nat) (tu tv cx cy sl sb : Nat → Int32), sc_Top (sc_Rv q0) (sc_S mp pu pv c) q → post (nI (sc_S mp pu pv c q)) (fl, nI c, fw, 0, 15, 0, 15, bX, bY, bs, bp, mp, wd, pu, pv, tu, tv, cx, cy, sl, sb)) :
    ∀ (d i : Nat) (fw bX bY bs bp : Int32) (tu tv cx cy sl sb : Nat → Int32), i + d = 4 → sc_Bst (sc_Pi (sc_Rv q0) i) (sc_S mp pu pv c) (-1) 1024 bs bp → wX_rival_15 post (nI q0) (d + 1) (nI i) fl (nI c) fw 0 15 0 15 bX bY bs bp mp wd pu pv tu tv cx cy sl sb := by
  have e1 : nI q0 &&& 15 = nI (q0 % 16) := pk_andN (by omega) 4 (by decide)
  have e2 : nI q0 >>> ((4 : Int32) &&& 31) = nI (q0 / 16) := pk_shrN (by omega) _ 4 (by decide)
  have e3 : nI (q0 / 16) &&& 15 = nI (q0 / 16 % 16) := pk_andN (by omega) 4 (by decide)
  have e8 : nI q0 >>> ((8 : Int32) &&& 31) = nI (q0 / 256) := pk_shrN (by omega) _ 8 (by decide)
  intro d
  induction d with
  | zero =>
    intro i fw bX bY bs bp tu tv cx cy sl sb hi hB
    have ei : i = 4 := by omega
    subst ei
    have hB2 : sc_Bst (sc_Rv q0) (sc_S mp pu pv c) (-1) 1024 bs bp := sc_Bste hB (fun q hq => ⟨fun z => z.2, fun z => ⟨by omega, z⟩⟩)
    have hne : ∃ q, q < 1024 ∧ sc_Rv q0 q := by
      by_cases h : q0 / 256 = 0
      · exact ⟨256, by omega, fun z => by have := z.1; omega⟩
      · exact ⟨0, by omega, fun z => by have := z.1; omega⟩
    obtain ⟨q, hq, f1, f2⟩ := sc_Bstp (by decide) (sc_S90 hm hc) hB2 hne
    have hs := sc_S90 (pu := pu) (pv := pv) hm hc q
    rw [f1]
    exact br_t (nI_le (a := 4) (b := 4) (by omega) (by decide)) (br_t (nI_pos' (by omega)) (K fw bX bY _ bp q tu tv cx cy sl sb hq))
  | succ d ih =>
    intro i fw bX bY bs bp tu tv cx cy sl sb hi hB
    have h4 : ¬ (4 : Int32) ≤ nI i := nI_ge (b := 4) (by omega) (by decide)
    by_cases hiq : i = q0 / 256
    · have c1 : nI i = nI q0 >>> ((8 : Int32) &&& 31) := by rw [e8, hiq]
      refine br_f h4 (br_t c1 (br_t c1 ?_))
      rw [e1, e2, e3]
      have hrb : sc_Rb (nI (q0 % 16)) (nI (q0 / 16 % 16)) := by
        unfold sc_Rb
        rw [nI_toInt (by omega), nI_toInt (by omega)]
        omega
      refine sx_search hw hc hm hu hv (by omega) hrb (fun fw' bs' bp' tu' tv' cx' cy' sl' sb' hB' => ?_)
      exact nm_r (nI_1 i) (ih (i + 1) fw' _ _ bs' bp' tu' tv' cx' cy' sl' sb' (by omega) (sc_Bstt hB (sc_Bste hB' (fun q _ => sc_RvP hiq)) (fun q => sc_Pis)))
    · have c1 : ¬ nI i = nI q0 >>> ((8 : Int32) &&& 31) := by
        rw [e8, nI_eq (by omega) (by omega)]
        exact hiq
      refine br_f h4 (br_f c1 (br_f c1 ?_))
      refine sx_search hw hc hm hu hv (by omega) sc_Rb1 (fun fw' bs' bp' tu' tv' cx' cy' sl' sb' hB' => ?_)
      exact nm_r (nI_1 i) (ih (i + 1) fw' _ _ bs' bp' tu' tv' cx' cy' sl' sb' (by omega) (sc_Bstt hB (sc_Bste hB' (fun q _ => sc_RvN hiq)) (fun q => sc_Pis)))
theorem sx_rival (hm : sc_Mp mp) (hc : c ≤ 10) (hu : sc_Pt pu) (hv : sc_Pt pv) (hf : fl = 0 ∨ sc_Win mp wd 4805) {post : Int32 → SX → Prop}
    (K : ∀ (fl fw lX hX lY hY bX bY bs bp : Int32) (q0 q : Nat) (wd tu tv cx cy sl sb : Nat → Int32), sc_Win mp wd 4805 → sc_Top (fun _ => True) (sc_S mp pu pv c) q0 → sc_Top (sc_Rv q0) (sc_S mp pu pv c) q → post (nI (sc_S mp pu pv c q)) (fl, nI c, fw, lX, hX, lY, hY, bX, bY, bs, bp, mp, wd, pu, pv, tu, tv, cx, cy, sl, sb)) :
    wpX_rival post (fl, nI c, fw, lX, hX, lY, hY, bX, bY, bs, bp, mp, wd, pu, pv, tu, tv, cx, cy, sl, sb) := by
  unfold wpX_rival
  refine sx_searchAll hm hc hu hv hf (fun fl1 fw1 q0 wd1 tu1 tv1 cx1 cy1 sl1 sb1 hw1 hq0 => ?_)
  refine sx_allow hm (Or.inr hw1) (fun fl2 wd2 hw2 => ?_)
  refine ⟨4 + 1, sx_rv15 hq0.1 hw2 hc hm hu hv (fun fw' bX' bY' bs' bp' q tu' tv' cx' cy' sl' sb' hq => ?_) 4 0 fw1 (-1) (-1) (-1) 1024 tu1 tv1 cx1 cy1 sl1 sb1 (by omega) sc_Pi0⟩
  exact K fl2 fw' _ _ _ _ _ _ _ _ q0 q wd2 tu' tv' cx' cy' sl' sb' hw2 hq0 hq
end
end
section
section
variable {mp pu pv : Nat → Int32} {c : Nat}
/-! the score of a pose -/
theorem sc_col2 {x : Nat} {t : Int32} (h : -7 ≤ t.toInt ∧ t.toInt ≤ 7) : nI x + t = nI (x + sc_cl t) - 15 := by
  rw [← sc_col h, Int32.add_sub_cancel]
theorem sy_sc4 {post : Int32 → Prop} {P : Nat} (hm : sc_Mp mp) (hc : c ≤ 10) (hu : sc_Pt pu) (hv : sc_Pt pv) (hP : P < 1024) (k : post (nI (sc_S mp pu pv c P))) :
    ∀ d i : Nat, i + d = c → wY_scoreOf_4 post (nI P) (nI c) mp pu pv (d + 1) (nI (sc_S mp pu pv i P)) (nI i) := by
  intro d
  induction d with
  | zero =>
    intro i hi
    have ei : i = c := by omega
    subst ei
    exact br_t (nI_le (by omega) (by omega)) k
  | succ d ih =>
    intro i hi
    have h1 : ¬ nI c ≤ nI i := nI_ge (by omega) (by omega)
    have hU := sc_Ptu (r := P / 256) hu hv i
    have hV := sc_Ptv (r := P / 256) hu hv i
    have b1 := sc_cle hU
    have b2 := sc_cle hV
    refine br_f h1 (sy_xOf (by omega) hP (sy_yOf (by omega) hP (sy_wt ?_)))
    rw [sc_col2 hU, sc_col2 hV, sc_wtW hm (by omega) (by omega)]
    exact nm_r (nI_add _ _) (nm_r (nI_1 i) (ih (i + 1) (by omega)))
theorem sy_scoreOf {post : Int32 → Prop} {P : Nat} (hm : sc_Mp mp) (hc : c ≤ 10) (hu : sc_Pt pu) (hv : sc_Pt pv) (hP : P < 1024) (k : post (nI (sc_S mp pu pv c P))) : wpY_scoreOf post (nI c, mp, pu, pv) (nI P) :=
  ⟨c + 1, sy_sc4 hm hc hu hv hP k c 0 (by omega)⟩
/-! the best so far -/
theorem sc_keep {P : Nat → Prop} {SP : Nat → Nat} {s0 s p : Int32} {i : Nat} (hi : i < 1024) (hS : ∀ q, SP q ≤ 90) (h : sc_Bst (fun q => q < i ∧ P q) SP s0 0 s p) (hk : P i → nI (SP i) ≤ s) : sc_Bst (fun q => q < i + 1 ∧ P q) SP s0 0 s p := by
  obtain ⟨a, b, e⟩ := h
  refine ⟨?_, b, ?_⟩
  · rcases a with a | ⟨q, hq, hp, a⟩
    · exact Or.inl a
    · exact Or.inr ⟨q, hq, ⟨by omega, hp.2⟩, a⟩
  · intro q hq hp
    by_cases hqi : q = i
    · subst hqi
      have h1 := hk hp.2
      have h9 := hS q
      rw [Int32.le_iff_toInt_le, nI_toInt (by omega)] at h1
      rw [sc_Bti, nI_toInt (by omega), nI_toInt (by omega)]
      rcases a with ⟨a1, a2⟩ | ⟨q', hq', hp', a1, a2⟩
      · rw [a2, sc_i0]
        omega
      · rw [a2, nI_toInt (by omega)]
        omega
    · exact e q hq ⟨by omega, hp.2⟩
theorem sc_new {P : Nat → Prop} {SP : Nat → Nat} {s0 s p : Int32} {i : Nat} (hi : i < 1024) (hS : ∀ q, SP q ≤ 90) (h : sc_Bst (fun q => q < i ∧ P q) SP s0 0 s p) (hP : P i) (hk : ¬ nI (SP i) ≤ s) : sc_Bst (fun q => q < i + 1 ∧ P q) SP s0 0 (nI (SP i)) (nI i) := by
  obtain ⟨a, b, e⟩ := h
  have h9 := hS i
  rw [Int32.le_iff_toInt_le, nI_toInt (by omega)] at hk
  refine ⟨Or.inr ⟨i, hi, ⟨by omega, hP⟩, rfl, rfl⟩, ?_, ?_⟩
  · rw [sc_Bti, nI_toInt (by omega), nI_toInt (by omega)] at *
    omega
  · intro q hq hp
    by_cases hqi : q = i
    · subst hqi
      exact sc_Btr _ _
    · have h1 := e q hq ⟨by omega, hp.2⟩
      have h2 := hS q
      rw [sc_Bti, nI_toInt (by omega), nI_toInt (by omega)] at *
      rw [nI_toInt (by omega), nI_toInt (by omega)]
      omega
theorem sc_beg {P : Nat → Prop} {SP : Nat → Nat} {s0 : Int32} {i : Nat} (h : ∀ q, P q → i ≤ q) : sc_Bst (fun q => q < i ∧ P q) SP s0 0 s0 0 :=
  sc_Bst0 (fun q z => by have := h q z.2; omega)
theorem sc_end {P : Nat → Prop} {SP : Nat → Nat} {s0 s p : Int32} {i : Nat} (hs0 : s0.toInt < 0) (hS : ∀ q, SP q ≤ 90) (hne : ∃ q, q < 1024 ∧ P q) (hi : ∀ q, q < 1024 → P q → q < i) (h : sc_Bst (fun q => q < i ∧ P q) SP s0 0 s p) : ∃ q, sc_Top P SP q ∧ s = nI (SP q) ∧ p = nI q :=
  sc_Bstp hs0 hS (sc_Bste h (fun q hq => ⟨fun z => z.2, fun z => ⟨hi q hq z, z⟩⟩)) hne
/-! match -/
theorem sy_m6 {post : Int32 → Prop} (hm : sc_Mp mp) (hc : c ≤ 10) (hu : sc_Pt pu) (hv : sc_Pt pv) (K : ∀ q, sc_Top (fun _ => True) (sc_S mp pu pv c) q → post (nI q)) :
    ∀ (d i : Nat) (b s : Int32), i + d = 1024 → sc_Bst (fun q => q < i ∧ True) (sc_S mp pu pv c) (-1) 0 s b → wY_match_6 post (nI c) mp pu pv (d + 1) b s (nI i) := by
  have hS : ∀ q, sc_S mp pu pv c q ≤ 90 := sc_S90 hm hc
  intro d
  induction d with
  | zero =>
    intro i b s hi hB
    obtain ⟨q, hq, e1, e2⟩ := sc_end (by decide) hS ⟨0, by omega, trivial⟩ (fun q hq _ => by omega) hB
    rw [e2]
    exact br_t (nI_le (a := 1024) (by omega) (by omega)) (K q hq)
  | succ d ih =>
    intro i b s hi hB
    have h1 : ¬ (1024 : Int32) ≤ nI i := nI_ge (b := 1024) (by omega) (by decide)
    refine br_f h1 (sy_scoreOf hm hc hu hv (by omega) ?_)
    by_cases h : nI (sc_S mp pu pv c i) ≤ s
    · exact br_t h (br_t h (nm_r (nI_1 i) (ih (i + 1) b s (by omega) (sc_keep (by omega) hS hB (fun _ => h)))))
    · exact br_f h (br_f h (nm_r (nI_1 i) (ih (i + 1) (nI i) _ (by omega) (sc_new (by omega) hS hB trivial h))))
theorem sy_match {post : Int32 → Prop} (hm : sc_Mp mp) (hc : c ≤ 10) (hu : sc_Pt pu) (hv : sc_Pt pv) (K : ∀ q, sc_Top (fun _ => True) (sc_S mp pu pv c) q → post (nI q)) : wpY_match post (nI c, mp, pu, pv) :=
  ⟨1024 + 1, sy_m6 hm hc hu hv K 1024 0 0 (-1) (by omega) (sc_beg (fun q _ => by omega))⟩
theorem sy_best {post : Int32 → Prop} (hm : sc_Mp mp) (hc : c ≤ 10) (hu : sc_Pt pu) (hv : sc_Pt pv) (K : ∀ q, sc_Top (fun _ => True) (sc_S mp pu pv c) q → post (nI (sc_S mp pu pv c q))) : wpY_best post (nI c, mp, pu, pv) := by
  unfold wpY_best
  exact sy_match hm hc hu hv (fun q hq => sy_scoreOf hm hc hu hv hq.1 (K q hq))
/-! near -/
theorem sy_nr1 {A B : Prop} {v : SY} {a b d : Nat} (ha : a < 16) (hb : b < 16) (hd : d < 16) (h : a ≤ b + d ∧ b ≤ a + d) (k0 : B) : wpY_isNear (fun r => (r = 0 → A) ∧ (¬ r = 0 → B)) v (nI a) (nI b) (nI d) := by
  obtain ⟨fc, mp, pu, pv⟩ := v
  have h1 : ¬ nI d < nI a - nI b := by rw [Int32.lt_iff_toInt_lt, pk_sub_toInt (by omega) (by omega), nI_toInt (by omega)]; omega
  have h2 : ¬ nI d < nI b - nI a := by rw [Int32.lt_iff_toInt_lt, pk_sub_toInt (by omega) (by omega), nI_toInt (by omega)]; omega
  exact br_f h1 (br_f h2 (br_f sc_10 k0))
theorem sy_nr0 {A B : Prop} {v : SY} {a b d : Nat} (ha : a < 16) (hb : b < 16) (hd : d < 16) (h : ¬ (a ≤ b + d ∧ b ≤ a + d)) (k0 : A) : wpY_isNear (fun r => (r = 0 → A) ∧ (¬ r = 0 → B)) v (nI a) (nI b) (nI d) := by
  obtain ⟨fc, mp, pu, pv⟩ := v
  by_cases h1 : nI d < nI a - nI b
  · exact br_t h1 (br_t rfl k0)
  · have h2 : nI d < nI b - nI a := by
      rw [Int32.lt_iff_toInt_lt, pk_sub_toInt (by omega) (by omega), nI_toInt (by omega)] at *
      omega
    exact br_f h1 (br_t h2 (br_t rfl k0))
theorem sc_rem16 {P : Nat} (hP : P < 1024) : nI P - nI P / 16 * 16 = nI (P % 16) := pk_rem (d := 16) (by omega) (by decide) (by decide)
theorem sc_div16 {P : Nat} (hP : P < 1024) : nI P / 16 = nI (P / 16) := pk_div (d := 16) (by omega) (by decide) (by decide)
theorem sc_div256 {P : Nat} (hP : P < 1024) : nI P / 256 = nI (P / 256) := pk_div (d := 256) (by omega) (by decide) (by decide)
theorem sy_mn118 {post : Int32 → Prop} {J : Int32 → Int32 → Int32 → Prop} {x1 x2 x3 b s z v0 : Int32} {i : Nat} (h1 : z ≤ s → J b s (nI (i + 1))) (h2 : ¬ z ≤ s → J (nI i) z (nI (i + 1))) : wY_matchNear_118 post J x1 x2 x3 b s (nI i) z v0 mp pu pv := by
  by_cases h : z ≤ s
  · exact br_t h (br_t h (nm_r (nI_1 i) (h1 h)))
  · exact br_f h (br_f h (nm_r (nI_1 i) (h2 h)))
theorem sy_mn45 {post : Int32 → Prop} {R L D : Nat} (hR : R < 4) (hL : L < 256) (hD : D < 16) (hm : sc_Mp mp) (hc : c ≤ 10) (hu : sc_Pt pu) (hv : sc_Pt pv) (K : ∀ q, sc_Top (sc_Nr R (L % 16) (L / 16) D) (sc_S mp pu pv c) q → post (nI q)) :
    ∀ (d i : Nat) (b s : Int32), i + d = 256 * R + 256 → 256 * R ≤ i → sc_Bst (fun q => q < i ∧ sc_Nr R (L % 16) (L / 16) D q) (sc_S mp pu pv c) (-1) 0 s b → wY_matchNear_45 post (nI R) (nI L) (nI D) (nI c) mp pu pv (d + 1) b s (nI i) := by
  have hS : ∀ q, sc_S mp pu pv c q ≤ 90 := sc_S90 hm hc
  have e256 : 256 * nI R + 256 = nI (256 * R + 256) := by
    rw [show (256 : Int32) = nI 256 from rfl, pk_mul, nI_add]
  intro d
  induction d with
  | zero =>
    intro i b s hi hi0 hB
    obtain ⟨q, hq, e1, e2⟩ := sc_end (by decide) hS ⟨R * 256 + L / 16 * 16 + L % 16, by omega, by unfold sc_Nr; omega⟩ (fun q hq z => by have := z.1; omega) hB
    rw [e2]
    refine br_t ?_ (K q hq)
    rw [e256]
    exact nI_le (by omega) (by omega)
  | succ d ih =>
    intro i b s hi hi0 hB
    have h1 : ¬ 256 * nI R + 256 ≤ nI i := by
      rw [e256]
      exact nI_ge (by omega) (by omega)
    have hi4 : i < 1024 := by omega
    have hs1 : -1 ≤ s.toInt := by
      rcases hB.1 with ⟨a, _⟩ | ⟨q, _, _, a, _⟩
      · rw [a, sc_im1]; omega
      · have := hS q
        rw [a, nI_toInt (by omega)]; omega
    refine br_f h1 ⟨sc_160, sc_160, ?_⟩
    rw [sc_rem16 hi4, sc_rem16 (P := L) (by omega), sc_div16 hi4, sc_div16 (P := L) (by omega)]
    have e3 : nI (i / 16) - nI (i / 16) / 16 * 16 = nI (i / 16 % 16) := sc_rem16 (by omega)
    rw [e3]
    have hout : ¬ sc_Nr R (L % 16) (L / 16) D i → wY_matchNear_101 post (wY_matchNear_45 post (nI R) (nI L) (nI D) (nI c) mp pu pv (d + 1)) (nI R) (nI L) (nI D) b s (nI i) 0 (nI c) mp pu pv := by
      intro hn
      refine br_t rfl (sy_mn118 (fun _ => ih (i + 1) b s (by omega) (by omega) (sc_keep hi4 hS hB (fun z => absurd z hn))) (fun z => absurd ?_ z))
      rw [Int32.le_iff_toInt_le, sc_im1]
      exact hs1
    by_cases n1 : i % 16 ≤ L % 16 + D ∧ L % 16 ≤ i % 16 + D
    · refine sy_nr1 (by omega) (by omega) hD n1 ⟨sc_160, sc_160, sc_160, ?_⟩
      by_cases n2 : i / 16 % 16 ≤ L / 16 + D ∧ L / 16 ≤ i / 16 % 16 + D
      · refine sy_nr1 (by omega) (by omega) hD n2 ?_
        have hn : sc_Nr R (L % 16) (L / 16) D i := ⟨by omega, n1, n2⟩
        refine br_f sc_10 (sy_scoreOf hm hc hu hv hi4 ?_)
        exact sy_mn118 (fun z => ih (i + 1) b s (by omega) (by omega) (sc_keep hi4 hS hB (fun _ => z))) (fun z => ih (i + 1) (nI i) _ (by omega) (by omega) (sc_new hi4 hS hB hn z))
      · exact sy_nr0 (by omega) (by omega) hD n2 (hout (fun z => n2 z.2.2))
    · exact sy_nr0 (by omega) (by omega) hD n1 (hout (fun z => n1 z.2.1))
theorem sy_near {post : Int32 → Prop} {R L D : Nat} (hR : R < 4) (hL : L < 256) (hD : D < 16) (hm : sc_Mp mp) (hc : c ≤ 10) (hu : sc_Pt pu) (hv : sc_Pt pv) (K : ∀ q, sc_Top (sc_Nr R (L % 16) (L / 16) D) (sc_S mp pu pv c) q → post (nI q)) :
    wpY_matchNear post (nI c, mp, pu, pv) (nI R) (nI L) (nI D) := by
  have e : 256 * nI R = nI (256 * R) := by
    rw [show (256 : Int32) = nI 256 from rfl, pk_mul]
  refine br_f (nI_pos (by omega)) (br_f (nI_nlt (a := 3) (by omega) (by omega)) (br_f (nI_pos (by omega)) (br_f (nI_nlt (a := 255) (by omega) (by omega)) (br_f (nI_pos (by omega)) (br_t (nI_le (b := 15) (by omega) (by decide)) ?_)))))
  exact nm_r e ⟨256 + 1, sy_mn45 hR hL hD hm hc hu hv K 256 (256 * R) 0 (-1) (by omega) (by omega) (sc_beg (fun q z => by have := z.1; omega))⟩
/-! at least -/
theorem sy_al4 {post : Int32 → Prop} {s : Int32} (hm : sc_Mp mp) (hc : c ≤ 10) (hu : sc_Pt pu) (hv : sc_Pt pv) (k : post (nI (sc_sm (fun p => if nI (sc_S mp pu pv c p) < s then 0 else 1) 1024))) :
    ∀ d i : Nat, i + d = 1024 → wY_atLeast_4 post s (nI c) mp pu pv (d + 1) (nI (sc_sm (fun p => if nI (sc_S mp pu pv c p) < s then 0 else 1) i)) (nI i) := by
  intro d
  induction d with
  | zero =>
    intro i hi
    have ei : i = 1024 := by omega
    subst ei
    exact br_t (nI_le (a := 1024) (b := 1024) (by omega) (by omega)) k
  | succ d ih =>
    intro i hi
    have h1 : ¬ (1024 : Int32) ≤ nI i := nI_ge (b := 1024) (by omega) (by decide)
    have H := ih (i + 1) (by omega)
    rw [sc_sms] at H
    refine br_f h1 (sy_scoreOf hm hc hu hv (by omega) ?_)
    by_cases h : nI (sc_S mp pu pv c i) < s
    · rw [if_pos h, Nat.add_zero] at H
      exact br_t h (nm_r (nI_1 i) H)
    · rw [if_neg h] at H
      exact br_f h (nm_r (nI_1 _) (nm_r (nI_1 i) H))
theorem sy_atLeast {post : Int32 → Prop} {s : Int32} (hm : sc_Mp mp) (hc : c ≤ 10) (hu : sc_Pt pu) (hv : sc_Pt pv) (k : post (nI (sc_sm (fun p => if nI (sc_S mp pu pv c p) < s then 0 else 1) 1024))) : wpY_atLeast post (nI c, mp, pu, pv) s :=
  ⟨1024 + 1, sy_al4 hm hc hu hv k 1024 0 (by omega)⟩
/-! rival -/
theorem sc_im4 : (-4 : Int32).toInt = -4 := by decide
theorem sy_rv90 {post : Int32 → Prop} {J : Int32 → Int32 → Prop} {x1 s z v0 : Int32} {i : Nat} (h1 : z ≤ s → J s (nI (i + 1))) (h2 : ¬ z ≤ s → J z (nI (i + 1))) : wY_rival_90 post J x1 s (nI i) z v0 mp pu pv := by
  by_cases h : z ≤ s
  · exact br_t h (nm_r (nI_1 i) (h1 h))
  · exact br_f h (nm_r (nI_1 i) (h2 h))
theorem sy_rv10 {post : Int32 → Prop} {q0 : Nat} (hq0 : q0 < 1024) (hm : sc_Mp mp) (hc : c ≤ 10) (hu : sc_Pt pu) (hv : sc_Pt pv) (K : ∀ q, sc_Top (sc_Rv q0) (sc_S mp pu pv c) q → post (nI (sc_S mp pu pv c q))) :
    ∀ (d i : Nat) (s b : Int32), i + d = 1024 → sc_Bst (fun q => q < i ∧ sc_Rv q0 q) (sc_S mp pu pv c) (-4) 0 s b → wY_rival_10 post (nI q0) (nI c) mp pu pv (d + 1) s (nI i) := by
  have hS : ∀ q, sc_S mp pu pv c q ≤ 90 := sc_S90 hm hc
  intro d
  induction d with
  | zero =>
    intro i s b hi hB
    have hne : ∃ q, q < 1024 ∧ sc_Rv q0 q := by
      by_cases h : q0 / 256 = 0
      · exact ⟨256, by omega, fun z => by have := z.1; omega⟩
      · exact ⟨0, by omega, fun z => by have := z.1; omega⟩
    obtain ⟨q, hq, e1, e2⟩ := sc_end (by decide) hS hne (fun q hq _ => by omega) hB
    rw [e1]
    exact br_t (nI_le (a := 1024) (by omega) (by omega)) (K q hq)
  | succ d ih =>
    intro i s b hi hB
    have h1 : ¬ (1024 : Int32) ≤ nI i := nI_ge (b := 1024) (by omega) (by decide)
    have hi4 : i < 1024 := by omega
    have hs1 : -4 ≤ s.toInt := by
      rcases hB.1 with ⟨a, _⟩ | ⟨q, _, _, a, _⟩
      · rw [a, sc_im4]; omega
      · have := hS q
        rw [a, nI_toInt (by omega)]; omega
    refine br_f h1 ⟨sc_2560, sc_2560, ?_⟩
    rw [sc_rem16 hi4, sc_rem16 hq0, sc_div16 hi4, sc_div16 hq0, sc_div256 hi4, sc_div256 hq0]
    have e3 : nI (i / 16) - nI (i / 16) / 16 * 16 = nI (i / 16 % 16) := sc_rem16 (by omega)
    have e4 : nI (q0 / 16) - nI (q0 / 16) / 16 * 16 = nI (q0 / 16 % 16) := sc_rem16 (by omega)
    rw [e3, e4]
    have hfar : sc_Rv q0 i → wY_rival_72 post (wY_rival_10 post (nI q0) (nI c) mp pu pv (d + 1)) (nI q0) s (nI i) (nI c) mp pu pv := by
      intro hn
      refine br_t rfl (sy_scoreOf hm hc hu hv hi4 ?_)
      exact sy_rv90 (fun z => ih (i + 1) s b (by omega) (sc_keep hi4 hS hB (fun _ => z))) (fun z => ih (i + 1) _ (nI i) (by omega) (sc_new hi4 hS hB hn z))
    by_cases n0 : i / 256 = q0 / 256
    · refine br_t (by rw [n0]) ⟨sc_160, sc_160, ?_⟩
      by_cases n1 : i % 16 ≤ q0 % 16 + 2 ∧ q0 % 16 ≤ i % 16 + 2
      · refine sy_nr1 (d := 2) (by omega) (by omega) (by omega) n1 ⟨sc_160, sc_160, sc_160, sc_160, ?_⟩
        by_cases n2 : i / 16 % 16 ≤ q0 / 16 % 16 + 2 ∧ q0 / 16 % 16 ≤ i / 16 % 16 + 2
        · refine sy_nr1 (d := 2) (by omega) (by omega) (by omega) n2 (br_f sc_10 ?_)
          have hn : ¬ sc_Rv q0 i := fun z => z ⟨n0, n1, n2⟩
          refine sy_rv90 (fun _ => ih (i + 1) s b (by omega) (sc_keep hi4 hS hB (fun z => absurd z hn))) (fun z => absurd ?_ z)
          rw [Int32.le_iff_toInt_le, sc_im4]
          exact hs1
        · exact sy_nr0 (d := 2) (by omega) (by omega) (by omega) n2 (hfar (fun z => n2 z.2.2))
      · exact sy_nr0 (d := 2) (by omega) (by omega) (by omega) n1 (hfar (fun z => n1 z.2.1))
    · refine br_f (fun z => n0 ((nI_eq (by omega) (by omega)).mp z)) (hfar (fun z => n0 z.1))
theorem sy_rival {post : Int32 → Prop} (hm : sc_Mp mp) (hc : c ≤ 10) (hu : sc_Pt pu) (hv : sc_Pt pv) (K : ∀ q0 q, sc_Top (fun _ => True) (sc_S mp pu pv c) q0 → sc_Top (sc_Rv q0) (sc_S mp pu pv c) q → post (nI (sc_S mp pu pv c q))) : wpY_rival post (nI c, mp, pu, pv) := by
  unfold wpY_rival
  exact sy_match hm hc hu hv (fun q0 hq0 => ⟨1024 + 1, sy_rv10 hq0.1 hm hc hu hv (fun q hq => K q0 q hq0 hq) 1024 0 (-4) 0 (by omega) (sc_beg (fun q _ => by omega))⟩)
end
end
section
/-- the relation: the same map, points and count, in their ranges; if layered, the windows are right -/
def i_Rel (k : Nat) (u : SX) (v : SY) : Prop := match u with
  | (fl, fc, fw, lX, hX, lY, hY, bX, bY, bs, bp, mp, wd, pu, pv, tu, tv, cx, cy, sl, sb) => sc_Mp mp ∧ sc_Pt pu ∧ sc_Pt pv ∧ (fl = 0 ∨ sc_Win mp wd 4805) ∧ (∃ c : Nat, 1 ≤ c ∧ c ≤ 10 ∧ fc = nI c) ∧ v = (fc, mp, pu, pv)
theorem zz_in {fl fw lX hX lY hY bX bY bs bp : Int32} {mp wd pu pv tu tv cx cy sl sb : Nat → Int32} {k c : Nat} (h1 : 1 ≤ c) (h2 : c ≤ 10) (hm : sc_Mp mp) (hu : sc_Pt pu) (hv : sc_Pt pv) (hf : fl = 0 ∨ sc_Win mp wd 4805) : i_Rel k (fl, nI c, fw, lX, hX, lY, hY, bX, bY, bs, bp, mp, wd, pu, pv, tu, tv, cx, cy, sl, sb) (nI c, mp, pu, pv) :=
  ⟨hm, hu, hv, hf, ⟨c, h1, h2, rfl⟩, rfl⟩
theorem zz_el {P : SX → SY → Prop} {k : Nat} {u : SX} {v : SY} (h : ∀ (fl fw lX hX lY hY bX bY bs bp : Int32) (mp wd pu pv tu tv cx cy sl sb : Nat → Int32) (c : Nat), 1 ≤ c → c ≤ 10 → sc_Mp mp → sc_Pt pu → sc_Pt pv → (fl = 0 ∨ sc_Win mp wd 4805) → P (fl, nI c, fw, lX, hX, lY, hY, bX, bY, bs, bp, mp, wd, pu, pv, tu, tv, cx, cy, sl, sb) (nI c, mp, pu, pv)) (I : i_Rel k u v) : P u v := by
  obtain ⟨fl, fc, fw, lX, hX, lY, hY, bX, bY, bs, bp, mp, wd, pu, pv, tu, tv, cx, cy, sl, sb⟩ := u
  obtain ⟨hm, hu, hv, hf, ⟨c, h1, h2, rfl⟩, rfl⟩ := I
  exact h fl fw lX hX lY hY bX bY bs bp mp wd pu pv tu tv cx cy sl sb c h1 h2 hm hu hv hf
theorem zz_fl {fl fl' : Int32} {mp mp' wd : Nat → Int32} (h : fl = 0 ∨ sc_Win mp wd 4805) (h' : fl' = 0 ∨ (fl' = fl ∧ mp' = mp)) : fl' = 0 ∨ sc_Win mp' wd 4805 := by
  rcases h' with e | ⟨rfl, rfl⟩
  · exact Or.inl e
  · exact h
theorem i_up {k : Nat} {u : SX} {v : SY} (h : i_Rel k u v) : i_Rel (k + 5) u v := h
theorem i_vc0 : wpX_init (fun u => wpY_init (fun v => i_Rel 0 u v)) := by
  have hm : sc_Mp (fun _ => 0) := fun j => by show 0 ≤ (0 : Int32).toInt ∧ (0 : Int32).toInt ≤ 9; rw [sc_i0]; omega
  have hp : sc_Pt (fun _ => 0) := fun j => by show -7 ≤ (0 : Int32).toInt ∧ (0 : Int32).toInt ≤ 7; rw [sc_i0]; omega
  show i_Rel 0 (0, nI 1, 0, 0, 0, 0, 0, 0, 0, 0, 0, (fun _ => 0), (fun _ => 0), (fun _ => 0), (fun _ => 0), (fun _ => 0), (fun _ => 0), (fun _ => 0), (fun _ => 0), (fun _ => 0), (fun _ => 0)) (nI 1, (fun _ => 0), (fun _ => 0), (fun _ => 0))
  exact zz_in (by omega) (by omega) hm hp hp (Or.inl rfl)
theorem i_vc_set {k : Nat} {u : SX} {v : SY} (I : i_Rel k u v) (hk : k + 5 ≤ 2560) (v1 : Int32) (v2 : Int32) (v3 : Int32) : wpX_set (fun r u' => wpY_set (fun r' v' => r' = r ∧ i_Rel (k + 5) u' v') v v1 v2 v3) u v1 v2 v3 := by
  refine zz_el (P := fun u v => wpX_set (fun r u' => wpY_set (fun r' v' => r' = r ∧ i_Rel (k + 5) u' v') v v1 v2 v3) u v1 v2 v3) ?_ I
  intro fl fw lX hX lY hY bX bY bs bp mp wd pu pv tu tv cx cy sl sb c h1 h2 hm hu hv hf
  obtain ⟨r, fl', mp', hm', hfl, kX, kY⟩ := sz_set (fl := fl) (fc := nI c) (fw := fw) (lX := lX) (hX := hX) (lY := lY) (hY := hY) (bX := bX) (bY := bY) (bs := bs) (bp := bp) (wd := wd) (pu := pu) (pv := pv) (tu := tu) (tv := tv) (cx := cx) (cy := cy) (sl := sl) (sb := sb) hm v1 v2 v3
  exact kX _ (kY _ ⟨rfl, zz_in h1 h2 hm' hu hv (zz_fl hf hfl)⟩)
theorem i_vc_wall {k : Nat} {u : SX} {v : SY} (I : i_Rel k u v) (hk : k + 5 ≤ 2560) (v1 : Int32) (v2 : Int32) (v3 : Int32) (v4 : Int32) : wpX_wall (fun r u' => wpY_wall (fun r' v' => r' = r ∧ i_Rel (k + 5) u' v') v v1 v2 v3 v4) u v1 v2 v3 v4 := by
  refine zz_el (P := fun u v => wpX_wall (fun r u' => wpY_wall (fun r' v' => r' = r ∧ i_Rel (k + 5) u' v') v v1 v2 v3 v4) u v1 v2 v3 v4) ?_ I
  intro fl fw lX hX lY hY bX bY bs bp mp wd pu pv tu tv cx cy sl sb c h1 h2 hm hu hv hf
  obtain ⟨r, fl', mp', hm', hfl, kX, kY⟩ := sz_wallT (fl := fl) (fc := nI c) (fw := fw) (lX := lX) (hX := hX) (lY := lY) (hY := hY) (bX := bX) (bY := bY) (bs := bs) (bp := bp) (wd := wd) (pu := pu) (pv := pv) (tu := tu) (tv := tv) (cx := cx) (cy := cy) (sl := sl) (sb := sb) hm v1 v2 v3 v4
  exact kX _ (kY _ ⟨rfl, zz_in h1 h2 hm' hu hv (zz_fl hf hfl)⟩)
theorem i_vc_weight {k : Nat} {u : SX} {v : SY} (I : i_Rel k u v) (hk : k + 5 ≤ 2560) (v1 : Int32) (v2 : Int32) : wpX_weight (fun r => wpY_weight (fun r' => r' = r ∧ i_Rel (k + 5) u v) v v1 v2) u v1 v2 := by
  refine zz_el (P := fun u v => wpX_weight (fun r => wpY_weight (fun r' => r' = r ∧ i_Rel (k + 5) u v) v v1 v2) u v1 v2) ?_ I
  intro fl fw lX hX lY hY bX bY bs bp mp wd pu pv tu tv cx cy sl sb c h1 h2 hm hu hv hf
  unfold wpX_weight
  refine sx_wtAt ?_
  exact sy_wt ⟨rfl, zz_in h1 h2 hm hu hv hf⟩
theorem i_vc_fade {k : Nat} {u : SX} {v : SY} (I : i_Rel k u v) (hk : k + 5 ≤ 2560) : wpX_fade (fun r u' => wpY_fade (fun r' v' => r' = r ∧ i_Rel (k + 5) u' v') v) u := by
  refine zz_el (P := fun u v => wpX_fade (fun r u' => wpY_fade (fun r' v' => r' = r ∧ i_Rel (k + 5) u' v') v) u) ?_ I
  intro fl fw lX hX lY hY bX bY bs bp mp wd pu pv tu tv cx cy sl sb c h1 h2 hm hu hv hf
  obtain ⟨r, mp', hm', kX, kY⟩ := sz_fade (fl := fl) (fc := nI c) (fw := fw) (lX := lX) (hX := hX) (lY := lY) (hY := hY) (bX := bX) (bY := bY) (bs := bs) (bp := bp) (wd := wd) (pu := pu) (pv := pv) (tu := tu) (tv := tv) (cx := cx) (cy := cy) (sl := sl) (sb := sb) 256 0 0 mp (by omega) hm
  exact ⟨_, kX _ ⟨_, kY _ ⟨rfl, zz_in h1 h2 hm' hu hv (Or.inl rfl)⟩⟩⟩
theorem i_vc_scan {k : Nat} {u : SX} {v : SY} (I : i_Rel k u v) (hk : k + 5 ≤ 2560) (v1 : Int32) (v2 : Int32) : wpX_scan (fun r u' => wpY_scan (fun r' v' => r' = r ∧ i_Rel (k + 5) u' v') v v1 v2) u v1 v2 := by
  refine zz_el (P := fun u v => wpX_scan (fun r u' => wpY_scan (fun r' v' => r' = r ∧ i_Rel (k + 5) u' v') v v1 v2) u v1 v2) ?_ I
  intro fl fw lX hX lY hY bX bY bs bp mp wd pu pv tu tv cx cy sl sb c h1 h2 hm hu hv hf
  obtain ⟨r, c', pu', pv', c1, c2, hu', hv', kX, kY⟩ := sz_scan (fl := fl) (fw := fw) (lX := lX) (hX := hX) (lY := lY) (hY := hY) (bX := bX) (bY := bY) (bs := bs) (bp := bp) (mp := mp) (wd := wd) (tu := tu) (tv := tv) (cx := cx) (cy := cy) (sl := sl) (sb := sb) hu hv h1 h2 v1 v2
  exact kX _ (kY _ ⟨rfl, zz_in c1 c2 hm hu' hv' hf⟩)
theorem i_vc_point {k : Nat} {u : SX} {v : SY} (I : i_Rel k u v) (hk : k + 5 ≤ 2560) (v1 : Int32) (v2 : Int32) : wpX_point (fun r u' => wpY_point (fun r' v' => r' = r ∧ i_Rel (k + 5) u' v') v v1 v2) u v1 v2 := by
  refine zz_el (P := fun u v => wpX_point (fun r u' => wpY_point (fun r' v' => r' = r ∧ i_Rel (k + 5) u' v') v v1 v2) u v1 v2) ?_ I
  intro fl fw lX hX lY hY bX bY bs bp mp wd pu pv tu tv cx cy sl sb c h1 h2 hm hu hv hf
  obtain ⟨r, c', pu', pv', c1, c2, hu', hv', kX, kY⟩ := sz_point (fl := fl) (fw := fw) (lX := lX) (hX := hX) (lY := lY) (hY := hY) (bX := bX) (bY := bY) (bs := bs) (bp := bp) (mp := mp) (wd := wd) (tu := tu) (tv := tv) (cx := cx) (cy := cy) (sl := sl) (sb := sb) hu hv h1 h2 v1 v2
  exact kX _ (kY _ ⟨rfl, zz_in c1 c2 hm hu' hv' hf⟩)
theorem i_vc_look {k : Nat} {u : SX} {v : SY} (I : i_Rel k u v) (hk : k + 5 ≤ 2560) (v1 : Int32) (v2 : Int32) (v3 : Int32) : wpX_look (fun r u' => wpY_look (fun r' v' => r' = r ∧ i_Rel (k + 5) u' v') v v1 v2 v3) u v1 v2 v3 := by
  refine zz_el (P := fun u v => wpX_look (fun r u' => wpY_look (fun r' v' => r' = r ∧ i_Rel (k + 5) u' v') v v1 v2 v3) u v1 v2 v3) ?_ I
  intro fl fw lX hX lY hY bX bY bs bp mp wd pu pv tu tv cx cy sl sb c h1 h2 hm hu hv hf
  obtain ⟨r, c', pu', pv', c1, c2, hu', hv', kX, kY⟩ := sz_lookT (fl := fl) (fw := fw) (lX := lX) (hX := hX) (lY := lY) (hY := hY) (bX := bX) (bY := bY) (bs := bs) (bp := bp) (mp := mp) (wd := wd) (tu := tu) (tv := tv) (cx := cx) (cy := cy) (sl := sl) (sb := sb) h1 h2 hu hv v1 v2 v3
  exact kX _ (kY _ ⟨rfl, zz_in c1 c2 hm hu' hv' hf⟩)
theorem i_vc_stamp {k : Nat} {u : SX} {v : SY} (I : i_Rel k u v) (hk : k + 5 ≤ 2560) (v1 : Int32) (v2 : Int32) : wpX_stamp (fun r u' => wpY_stamp (fun r' v' => r' = r ∧ i_Rel (k + 5) u' v') v v1 v2) u v1 v2 := by
  refine zz_el (P := fun u v => wpX_stamp (fun r u' => wpY_stamp (fun r' v' => r' = r ∧ i_Rel (k + 5) u' v') v v1 v2) u v1 v2) ?_ I
  intro fl fw lX hX lY hY bX bY bs bp mp wd pu pv tu tv cx cy sl sb c h1 h2 hm hu hv hf
  exact sz_stampT hm h2 v1 v2 (fun r fl' mp' tu' tv' hm' hfl kY => kY _ ⟨rfl, zz_in h1 h2 hm' hu hv (zz_fl hf hfl)⟩)
theorem i_vc_points {k : Nat} {u : SX} {v : SY} (I : i_Rel k u v) (hk : k + 5 ≤ 2560) : wpX_points (fun r => wpY_points (fun r' => r' = r ∧ i_Rel (k + 5) u v) v) u := by
  refine zz_el (P := fun u v => wpX_points (fun r => wpY_points (fun r' => r' = r ∧ i_Rel (k + 5) u v) v) u) ?_ I
  intro fl fw lX hX lY hY bX bY bs bp mp wd pu pv tu tv cx cy sl sb c h1 h2 hm hu hv hf
  exact ⟨rfl, zz_in h1 h2 hm hu hv hf⟩
theorem i_vc_score {k : Nat} {u : SX} {v : SY} (I : i_Rel k u v) (hk : k + 5 ≤ 2560) (v1 : Int32) : wpX_score (fun r u' => wpY_score (fun r' => r' = r ∧ i_Rel (k + 5) u' v) v v1) u v1 := by
  refine zz_el (P := fun u v => wpX_score (fun r u' => wpY_score (fun r' => r' = r ∧ i_Rel (k + 5) u' v) v v1) u v1) ?_ I
  intro fl fw lX hX lY hY bX bY bs bp mp wd pu pv tu tv cx cy sl sb c h1 h2 hm hu hv hf
  by_cases h0 : v1 < 0
  · exact br_t h0 (sy_po0 (v := (nI c, mp, pu, pv)) (Or.inl h0) ⟨rfl, zz_in h1 h2 hm hu hv hf⟩)
  · by_cases h4 : v1 < 1024
    · obtain ⟨P, hP, rfl⟩ := nI_of h0
      have hP4 : P < 1024 := (nI_ltI (b := 1024) hP (by decide)).mp h4
      refine sx_score hP4 hm h2 hu hv hf (fun fl' wd' tu' tv' hw => ?_)
      exact sy_po1 (v := (nI c, mp, pu, pv)) hP4 (sy_scoreOf hm h2 hu hv hP4 ⟨rfl, zz_in h1 h2 hm hu hv (Or.inr hw)⟩)
    · exact br_f h0 (br_f h4 (sy_po0 (v := (nI c, mp, pu, pv)) (Or.inr (Int32.not_lt.mp h4)) ⟨rfl, zz_in h1 h2 hm hu hv hf⟩))
theorem i_vc_best {k : Nat} {u : SX} {v : SY} (I : i_Rel k u v) (hk : k + 5 ≤ 2560) : wpX_best (fun r u' => wpY_best (fun r' => r' = r ∧ i_Rel (k + 5) u' v) v) u := by
  refine zz_el (P := fun u v => wpX_best (fun r u' => wpY_best (fun r' => r' = r ∧ i_Rel (k + 5) u' v) v) u) ?_ I
  intro fl fw lX hX lY hY bX bY bs bp mp wd pu pv tu tv cx cy sl sb c h1 h2 hm hu hv hf
  refine sx_best hm h2 hu hv hf (fun fl' fw' lX' hX' lY' hY' bX' bY' bs' bp' q wd' tu' tv' cx' cy' sl' sb' hw hq => ?_)
  refine sy_best hm h2 hu hv (fun q' hq' => ?_)
  rw [sc_Topu hq' hq]
  exact ⟨rfl, zz_in h1 h2 hm hu hv (Or.inr hw)⟩
theorem i_vc_match {k : Nat} {u : SX} {v : SY} (I : i_Rel k u v) (hk : k + 5 ≤ 2560) : wpX_match (fun r u' => wpY_match (fun r' => r' = r ∧ i_Rel (k + 5) u' v) v) u := by
  refine zz_el (P := fun u v => wpX_match (fun r u' => wpY_match (fun r' => r' = r ∧ i_Rel (k + 5) u' v) v) u) ?_ I
  intro fl fw lX hX lY hY bX bY bs bp mp wd pu pv tu tv cx cy sl sb c h1 h2 hm hu hv hf
  refine sx_match hm h2 hu hv hf (fun fl' fw' lX' hX' lY' hY' bX' bY' bs' bp' q wd' tu' tv' cx' cy' sl' sb' hw hq => ?_)
  refine sy_match hm h2 hu hv (fun q' hq' => ?_)
  rw [sc_Topu hq' hq]
  exact ⟨rfl, zz_in h1 h2 hm hu hv (Or.inr hw)⟩
theorem i_vc_matchNear {k : Nat} {u : SX} {v : SY} (I : i_Rel k u v) (hk : k + 5 ≤ 2560) (v1 : Int32) (v2 : Int32) (v3 : Int32) : wpX_matchNear (fun r u' => wpY_matchNear (fun r' => r' = r ∧ i_Rel (k + 5) u' v) v v1 v2 v3) u v1 v2 v3 := by
  refine zz_el (P := fun u v => wpX_matchNear (fun r u' => wpY_matchNear (fun r' => r' = r ∧ i_Rel (k + 5) u' v) v v1 v2 v3) u v1 v2 v3) ?_ I
  intro fl fw lX hX lY hY bX bY bs bp mp wd pu pv tu tv cx cy sl sb c h1 h2 hm hu hv hf
  by_cases a1 : v1 < 0
  · exact br_t a1 (br_t a1 ⟨rfl, zz_in h1 h2 hm hu hv hf⟩)
  · by_cases a2 : 3 < v1
    · exact br_f a1 (br_t a2 (br_f a1 (br_t a2 ⟨rfl, zz_in h1 h2 hm hu hv hf⟩)))
    · by_cases a3 : v2 < 0
      · exact br_f a1 (br_f a2 (br_t a3 (br_f a1 (br_f a2 (br_t a3 ⟨rfl, zz_in h1 h2 hm hu hv hf⟩)))))
      · by_cases a4 : 255 < v2
        · exact br_f a1 (br_f a2 (br_f a3 (br_t a4 (br_f a1 (br_f a2 (br_f a3 (br_t a4 ⟨rfl, zz_in h1 h2 hm hu hv hf⟩)))))))
        · by_cases a5 : v3 < 0
          · exact br_f a1 (br_f a2 (br_f a3 (br_f a4 (br_t a5 (br_f a1 (br_f a2 (br_f a3 (br_f a4 (br_t a5 ⟨rfl, zz_in h1 h2 hm hu hv hf⟩)))))))))
          · by_cases a6 : v3 ≤ 15
            · obtain ⟨R, hR, rfl⟩ := nI_of a1
              obtain ⟨L, hL, rfl⟩ := nI_of a3
              obtain ⟨D, hD, rfl⟩ := nI_of a5
              have hR4 : R < 4 := by
                apply Decidable.not_not.mp
                intro z
                exact a2 (nI_lt (a := 3) (by omega) hR)
              have hL4 : L < 256 := by
                apply Decidable.not_not.mp
                intro z
                exact a4 (nI_lt (a := 255) (by omega) hL)
              have hD4 : D < 16 := by
                have := (nI_leI (b := 15) hD (by decide)).mp a6
                omega
              refine sx_near hR4 hL4 hD4 hm h2 hu hv hf (fun fl' fw' lX' hX' lY' hY' bX' bY' bs' bp' q wd' tu' tv' cx' cy' sl' sb' hw hq => ?_)
              refine sy_near hR4 hL4 hD4 hm h2 hu hv (fun q' hq' => ?_)
              rw [sc_Topu hq' hq]
              exact ⟨rfl, zz_in h1 h2 hm hu hv (Or.inr hw)⟩
            · exact br_f a1 (br_f a2 (br_f a3 (br_f a4 (br_f a5 (br_f a6 (br_f a1 (br_f a2 (br_f a3 (br_f a4 (br_f a5 (br_f a6 ⟨rfl, zz_in h1 h2 hm hu hv hf⟩)))))))))))
theorem i_vc_atLeast {k : Nat} {u : SX} {v : SY} (I : i_Rel k u v) (hk : k + 5 ≤ 2560) (v1 : Int32) : wpX_atLeast (fun r u' => wpY_atLeast (fun r' => r' = r ∧ i_Rel (k + 5) u' v) v v1) u v1 := by
  refine zz_el (P := fun u v => wpX_atLeast (fun r u' => wpY_atLeast (fun r' => r' = r ∧ i_Rel (k + 5) u' v) v v1) u v1) ?_ I
  intro fl fw lX hX lY hY bX bY bs bp mp wd pu pv tu tv cx cy sl sb c h1 h2 hm hu hv hf
  refine sx_atLeast hm h2 hu hv hf (fun fl' fw' lX' hX' lY' hY' bX' bY' bs' bp' wd' tu' tv' cx' cy' sl' sb' hw => ?_)
  exact sy_atLeast hm h2 hu hv ⟨rfl, zz_in h1 h2 hm hu hv (Or.inr hw)⟩
theorem i_vc_rival {k : Nat} {u : SX} {v : SY} (I : i_Rel k u v) (hk : k + 5 ≤ 2560) : wpX_rival (fun r u' => wpY_rival (fun r' => r' = r ∧ i_Rel (k + 5) u' v) v) u := by
  refine zz_el (P := fun u v => wpX_rival (fun r u' => wpY_rival (fun r' => r' = r ∧ i_Rel (k + 5) u' v) v) u) ?_ I
  intro fl fw lX hX lY hY bX bY bs bp mp wd pu pv tu tv cx cy sl sb c h1 h2 hm hu hv hf
  refine sx_rival hm h2 hu hv hf (fun fl' fw' lX' hX' lY' hY' bX' bY' bs' bp' q0 q wd' tu' tv' cx' cy' sl' sb' hw hq0 hq => ?_)
  refine sy_rival hm h2 hu hv (fun q0' q' hq0' hq' => ?_)
  have e0 := sc_Topu hq0' hq0
  subst e0
  rw [sc_Topu hq' hq]
  exact ⟨rfl, zz_in h1 h2 hm hu hv (Or.inr hw)⟩
end
