section
/-! rows of kit/rows (a starting text), then helpers of mine -/
theorem pk_us {f : Nat → Int32} {k : Nat} {x : Int32} : upd f k x k = x := if_pos rfl
theorem pk_un {f : Nat → Int32} {k j : Nat} {x : Int32} (h : j ≠ k) : upd f k x j = f j := if_neg h
theorem pk_sub {a b : Nat} (h : b ≤ a) : nI a - nI b = nI (a - b) := by
  obtain ⟨c, rfl⟩ : ∃ c, a = c + b := ⟨a - b, by omega⟩
  rw [← nI_add, Int32.add_sub_cancel, Nat.add_sub_cancel]
theorem pk_m1 (n : Nat) : nI (n + 1) + (-1) = nI n := by
  rw [← nI_1, Int32.add_assoc, show (1 : Int32) + (-1) = 0 from rfl, Int32.add_zero]
theorem pk_mul (a b : Nat) : nI a * nI b = nI (a * b) := (Int32.ofNat_mul a b).symm
theorem pk_div {a d : Nat} (ha : a < 2 ^ 31) (h0 : 0 < d) (hd : d < 2 ^ 31) : nI a / nI d = nI (a / d) := by
  apply Int32.toInt_inj.mp
  rw [lg_idiv_nonneg (by rw [nI_toInt ha]; omega) (by rw [nI_toInt hd]; omega), nI_toInt ha, nI_toInt hd, nI_toInt (Nat.lt_of_le_of_lt (Nat.div_le_self a d) ha)]
  first | rfl | exact (Int.natCast_ediv _ _).symm
theorem pk_rem {a d : Nat} (ha : a < 2 ^ 31) (h0 : 0 < d) (hd : d < 2 ^ 31) : nI a - nI a / nI d * nI d = nI (a % d) := by
  rw [pk_div ha h0 hd, pk_mul, pk_sub (Nat.div_mul_le_self a d)]
  exact congrArg nI (by have := Nat.div_add_mod' a d; omega)
theorem pk_sub_toInt {a b : Nat} (ha : a < 2 ^ 30) (hb : b < 2 ^ 30) : (nI a - nI b).toInt = (a : Int) - b := by
  rw [Int32.toInt_sub, nI_toInt (by omega), nI_toInt (by omega)]
  exact Int.bmod_eq_of_le (by omega) (by omega)
theorem pk_ix (x : Int32) {n : Nat} (hn : n < 2 ^ 31) : x < 0 ∨ nI n ≤ x ∨ ∃ j : Nat, j < n ∧ x = nI j := by
  by_cases h : x < 0
  · exact Or.inl h
  · obtain ⟨j, hj, rfl⟩ := nI_of h
    by_cases h2 : j < n
    · exact Or.inr (Or.inr ⟨j, h2, rfl⟩)
    · exact Or.inr (Or.inl (nI_le (by omega) hj))
theorem pk_le {x y : Int32} {A B : Prop} (a b : Nat) (f : a ≤ b → A) (g : b < a → B) (hx : x = nI a := by rfl) (hy : y = nI b := by rfl) (ha : a < 2 ^ 31 := by omega) (hb : b < 2 ^ 31 := by omega) : (x ≤ y → A) ∧ (¬ x ≤ y → B) := by
  subst hx hy
  rw [nI_leI ha hb]
  exact ⟨f, fun z => g (by omega)⟩
theorem pk_lt {x y : Int32} {A B : Prop} (a b : Nat) (f : a < b → A) (g : b ≤ a → B) (hx : x = nI a := by rfl) (hy : y = nI b := by rfl) (ha : a < 2 ^ 31 := by omega) (hb : b < 2 ^ 31 := by omega) : (x < y → A) ∧ (¬ x < y → B) := by
  subst hx hy
  rw [nI_ltI ha hb]
  exact ⟨f, fun z => g (by omega)⟩
theorem pk_eq {x y : Int32} {A B : Prop} (a b : Nat) (f : a = b → A) (g : a ≠ b → B) (hx : x = nI a := by rfl) (hy : y = nI b := by rfl) (ha : a < 2 ^ 31 := by omega) (hb : b < 2 ^ 31 := by omega) : (x = y → A) ∧ (¬ x = y → B) := by
  subst hx hy
  rw [nI_eq ha hb]
  exact ⟨f, g⟩
theorem pk_in {x : Int32} (n N : Nat) (h : n < N) (hx : x = nI n := by rfl) (hN : N < 2 ^ 31 := by omega) : vp_in x N := by
  subst hx
  exact vp_in_nI h hN
theorem pk_cl {x : Int32} (n : Nat) (hx : x = nI n := by rfl) (h : n < 2 ^ 31 := by omega) : x.toNatClampNeg = n := by
  subst hx
  exact nI_clamp h
theorem pk_least (P : Nat → Prop) (h : ∃ k, P k) : ∃ k, P k ∧ ∀ j, j < k → ¬ P j := by
  obtain ⟨k, hk⟩ := h
  induction k using Nat.strongRecOn with
  | ind k ih =>
    by_cases e : ∃ j, j < k ∧ P j
    · obtain ⟨j, hj, pj⟩ := e
      exact ih j hj pj
    · exact ⟨k, hk, fun j hj pj => e ⟨j, hj, pj⟩⟩
theorem sb_cl0 : (0 : Int32).toNatClampNeg = 0 := by decide
theorem sb_m1 {p : Nat} (h : 0 < p) : nI p + (-1) = nI (p - 1) := by
  obtain ⟨q, rfl⟩ : ∃ q, p = q + 1 := ⟨p - 1, by omega⟩
  exact pk_m1 q
theorem bs_ic {α : Type} (P : α → Prop) {c d A B : Prop} [Decidable d] {t e : α} (i : c ↔ d) (h : P (if d then t else e)) (f : d → P t → A) (g : ¬ d → P e → B) : (c → A) ∧ (¬ c → B) := by
  by_cases z : d
  · rw [if_pos z] at h
    exact ⟨fun _ => f z h, fun n => absurd (i.mpr z) n⟩
  · rw [if_neg z] at h
    exact ⟨fun n => absurd (i.mp n) z, fun _ => g z h⟩
theorem bs_ilt {α : Type} (P : α → Prop) {x y : Int32} {A B : Prop} {t e : α} (a b : Nat) (h : P (if a < b then t else e)) (f : a < b → P t → A) (g : ¬ a < b → P e → B) (hx : x = nI a := by rfl) (hy : y = nI b := by rfl) (ha : a < 2 ^ 31 := by omega) (hb : b < 2 ^ 31 := by omega) : (x < y → A) ∧ (¬ x < y → B) := by
  subst hx hy
  exact bs_ic P (nI_ltI ha hb) h f g
theorem bs_ile {α : Type} (P : α → Prop) {x y : Int32} {A B : Prop} {t e : α} (a b : Nat) (h : P (if a ≤ b then t else e)) (f : a ≤ b → P t → A) (g : ¬ a ≤ b → P e → B) (hx : x = nI a := by rfl) (hy : y = nI b := by rfl) (ha : a < 2 ^ 31 := by omega) (hb : b < 2 ^ 31 := by omega) : (x ≤ y → A) ∧ (¬ x ≤ y → B) := by
  subst hx hy
  exact bs_ic P (nI_leI ha hb) h f g
theorem bs_ieq {α : Type} (P : α → Prop) {x y : Int32} {A B : Prop} {t e : α} (a b : Nat) (h : P (if a = b then t else e)) (f : a = b → P t → A) (g : ¬ a = b → P e → B) (hx : x = nI a := by rfl) (hy : y = nI b := by rfl) (ha : a < 2 ^ 31 := by omega) (hb : b < 2 ^ 31 := by omega) : (x = y → A) ∧ (¬ x = y → B) := by
  subst hx hy
  exact bs_ic P (nI_eq ha hb) h f g
theorem bs_at {P : Int32 → Prop} {x y : Int32} (e : x = y) (h : P y) : P x := e ▸ h
theorem bs_atA {α : Sort _} {P : α → Prop} {x y : α} (e : x = y) (h : P y) : P x := e ▸ h
theorem bs_n1 : (-1 : Int32) < 0 := by decide
theorem bs_n1' : ¬ (0 : Int32) ≤ -1 := by decide
theorem bs_n1n {n : Nat} (h : n < 2 ^ 31) : ¬ (-1 : Int32) = nI n := by
  intro e
  have h1 := bs_n1
  rw [e] at h1
  exact nI_pos h h1
theorem bs_n1m {n : Nat} (h : n < 2 ^ 31) : ¬ nI n = (-1 : Int32) := fun e => bs_n1n h e.symm
def bs_oI : Option Nat → Int32
  | none => -1
  | some n => nI n
/-- the natural behind a cell -/
def bs_N (a : Nat → Int32) (i : Nat) : Nat := (a i).toNatClampNeg
theorem bs_Nof {a : Nat → Int32} {i n : Nat} (h : a i = nI n) (hn : n < 2 ^ 31) : bs_N a i = n := by
  unfold bs_N
  rw [h, nI_clamp hn]
/-- cells below L hold naturals from lo to hi -/
def bs_R (a : Nat → Int32) (L lo hi : Nat) : Prop := ∀ i, i < L → a i = nI (bs_N a i) ∧ lo ≤ bs_N a i ∧ bs_N a i ≤ hi
theorem bs_R0 {a : Nat → Int32} {lo hi : Nat} : bs_R a 0 lo hi := fun i h => absurd h (Nat.not_lt_zero i)
theorem bs_Rmono {a : Nat → Int32} {L K lo hi : Nat} (h : bs_R a L lo hi) (k : K ≤ L) : bs_R a K lo hi := fun i hi => h i (by omega)
theorem bs_Rupd {a : Nat → Int32} {L K lo hi i n : Nat} (h : bs_R a L lo hi) (hK : ∀ j, j < K → j = i ∨ j < L) (h1 : lo ≤ n) (h2 : n ≤ hi) (h3 : hi < 2 ^ 31) : bs_R (upd a i (nI n)) K lo hi := by
  intro j hj
  by_cases e : j = i
  · subst e
    have e1 : upd a j (nI n) j = nI n := pk_us
    rw [bs_Nof e1 (by omega)]
    exact ⟨e1, h1, h2⟩
  · have e1 : upd a i (nI n) j = a j := pk_un e
    have e2 : bs_N (upd a i (nI n)) j = bs_N a j := by unfold bs_N; rw [e1]
    rw [e2, e1]
    exact h j ((hK j hj).resolve_left e)
theorem bs_ext {a : Nat → Int32} {L K lo hi n : Nat} (h : bs_R a L lo hi) (hK : K = L + 1) (h1 : lo ≤ n) (h2 : n ≤ hi) (h3 : hi < 2 ^ 31) : bs_R (upd a L (nI n)) K lo hi := bs_Rupd h (fun j hj => by omega) h1 h2 h3
end
section
/-! the patterns: six digits a codeword, the key of the four sums -/
def bs_PT : List Nat := [212222, 222122, 222221, 121223, 121322, 131222, 122213, 122312, 132212, 221213, 221312, 231212, 112232, 122132, 122231, 113222, 123122, 123221, 223211, 221132, 221231, 213212, 223112, 312131, 311222, 321122, 321221, 312212, 322112, 322211, 212123, 212321, 232121, 111323, 131123, 131321, 112313, 132113, 132311, 211313, 231113, 231311, 112133, 112331, 132131, 113123, 113321, 133121, 313121, 211331, 231131, 213113, 213311, 213131, 311123, 311321, 331121, 312113, 312311, 332111, 314111, 221411, 431111, 111224, 111422, 121124, 121421, 141122, 141221, 112214, 112412, 122114, 122411, 142112, 142211, 241211, 221114, 413111, 241112, 134111, 111242, 121142, 121241, 114212, 124112, 124211, 411212, 421112, 421211, 212141, 214121, 412121, 111143, 111341, 131141, 114113, 114311, 411113, 411311, 113141, 114131, 311141, 411131, 211412, 211214, 211232, 233111]
def bs_KL : List Nat := [1764, 2331, 2340, 1756, 1765, 2332, 1827, 1836, 2403, 2267, 2276, 2843, 1253, 1820, 1829, 1324, 1891, 1900, 2411, 2260, 2269, 1835, 2402, 2268, 2204, 2771, 2780, 2275, 2842, 2851, 1755, 1773, 2907, 1189, 2323, 2341, 1260, 2394, 2412, 1700, 2834, 2852, 1244, 1262, 2396, 1315, 1333, 2467, 2339, 1702, 2836, 1826, 1844, 1828, 2195, 2213, 3347, 2266, 2284, 3418, 2410, 2285, 3858, 1180, 1198, 1747, 1774, 2899, 2908, 1251, 1269, 1818, 1845, 2970, 2979, 3419, 2258, 2850, 3410, 2538, 1182, 1749, 1758, 1395, 1962, 1971, 2715, 3282, 3291, 1757, 1899, 2779, 1173, 1191, 2325, 1386, 1404, 2706, 2724, 1317, 1388, 2197, 2708, 1709, 1691, 1693, 2978]
def bs_pt (w : Nat) : Nat := bs_PT.getD w 0
def bs_dg (d k : Nat) : Nat := d / 10 ^ (5 - k) % 10
def bs_el (w k : Nat) : Nat := bs_dg (bs_pt w) k
def bs_k4 (a b c d : Nat) : Nat := ((a * 8 + b) * 8 + c) * 8 + d
def bs_kd (d : Nat) : Nat := bs_k4 (bs_dg d 0 + bs_dg d 1) (bs_dg d 1 + bs_dg d 2) (bs_dg d 2 + bs_dg d 3) (bs_dg d 3 + bs_dg d 4)
def bs_ky (w : Nat) : Nat := bs_KL.getD w 0
theorem bs_ky_eq : ∀ w, w < 107 → bs_kd (bs_pt w) = bs_ky w := by decide +kernel
theorem bs_pt_lt : ∀ w, w < 107 → bs_pt w < 1000000 := by decide +kernel
theorem bs_el_r : ∀ w, w < 107 → ∀ k, k < 6 → 1 ≤ bs_el w k ∧ bs_el w k ≤ 4 := by decide +kernel
theorem bs_el_s : ∀ w, w < 107 → ∀ k, k < 4 → bs_el w k + bs_el w (k + 1) ≤ 7 := by decide +kernel
theorem bs_KLn : bs_KL.Nodup := by decide +kernel
theorem bs_KLl : bs_KL.length = 107 := by decide +kernel
theorem bs_ky_inj {v w : Nat} (hv : v < 107) (hw : w < 107) (h : bs_ky v = bs_ky w) : v = w := by
  have lv : v < bs_KL.length := by rw [bs_KLl]; exact hv
  have lw : w < bs_KL.length := by rw [bs_KLl]; exact hw
  have e1 : bs_ky v = bs_KL[v] := by unfold bs_ky; rw [List.getD_eq_getElem?_getD, List.getElem?_eq_getElem lv]; rfl
  have e2 : bs_ky w = bs_KL[w] := by unfold bs_ky; rw [List.getD_eq_getElem?_getD, List.getElem?_eq_getElem lw]; rfl
  rw [e1, e2] at h
  have hn := List.pairwise_iff_getElem.mp bs_KLn
  rcases Nat.lt_trichotomy v w with c | c | c
  · exact absurd h (hn v w lv lw c)
  · exact c
  · exact absurd h.symm (hn w v lw lv c)
/-- what the table of keys holds when the words below n are learnt -/
def bs_cw : Nat → Nat → Nat
  | 0, _ => 0
  | n + 1, key => if key = bs_ky n then n + 1 else bs_cw n key
theorem bs_cw_le (n key : Nat) : bs_cw n key ≤ n := by
  induction n with
  | zero => exact Nat.le_refl 0
  | succ n ih =>
    unfold bs_cw
    by_cases h : key = bs_ky n
    · rw [if_pos h]; exact Nat.le_refl _
    · rw [if_neg h]; omega
theorem bs_cw_s {v : Nat} : ∀ n, n ≤ 107 → v < n → bs_cw n (bs_ky v) = v + 1 := by
  intro n
  induction n with
  | zero => intro _ h; omega
  | succ n ih =>
    intro hn hv
    unfold bs_cw
    by_cases h : bs_ky v = bs_ky n
    · rw [if_pos h, bs_ky_inj (by omega) (by omega) h]
    · rw [if_neg h]
      have : v ≠ n := fun e => h (by rw [e])
      exact ih (by omega) (by omega)
theorem bs_cw_n {key : Nat} : ∀ n, (∀ v, v < n → key ≠ bs_ky v) → bs_cw n key = 0 := by
  intro n
  induction n with
  | zero => intro _; rfl
  | succ n ih =>
    intro h
    unfold bs_cw
    rw [if_neg (h n (by omega))]
    exact ih fun v hv => h v (by omega)
/-- the value of a group by its four distances -/
def bs_vl (a b c d : Nat) : Int32 := if a ≤ 7 ∧ b ≤ 7 ∧ c ≤ 7 ∧ d ≤ 7 then nI (bs_cw 107 (bs_k4 a b c d)) - 1 else -1
def bs_hit (v a b c d : Nat) : Prop := bs_el v 0 + bs_el v 1 = a ∧ bs_el v 1 + bs_el v 2 = b ∧ bs_el v 2 + bs_el v 3 = c ∧ bs_el v 3 + bs_el v 4 = d
theorem bs_k4_inj {a b c d a' b' c' d' : Nat} (h : bs_k4 a b c d = bs_k4 a' b' c' d') (h1 : b ≤ 7) (h2 : c ≤ 7) (h3 : d ≤ 7) (h4 : b' ≤ 7) (h5 : c' ≤ 7) (h6 : d' ≤ 7) : a = a' ∧ b = b' ∧ c = c' ∧ d = d' := by
  unfold bs_k4 at h
  omega
theorem bs_ky_k4 {v : Nat} (hv : v < 107) : bs_ky v = bs_k4 (bs_el v 0 + bs_el v 1) (bs_el v 1 + bs_el v 2) (bs_el v 2 + bs_el v 3) (bs_el v 3 + bs_el v 4) := (bs_ky_eq v hv).symm
theorem bs_vl_hit {v a b c d : Nat} (hv : v < 107) (h : bs_hit v a b c d) : bs_vl a b c d = nI v := by
  obtain ⟨rfl, rfl, rfl, rfl⟩ := h
  have s0 := bs_el_s v hv 0 (by decide)
  have s1 := bs_el_s v hv 1 (by decide)
  have s2 := bs_el_s v hv 2 (by decide)
  have s3 := bs_el_s v hv 3 (by decide)
  unfold bs_vl
  rw [if_pos ⟨s0, s1, s2, s3⟩, ← bs_ky_k4 hv, bs_cw_s 107 (Nat.le_refl _) hv]
  exact nI_pred v
theorem bs_vl_none {a b c d : Nat} (h : ∀ v, v < 107 → ¬ bs_hit v a b c d) : bs_vl a b c d = -1 := by
  unfold bs_vl
  by_cases z : a ≤ 7 ∧ b ≤ 7 ∧ c ≤ 7 ∧ d ≤ 7
  · rw [if_pos z, bs_cw_n 107]
    · decide
    · intro v hv e
      rw [bs_ky_k4 hv] at e
      have s1 := bs_el_s v hv 1 (by decide)
      have s2 := bs_el_s v hv 2 (by decide)
      have s3 := bs_el_s v hv 3 (by decide)
      have := bs_k4_inj e z.2.1 z.2.2.1 z.2.2.2 s1 s2 s3
      exact h v hv ⟨this.1.symm, this.2.1.symm, this.2.2.1.symm, this.2.2.2.symm⟩
  · rw [if_neg z]
theorem bs_vl_r (a b c d : Nat) : bs_vl a b c d = -1 ∨ ∃ v, v < 107 ∧ bs_vl a b c d = nI v := by
  unfold bs_vl
  by_cases z : a ≤ 7 ∧ b ≤ 7 ∧ c ≤ 7 ∧ d ≤ 7
  · rw [if_pos z]
    have := bs_cw_le 107 (bs_k4 a b c d)
    generalize bs_cw 107 (bs_k4 a b c d) = q at this
    cases q with
    | zero => exact Or.inl (by decide)
    | succ q => exact Or.inr ⟨q, by omega, nI_pred q⟩
  · rw [if_neg z]; exact Or.inl rfl
end
section
/-! the code: modes 0 .. 4, values 0 .. 102 -/
def bs_nm (m v : Nat) : Option Nat :=
  if m < 3 then
    if v = 102 then some m else
    if v = 100 then (if m = 1 then none else some 1) else
    if v = 101 then (if m = 0 then none else some 0) else
    if v = 99 then some 2 else
    if m = 2 then some 2 else
    if v = 98 then some (m + 3) else
    if v ≤ 95 then some m else none
  else if v ≤ 95 then some (m - 3) else none
def bs_wr (m v : Nat) : Nat :=
  if v = 102 then 1 else if m = 2 then (if 100 ≤ v then 0 else 2) else if 96 ≤ v then 0 else 1
def bs_al (m : Nat) : Nat := if 3 ≤ m then 4 - m else m
def bs_sc (m v : Nat) : Nat :=
  if v = 102 then 128 else if bs_al m = 0 then (if v < 64 then v + 32 else v - 64) else v + 32
def bs_e1 (m v : Nat) : Option Nat := if v = 101 then (if m = 0 then none else some 200) else some 200
def bs_e5 (v z : Nat) : Option Nat := if z = 0 then some (v + 32) else if v < 64 then some (v + 32) else some (v - 64)
def bs_em (m v : Nat) : Option Nat :=
  if m = 2 then (if 100 ≤ v then (if v = 102 then some 128 else some 200) else some (1000 + v))
  else if 95 < v then
    (if 3 ≤ m then none else if v = 96 then none else if v = 97 then none else if v = 102 then some 128 else
      if v = 100 then (if m = 1 then none else bs_e1 m v) else bs_e1 m v)
  else if m = 0 then bs_e5 v 1 else if m = 4 then bs_e5 v 1 else bs_e5 v 0
def bs_a4 (m v : Nat) : Nat := if v = 99 then 2 else m
def bs_af (m v : Nat) : Nat :=
  if m < 3 then if v = 100 then 1 else if v = 101 then 0 else if 2 ≤ m then bs_a4 m v else if v = 98 then m + 3 else bs_a4 m v
  else m - 3
theorem bs_c1 : ∀ m, m < 5 → ∀ v, v < 103 → (bs_nm m v = none → bs_em m v = none) := by decide +kernel
theorem bs_c2 : ∀ m, m < 5 → ∀ v, v < 103 → bs_nm m v ≠ none → bs_nm m v = some (bs_af m v) ∧ bs_af m v < 5 := by decide +kernel
theorem bs_c3 : ∀ m, m < 5 → ∀ v, v < 103 → bs_nm m v ≠ none → bs_wr m v = 0 → bs_em m v = some 200 := by decide +kernel
theorem bs_c4 : ∀ m, m < 5 → ∀ v, v < 103 → bs_nm m v ≠ none → bs_wr m v = 1 → bs_em m v = some (bs_sc m v) ∧ bs_sc m v ≤ 128 := by decide +kernel
theorem bs_c5 : ∀ m, m < 5 → ∀ v, v < 103 → bs_wr m v = 2 → bs_em m v = some (1000 + v) ∧ v < 100 ∧ m = 2 := by decide +kernel
theorem bs_c6 (m v : Nat) : bs_wr m v = 0 ∨ bs_wr m v = 1 ∨ bs_wr m v = 2 := by
  unfold bs_wr
  repeat' split
  all_goals omega
theorem bs_c7 : ∀ v, v < 103 → bs_wr 2 v = 1 → v = 102 := by decide +kernel
/-! the text T of length L -/
def bs_pr (T : Nat → Nat) (L p : Nat) : Option Nat :=
  if p + 1 < L then (if T p < 48 then none else if 57 < T p then none else if T (p + 1) < 48 then none else if T (p + 1) ≤ 57 then some (10 * (T p - 48) + (T (p + 1) - 48)) else none) else none
/-- the value for a character that is no mark, in a mode other than C -/
def bs_s1 (c m : Nat) : Option Nat :=
  if bs_al m = 0 then (if 32 ≤ c then (if 96 ≤ c then none else some (c - 32)) else some (c + 64))
  else if 32 ≤ c then some (c - 32) else none
def bs_es (T : Nat → Nat) (L p m : Nat) : Option Nat :=
  if p < L then if T p = 128 then (if m < 3 then some 102 else none) else if m = 2 then bs_pr T L p else bs_s1 (T p) m else none
def bs_ed (T : Nat → Nat) (L p m v : Nat) : Option (Nat × Nat) :=
  if bs_nm m v = none then none else if bs_wr m v ≤ 0 then some (p + bs_wr m v, bs_af m v)
  else if bs_es T L p m = some v then some (p + bs_wr m v, bs_af m v) else none
def bs_mt (T : Nat → Nat) (L p : Nat) : Option Nat → Option Nat
  | none => none
  | some e => if e = 200 then some p else if 1000 ≤ e then
      (if p + 1 < L then (if T p = 48 + (e - 1000) / 10 then (if T (p + 1) = 48 + (e - 1000) % 10 then some (p + 2) else none) else none) else none)
    else if L ≤ p then none else if T p = e then some (p + 1) else none
theorem bs_s1_sc : ∀ m, m < 5 → m ≠ 2 → ∀ v, v < 103 → bs_wr m v = 1 → bs_nm m v ≠ none → v ≠ 102 → ∀ c, c < 128 → (bs_s1 c m = some v ↔ c = bs_sc m v) := by
  intro m hm h2 v hv hw hn h102 c hc
  have ha : bs_al m = 0 ∨ bs_al m = 1 := by unfold bs_al; split <;> omega
  have h96 : v < 96 := by
    unfold bs_wr at hw
    rw [if_neg h102, if_neg h2] at hw
    by_cases z : 96 ≤ v
    · rw [if_pos z] at hw; omega
    · omega
  unfold bs_s1 bs_sc
  rw [if_neg h102]
  rcases ha with e | e
  · rw [e, if_pos rfl, if_pos rfl]
    by_cases a : 32 ≤ c
    · rw [if_pos a]
      by_cases b : 96 ≤ c
      · rw [if_pos b]
        constructor
        · intro z; cases z
        · intro z
          by_cases d : v < 64
          · rw [if_pos d] at z; omega
          · rw [if_neg d] at z; omega
      · rw [if_neg b, Option.some.injEq]
        by_cases d : v < 64
        · rw [if_pos d]; omega
        · rw [if_neg d]; omega
    · rw [if_neg a, Option.some.injEq]
      by_cases d : v < 64
      · rw [if_pos d]; omega
      · rw [if_neg d]; omega
  · rw [e, if_neg (show ¬ (1 = 0) by decide), if_neg (show ¬ (1 = 0) by decide)]
    by_cases a : 32 ≤ c
    · rw [if_pos a, Option.some.injEq]; omega
    · rw [if_neg a]
      constructor
      · intro z; cases z
      · intro z; omega
theorem bs_pr_iff {T : Nat → Nat} {L p v : Nat} : bs_pr T L p = some v ↔ p + 1 < L ∧ v < 100 ∧ T p = 48 + v / 10 ∧ T (p + 1) = 48 + v % 10 := by
  unfold bs_pr
  by_cases a : p + 1 < L
  · rw [if_pos a]
    by_cases b : T p < 48
    · rw [if_pos b]; exact ⟨fun z => (by cases z), fun z => by omega⟩
    · rw [if_neg b]
      by_cases c : 57 < T p
      · rw [if_pos c]; exact ⟨fun z => (by cases z), fun z => by omega⟩
      · rw [if_neg c]
        by_cases d : T (p + 1) < 48
        · rw [if_pos d]; exact ⟨fun z => (by cases z), fun z => by omega⟩
        · rw [if_neg d]
          by_cases e : T (p + 1) ≤ 57
          · rw [if_pos e, Option.some.injEq]
            omega
          · rw [if_neg e]; exact ⟨fun z => (by cases z), fun z => by omega⟩
  · rw [if_neg a]; exact ⟨fun z => (by cases z), fun z => absurd z.1 a⟩
/-- an allowed value of one character fits the text just where its character stands -/
theorem bs_es1 {T : Nat → Nat} {L p m v : Nat} (hT : p < L → T p ≤ 128) (hm : m < 5) (hv : v < 103) (hw : bs_wr m v = 1) (hn : bs_nm m v ≠ none) : bs_es T L p m = some v ↔ p < L ∧ T p = bs_sc m v := by
  unfold bs_es
  by_cases a : p < L
  · rw [if_pos a]
    have hT := hT a
    by_cases b : T p = 128
    · rw [if_pos b]
      by_cases c : m < 3
      · rw [if_pos c, Option.some.injEq]
        constructor
        · intro e
          subst e
          exact ⟨a, b⟩
        · intro e
          by_cases d : v = 102
          · exact d.symm
          · have h2 : m ≠ 2 := fun z => d (by subst z; exact bs_c7 v hv hw)
            have e2 := e.2
            have h96 : v < 96 := by
              unfold bs_wr at hw
              rw [if_neg d, if_neg h2] at hw
              by_cases z : 96 ≤ v
              · rw [if_pos z] at hw; omega
              · omega
            unfold bs_sc at e2
            rw [if_neg d] at e2
            by_cases z : bs_al m = 0
            · rw [if_pos z] at e2
              by_cases y : v < 64
              · rw [if_pos y] at e2; omega
              · rw [if_neg y] at e2; omega
            · rw [if_neg z] at e2; omega
      · rw [if_neg c]
        constructor
        · intro z; cases z
        · intro e
          have e2 := e.2
          have h96 : v ≤ 95 := by
            unfold bs_nm at hn
            rw [if_neg c] at hn
            by_cases z : v ≤ 95
            · exact z
            · rw [if_neg z] at hn; exact absurd rfl hn
          unfold bs_sc at e2
          rw [if_neg (by omega)] at e2
          by_cases z : bs_al m = 0
          · rw [if_pos z] at e2
            by_cases y : v < 64
            · rw [if_pos y] at e2; omega
            · rw [if_neg y] at e2; omega
          · rw [if_neg z] at e2; omega
    · rw [if_neg b]
      by_cases c : m = 2
      · rw [if_pos c]
        subst c
        have := bs_c7 v hv hw
        subst this
        constructor
        · intro z
          have := (bs_pr_iff.mp z).2.1
          omega
        · intro z
          exact absurd z.2 b
      · rw [if_neg c]
        by_cases d : v = 102
        · subst d
          constructor
          · intro z
            unfold bs_s1 at z
            exfalso
            by_cases y : bs_al m = 0
            · rw [if_pos y] at z
              by_cases x : 32 ≤ T p
              · rw [if_pos x] at z
                by_cases w : 96 ≤ T p
                · rw [if_pos w] at z; cases z
                · rw [if_neg w, Option.some.injEq] at z; omega
              · rw [if_neg x, Option.some.injEq] at z; omega
            · rw [if_neg y] at z
              by_cases x : 32 ≤ T p
              · rw [if_pos x, Option.some.injEq] at z; omega
              · rw [if_neg x] at z; cases z
          · intro z
            exact absurd z.2 b
        · rw [bs_s1_sc m hm c v hv hw hn d (T p) (by omega)]
          exact ⟨fun z => ⟨a, z⟩, fun z => z.2⟩
  · rw [if_neg a]
    exact ⟨fun z => (by cases z), fun z => absurd z.1 a⟩
theorem bs_es2 {T : Nat → Nat} {L p v : Nat} (hv : v < 100) : bs_es T L p 2 = some v ↔ p + 1 < L ∧ T p = 48 + v / 10 ∧ T (p + 1) = 48 + v % 10 := by
  unfold bs_es
  by_cases a : p < L
  · rw [if_pos a]
    by_cases b : T p = 128
    · rw [if_pos b, if_pos (by decide), Option.some.injEq]
      omega
    · rw [if_neg b, if_pos rfl, bs_pr_iff]
      exact ⟨fun z => ⟨z.1, z.2.2⟩, fun z => ⟨z.1, hv, z.2⟩⟩
  · rw [if_neg a]
    exact ⟨fun z => (by cases z), fun z => by omega⟩
/-- X's edge is Y's -/
theorem bs_tie {T : Nat → Nat} {L p m v : Nat} (hT : p < L → T p ≤ 128) (hm : m < 5) (hv : v < 103) : bs_ed T L p m v = (bs_mt T L p (bs_em m v)).map (fun q => (q, bs_af m v)) := by
  unfold bs_ed
  by_cases a : bs_nm m v = none
  · rw [if_pos a, bs_c1 m hm v hv a]
    rfl
  · rw [if_neg a]
    rcases bs_c6 m v with w | w | w
    · rw [if_pos (by omega), bs_c3 m hm v hv a w, w]
      rfl
    · rw [if_neg (by omega), w]
      have h4 := bs_c4 m hm v hv a w
      rw [h4.1]
      show _ = Option.map _ (if bs_sc m v = 200 then some p else if 1000 ≤ bs_sc m v then _ else if L ≤ p then none else if T p = bs_sc m v then some (p + 1) else none)
      rw [if_neg (show ¬ bs_sc m v = 200 by omega), if_neg (show ¬ 1000 ≤ bs_sc m v by omega)]
      have h1 := bs_es1 (T := T) (L := L) (p := p) hT hm hv w a
      by_cases b : L ≤ p
      · rw [if_pos b, if_neg (fun z => by have := (h1.mp z).1; omega)]
        rfl
      · rw [if_neg b]
        by_cases c : T p = bs_sc m v
        · rw [if_pos c, if_pos (h1.mpr ⟨by omega, c⟩)]
          rfl
        · rw [if_neg c, if_neg (fun z => c (h1.mp z).2)]
          rfl
    · rw [if_neg (by omega), w]
      have h5 := bs_c5 m hm v hv w
      obtain ⟨e5, hv100, rfl⟩ := h5
      rw [e5]
      have h2 := bs_es2 (T := T) (L := L) (p := p) hv100
      show _ = Option.map _ (if 1000 + v = 200 then some p else if 1000 ≤ 1000 + v then (if p + 1 < L then (if T p = 48 + (1000 + v - 1000) / 10 then (if T (p + 1) = 48 + (1000 + v - 1000) % 10 then some (p + 2) else none) else none) else none) else _)
      rw [if_neg (show ¬ 1000 + v = 200 by omega), if_pos (show 1000 ≤ 1000 + v by omega), Nat.add_sub_cancel_left]
      by_cases b : p + 1 < L
      · rw [if_pos b]
        by_cases c : T p = 48 + v / 10
        · rw [if_pos c]
          by_cases d : T (p + 1) = 48 + v % 10
          · rw [if_pos d, if_pos (h2.mpr ⟨b, c, d⟩)]
            rfl
          · rw [if_neg d, if_neg (fun z => d (h2.mp z).2.2)]
            rfl
        · rw [if_neg c, if_neg (fun z => c (h2.mp z).2.1)]
          rfl
      · rw [if_neg b, if_neg (fun z => b (h2.mp z).1)]
        rfl
end
section
/-! the table of costs as a plain function, and what it satisfies -/
theorem bs_k1 : ∀ m, m < 3 → bs_nm m 102 ≠ none ∧ bs_wr m 102 = 1 ∧ bs_af m 102 = m := by decide +kernel
theorem bs_k2 : ∀ v, v < 100 → bs_nm 2 v ≠ none ∧ bs_wr 2 v = 2 ∧ bs_af 2 v = 2 := by decide +kernel
theorem bs_k3 : ∀ m, m < 5 → m ≠ 2 → ∀ v, v < 96 → bs_nm m v ≠ none ∧ bs_wr m v = 1 ∧ bs_af m v = (if m < 3 then m else m - 3) := by decide +kernel
theorem bs_k4a : ∀ m, m < 5 → ∀ v, v < 103 → bs_nm m v = none ∨ bs_wr m v ≠ 0 ∨ (m < 3 ∧ bs_af m v < 3) ∨ (m < 2 ∧ bs_af m v = m + 3) := by decide +kernel
theorem bs_k4' (m : Nat) (hm : m < 5) (v : Nat) (hv : v < 103) (h1 : bs_nm m v ≠ none) (h2 : bs_wr m v = 0) : (m < 3 ∧ bs_af m v < 3) ∨ (m < 2 ∧ bs_af m v = m + 3) := by
  rcases bs_k4a m hm v hv with h | h | h
  · exact absurd h h1
  · exact absurd h2 h
  · exact h
theorem bs_k5 : ∀ m, m < 3 → ∀ k, k < 3 → m ≠ k → ∃ v, v < 103 ∧ bs_nm m v ≠ none ∧ bs_wr m v = 0 ∧ bs_af m v = k := by
  intro m hm k hk h
  have H : ∀ m, m < 3 → ∀ k, k < 3 → m ≠ k → bs_nm m (if k = 0 then 101 else if k = 1 then 100 else 99) ≠ none ∧ bs_wr m (if k = 0 then 101 else if k = 1 then 100 else 99) = 0 ∧ bs_af m (if k = 0 then 101 else if k = 1 then 100 else 99) = k := by decide +kernel
  refine ⟨_, ?_, H m hm k hk h⟩
  repeat' split
  all_goals omega
theorem bs_k6 : ∀ m, m < 2 → bs_nm m 98 ≠ none ∧ bs_wr m 98 = 0 ∧ bs_af m 98 = m + 3 := by decide +kernel
theorem bs_s1_lt {c m v : Nat} (hc : c < 128) (h : bs_s1 c m = some v) : v < 96 := by
  unfold bs_s1 at h
  by_cases y : bs_al m = 0
  · rw [if_pos y] at h
    by_cases x : 32 ≤ c
    · rw [if_pos x] at h
      by_cases w : 96 ≤ c
      · rw [if_pos w] at h; cases h
      · rw [if_neg w, Option.some.injEq] at h; omega
    · rw [if_neg x, Option.some.injEq] at h; omega
  · rw [if_neg y] at h
    by_cases x : 32 ≤ c
    · rw [if_pos x, Option.some.injEq] at h; omega
    · rw [if_neg x] at h; cases h
section
variable {T : Nat → Nat} {L : Nat} {D : Nat → Nat → Nat}
theorem bs_es_ok {p m v : Nat} (hT : ∀ i, i < L → T i ≤ 128) (hm : m < 5) (h : bs_es T L p m = some v) : v < 103 ∧ bs_nm m v ≠ none ∧ 0 < bs_wr m v ∧ p + bs_wr m v ≤ L ∧ bs_af m v < 3 := by
  unfold bs_es at h
  by_cases a : p < L
  · rw [if_pos a] at h
    have hc := hT p a
    by_cases b : T p = 128
    · rw [if_pos b] at h
      by_cases c : m < 3
      · rw [if_pos c, Option.some.injEq] at h
        subst h
        have := bs_k1 m c
        refine ⟨by omega, this.1, by omega, by omega, by omega⟩
      · rw [if_neg c] at h; cases h
    · rw [if_neg b] at h
      by_cases c : m = 2
      · rw [if_pos c] at h
        subst c
        have hp := bs_pr_iff.mp h
        have := bs_k2 v hp.2.1
        refine ⟨by omega, this.1, by omega, by omega, by omega⟩
      · rw [if_neg c] at h
        have hv := bs_s1_lt (by omega) h
        have := bs_k3 m hm c v hv
        refine ⟨by omega, this.1, by omega, by omega, ?_⟩
        rw [this.2.2]
        split <;> omega
  · rw [if_neg a] at h; cases h
theorem bs_es_end {m : Nat} : bs_es T L L m = none := by
  unfold bs_es
  rw [if_neg (Nat.lt_irrefl L)]
/-- an edge, taken apart -/
theorem bs_ed_some {p m v q k : Nat} (hT : ∀ i, i < L → T i ≤ 128) (hm : m < 5) (hv : v < 103) (hp : p ≤ L) (h : bs_ed T L p m v = some (q, k)) : bs_nm m v ≠ none ∧ q = p + bs_wr m v ∧ k = bs_af m v ∧ k < 5 ∧ q ≤ L ∧ (bs_wr m v = 0 ∨ bs_es T L p m = some v) := by
  unfold bs_ed at h
  by_cases a : bs_nm m v = none
  · rw [if_pos a] at h; cases h
  · rw [if_neg a] at h
    have h2 := bs_c2 m hm v hv a
    by_cases b : bs_wr m v ≤ 0
    · rw [if_pos b] at h
      cases h
      exact ⟨a, rfl, rfl, h2.2, by omega, Or.inl (by omega)⟩
    · rw [if_neg b] at h
      by_cases c : bs_es T L p m = some v
      · rw [if_pos c] at h
        cases h
        have := bs_es_ok hT hm c
        exact ⟨a, rfl, rfl, h2.2, this.2.2.2.1, Or.inr c⟩
      · rw [if_neg c] at h; cases h
theorem bs_ed_of0 {p m v : Nat} (a : bs_nm m v ≠ none) (b : bs_wr m v = 0) : bs_ed T L p m v = some (p, bs_af m v) := by
  unfold bs_ed
  rw [if_neg a, if_pos (by omega), b]
  rfl
theorem bs_ed_of1 {p m v : Nat} (a : bs_nm m v ≠ none) (b : 0 < bs_wr m v) (c : bs_es T L p m = some v) : bs_ed T L p m v = some (p + bs_wr m v, bs_af m v) := by
  unfold bs_ed
  rw [if_neg a, if_neg (by omega), if_pos c]
def bs_ec1 (D : Nat → Nat → Nat) (p m : Nat) : Option Nat → Nat
  | none => 1000
  | some v => 1 + D (p + bs_wr m v) (bs_af m v)
def bs_ec (T : Nat → Nat) (L : Nat) (D : Nat → Nat → Nat) (p m : Nat) : Nat := bs_ec1 D p m (bs_es T L p m)
def bs_z0 (T : Nat → Nat) (L : Nat) (D : Nat → Nat → Nat) (p m : Nat) : Nat := if p = L then 0 else bs_ec T L D p m
def bs_ba (T : Nat → Nat) (L : Nat) (D : Nat → Nat → Nat) (p m : Nat) : Nat :=
  if m = 2 then bs_z0 T L D p m else if bs_z0 T L D p m ≤ 1 + bs_ec T L D p (m + 3) then bs_z0 T L D p m else 1 + bs_ec T L D p (m + 3)
def bs_ls (b : Nat → Nat) : Nat → Nat
  | 0 => 1000
  | n + 1 => if bs_ls b n ≤ b n then bs_ls b n else b n
def bs_fi (T : Nat → Nat) (L : Nat) (D : Nat → Nat → Nat) (p m : Nat) : Nat :=
  if m < 3 then (if bs_ba T L D p m ≤ bs_ls (bs_ba T L D p) 3 + 1 then bs_ba T L D p m else bs_ls (bs_ba T L D p) 3 + 1) else bs_ec T L D p m
def bs_Dn (T : Nat → Nat) (L : Nat) (D : Nat → Nat → Nat) (p : Nat) : Nat → Nat → Nat := fun q m => if q = p then bs_fi T L D p m else D q m
theorem bs_ls_r (b : Nat → Nat) : ∀ n, bs_ls b n ≤ 1000 ∧ (∀ m, m < n → bs_ls b n ≤ b m) ∧ (bs_ls b n = 1000 ∨ ∃ m, m < n ∧ bs_ls b n = b m) := by
  intro n
  induction n with
  | zero => exact ⟨Nat.le_refl _, fun m hm => absurd hm (Nat.not_lt_zero m), Or.inl rfl⟩
  | succ n ih =>
    obtain ⟨h1, h2, h3⟩ := ih
    unfold bs_ls
    by_cases a : bs_ls b n ≤ b n
    · rw [if_pos a]
      refine ⟨h1, fun m hm => ?_, ?_⟩
      · by_cases e : m = n
        · rw [e]; exact a
        · exact h2 m (by omega)
      · rcases h3 with h3 | ⟨m, hm, e⟩
        · exact Or.inl h3
        · exact Or.inr ⟨m, by omega, e⟩
    · rw [if_neg a]
      refine ⟨by omega, fun m hm => ?_, Or.inr ⟨n, by omega, rfl⟩⟩
      by_cases e : m = n
      · rw [e]; exact Nat.le_refl _
      · have := h2 m (by omega)
        omega
def bs_cB (T : Nat → Nat) (L : Nat) : Nat → Nat
  | 0 => 0
  | r + 1 => bs_cB T L r + (if 96 ≤ T (L - (r + 1)) ∧ T (L - (r + 1)) < 128 then 1 else 0)
def bs_cA (T : Nat → Nat) (L : Nat) : Nat → Nat
  | 0 => 0
  | r + 1 => bs_cA T L r + (if T (L - (r + 1)) < 32 then 1 else 0)
theorem bs_cAB (r : Nat) : bs_cA T L r + bs_cB T L r ≤ r := by
  induction r with
  | zero => exact Nat.le_refl 0
  | succ r ih =>
    unfold bs_cA bs_cB
    split <;> split <;> omega
/-- what the costs at place p satisfy -/
def bs_G (T : Nat → Nat) (L : Nat) (D : Nat → Nat → Nat) (p : Nat) : Prop :=
  (∀ m, m < 5 → (D p m = 0 ↔ p = L ∧ m < 3)) ∧
  (∀ m, m < 5 → ∀ v, v < 103 → ∀ q k, bs_ed T L p m v = some (q, k) → D p m ≤ 1 + D q k) ∧
  (∀ m, m < 5 → D p m ≠ 0 → D p m < 1000 → ∃ v, v < 103 ∧ ∃ q k, bs_ed T L p m v = some (q, k) ∧ D q k + 1 = D p m) ∧
  D p 0 ≤ (L - p) + bs_cB T L (L - p) ∧ D p 1 ≤ (L - p) + bs_cA T L (L - p) ∧
  (∀ m, m < 3 → D p m ≤ 60) ∧ (∀ m, m < 5 → D p m ≤ 1000)
theorem bs_G_congr {E : Nat → Nat → Nat} {p : Nat} (hT : ∀ i, i < L → T i ≤ 128) (hp : p ≤ L) (h : ∀ q, p ≤ q → ∀ m, E q m = D q m) (g : bs_G T L D p) : bs_G T L E p := by
  obtain ⟨g0, ga, gb, gc, gd, ge, gf⟩ := g
  have hE := h p (Nat.le_refl p)
  refine ⟨fun m hm => ?_, fun m hm v hv q k e => ?_, fun m hm h0 h1 => ?_, ?_, ?_, fun m hm => ?_, fun m hm => ?_⟩
  · rw [hE]; exact g0 m hm
  · have := (bs_ed_some hT hm hv hp e).2.1
    rw [hE, h q (by omega)]
    exact ga m hm v hv q k e
  · rw [hE] at h0 h1
    obtain ⟨v, hv, q, k, e, f⟩ := gb m hm h0 h1
    have := (bs_ed_some hT hm hv hp e).2.1
    refine ⟨v, hv, q, k, e, ?_⟩
    rw [hE, h q (by omega)]
    exact f
  · rw [hE]; exact gc
  · rw [hE]; exact gd
  · rw [hE]; exact ge m hm
  · rw [hE]; exact gf m hm
theorem bs_ec_some {p m v : Nat} (h : bs_es T L p m = some v) : bs_ec T L D p m = 1 + D (p + bs_wr m v) (bs_af m v) := by
  unfold bs_ec; rw [h]; rfl
theorem bs_ec_none {p m : Nat} (h : bs_es T L p m = none) : bs_ec T L D p m = 1000 := by
  unfold bs_ec; rw [h]; rfl
theorem bs_ec_pos {p m : Nat} : 1 ≤ bs_ec T L D p m := by
  cases h : bs_es T L p m with
  | none => rw [bs_ec_none h]; decide
  | some v => rw [bs_ec_some h]; omega
theorem bs_ba_le {p m : Nat} : bs_ba T L D p m ≤ bs_z0 T L D p m := by
  unfold bs_ba
  split
  · exact Nat.le_refl _
  · split <;> omega
theorem bs_ba_le2 {p m : Nat} (h : m ≠ 2) : bs_ba T L D p m ≤ 1 + bs_ec T L D p (m + 3) := by
  unfold bs_ba
  rw [if_neg h]
  split <;> omega
theorem bs_ba_or {p m : Nat} : bs_ba T L D p m = bs_z0 T L D p m ∨ (m ≠ 2 ∧ bs_ba T L D p m = 1 + bs_ec T L D p (m + 3)) := by
  unfold bs_ba
  by_cases a : m = 2
  · rw [if_pos a]; exact Or.inl rfl
  · rw [if_neg a]
    by_cases b : bs_z0 T L D p m ≤ 1 + bs_ec T L D p (m + 3)
    · rw [if_pos b]; exact Or.inl rfl
    · rw [if_neg b]; exact Or.inr ⟨a, rfl⟩
theorem bs_z0_end {m : Nat} : bs_z0 T L D L m = 0 := by unfold bs_z0; rw [if_pos rfl]
theorem bs_z0_in {p m : Nat} (h : p ≠ L) : bs_z0 T L D p m = bs_ec T L D p m := by unfold bs_z0; rw [if_neg h]
theorem bs_fi_hi {p m : Nat} (h : ¬ m < 3) : bs_fi T L D p m = bs_ec T L D p m := by unfold bs_fi; rw [if_neg h]
theorem bs_fi_le {p m : Nat} (h : m < 3) : bs_fi T L D p m ≤ bs_ba T L D p m ∧ bs_fi T L D p m ≤ bs_ls (bs_ba T L D p) 3 + 1 ∧ bs_ls (bs_ba T L D p) 3 ≤ bs_fi T L D p m := by
  have := (bs_ls_r (bs_ba T L D p) 3).2.1 m h
  unfold bs_fi
  rw [if_pos h]
  split <;> omega
theorem bs_fi_or {p m : Nat} (h : m < 3) : bs_fi T L D p m = bs_ba T L D p m ∨ (bs_fi T L D p m = bs_ls (bs_ba T L D p) 3 + 1 ∧ bs_ls (bs_ba T L D p) 3 + 1 < bs_ba T L D p m) := by
  unfold bs_fi
  rw [if_pos h]
  by_cases a : bs_ba T L D p m ≤ bs_ls (bs_ba T L D p) 3 + 1
  · rw [if_pos a]; exact Or.inl rfl
  · rw [if_neg a]; exact Or.inr ⟨rfl, by omega⟩
theorem bs_Dn_eq {p m : Nat} : bs_Dn T L D p p m = bs_fi T L D p m := by unfold bs_Dn; rw [if_pos rfl]
theorem bs_Dn_ne {p q m : Nat} (h : q ≠ p) : bs_Dn T L D p q m = D q m := by unfold bs_Dn; rw [if_neg h]
theorem bs_Ga {p : Nat} (hT : ∀ i, i < L → T i ≤ 128) (hp : p ≤ L) : ∀ m, m < 5 → ∀ v, v < 103 → ∀ q k, bs_ed T L p m v = some (q, k) → bs_Dn T L D p p m ≤ 1 + bs_Dn T L D p q k := by
  intro m hm v hv q k e
  obtain ⟨hn, rfl, rfl, hk, hq, ho⟩ := bs_ed_some hT hm hv hp e
  rw [bs_Dn_eq]
  by_cases w : bs_wr m v = 0
  · rw [w, Nat.add_zero, bs_Dn_eq]
    rcases bs_k4' m hm v hv hn w with ⟨a, b⟩ | ⟨a, b⟩
    · have h1 := bs_fi_le (T := T) (L := L) (D := D) (p := p) a
      have h2 := bs_fi_le (T := T) (L := L) (D := D) (p := p) b
      omega
    · have h1 := bs_fi_le (T := T) (L := L) (D := D) (p := p) (show m < 3 by omega)
      have h2 := bs_ba_le2 (T := T) (L := L) (D := D) (p := p) (show m ≠ 2 by omega)
      rw [b, bs_fi_hi (m := m + 3) (by omega)]
      omega
  · have es := ho.resolve_left w
    rw [bs_Dn_ne (by omega)]
    have h0 := bs_ec_some (D := D) es
    by_cases a : m < 3
    · have h1 := bs_fi_le (T := T) (L := L) (D := D) (p := p) a
      have h2 := bs_ba_le (T := T) (L := L) (D := D) (p := p) (m := m)
      rw [bs_z0_in (by omega), h0] at h2
      omega
    · rw [bs_fi_hi a, h0]
      exact Nat.le_refl _
theorem bs_Gb {p : Nat} (hT : ∀ i, i < L → T i ≤ 128) : ∀ m, m < 5 → bs_Dn T L D p p m ≠ 0 → bs_Dn T L D p p m < 1000 → ∃ v, v < 103 ∧ ∃ q k, bs_ed T L p m v = some (q, k) ∧ bs_Dn T L D p q k + 1 = bs_Dn T L D p p m := by
  intro m hm h0 h1
  rw [bs_Dn_eq] at h0 h1 ⊢
  have K : ∀ m, m < 5 → bs_ec T L D p m < 1000 → ∃ v, v < 103 ∧ ∃ q k, bs_ed T L p m v = some (q, k) ∧ bs_Dn T L D p q k + 1 = bs_ec T L D p m := by
    intro m hm h
    cases e : bs_es T L p m with
    | none => rw [bs_ec_none e] at h; omega
    | some v =>
      have ok := bs_es_ok hT hm e
      refine ⟨v, ok.1, _, _, bs_ed_of1 ok.2.1 ok.2.2.1 e, ?_⟩
      rw [bs_ec_some e, bs_Dn_ne (by omega)]
      omega
  by_cases a : m < 3
  · rcases bs_fi_or (T := T) (L := L) (D := D) (p := p) a with b | ⟨b, c⟩
    · rw [b] at h0 h1 ⊢
      rcases bs_ba_or (T := T) (L := L) (D := D) (p := p) (m := m) with d | ⟨d, d2⟩
      · rw [d] at h0 h1 ⊢
        by_cases e : p = L
        · subst e
          rw [bs_z0_end] at h0
          exact absurd rfl h0
        · rw [bs_z0_in e] at h0 h1 ⊢
          exact K m hm h1
      · rw [d2]
        have k6 := bs_k6 m (by omega)
        refine ⟨98, by omega, _, _, bs_ed_of0 k6.1 k6.2.1, ?_⟩
        rw [k6.2.2, bs_Dn_eq, bs_fi_hi (by omega)]
        omega
    · have lr := (bs_ls_r (bs_ba T L D p) 3).2.2
      rcases lr with lr | ⟨k, hk, lr⟩
      · rw [b, lr] at h1; omega
      · have hmk : m ≠ k := by
          intro z
          subst z
          omega
        obtain ⟨v, hv, e1, e2, e3⟩ := bs_k5 m a k hk hmk
        refine ⟨v, hv, _, _, bs_ed_of0 e1 e2, ?_⟩
        rw [e3, bs_Dn_eq, b]
        have h1 := bs_fi_le (T := T) (L := L) (D := D) (p := p) hk
        omega
  · rw [bs_fi_hi a] at h0 h1 ⊢
    exact K m hm h1
theorem bs_G0 {p : Nat} (hp : p ≤ L) : ∀ m, m < 5 → (bs_Dn T L D p p m = 0 ↔ p = L ∧ m < 3) := by
  intro m hm
  rw [bs_Dn_eq]
  have ep := bs_ec_pos (T := T) (L := L) (D := D) (p := p) (m := m)
  have P : ∀ m, p ≠ L → 1 ≤ bs_ba T L D p m := by
    intro m e
    have e1 := bs_ec_pos (T := T) (L := L) (D := D) (p := p) (m := m)
    have e2 := bs_ec_pos (T := T) (L := L) (D := D) (p := p) (m := m + 3)
    rcases bs_ba_or (T := T) (L := L) (D := D) (p := p) (m := m) with d | ⟨d, d2⟩
    · rw [d, bs_z0_in e]; exact e1
    · omega
  by_cases a : m < 3
  · by_cases e : p = L
    · subst e
      have h1 := bs_fi_le (T := T) (L := p) (D := D) (p := p) a
      have h2 := bs_ba_le (T := T) (L := p) (D := D) (p := p) (m := m)
      rw [bs_z0_end] at h2
      exact ⟨fun _ => ⟨rfl, a⟩, fun _ => by omega⟩
    · have h1 := bs_fi_le (T := T) (L := L) (D := D) (p := p) a
      have : 1 ≤ bs_fi T L D p m := by
        rcases (bs_ls_r (bs_ba T L D p) 3).2.2 with lr | ⟨k, hk, lr⟩
        · omega
        · have := P k e
          omega
      exact ⟨fun z => by omega, fun z => absurd z.1 e⟩
  · rw [bs_fi_hi a]
    exact ⟨fun z => by omega, fun z => absurd z.2 a⟩
theorem bs_Gc {p : Nat} (hT : ∀ i, i < L → T i ≤ 128) (hp : p ≤ L) (g0 : p < L → D (p + 1) 0 ≤ (L - (p + 1)) + bs_cB T L (L - (p + 1))) : bs_Dn T L D p p 0 ≤ (L - p) + bs_cB T L (L - p) := by
  rw [bs_Dn_eq]
  have h1 := (bs_fi_le (T := T) (L := L) (D := D) (p := p) (m := 0) (by decide)).1
  have h2 := bs_ba_le (T := T) (L := L) (D := D) (p := p) (m := 0)
  have h3 := bs_ba_le2 (T := T) (L := L) (D := D) (p := p) (m := 0) (by decide)
  by_cases e : p = L
  · subst e
    rw [bs_z0_end] at h2
    omega
  · have lp : p < L := by omega
    have g := g0 lp
    have c := hT p lp
    rw [bs_z0_in e] at h2
    have er : L - p = (L - (p + 1)) + 1 := by omega
    have ep : L - ((L - (p + 1)) + 1) = p := by omega
    have ec : bs_cB T L (L - p) = bs_cB T L (L - (p + 1)) + (if 96 ≤ T p ∧ T p < 128 then 1 else 0) := by
      rw [er]
      show bs_cB T L (L - (p + 1)) + (if 96 ≤ T (L - ((L - (p + 1)) + 1)) ∧ T (L - ((L - (p + 1)) + 1)) < 128 then 1 else 0) = _
      rw [ep]
    rw [ec]
    have S : ∀ v, bs_es T L p 0 = some v → bs_wr 0 v = 1 → bs_af 0 v = 0 → bs_ec T L D p 0 = 1 + D (p + 1) 0 := by
      intro v s1 s2 s3
      rw [bs_ec_some s1, s2, s3]
    by_cases a : T p = 128
    · have s1 : bs_es T L p 0 = some 102 := by
        unfold bs_es
        rw [if_pos lp, if_pos a, if_pos (by decide)]
      have := S 102 s1 (by decide) (by decide)
      omega
    · by_cases b : 96 ≤ T p
      · rw [if_pos ⟨b, by omega⟩]
        have s1 : bs_es T L p 3 = some (T p - 32) := by
          unfold bs_es
          rw [if_pos lp, if_neg a, if_neg (by decide)]
          unfold bs_s1
          rw [show bs_al 3 = 1 from rfl, if_neg (by decide), if_pos (by omega)]
        have k3 := bs_k3 3 (by decide) (by decide) (T p - 32) (by omega)
        have := bs_ec_some (D := D) s1
        rw [k3.2.1, k3.2.2] at this
        have e0 : (if 3 < 3 then 3 else 3 - 3) = 0 := by decide
        rw [e0] at this
        have e3 : bs_ec T L D p (0 + 3) = 1 + D (p + 1) 0 := this
        omega
      · have s1 : ∃ v, v < 96 ∧ bs_es T L p 0 = some v := by
          unfold bs_es
          rw [if_pos lp, if_neg a, if_neg (by decide)]
          unfold bs_s1
          rw [show bs_al 0 = 0 from rfl, if_pos rfl]
          by_cases d : 32 ≤ T p
          · rw [if_pos d, if_neg b]; exact ⟨_, by omega, rfl⟩
          · rw [if_neg d]; exact ⟨_, by omega, rfl⟩
        obtain ⟨v, hv, s1⟩ := s1
        have k3 := bs_k3 0 (by decide) (by decide) v hv
        have := S v s1 k3.2.1 k3.2.2
        omega
theorem bs_Gd {p : Nat} (hT : ∀ i, i < L → T i ≤ 128) (hp : p ≤ L) (g0 : p < L → D (p + 1) 1 ≤ (L - (p + 1)) + bs_cA T L (L - (p + 1))) : bs_Dn T L D p p 1 ≤ (L - p) + bs_cA T L (L - p) := by
  rw [bs_Dn_eq]
  have h1 := (bs_fi_le (T := T) (L := L) (D := D) (p := p) (m := 1) (by decide)).1
  have h2 := bs_ba_le (T := T) (L := L) (D := D) (p := p) (m := 1)
  have h3 := bs_ba_le2 (T := T) (L := L) (D := D) (p := p) (m := 1) (by decide)
  by_cases e : p = L
  · subst e
    rw [bs_z0_end] at h2
    omega
  · have lp : p < L := by omega
    have g := g0 lp
    have c := hT p lp
    rw [bs_z0_in e] at h2
    have er : L - p = (L - (p + 1)) + 1 := by omega
    have ep : L - ((L - (p + 1)) + 1) = p := by omega
    have ec : bs_cA T L (L - p) = bs_cA T L (L - (p + 1)) + (if T p < 32 then 1 else 0) := by
      rw [er]
      show bs_cA T L (L - (p + 1)) + (if T (L - ((L - (p + 1)) + 1)) < 32 then 1 else 0) = _
      rw [ep]
    rw [ec]
    have S : ∀ v, bs_es T L p 1 = some v → bs_wr 1 v = 1 → bs_af 1 v = 1 → bs_ec T L D p 1 = 1 + D (p + 1) 1 := by
      intro v s1 s2 s3
      rw [bs_ec_some s1, s2, s3]
    by_cases a : T p = 128
    · have s1 : bs_es T L p 1 = some 102 := by
        unfold bs_es
        rw [if_pos lp, if_pos a, if_pos (by decide)]
      have := S 102 s1 (by decide) (by decide)
      omega
    · by_cases b : T p < 32
      · rw [if_pos b]
        have s1 : bs_es T L p 4 = some (T p + 64) := by
          unfold bs_es
          rw [if_pos lp, if_neg a, if_neg (by decide)]
          unfold bs_s1
          rw [show bs_al 4 = 0 from rfl, if_pos rfl, if_neg (by omega)]
        have k3 := bs_k3 4 (by decide) (by decide) (T p + 64) (by omega)
        have := bs_ec_some (D := D) s1
        rw [k3.2.1, k3.2.2] at this
        have e0 : (if 4 < 3 then 4 else 4 - 3) = 1 := by decide
        rw [e0] at this
        have e3 : bs_ec T L D p (1 + 3) = 1 + D (p + 1) 1 := this
        omega
      · have s1 : ∃ v, v < 96 ∧ bs_es T L p 1 = some v := by
          unfold bs_es
          rw [if_pos lp, if_neg a, if_neg (by decide)]
          unfold bs_s1
          rw [show bs_al 1 = 1 from rfl, if_neg (by decide), if_pos (by omega)]
          exact ⟨_, by omega, rfl⟩
        obtain ⟨v, hv, s1⟩ := s1
        have k3 := bs_k3 1 (by decide) (by decide) v hv
        have := S v s1 k3.2.1 k3.2.2
        omega
/-- one place further to the front -/
theorem bs_Gstep {p : Nat} (hT : ∀ i, i < L → T i ≤ 128) (hL : L ≤ 24) (hp : p ≤ L) (g : ∀ q, p < q → q ≤ L → bs_G T L D q) : ∀ q, p ≤ q → q ≤ L → bs_G T L (bs_Dn T L D p) q := by
  intro q hq hqL
  by_cases e : q = p
  · subst e
    have g0 := bs_G0 (T := T) (D := D) hp
    have ga := bs_Ga (D := D) hT hp
    have gb := bs_Gb (D := D) (p := q) hT
    have gc := bs_Gc (D := D) hT hp (fun l => (g (q + 1) (by omega) (by omega)).2.2.2.1)
    have gd := bs_Gd (D := D) hT hp (fun l => (g (q + 1) (by omega) (by omega)).2.2.2.2.1)
    have ab := bs_cAB (T := T) (L := L) (L - q)
    have ge : ∀ m, m < 3 → bs_Dn T L D q q m ≤ 60 := by
      intro m hm
      rcases (show m = 0 ∨ m = 1 ∨ m = 2 by omega) with rfl | rfl | rfl
      · omega
      · omega
      · have k := bs_k5 2 (by decide) 0 (by decide) (by decide)
        obtain ⟨v, hv, e1, e2, e3⟩ := k
        have := ga 2 (by decide) v hv _ _ (bs_ed_of0 e1 e2)
        rw [e3] at this
        omega
    refine ⟨g0, ga, gb, gc, gd, ge, fun m hm => ?_⟩
    by_cases a : m < 3
    · have := ge m a; omega
    · rw [bs_Dn_eq, bs_fi_hi a]
      cases es : bs_es T L q m with
      | none => rw [bs_ec_none es]; exact Nat.le_refl _
      | some v =>
        rw [bs_ec_some es]
        have ok := bs_es_ok hT hm es
        have := (g (q + bs_wr m v) (by omega) ok.2.2.2.1).2.2.2.2.2.1 (bs_af m v) ok.2.2.2.2
        omega
  · exact bs_G_congr hT hqL (fun r hr m => bs_Dn_ne (by omega)) (g q (by omega) hqL)
end
end
section
/-! the greedy path, and the search by breadth that finds it -/
def bs_cs1 (D : Nat → Nat → Nat) : Nat := if D 0 0 ≤ D 0 1 then 0 else 1
def bs_cs (D : Nat → Nat → Nat) : Nat := if D 0 (bs_cs1 D) ≤ D 0 2 then bs_cs1 D else 2
theorem bs_cs_r (D : Nat → Nat → Nat) : bs_cs D < 3 ∧ (∀ m, m < 3 → D 0 (bs_cs D) ≤ D 0 m) ∧ (∀ m, m < bs_cs D → D 0 (bs_cs D) < D 0 m) := by
  have P : ∀ Q : Nat → Prop, Q 0 → Q 1 → Q 2 → ∀ m, m < 3 → Q m := by
    intro Q q0 q1 q2 m hm
    rcases (show m = 0 ∨ m = 1 ∨ m = 2 by omega) with rfl | rfl | rfl
    · exact q0
    · exact q1
    · exact q2
  unfold bs_cs bs_cs1
  by_cases a : D 0 0 ≤ D 0 1
  · rw [if_pos a]
    by_cases b : D 0 0 ≤ D 0 2
    · rw [if_pos b]
      exact ⟨by omega, P _ (Nat.le_refl _) a b, fun m hm => by omega⟩
    · rw [if_neg b]
      refine ⟨by omega, P _ (by omega) (by omega) (Nat.le_refl _), fun m hm => ?_⟩
      rcases (show m = 0 ∨ m = 1 by omega) with rfl | rfl <;> omega
  · rw [if_neg a]
    by_cases b : D 0 1 ≤ D 0 2
    · rw [if_pos b]
      refine ⟨by omega, P _ (by omega) (Nat.le_refl _) b, fun m hm => ?_⟩
      rcases (show m = 0 by omega) with rfl
      omega
    · rw [if_neg b]
      refine ⟨by omega, P _ (by omega) (by omega) (Nat.le_refl _), fun m hm => ?_⟩
      rcases (show m = 0 ∨ m = 1 by omega) with rfl | rfl <;> omega
def bs_Pa (T : Nat → Nat) (L : Nat) (D : Nat → Nat → Nat) (N : Nat) (gp gm gv : Nat → Nat) : Prop :=
  gp 0 = 0 ∧ gm 0 = bs_cs D ∧ D 0 (bs_cs D) = N ∧ N ≤ 36 ∧
  (∀ i, i ≤ N → gp i ≤ L ∧ gm i < 5 ∧ D (gp i) (gm i) + i = N) ∧
  (∀ i, i < N → gv i < 103 ∧ bs_ed T L (gp i) (gm i) (gv i) = some (gp (i + 1), gm (i + 1)) ∧ ∀ v, v < gv i → ∀ q k, bs_ed T L (gp i) (gm i) v = some (q, k) → D q k + (i + 1) ≠ N)
def bs_it (f : Nat × Nat → Nat × Nat × Nat) (s : Nat × Nat) : Nat → Nat × Nat
  | 0 => s
  | i + 1 => (f (bs_it f s i)).2
theorem bs_Pex {T : Nat → Nat} {L : Nat} {D : Nat → Nat → Nat} (hT : ∀ i, i < L → T i ≤ 128) (hL : L ≤ 24) (g : ∀ q, q ≤ L → bs_G T L D q) : ∃ N gp gm gv, bs_Pa T L D N gp gm gv := by
  have step : ∀ s : Nat × Nat, ∃ w : Nat × Nat × Nat, s.1 ≤ L → s.2 < 5 → D s.1 s.2 ≠ 0 → D s.1 s.2 < 1000 →
      w.1 < 103 ∧ bs_ed T L s.1 s.2 w.1 = some (w.2.1, w.2.2) ∧ D w.2.1 w.2.2 + 1 = D s.1 s.2 ∧ ∀ v, v < w.1 → ∀ q k, bs_ed T L s.1 s.2 v = some (q, k) → D q k + 1 ≠ D s.1 s.2 := by
    intro s
    by_cases c : s.1 ≤ L ∧ s.2 < 5 ∧ D s.1 s.2 ≠ 0 ∧ D s.1 s.2 < 1000
    · obtain ⟨c1, c2, c3, c4⟩ := c
      obtain ⟨v0, hv0, h0⟩ := (g s.1 c1).2.2.1 s.2 c2 c3 c4
      obtain ⟨v, ⟨hv, q, k, e, f⟩, hl⟩ := pk_least (fun v => v < 103 ∧ ∃ q k, bs_ed T L s.1 s.2 v = some (q, k) ∧ D q k + 1 = D s.1 s.2) ⟨v0, hv0, h0⟩
      refine ⟨(v, q, k), fun _ _ _ _ => ⟨hv, e, f, fun w hw q' k' e' f' => ?_⟩⟩
      have hw' : w < v := hw
      exact hl w hw' ⟨by omega, q', k', e', f'⟩
    · exact ⟨(0, 0, 0), fun a1 a2 a3 a4 => absurd ⟨a1, a2, a3, a4⟩ c⟩
  obtain ⟨f, hf⟩ := Classical.axiomOfChoice step
  have cs := bs_cs_r D
  have g0 := g 0 (Nat.zero_le L)
  have ab := bs_cAB (T := T) (L := L) (L - 0)
  have b0 := cs.2.1 0 (by decide)
  have b1 := cs.2.1 1 (by decide)
  have hN : D 0 (bs_cs D) ≤ 36 := by
    have := g0.2.2.2.1
    have := g0.2.2.2.2.1
    omega
  have I : ∀ i, i ≤ D 0 (bs_cs D) → (bs_it f (0, bs_cs D) i).1 ≤ L ∧ (bs_it f (0, bs_cs D) i).2 < 5 ∧ D (bs_it f (0, bs_cs D) i).1 (bs_it f (0, bs_cs D) i).2 + i = D 0 (bs_cs D) := by
    intro i
    induction i with
    | zero =>
      intro _
      have := cs.1
      exact ⟨Nat.zero_le L, by show bs_cs D < 5; omega, rfl⟩
    | succ i ih =>
      intro hi
      obtain ⟨i1, i2, i3⟩ := ih (by omega)
      obtain ⟨f1, f2, f3, f4⟩ := hf (bs_it f (0, bs_cs D) i) i1 i2 (by omega) (by omega)
      have ok := bs_ed_some hT i2 f1 i1 f2
      refine ⟨ok.2.2.2.2.1, ok.2.2.2.1, ?_⟩
      show D (f (bs_it f (0, bs_cs D) i)).2.1 (f (bs_it f (0, bs_cs D) i)).2.2 + (i + 1) = _
      omega
  refine ⟨D 0 (bs_cs D), fun i => (bs_it f (0, bs_cs D) i).1, fun i => (bs_it f (0, bs_cs D) i).2, fun i => (f (bs_it f (0, bs_cs D) i)).1, rfl, rfl, rfl, hN, I, ?_⟩
  intro i hi
  obtain ⟨i1, i2, i3⟩ := I i (by omega)
  obtain ⟨f1, f2, f3, f4⟩ := hf (bs_it f (0, bs_cs D) i) i1 i2 (by omega) (by omega)
  refine ⟨f1, f2, fun v hv q k e => ?_⟩
  have := f4 v hv q k e
  omega
theorem bs_pig : ∀ (N n : Nat) (f : Nat → Nat), (∀ q, q < n → f q < N) → (∀ q r, q < n → r < n → f q = f r → q = r) → n ≤ N := by
  intro N
  induction N with
  | zero =>
    intro n f h _
    cases n with
    | zero => exact Nat.le_refl 0
    | succ n => exact absurd (h 0 (by omega)) (Nat.not_lt_zero _)
  | succ N ih =>
    intro n f h inj
    cases n with
    | zero => exact Nat.zero_le _
    | succ n =>
      by_cases e : ∃ q, q < n + 1 ∧ f q = N
      · obtain ⟨q0, hq0, e0⟩ := e
        have H := ih n (fun q => if q = q0 then f n else f q) ?_ ?_
        · omega
        · intro q hq
          show (if q = q0 then f n else f q) < N
          by_cases z : q = q0
          · rw [if_pos z]
            have h1 := h n (by omega)
            have h2 : f n ≠ N := fun w => by have := inj n q0 (by omega) hq0 (by omega); omega
            omega
          · rw [if_neg z]
            have h1 := h q (by omega)
            have h2 : f q ≠ N := fun w => z (inj q q0 (by omega) hq0 (by omega))
            omega
        · intro q r hq hr w
          have w' : (if q = q0 then f n else f q) = (if r = q0 then f n else f r) := w
          by_cases z : q = q0
          · by_cases y : r = q0
            · omega
            · rw [if_pos z, if_neg y] at w'
              have := inj n r (by omega) (by omega) w'
              omega
          · by_cases y : r = q0
            · rw [if_neg z, if_pos y] at w'
              have := inj q n (by omega) (by omega) w'
              omega
            · rw [if_neg z, if_neg y] at w'
              exact inj q r (by omega) (by omega) w'
      · have := ih (n + 1) f (fun q hq => by
          have h1 := h q hq
          have h2 : f q ≠ N := fun w => e ⟨q, hq, w⟩
          omega) inj
        omega
/-- what holds of the list of situations: n listed, head k, the path found up to its i-th -/
def bs_B (T : Nat → Nat) (L : Nat) (D : Nat → Nat → Nat) (N : Nat) (gp gm gv : Nat → Nat) (ap am fr wd : Nat → Int32) (n : Nat) (P M lev pi : Nat → Nat) (i k : Nat) : Prop :=
  n ≤ 125 ∧
  (∀ q, q < n → ap q = nI (P q) ∧ am q = nI (M q) ∧ P q ≤ L ∧ M q < 5) ∧
  (∀ q r, q < n → r < n → P q = P r → M q = M r → q = r) ∧
  (∀ q r, q ≤ r → r < n → lev q ≤ lev r) ∧
  (∀ q, q < n → lev q ≤ lev k + 1) ∧
  (∀ q, q < n → N ≤ lev q + D (P q) (M q)) ∧
  (i ≤ N ∧ k ≤ pi i) ∧
  (∀ j, j ≤ i → pi j < n ∧ P (pi j) = gp j ∧ M (pi j) = gm j ∧ lev (pi j) = j) ∧
  (∀ j, j < i → fr (pi (j + 1)) = nI (pi j) ∧ wd (pi (j + 1)) = nI (gv j)) ∧
  (fr (pi 0) = -1 ∧ wd (pi 0) = nI (103 + gm 0)) ∧
  (∀ q, q < n → N < lev q + D (P q) (M q) ∨ lev q < i ∨ (lev q = i ∧ pi i ≤ q))
section
variable {T : Nat → Nat} {L : Nat} {D : Nat → Nat → Nat} {N : Nat} {gp gm gv : Nat → Nat} {ap am fr wd : Nat → Int32} {n : Nat} {P M lev pi : Nat → Nat} {i k : Nat}
/-- a place in the list that is missing leaves room -/
theorem bs_room {p m : Nat} (hL : L ≤ 24) (hp : p ≤ L) (hm : m < 5) (b : bs_B T L D N gp gm gv ap am fr wd n P M lev pi i k) (h : ∀ q, q < n → ¬ (P q = p ∧ M q = m)) : n < 125 := by
  obtain ⟨b1, b2, b3, -⟩ := b
  have H := bs_pig 125 (n + 1) (fun q => if q = n then 5 * p + m else 5 * P q + M q) ?_ ?_
  · omega
  · intro q hq
    show (if q = n then 5 * p + m else 5 * P q + M q) < 125
    by_cases z : q = n
    · rw [if_pos z]; omega
    · rw [if_neg z]
      have := b2 q (by omega)
      omega
  · intro q r hq hr w
    have w' : (if q = n then 5 * p + m else 5 * P q + M q) = (if r = n then 5 * p + m else 5 * P r + M r) := w
    by_cases z : q = n
    · by_cases y : r = n
      · omega
      · rw [if_pos z, if_neg y] at w'
        have h1 := (b2 r (by omega)).2.2.2
        exact absurd (And.intro (show P r = p by omega) (show M r = m by omega)) (h r (by omega))
    · by_cases y : r = n
      · rw [if_neg z, if_pos y] at w'
        have h1 := (b2 q (by omega)).2.2.2
        exact absurd (And.intro (show P q = p by omega) (show M q = m by omega)) (h q (by omega))
      · rw [if_neg z, if_neg y] at w'
        have h1 := (b2 q (by omega)).2.2.2
        have h2 := (b2 r (by omega)).2.2.2
        exact b3 q r (by omega) (by omega) (by omega) (by omega)
/-- the path's next situation isn't listed while the head stands at its last -/
theorem bs_fresh (pa : bs_Pa T L D N gp gm gv) (b : bs_B T L D N gp gm gv ap am fr wd n P M lev pi i k) (hk : k = pi i) (hi : i < N) : ∀ q, q < n → ¬ (P q = gp (i + 1) ∧ M q = gm (i + 1)) := by
  obtain ⟨b1, b2, b3, b4, b5, b6, b7, b8, b9, b10, b12⟩ := b
  obtain ⟨p1, p2, p3, p4, p5, p6⟩ := pa
  intro q hq ⟨e1, e2⟩
  have d := (p5 (i + 1) (by omega)).2.2
  have l5 := b5 q hq
  have lk := (b8 i (Nat.le_refl i)).2.2.2
  rw [← hk] at lk
  have l6 := b6 q hq
  rw [e1, e2] at l6
  rcases b12 q hq with c | c | ⟨c1, c2⟩
  · rw [e1, e2] at c
    omega
  · omega
  · omega
/-- a situation that ends the text is the path's last -/
theorem bs_goal (g : ∀ q, q ≤ L → bs_G T L D q) (pa : bs_Pa T L D N gp gm gv) (b : bs_B T L D N gp gm gv ap am fr wd n P M lev pi i k) : (P k = L ∧ M k < 3) ↔ (k = pi i ∧ i = N) := by
  obtain ⟨b1, b2, b3, b4, b5, b6, b7, b8, b9, b10, b12⟩ := b
  obtain ⟨p1, p2, p3, p4, p5, p6⟩ := pa
  have bi := b8 i (Nat.le_refl i)
  have hk : k < n := by omega
  have b2k := b2 k hk
  have z := (g (P k) b2k.2.2.1).1 (M k) b2k.2.2.2
  constructor
  · intro e
    have d0 := z.mpr e
    have l4 := b4 k (pi i) b7.2 bi.1
    have l6 := b6 k hk
    rcases b12 k hk with c | c | ⟨c1, c2⟩
    · omega
    · omega
    · exact ⟨by omega, by omega⟩
  · intro ⟨e1, e2⟩
    subst e2
    have d2 := (p5 i (Nat.le_refl i)).2.2
    rw [← bi.2.1, ← bi.2.2.1, ← e1] at d2
    exact z.mp (by omega)
/-- the head moves on -/
theorem bs_next (b : bs_B T L D N gp gm gv ap am fr wd n P M lev pi i k) (h : k ≠ pi i) : bs_B T L D N gp gm gv ap am fr wd n P M lev pi i (k + 1) := by
  obtain ⟨b1, b2, b3, b4, b5, b6, b7, b8, b9, b10, b12⟩ := b
  have bi := b8 i (Nat.le_refl i)
  refine ⟨b1, b2, b3, b4, fun q hq => ?_, b6, ⟨b7.1, by omega⟩, b8, b9, b10, b12⟩
  have := b5 q hq
  have := b4 k (k + 1) (by omega) (by omega)
  omega
end
def bs_up (f : Nat → Nat) (n x : Nat) : Nat → Nat := fun q => if q = n then x else f q
theorem bs_up_s {f : Nat → Nat} {n x : Nat} : bs_up f n x n = x := by unfold bs_up; rw [if_pos rfl]
theorem bs_up_n {f : Nat → Nat} {n x q : Nat} (h : q ≠ n) : bs_up f n x q = f q := by unfold bs_up; rw [if_neg h]
section
variable {T : Nat → Nat} {L : Nat} {D : Nat → Nat → Nat} {N : Nat} {gp gm gv : Nat → Nat} {ap am fr wd : Nat → Int32} {n : Nat} {P M lev pi : Nat → Nat} {i k : Nat}
/-- a new situation, listed from head k by value v -/
theorem bs_push {v p m : Nat} (hT : ∀ i, i < L → T i ≤ 128) (g : ∀ q, q ≤ L → bs_G T L D q) (pa : bs_Pa T L D N gp gm gv) (b : bs_B T L D N gp gm gv ap am fr wd n P M lev pi i k) (hv : v < 103) (hm : k = pi i → i < N ∧ v ≤ gv i) (he : bs_ed T L (P k) (M k) v = some (p, m)) (hf : ∀ q, q < n → ¬ (P q = p ∧ M q = m)) (hn : n < 125) :
    ∃ pi' i', bs_B T L D N gp gm gv (upd ap n (nI p)) (upd am n (nI m)) (upd fr n (nI k)) (upd wd n (nI v)) (n + 1) (bs_up P n p) (bs_up M n m) (bs_up lev n (lev k + 1)) pi' i' k ∧ (k = pi' i' → i' < N ∧ v + 1 ≤ gv i') := by
  obtain ⟨b1, b2, b3, b4, b5, b6, b7, b8, b9, b10, b12⟩ := b
  have pa' := pa
  obtain ⟨p1, p2, p3, p4, p5, p6⟩ := pa'
  have bi := b8 i (Nat.le_refl i)
  have hk : k < n := by omega
  have b2k := b2 k hk
  have ok := bs_ed_some hT b2k.2.2.2 hv b2k.2.2.1 he
  have ga := (g (P k) b2k.2.2.1).2.1 (M k) b2k.2.2.2 v hv p m he
  have b6k := b6 k hk
  have lk : bs_up lev n (lev k + 1) k = lev k := bs_up_n (by omega)
  -- what holds in both cases
  have c2 : ∀ q, q < n + 1 → upd ap n (nI p) q = nI (bs_up P n p q) ∧ upd am n (nI m) q = nI (bs_up M n m q) ∧ bs_up P n p q ≤ L ∧ bs_up M n m q < 5 := by
    intro q hq
    by_cases z : q = n
    · subst z
      rw [bs_up_s, bs_up_s, pk_us, pk_us]
      exact ⟨rfl, rfl, ok.2.2.2.2.1, ok.2.2.2.1⟩
    · rw [bs_up_n z, bs_up_n z, pk_un z, pk_un z]
      exact b2 q (by omega)
  have c3 : ∀ q r, q < n + 1 → r < n + 1 → bs_up P n p q = bs_up P n p r → bs_up M n m q = bs_up M n m r → q = r := by
    intro q r hq hr
    by_cases z : q = n
    · by_cases y : r = n
      · intro _ _; omega
      · rw [z, bs_up_s, bs_up_s, bs_up_n y, bs_up_n y]
        intro e1 e2
        exact absurd ⟨e1.symm, e2.symm⟩ (hf r (by omega))
    · by_cases y : r = n
      · rw [y, bs_up_s, bs_up_s, bs_up_n z, bs_up_n z]
        intro e1 e2
        exact absurd ⟨e1, e2⟩ (hf q (by omega))
      · rw [bs_up_n z, bs_up_n z, bs_up_n y, bs_up_n y]
        exact b3 q r (by omega) (by omega)
  have c4 : ∀ q r, q ≤ r → r < n + 1 → bs_up lev n (lev k + 1) q ≤ bs_up lev n (lev k + 1) r := by
    intro q r hq hr
    by_cases y : r = n
    · by_cases z : q = n
      · rw [y, z]; exact Nat.le_refl _
      · rw [y, bs_up_s, bs_up_n z]
        exact b5 q (by omega)
    · rw [bs_up_n y, bs_up_n (by omega)]
      exact b4 q r hq (by omega)
  have c5 : ∀ q, q < n + 1 → bs_up lev n (lev k + 1) q ≤ bs_up lev n (lev k + 1) k + 1 := by
    intro q hq
    rw [lk]
    by_cases z : q = n
    · rw [z, bs_up_s]; exact Nat.le_refl _
    · rw [bs_up_n z]; exact b5 q (by omega)
  have c6 : ∀ q, q < n + 1 → N ≤ bs_up lev n (lev k + 1) q + D (bs_up P n p q) (bs_up M n m q) := by
    intro q hq
    by_cases z : q = n
    · rw [z, bs_up_s, bs_up_s, bs_up_s]; omega
    · rw [bs_up_n z, bs_up_n z, bs_up_n z]; exact b6 q (by omega)
  have c8 : ∀ j, j ≤ i → pi j < n + 1 ∧ bs_up P n p (pi j) = gp j ∧ bs_up M n m (pi j) = gm j ∧ bs_up lev n (lev k + 1) (pi j) = j := by
    intro j hj
    have h := b8 j hj
    have z : pi j ≠ n := by omega
    rw [bs_up_n z, bs_up_n z, bs_up_n z]
    exact ⟨by omega, h.2⟩
  have c9 : ∀ j, j < i → upd fr n (nI k) (pi (j + 1)) = nI (pi j) ∧ upd wd n (nI v) (pi (j + 1)) = nI (gv j) := by
    intro j hj
    have h := b8 (j + 1) (by omega)
    rw [pk_un (by omega), pk_un (by omega)]
    exact b9 j hj
  have c10 : upd fr n (nI k) (pi 0) = -1 ∧ upd wd n (nI v) (pi 0) = nI (103 + gm 0) := by
    have h := b8 0 (by omega)
    rw [pk_un (by omega), pk_un (by omega)]
    exact b10
  by_cases A : k = pi i ∧ v = gv i
  · obtain ⟨A1, A2⟩ := A
    have hi := (hm A1).1
    have e6 := (p6 i hi).2.1
    rw [A1, bi.2.1, bi.2.2.1, A2, e6] at he
    have he' := Option.some.inj he
    have hp' : gp (i + 1) = p := congrArg Prod.fst he'
    have hm' : gm (i + 1) = m := congrArg Prod.snd he'
    have q1 : ∀ j, j ≤ i → bs_up pi (i + 1) n j = pi j := fun j hj => bs_up_n (by omega)
    have q2 : bs_up pi (i + 1) n (i + 1) = n := bs_up_s
    have lki : lev k = i := by rw [A1]; exact bi.2.2.2
    refine ⟨bs_up pi (i + 1) n, i + 1, ⟨by omega, c2, c3, c4, c5, c6, ⟨by omega, by rw [q2]; omega⟩, ?_, ?_, ?_, ?_⟩, ?_⟩
    · intro j hj
      by_cases z : j = i + 1
      · rw [z, q2, bs_up_s, bs_up_s, bs_up_s]
        exact ⟨by omega, hp'.symm, hm'.symm, by omega⟩
      · rw [q1 j (by omega)]
        exact c8 j (by omega)
    · intro j hj
      by_cases z : j = i
      · rw [z, q2, q1 i (Nat.le_refl i), pk_us, pk_us, ← A1, A2]
        exact ⟨rfl, rfl⟩
      · rw [q1 j (by omega), q1 (j + 1) (by omega)]
        exact c9 j (by omega)
    · rw [q1 0 (by omega)]
      exact c10
    · intro q hq
      by_cases z : q = n
      · rw [z, bs_up_s, q2]
        exact Or.inr (Or.inr ⟨by omega, Nat.le_refl n⟩)
      · rw [bs_up_n z, bs_up_n z, bs_up_n z]
        rcases b12 q (by omega) with c | c | ⟨c, d⟩
        · exact Or.inl c
        · exact Or.inr (Or.inl (by omega))
        · exact Or.inr (Or.inl (by omega))
    · intro z
      rw [q2] at z
      omega
  · refine ⟨pi, i, ⟨by omega, c2, c3, c4, c5, c6, b7, c8, c9, c10, ?_⟩, ?_⟩
    · intro q hq
      by_cases z : q = n
      · subst z
        rw [bs_up_s, bs_up_s, bs_up_s]
        rcases b12 k hk with c | c | ⟨c, d⟩
        · exact Or.inl (by omega)
        · by_cases y : lev k + 1 < i
          · exact Or.inr (Or.inl y)
          · exact Or.inr (Or.inr ⟨by omega, by omega⟩)
        · have ck : k = pi i := by omega
          have hv2 : v < gv i := by
            have := (hm ck).2
            have : v ≠ gv i := fun w => A ⟨ck, w⟩
            omega
          have he2 := he
          rw [ck, bi.2.1, bi.2.2.1] at he2
          have := (p6 i (hm ck).1).2.2 v hv2 p m he2
          exact Or.inl (by omega)
      · rw [bs_up_n z, bs_up_n z, bs_up_n z]
        exact b12 q (by omega)
    · intro z
      have := hm z
      have : v ≠ gv i := fun w => A ⟨z, w⟩
      exact ⟨(hm z).1, by omega⟩
end
end
section
/-! X's small readers -/
theorem bs_oc {post : Int32 → Prop} {c d A B : Prop} [Decidable d] {t e : Option Nat} (i : c ↔ d) (h : post (bs_oI (if d then t else e))) (f : d → post (bs_oI t) → A) (g : ¬ d → post (bs_oI e) → B) : (c → A) ∧ (¬ c → B) := bs_ic (fun o => post (bs_oI o)) i h f g
theorem bs_olt {post : Int32 → Prop} {x y : Int32} {A B : Prop} {t e : Option Nat} (a b : Nat) (h : post (bs_oI (if a < b then t else e))) (f : a < b → post (bs_oI t) → A) (g : ¬ a < b → post (bs_oI e) → B) (hx : x = nI a := by rfl) (hy : y = nI b := by rfl) (ha : a < 2 ^ 31 := by omega) (hb : b < 2 ^ 31 := by omega) : (x < y → A) ∧ (¬ x < y → B) := bs_ilt (fun o => post (bs_oI o)) a b h f g hx hy ha hb
theorem bs_ole {post : Int32 → Prop} {x y : Int32} {A B : Prop} {t e : Option Nat} (a b : Nat) (h : post (bs_oI (if a ≤ b then t else e))) (f : a ≤ b → post (bs_oI t) → A) (g : ¬ a ≤ b → post (bs_oI e) → B) (hx : x = nI a := by rfl) (hy : y = nI b := by rfl) (ha : a < 2 ^ 31 := by omega) (hb : b < 2 ^ 31 := by omega) : (x ≤ y → A) ∧ (¬ x ≤ y → B) := bs_ile (fun o => post (bs_oI o)) a b h f g hx hy ha hb
theorem bs_oeq {post : Int32 → Prop} {x y : Int32} {A B : Prop} {t e : Option Nat} (a b : Nat) (h : post (bs_oI (if a = b then t else e))) (f : a = b → post (bs_oI t) → A) (g : ¬ a = b → post (bs_oI e) → B) (hx : x = nI a := by rfl) (hy : y = nI b := by rfl) (ha : a < 2 ^ 31 := by omega) (hb : b < 2 ^ 31 := by omega) : (x = y → A) ∧ (¬ x = y → B) := bs_ieq (fun o => post (bs_oI o)) a b h f g hx hy ha hb
theorem bs_nlt {post : Int32 → Prop} {x y : Int32} {A B : Prop} {t e : Nat} (a b : Nat) (h : post (nI (if a < b then t else e))) (f : a < b → post (nI t) → A) (g : ¬ a < b → post (nI e) → B) (hx : x = nI a := by rfl) (hy : y = nI b := by rfl) (ha : a < 2 ^ 31 := by omega) (hb : b < 2 ^ 31 := by omega) : (x < y → A) ∧ (¬ x < y → B) := bs_ilt (fun o => post (nI o)) a b h f g hx hy ha hb
theorem bs_nle {post : Int32 → Prop} {x y : Int32} {A B : Prop} {t e : Nat} (a b : Nat) (h : post (nI (if a ≤ b then t else e))) (f : a ≤ b → post (nI t) → A) (g : ¬ a ≤ b → post (nI e) → B) (hx : x = nI a := by rfl) (hy : y = nI b := by rfl) (ha : a < 2 ^ 31 := by omega) (hb : b < 2 ^ 31 := by omega) : (x ≤ y → A) ∧ (¬ x ≤ y → B) := bs_ile (fun o => post (nI o)) a b h f g hx hy ha hb
theorem bs_neq {post : Int32 → Prop} {x y : Int32} {A B : Prop} {t e : Nat} (a b : Nat) (h : post (nI (if a = b then t else e))) (f : a = b → post (nI t) → A) (g : ¬ a = b → post (nI e) → B) (hx : x = nI a := by rfl) (hy : y = nI b := by rfl) (ha : a < 2 ^ 31 := by omega) (hb : b < 2 ^ 31 := by omega) : (x = y → A) ∧ (¬ x = y → B) := bs_ieq (fun o => post (nI o)) a b h f g hx hy ha hb
theorem bs_d0 {c k : Nat} (hc : c < 2 ^ 30) (hk : k < 2 ^ 30) : nI c - nI k < 0 ↔ c < k := by
  rw [Int32.lt_iff_toInt_lt, pk_sub_toInt hc hk, show (0 : Int32).toInt = 0 from by decide]
  omega
theorem bs_d1 {c k d : Nat} (hc : c < 2 ^ 30) (hk : k < 2 ^ 30) (hd : d < 2 ^ 30) : nI d < nI c - nI k ↔ k + d < c := by
  rw [Int32.lt_iff_toInt_lt, pk_sub_toInt hc hk, nI_toInt (by omega)]
  omega
theorem bs_d2 {c k d : Nat} (hc : c < 2 ^ 30) (hk : k < 2 ^ 30) (hd : d < 2 ^ 30) : nI c - nI k ≤ nI d ↔ c ≤ k + d := by
  rw [Int32.le_iff_toInt_le, pk_sub_toInt hc hk, nI_toInt (by omega)]
  omega
section
variable {s0 s1 s2 s3 s4 s5 s6 s7 s8 s9 s10 cap msc tl sl st rl : Int32} {mo ck te sy sp re co va : Nat → Int32}
theorem bs_xnm {post : Int32 → Prop} {m v : Nat} (hm : m < 5) (hv : v < 1000) (h : post (bs_oI (bs_nm m v))) : wpX_nextMode post (s0, s1, s2, s3, s4, s5, s6, s7, s8, s9, s10, cap, msc, tl, sl, st, rl, mo, ck, te, sy, sp, re, co, va) (nI m) (nI v) :=
  bs_olt m 3 h
    (fun _ h => bs_oeq v 102 h (fun _ h => h) fun _ h =>
      bs_oeq v 100 h (fun _ h => bs_oeq m 1 h (fun _ h => h) fun _ h => h) fun _ h =>
      bs_oeq v 101 h (fun _ h => bs_oeq m 0 h (fun _ h => h) fun _ h => h) fun _ h =>
      bs_oeq v 99 h (fun _ h => h) fun _ h =>
      bs_oeq m 2 h (fun _ h => h) fun _ h =>
      bs_oeq v 98 h (fun _ h => bs_at (nI_add m 3) h) fun _ h =>
      bs_ole v 95 h (fun _ h => h) fun _ h => h)
    fun n h => bs_ole v 95 h (fun _ h => bs_at (pk_sub (b := 3) (by omega)) h) fun _ h => h
theorem bs_xwr {post : Int32 → Prop} {m v : Nat} (hm : m < 5) (hv : v < 1000) (h : post (nI (bs_wr m v))) : wpX_written post (s0, s1, s2, s3, s4, s5, s6, s7, s8, s9, s10, cap, msc, tl, sl, st, rl, mo, ck, te, sy, sp, re, co, va) (nI m) (nI v) :=
  bs_neq v 102 h (fun _ h => h) fun _ h =>
    bs_neq m 2 h (fun _ h => bs_nle 100 v h (fun _ h => h) fun _ h => h) fun _ h =>
    bs_nle 96 v h (fun _ h => h) fun _ h => h
theorem bs_xal {post : Int32 → Prop} {m : Nat} (hm : m < 5) (h : post (nI (bs_al m))) : wpX_alphabet post (s0, s1, s2, s3, s4, s5, s6, s7, s8, s9, s10, cap, msc, tl, sl, st, rl, mo, ck, te, sy, sp, re, co, va) (nI m) :=
  bs_nle 3 m h (fun _ h => bs_at (pk_sub (a := 4) (by omega)) h) fun _ h => h
theorem bs_xsc {post : Int32 → Prop} {m v : Nat} (hm : m < 5) (hv : v < 103) (h : post (nI (bs_sc m v))) : wpX_singleChar post (s0, s1, s2, s3, s4, s5, s6, s7, s8, s9, s10, cap, msc, tl, sl, st, rl, mo, ck, te, sy, sp, re, co, va) (nI m) (nI v) := by
  unfold wpX_singleChar
  dsimp only
  refine bs_neq v 102 h (fun _ h => h) fun _ h => ?_
  refine bs_xal hm ?_
  have : bs_al m < 5 := by unfold bs_al; split <;> omega
  refine bs_neq (bs_al m) 0 h (fun _ h => ?_) fun _ h => ?_
  · refine bs_nlt v 64 h (fun _ h => bs_at (nI_add v 32) h) fun _ h => ?_
    exact bs_at (pk_sub (b := 64) (by omega)) h
  · exact bs_at (nI_add v 32) h
end
section
variable {s0 s1 s2 s3 s4 s5 s6 s7 s8 s9 s10 cap msc tl sl st rl : Int32} {mo ck te sy sp re co va : Nat → Int32}
variable {T : Nat → Nat} {L : Nat}
theorem bs_xpr {post : Int32 → Prop} {p : Nat} (hL : L ≤ 24) (hp : p < 24) (ht : ∀ i, i < L → te i = nI (T i) ∧ T i ≤ 128) (h : post (bs_oI (bs_pr T L p))) : wpX_pairValue post (s0, s1, s2, s3, s4, s5, s6, s7, s8, s9, s10, cap, msc, nI L, sl, st, rl, mo, ck, te, sy, sp, re, co, va) (nI p) := by
  unfold wpX_pairValue
  dsimp only
  refine bs_olt (p + 1) L h (fun hl h => ?_) (fun _ h => h) (nI_1 p)
  have t0 := ht p (by omega)
  have t1 := ht (p + 1) hl
  have e0 : (nI p).toNatClampNeg = p := nI_clamp (by omega)
  have e1 : (nI p + 1).toNatClampNeg = p + 1 := by rw [nI_1]; exact nI_clamp (by omega)
  refine ⟨vp_in_nI (by omega) (by decide), nm_r (e' := nI (T p) - nI 48) (by rw [e0, t0.1]; rfl) ?_⟩
  refine ⟨by rw [nI_1]; exact vp_in_nI (by omega) (by decide), nm_r (e' := nI (T (p + 1)) - nI 48) (by rw [e1, t1.1]; rfl) ?_⟩
  refine bs_oc (d := T p < 48) (bs_d0 (by omega) (by decide)) h (fun _ h => h) fun h1 h => ?_
  refine bs_oc (d := 57 < T p) (bs_d1 (d := 9) (by omega) (by decide) (by decide)) h (fun _ h => h) fun h2 h => ?_
  refine bs_oc (d := T (p + 1) < 48) (bs_d0 (by omega) (by decide)) h (fun _ h => h) fun h3 h => ?_
  refine bs_oc (d := T (p + 1) ≤ 57) (bs_d2 (d := 9) (by omega) (by decide) (by decide)) h (fun h4 h => ?_) fun _ h => h
  rw [pk_sub (by omega), pk_sub (by omega)]
  have e : (10 : Int32) * nI (T p - 48) + nI (T (p + 1) - 48) = nI (10 * (T p - 48) + (T (p + 1) - 48)) := by
    rw [show (10 : Int32) = nI 10 from rfl, pk_mul, nI_add]
  rw [e]
  exact h
theorem bs_xes {post : Int32 → Prop} {p m : Nat} (hL : L ≤ 24) (hp : p ≤ L) (hm : m < 5) (ht : ∀ i, i < L → te i = nI (T i) ∧ T i ≤ 128) (h : post (bs_oI (bs_es T L p m))) : wpX_emission post (s0, s1, s2, s3, s4, s5, s6, s7, s8, s9, s10, cap, msc, nI L, sl, st, rl, mo, ck, te, sy, sp, re, co, va) (nI p) (nI m) := by
  unfold wpX_emission
  dsimp only
  refine bs_olt p L h (fun hl h => ?_) fun _ h => h
  have t0 := ht p (by omega)
  have e0 : (nI p).toNatClampNeg = p := nI_clamp (by omega)
  refine ⟨vp_in_nI (by omega) (by decide), nm_r (e' := nI (T p)) (by rw [e0, t0.1]) ?_⟩
  refine bs_oeq (T p) 128 h (fun _ h => ?_) fun h1 h => ?_
  · exact bs_olt m 3 h (fun _ h => h) fun _ h => h
  refine bs_oeq m 2 h (fun _ h => ?_) fun h2 h => ?_
  · exact bs_xpr hL (by omega) ht h
  refine bs_xal hm ?_
  have : bs_al m < 5 := by unfold bs_al; split <;> omega
  unfold bs_s1 at h
  refine bs_oeq (bs_al m) 0 h (fun _ h => ?_) fun _ h => ?_
  · refine bs_ole 32 (T p) h (fun _ h => ?_) fun _ h => bs_at (nI_add (T p) 64) h
    exact bs_ole 96 (T p) h (fun _ h => h) fun _ h => bs_at (pk_sub (b := 32) (by omega)) h
  · exact bs_ole 32 (T p) h (fun _ h => bs_at (pk_sub (b := 32) (by omega)) h) fun _ h => h
def bs_ca1 (co : Nat → Int32) : Option (Nat × Nat) → Int32
  | none => 1000
  | some s => co (s.1 * 5 + s.2)
theorem bs_xc4 {post : Int32 → Prop} {p w k : Nat} (hi : (p + w) * 5 + k < 125) (h : post (co ((p + w) * 5 + k))) : wX_costAfter_44 post (nI p) (nI k) (nI w) s0 s1 s2 s3 s4 s5 s6 s7 s8 s9 s10 cap msc tl sl st rl mo ck te sy sp re co va := by
  unfold wX_costAfter_44
  have e : (nI p + nI w) * 5 + nI k = nI ((p + w) * 5 + k) := by
    rw [nI_add, show (5 : Int32) = nI 5 from rfl, pk_mul, nI_add]
  rw [e, nI_clamp (by omega)]
  exact ⟨vp_in_nI hi (by decide), h⟩
theorem bs_oI_ne {o : Option Nat} {v : Nat} (hv : v < 2 ^ 31) (ho : ∀ w, o = some w → w < 2 ^ 31) (h : o ≠ some v) : ¬ bs_oI o = nI v := by
  cases o with
  | none => exact bs_n1n hv
  | some w =>
    intro e
    have e' : nI w = nI v := e
    rw [nI_eq (ho w rfl) hv] at e'
    exact h (by rw [e'])
theorem bs_xca {post : Int32 → Prop} {p m v : Nat} (hL : L ≤ 24) (hp : p ≤ L) (hm : m < 5) (hv : v < 103) (ht : ∀ i, i < L → te i = nI (T i) ∧ T i ≤ 128) (h : post (bs_ca1 co (bs_ed T L p m v))) : wpX_costAfter post (s0, s1, s2, s3, s4, s5, s6, s7, s8, s9, s10, cap, msc, nI L, sl, st, rl, mo, ck, te, sy, sp, re, co, va) (nI p) (nI m) (nI v) := by
  have hT : ∀ i, i < L → T i ≤ 128 := fun i hi => (ht i hi).2
  unfold wpX_costAfter
  dsimp only
  refine bs_xnm hm (by omega) ?_
  by_cases hn : bs_nm m v = none
  · rw [hn]
    have e : bs_ed T L p m v = none := by unfold bs_ed; rw [if_pos hn]
    rw [e] at h
    exact br_f bs_n1' h
  · have h2 := bs_c2 m hm v hv hn
    rw [h2.1]
    refine br_t (nI_pos' (by omega)) ?_
    refine bs_xwr hm (by omega) ?_
    have c6 := bs_c6 m v
    by_cases w : bs_wr m v = 0
    · rw [bs_ed_of0 hn w] at h
      refine br_t (by rw [w]; decide) ?_
      refine bs_xc4 (by omega) ?_
      rw [w, Nat.add_zero]
      exact h
    · refine br_f (nI_nle (by omega) (by omega)) ?_
      refine bs_xes hL hp hm ht ?_
      by_cases es : bs_es T L p m = some v
      · rw [bs_ed_of1 hn (by omega) es] at h
        have ok := bs_es_ok hT hm es
        rw [es]
        refine br_t rfl ?_
        exact bs_xc4 (by omega) h
      · have e : bs_ed T L p m v = none := by unfold bs_ed; rw [if_neg hn, if_neg (by omega), if_neg es]
        rw [e] at h
        exact br_f (bs_oI_ne (by omega) (fun w hw => by have := (bs_es_ok hT hm hw).1; omega) es) h
/-- the table holds D at the places behind p -/
def bs_H (L : Nat) (D : Nat → Nat → Nat) (p : Nat) (co : Nat → Int32) : Prop := ∀ q, p < q → q ≤ L → ∀ m, m < 5 → co (q * 5 + m) = nI (D q m)
theorem bs_Hupd {D : Nat → Nat → Nat} {p m : Nat} {x : Int32} (hm : m < 5) (h : bs_H L D p co) : bs_H L D p (upd co (p * 5 + m) x) := by
  intro q hq hqL k hk
  rw [pk_un (by omega)]
  exact h q hq hqL k hk
theorem bs_xec {D : Nat → Nat → Nat} {post : Int32 → Prop} {p m : Nat} (hL : L ≤ 24) (hp : p ≤ L) (hm : m < 5) (ht : ∀ i, i < L → te i = nI (T i) ∧ T i ≤ 128) (hH : bs_H L D p co) (h : post (nI (bs_ec T L D p m))) : wpX_emissionCost post (s0, s1, s2, s3, s4, s5, s6, s7, s8, s9, s10, cap, msc, nI L, sl, st, rl, mo, ck, te, sy, sp, re, co, va) (nI p) (nI m) := by
  have hT : ∀ i, i < L → T i ≤ 128 := fun i hi => (ht i hi).2
  unfold wpX_emissionCost
  dsimp only
  refine bs_xes hL hp hm ht ?_
  cases es : bs_es T L p m with
  | none =>
    rw [bs_ec_none es] at h
    exact br_f bs_n1' h
  | some v =>
    have ok := bs_es_ok hT hm es
    rw [bs_ec_some es] at h
    refine br_t (nI_pos' (by omega)) ?_
    refine bs_xca hL hp hm ok.1 ht ?_
    rw [bs_ed_of1 ok.2.1 ok.2.2.1 es]
    show post (1 + co ((p + bs_wr m v) * 5 + bs_af m v))
    rw [hH _ (by omega) ok.2.2.2.1 _ (by omega), show (1 : Int32) = nI 1 from rfl, nI_add]
    exact h
end
end
section
/-! X's table of costs -/
theorem bs_ix {p m : Nat} : nI p * 5 + nI m = nI (p * 5 + m) := by
  rw [show (5 : Int32) = nI 5 from rfl, pk_mul, nI_add]
theorem bs_p5 {p : Nat} : nI p * 5 = nI (p * 5) := by
  rw [show (5 : Int32) = nI 5 from rfl, pk_mul]
section
variable {s0 s1 s2 s3 s4 s5 s6 s7 s8 s9 s10 cap msc tl sl st rl : Int32} {mo ck te sy sp re co va : Nat → Int32}
variable {T : Nat → Nat} {L : Nat} {D : Nat → Nat → Nat} {p : Nat}
theorem bs_xss2 {post : SX → Prop} (hL : L ≤ 24) (hp : p ≤ L) (ht : ∀ i, i < L → te i = nI (T i) ∧ T i ≤ 128)
    (K : ∀ c, bs_H L D p c → (∀ k, 3 ≤ k → k < 5 → c (p * 5 + k) = nI (bs_ec T L D p k)) → post (s0, s1, s2, s3, s4, s5, s6, s7, s8, s9, s10, cap, msc, nI L, sl, st, rl, mo, ck, te, sy, sp, re, c, va)) :
    ∀ d m, m + d = 5 → 3 ≤ m → ∀ c, bs_H L D p c → (∀ k, 3 ≤ k → k < m → c (p * 5 + k) = nI (bs_ec T L D p k)) →
    wX_settleShifted_2 post (nI p) s0 s1 s2 s3 s4 s5 s6 s7 s8 s9 s10 cap msc (nI L) sl st rl (d + 1) (nI m) mo ck te sy sp re c va := by
  intro d
  induction d with
  | zero =>
    intro m hm h3 c hH hc
    refine pk_lt 4 m (fun _ => K c hH fun k a b => hc k a (by omega)) (fun h => ?_)
    omega
  | succ d ih =>
    intro m hm h3 c hH hc
    refine pk_lt 4 m (fun h => ?_) (fun h => ?_)
    · omega
    · refine bs_xec hL hp (by omega) ht hH ?_
      have e : (nI p * 5 + nI m).toNatClampNeg = p * 5 + m := by rw [bs_ix]; exact nI_clamp (by omega)
      refine ⟨by rw [bs_ix]; exact vp_in_nI (by omega) (by decide), nm_r (e' := upd c (p * 5 + m) (nI (bs_ec T L D p m))) (by rw [e]) (nm_r (e' := nI (m + 1)) (nI_1 m) ?_)⟩
      refine ih (m + 1) (by omega) (by omega) _ (bs_Hupd (by omega) hH) fun k a b => ?_
      by_cases z : k = m
      · rw [z, pk_us]
      · rw [pk_un (by omega)]
        exact hc k a (by omega)
theorem bs_xss {post : SX → Prop} (hL : L ≤ 24) (hp : p ≤ L) (ht : ∀ i, i < L → te i = nI (T i) ∧ T i ≤ 128) (hH : bs_H L D p co)
    (K : ∀ c, bs_H L D p c → (∀ k, 3 ≤ k → k < 5 → c (p * 5 + k) = nI (bs_ec T L D p k)) → post (s0, s1, s2, s3, s4, s5, s6, s7, s8, s9, s10, cap, msc, nI L, sl, st, rl, mo, ck, te, sy, sp, re, c, va)) :
    wpX_settleShifted post (s0, s1, s2, s3, s4, s5, s6, s7, s8, s9, s10, cap, msc, nI L, sl, st, rl, mo, ck, te, sy, sp, re, co, va) (nI p) :=
  ⟨3, bs_xss2 hL hp ht K 2 3 rfl (by decide) co hH fun k a b => by omega⟩
theorem bs_x29 {post : SX → Prop} {J : Int32 → (Nat → Int32) → (Nat → Int32) → (Nat → Int32) → (Nat → Int32) → (Nat → Int32) → (Nat → Int32) → (Nat → Int32) → (Nat → Int32) → Prop} {m z e3 : Nat} (hp : p ≤ 24) (hm : m < 3) (hz : z < 2000) (h3 : e3 < 2000) (hc : m ≠ 2 → co (p * 5 + (m + 3)) = nI e3)
    (K : J (nI (m + 1)) mo ck te sy sp re (upd co (p * 5 + m) (nI (if m = 2 then z else if z ≤ 1 + e3 then z else 1 + e3))) va) :
    wX_settleSets_29 post J (nI p) (nI (p * 5)) (nI m) (nI z) s0 s1 s2 s3 s4 s5 s6 s7 s8 s9 s10 cap msc tl sl st rl mo ck te sy sp re co va := by
  have e : (nI (p * 5) + nI m).toNatClampNeg = p * 5 + m := by rw [nI_add]; exact nI_clamp (by omega)
  have e4 : nI (p * 5) + nI m + 3 = nI (p * 5 + (m + 3)) := by rw [show (3 : Int32) = nI 3 from rfl, nI_add, nI_add, Nat.add_assoc]
  have e5 : (nI (p * 5) + nI m + 3).toNatClampNeg = p * 5 + (m + 3) := by rw [e4]; exact nI_clamp (by omega)
  have c1 : m ≠ 2 → (1 : Int32) + co (nI (p * 5) + nI m + 3).toNatClampNeg = nI (1 + e3) := by
    intro a
    rw [e5, hc a, show (1 : Int32) = nI 1 from rfl, nI_add]
  have W : ∀ b : Nat, J (nI (m + 1)) mo ck te sy sp re (upd co (p * 5 + m) (nI b)) va → wX_settleSets_67 post J (nI p) (nI (p * 5)) (nI m) (nI b) s0 s1 s2 s3 s4 s5 s6 s7 s8 s9 s10 cap msc tl sl st rl mo ck te sy sp re co va := by
    intro b h
    unfold wX_settleSets_67
    exact ⟨by rw [nI_add]; exact vp_in_nI (by omega) (by decide), nm_r (e' := upd co (p * 5 + m) (nI b)) (by rw [e]) (nm_r (e' := nI (m + 1)) (nI_1 m) h)⟩
  have V : m ≠ 2 → vp_in (nI (p * 5) + nI m + 3) 125 := by
    intro a
    rw [e4]; exact vp_in_nI (by omega) (by decide)
  unfold wX_settleSets_29
  by_cases a : m = 2
  · rw [if_pos a] at K
    exact br_t (by rw [a]; rfl) (W z K)
  · rw [if_neg a] at K
    refine br_f (fun q => a ((nI_eq (by omega) (by decide)).mp q)) ⟨V a, ?_⟩
    by_cases b : z ≤ 1 + e3
    · rw [if_pos b] at K
      exact br_t (by rw [c1 a]; exact nI_le b (by omega)) (W z K)
    · rw [if_neg b] at K
      exact br_f (by rw [c1 a]; exact nI_ge (by omega) (by omega)) ⟨V a, nm_r (c1 a) (W _ K)⟩
theorem bs_xst6 {post : SX → Prop} (hL : L ≤ 24) (hp : p ≤ L) (ht : ∀ i, i < L → te i = nI (T i) ∧ T i ≤ 128) (hb : ∀ m, m < 5 → bs_ec T L D p m ≤ 1001)
    (K : ∀ c, bs_H L D p c → (∀ k, 3 ≤ k → k < 5 → c (p * 5 + k) = nI (bs_ec T L D p k)) → (∀ k, k < 3 → c (p * 5 + k) = nI (bs_ba T L D p k)) → post (s0, s1, s2, s3, s4, s5, s6, s7, s8, s9, s10, cap, msc, nI L, sl, st, rl, mo, ck, te, sy, sp, re, c, va)) :
    ∀ d m, m + d = 3 → ∀ c, bs_H L D p c → (∀ k, 3 ≤ k → k < 5 → c (p * 5 + k) = nI (bs_ec T L D p k)) → (∀ k, k < m → c (p * 5 + k) = nI (bs_ba T L D p k)) →
    wX_settleSets_6 post (nI p) (nI (p * 5)) s0 s1 s2 s3 s4 s5 s6 s7 s8 s9 s10 cap msc (nI L) sl st rl (d + 1) (nI m) mo ck te sy sp re c va := by
  intro d
  induction d with
  | zero =>
    intro m hm c hH h3 hc
    refine pk_lt 2 m (fun _ => K c hH h3 fun k a => hc k (by omega)) (fun h => ?_)
    omega
  | succ d ih =>
    intro m hm c hH h3 hc
    have hbm := hb m (by omega)
    have N : wX_settleSets_6 post (nI p) (nI (p * 5)) s0 s1 s2 s3 s4 s5 s6 s7 s8 s9 s10 cap msc (nI L) sl st rl (d + 1) (nI (m + 1)) mo ck te sy sp re (upd c (p * 5 + m) (nI (bs_ba T L D p m))) va := by
      refine ih (m + 1) (by omega) _ (bs_Hupd (by omega) hH) (fun k a b => ?_) fun k a => ?_
      · rw [pk_un (by omega)]; exact h3 k a b
      · by_cases z : k = m
        · rw [z, pk_us]
        · rw [pk_un (by omega)]; exact hc k (by omega)
    have M : ∀ z : Nat, z = bs_z0 T L D p m → wX_settleSets_29 post (wX_settleSets_6 post (nI p) (nI (p * 5)) s0 s1 s2 s3 s4 s5 s6 s7 s8 s9 s10 cap msc (nI L) sl st rl (d + 1)) (nI p) (nI (p * 5)) (nI m) (nI z) s0 s1 s2 s3 s4 s5 s6 s7 s8 s9 s10 cap msc (nI L) sl st rl mo ck te sy sp re c va := by
      intro z hz
      by_cases a : m = 2
      · refine bs_x29 (e3 := bs_ec T L D p 3) (by omega) (by omega) ?_ ?_ ?_ ?_
        · rw [hz]; unfold bs_z0; split <;> omega
        · have := hb 3 (by decide); omega
        · intro h; exact absurd a h
        · have e : bs_ba T L D p m = bs_z0 T L D p m := by unfold bs_ba; rw [if_pos a]
          rw [hz, if_pos a, ← e]; exact N
      · refine bs_x29 (e3 := bs_ec T L D p (m + 3)) (by omega) (by omega) ?_ ?_ ?_ ?_
        · rw [hz]; unfold bs_z0; split <;> omega
        · have := hb (m + 3) (by omega); omega
        · intro _; exact h3 (m + 3) (by omega) (by omega)
        · rw [hz]; exact N
    refine pk_lt 2 m (fun h => ?_) (fun h => ?_)
    · omega
    · refine pk_eq p L (fun e => ?_) (fun e => ?_)
      · refine M 0 ?_
        rw [e, bs_z0_end]
      · refine bs_xec hL hp (by omega) ht hH ?_
        exact M _ (by rw [bs_z0_in e])
theorem bs_xst {post : SX → Prop} (hL : L ≤ 24) (hp : p ≤ L) (ht : ∀ i, i < L → te i = nI (T i) ∧ T i ≤ 128) (hb : ∀ m, m < 5 → bs_ec T L D p m ≤ 1001) (hH : bs_H L D p co) (h3 : ∀ k, 3 ≤ k → k < 5 → co (p * 5 + k) = nI (bs_ec T L D p k))
    (K : ∀ c, bs_H L D p c → (∀ k, 3 ≤ k → k < 5 → c (p * 5 + k) = nI (bs_ec T L D p k)) → (∀ k, k < 3 → c (p * 5 + k) = nI (bs_ba T L D p k)) → post (s0, s1, s2, s3, s4, s5, s6, s7, s8, s9, s10, cap, msc, nI L, sl, st, rl, mo, ck, te, sy, sp, re, c, va)) :
    wpX_settleSets post (s0, s1, s2, s3, s4, s5, s6, s7, s8, s9, s10, cap, msc, nI L, sl, st, rl, mo, ck, te, sy, sp, re, co, va) (nI p) :=
  nm_r bs_p5 ⟨4, bs_xst6 hL hp ht hb K 3 0 rfl co hH h3 fun k a => by omega⟩
theorem bs_ba_hi (hb : ∀ m, m < 5 → bs_ec T L D p m ≤ 1001) {m : Nat} (hm : m < 3) : bs_ba T L D p m ≤ 1002 := by
  have h1 := bs_ba_le (T := T) (L := L) (D := D) (p := p) (m := m)
  have h2 := hb m (by omega)
  have h3 : bs_z0 T L D p m ≤ 1001 := by unfold bs_z0; split <;> omega
  omega
theorem bs_xrl49 {post : SX → Prop} {l : Nat} (hp : p ≤ 24) (hb : ∀ m, m < 5 → bs_ec T L D p m ≤ 1001) (hl : l = bs_ls (bs_ba T L D p) 3)
    (K : ∀ c, bs_H L D p c → (∀ k, k < 5 → c (p * 5 + k) = nI (bs_fi T L D p k)) → post (s0, s1, s2, s3, s4, s5, s6, s7, s8, s9, s10, cap, msc, tl, sl, st, rl, mo, ck, te, sy, sp, re, c, va)) :
    ∀ d m, m + d = 3 → ∀ c, bs_H L D p c → (∀ k, 3 ≤ k → k < 5 → c (p * 5 + k) = nI (bs_ec T L D p k)) → (∀ k, m ≤ k → k < 3 → c (p * 5 + k) = nI (bs_ba T L D p k)) → (∀ k, k < m → c (p * 5 + k) = nI (bs_fi T L D p k)) →
    wX_relaxLatches_49 post (nI (p * 5)) (nI l) s0 s1 s2 s3 s4 s5 s6 s7 s8 s9 s10 cap msc tl sl st rl (d + 1) (nI m) mo ck te sy sp re c va := by
  have hl2 : l ≤ 1000 := by rw [hl]; exact (bs_ls_r _ 3).1
  intro d
  induction d with
  | zero =>
    intro m hm c hH h3 h4 h5
    refine pk_lt 2 m (fun _ => K c hH fun k a => ?_) (fun h => ?_)
    · by_cases z : k < 3
      · exact h5 k (by omega)
      · rw [h3 k (by omega) a, bs_fi_hi z]
    · omega
  | succ d ih =>
    intro m hm c hH h3 h4 h5
    have e : (nI (p * 5) + nI m).toNatClampNeg = p * 5 + m := by rw [nI_add]; exact nI_clamp (by omega)
    have V : vp_in (nI (p * 5) + nI m) 125 := by rw [nI_add]; exact vp_in_nI (by omega) (by decide)
    have hbm := bs_ba_hi hb (m := m) (by omega)
    have cm := h4 m (Nat.le_refl m) (by omega)
    have el : nI l + 1 = nI (l + 1) := nI_1 l
    refine pk_lt 2 m (fun h => ?_) (fun h => ?_)
    · omega
    refine ⟨V, pk_le (bs_ba T L D p m) (l + 1) (fun g => ?_) (fun g => ?_) (by rw [e, cm]) el⟩
    · refine nm_r (e' := nI (m + 1)) (nI_1 m) ?_
      refine ih (m + 1) (by omega) c hH h3 (fun k a b => h4 k (by omega) b) fun k a => ?_
      by_cases z : k = m
      · rw [z, cm]
        unfold bs_fi
        rw [if_pos (by omega), ← hl, if_pos g]
      · exact h5 k (by omega)
    · refine ⟨V, nm_r (e' := upd c (p * 5 + m) (nI (l + 1))) (by rw [e, el]) (nm_r (e' := nI (m + 1)) (nI_1 m) ?_)⟩
      refine ih (m + 1) (by omega) _ (bs_Hupd (by omega) hH) (fun k a b => ?_) (fun k a b => ?_) fun k a => ?_
      · rw [pk_un (by omega)]; exact h3 k a b
      · rw [pk_un (by omega)]; exact h4 k (by omega) b
      · by_cases z : k = m
        · rw [z, pk_us]
          unfold bs_fi
          rw [if_pos (by omega), ← hl, if_neg (by omega)]
        · rw [pk_un (by omega)]; exact h5 k (by omega)
theorem bs_xrl11 {post : SX → Prop} (hp : p ≤ 24) (hb : ∀ m, m < 5 → bs_ec T L D p m ≤ 1001) (hH : bs_H L D p co) (h3 : ∀ k, 3 ≤ k → k < 5 → co (p * 5 + k) = nI (bs_ec T L D p k)) (h4 : ∀ k, k < 3 → co (p * 5 + k) = nI (bs_ba T L D p k))
    (K : ∀ c, bs_H L D p c → (∀ k, k < 5 → c (p * 5 + k) = nI (bs_fi T L D p k)) → post (s0, s1, s2, s3, s4, s5, s6, s7, s8, s9, s10, cap, msc, tl, sl, st, rl, mo, ck, te, sy, sp, re, c, va)) :
    ∀ d m, m + d = 3 → wX_relaxLatches_11 post (nI (p * 5)) s0 s1 s2 s3 s4 s5 s6 s7 s8 s9 s10 cap msc tl sl st rl mo ck te sy sp re co va (d + 1) (nI (bs_ls (bs_ba T L D p) m)) (nI m) := by
  intro d
  induction d with
  | zero =>
    intro m hm
    have e3 : m = 3 := by omega
    subst e3
    refine pk_lt 2 3 (fun _ => ?_) (fun h => ?_)
    · exact ⟨4, bs_xrl49 hp hb rfl K 3 0 rfl co hH h3 (fun k _ b => h4 k b) fun k a => by omega⟩
    · omega
  | succ d ih =>
    intro m hm
    have e : (nI (p * 5) + nI m).toNatClampNeg = p * 5 + m := by rw [nI_add]; exact nI_clamp (by omega)
    have V : vp_in (nI (p * 5) + nI m) 125 := by rw [nI_add]; exact vp_in_nI (by omega) (by decide)
    have hbm := bs_ba_hi hb (m := m) (by omega)
    have cm := h4 m (by omega)
    have lr := (bs_ls_r (bs_ba T L D p) m).1
    have I := ih (m + 1) (by omega)
    have es : bs_ls (bs_ba T L D p) (m + 1) = if bs_ls (bs_ba T L D p) m ≤ bs_ba T L D p m then bs_ls (bs_ba T L D p) m else bs_ba T L D p m := rfl
    refine pk_lt 2 m (fun h => ?_) (fun h => ?_)
    · omega
    refine ⟨V, pk_le (bs_ls (bs_ba T L D p) m) (bs_ba T L D p m) (fun g => ?_) (fun g => ?_) rfl (by rw [e, cm])⟩
    · rw [es, if_pos g] at I
      exact nm_r (e' := nI (m + 1)) (nI_1 m) I
    · rw [es, if_neg (by omega)] at I
      exact ⟨V, nm_r (e' := nI (bs_ba T L D p m)) (by rw [e, cm]) (nm_r (e' := nI (m + 1)) (nI_1 m) I)⟩
theorem bs_xrl {post : SX → Prop} (hp : p ≤ 24) (hb : ∀ m, m < 5 → bs_ec T L D p m ≤ 1001) (hH : bs_H L D p co) (h3 : ∀ k, 3 ≤ k → k < 5 → co (p * 5 + k) = nI (bs_ec T L D p k)) (h4 : ∀ k, k < 3 → co (p * 5 + k) = nI (bs_ba T L D p k))
    (K : ∀ c, bs_H L D p c → (∀ k, k < 5 → c (p * 5 + k) = nI (bs_fi T L D p k)) → post (s0, s1, s2, s3, s4, s5, s6, s7, s8, s9, s10, cap, msc, tl, sl, st, rl, mo, ck, te, sy, sp, re, c, va)) :
    wpX_relaxLatches post (s0, s1, s2, s3, s4, s5, s6, s7, s8, s9, s10, cap, msc, tl, sl, st, rl, mo, ck, te, sy, sp, re, co, va) (nI p) :=
  nm_r bs_p5 ⟨4, bs_xrl11 hp hb hH h3 h4 K 3 0 rfl⟩
end
section
variable {s0 s1 s2 s3 s4 s5 s6 s7 s8 s9 s10 cap msc tl sl st rl : Int32} {mo ck te sy sp re co va : Nat → Int32}
variable {T : Nat → Nat} {L : Nat}
/-- the whole table -/
theorem bs_xe5 {post : Int32 → SX → Prop} (hL : L ≤ 24) (ht : ∀ i, i < L → te i = nI (T i) ∧ T i ≤ 128)
    (K : ∀ D c, (∀ q, q ≤ L → bs_G T L D q) → (∀ q, q ≤ L → ∀ m, m < 5 → c (q * 5 + m) = nI (D q m)) → wX_encode_5 post 1 (-1) s0 s1 s2 s3 s4 s5 s6 s7 s8 s9 s10 cap msc (nI L) sl st rl mo ck te sy sp re c va) :
    ∀ p, p ≤ L → ∀ D c, (∀ q, p < q → q ≤ L → bs_G T L D q) → bs_H L D p c → wX_encode_5 post (p + 2) (nI p) s0 s1 s2 s3 s4 s5 s6 s7 s8 s9 s10 cap msc (nI L) sl st rl mo ck te sy sp re c va := by
  have hT : ∀ i, i < L → T i ≤ 128 := fun i hi => (ht i hi).2
  intro p
  induction p with
  | zero =>
    intro hp D c g hH
    have hb : ∀ m, m < 5 → bs_ec T L D 0 m ≤ 1001 := by
      intro m hm
      cases es : bs_es T L 0 m with
      | none => rw [bs_ec_none es]; decide
      | some v =>
        have ok := bs_es_ok hT hm es
        have := (g (0 + bs_wr m v) (by omega) ok.2.2.2.1).2.2.2.2.2.2 (bs_af m v) (by omega)
        rw [bs_ec_some es]
        omega
    refine br_f (nI_pos (by decide)) ?_
    refine bs_xss hL hp ht hH fun c1 H1 h3 => ?_
    refine bs_xst hL hp ht hb H1 h3 fun c2 H2 h4 h5 => ?_
    refine bs_xrl (by omega) hb H2 h4 h5 fun c3 H3 h6 => ?_
    refine nm_r (e' := -1) (by decide) ?_
    refine K (bs_Dn T L D 0) c3 (fun q hq => bs_Gstep hT hL hp g q (by omega) hq) fun q hq m hm => ?_
    by_cases z : q = 0
    · rw [z, bs_Dn_eq]; exact h6 m hm
    · rw [bs_Dn_ne z]; exact H3 q (by omega) hq m hm
  | succ p ih =>
    intro hp D c g hH
    have hb : ∀ m, m < 5 → bs_ec T L D (p + 1) m ≤ 1001 := by
      intro m hm
      cases es : bs_es T L (p + 1) m with
      | none => rw [bs_ec_none es]; decide
      | some v =>
        have ok := bs_es_ok hT hm es
        have := (g (p + 1 + bs_wr m v) (by omega) ok.2.2.2.1).2.2.2.2.2.2 (bs_af m v) (by omega)
        rw [bs_ec_some es]
        omega
    refine br_f (nI_pos (by omega)) ?_
    refine bs_xss hL hp ht hH fun c1 H1 h3 => ?_
    refine bs_xst hL hp ht hb H1 h3 fun c2 H2 h4 h5 => ?_
    refine bs_xrl (by omega) hb H2 h4 h5 fun c3 H3 h6 => ?_
    refine nm_r (e' := nI p) (pk_m1 p) ?_
    refine ih (by omega) (bs_Dn T L D (p + 1)) c3 (fun q h1 h2 => bs_Gstep hT hL hp g q (by omega) h2) fun q h1 h2 m hm => ?_
    by_cases z : q = p + 1
    · rw [z, bs_Dn_eq]; exact h6 m hm
    · rw [bs_Dn_ne z]; exact H3 q (by omega) h2 m hm
end
end
section
/-! X's path through the costs, its check -/
def bs_sv (gm gv : Nat → Nat) : Nat → Nat
  | 0 => 103 + gm 0
  | q + 1 => gv q
/-- the symbol with its first t + 1 words written -/
def bs_sq (sy : Nat → Int32) (s : Nat → Nat) (t : Nat) : Nat → Int32 := fun q => if q ≤ t then nI (s q) else sy q
theorem bs_sq_le {sy : Nat → Int32} {s : Nat → Nat} {t q : Nat} (h : q ≤ t) : bs_sq sy s t q = nI (s q) := by unfold bs_sq; rw [if_pos h]
theorem bs_sq_s {sy : Nat → Int32} {s : Nat → Nat} {t : Nat} : upd (bs_sq sy s t) (t + 1) (nI (s (t + 1))) = bs_sq sy s (t + 1) := by
  funext q
  unfold bs_sq upd
  by_cases a : q = t + 1
  · rw [if_pos a, if_pos (by omega), a]
  · rw [if_neg a]
    show (if q ≤ t then nI (s q) else sy q) = _
    by_cases b : q ≤ t
    · rw [if_pos b, if_pos (by omega)]
    · rw [if_neg b, if_neg (by omega)]
theorem bs_sq_0 {sy : Nat → Int32} {s : Nat → Nat} : upd sy 0 (nI (s 0)) = bs_sq sy s 0 := by
  funext q
  unfold bs_sq upd
  by_cases a : q = 0
  · rw [if_pos a, if_pos (by omega), a]
  · rw [if_neg a, if_neg (by omega)]
/-- the weighted sum up to index j -/
def bs_sm (s : Nat → Nat) : Nat → Nat
  | 0 => s 0
  | j + 1 => bs_sm s j + (j + 1) * s (j + 1)
theorem bs_sm_le {s : Nat → Nat} : ∀ j, j ≤ 41 → (∀ q, q ≤ j → s q ≤ 106) → bs_sm s j ≤ (j + 1) * 4452 := by
  intro j
  induction j with
  | zero => intro _ h; have := h 0 (Nat.le_refl 0); show s 0 ≤ _; omega
  | succ j ih =>
    intro hj h
    have h1 := ih (by omega) fun q hq => h q (by omega)
    have h2 := h (j + 1) (Nat.le_refl _)
    have h3 : (j + 1) * s (j + 1) ≤ 42 * 106 := Nat.mul_le_mul (by omega) h2
    show bs_sm s j + (j + 1) * s (j + 1) ≤ _
    omega
/-- the whole symbol -/
def bs_fs (sy : Nat → Int32) (s : Nat → Nat) (N : Nat) : Nat → Int32 := upd (upd (bs_sq sy s N) (N + 1) (nI (bs_sm s N % 103))) (N + 1 + 1) 106
section
variable {s0 s1 s2 s3 s4 s5 s6 s7 s8 s9 s10 cap msc tl sl st rl : Int32} {mo ck te sy sp re co va : Nat → Int32}
variable {T : Nat → Nat} {L : Nat} {D : Nat → Nat → Nat} {N : Nat} {gp gm gv : Nat → Nat}
theorem bs_xcs2 {post : Int32 → Prop} {b : Nat} (hb : b < 3) (hc : ∀ m, m < 3 → co m = nI (D 0 m)) (hD : ∀ m, m < 3 → D 0 m ≤ 60) (h : post (nI (if D 0 b ≤ D 0 2 then b else 2))) : wX_cheapestStart_4 post s0 s1 s2 s3 s4 s5 s6 s7 s8 s9 s10 cap msc tl sl st rl mo ck te sy sp re co va 2 (nI b) (nI 2) := by
  have e : (nI b).toNatClampNeg = b := nI_clamp (by omega)
  have e2 : (nI 2).toNatClampNeg = 2 := by decide
  have d1 := hD b hb
  have d2 := hD 2 (by decide)
  refine pk_lt 2 2 (fun h => ?_) (fun _ => ?_)
  · omega
  refine ⟨vp_in_nI (by omega) (by decide), vp_in_nI (by omega) (by decide), ?_⟩
  refine bs_nle (D 0 b) (D 0 2) h (fun _ h => ?_) (fun _ h => ?_) (by rw [e, hc b hb]) (by rw [e2, hc 2 (by decide)])
  · exact nm_r (e' := nI 3) (nI_1 2) (pk_lt 2 3 (fun _ => h) (fun q => by omega))
  · exact nm_r (e' := nI 3) (nI_1 2) (pk_lt 2 3 (fun _ => h) (fun q => by omega))
theorem bs_xcs {post : Int32 → Prop} (hc : ∀ m, m < 3 → co m = nI (D 0 m)) (hD : ∀ m, m < 3 → D 0 m ≤ 60) (h : post (nI (bs_cs D))) : wpX_cheapestStart post (s0, s1, s2, s3, s4, s5, s6, s7, s8, s9, s10, cap, msc, tl, sl, st, rl, mo, ck, te, sy, sp, re, co, va) := by
  have d0 := hD 0 (by decide)
  have d1 := hD 1 (by decide)
  have c0 : co (nI 0).toNatClampNeg = nI (D 0 0) := hc 0 (by decide)
  have c1 : co (nI 1).toNatClampNeg = nI (D 0 1) := hc 1 (by decide)
  unfold bs_cs at h
  refine ⟨3, ?_⟩
  show wX_cheapestStart_4 post s0 s1 s2 s3 s4 s5 s6 s7 s8 s9 s10 cap msc tl sl st rl mo ck te sy sp re co va (2 + 1) (nI 0) (nI 1)
  refine pk_lt 2 1 (fun h => ?_) (fun _ => ?_)
  · omega
  refine ⟨vp_in_nI (by omega) (by decide), vp_in_nI (by omega) (by decide), pk_le (D 0 0) (D 0 1) (fun g => ?_) (fun g => ?_) c0 c1⟩
  · refine nm_r (e' := nI 2) (nI_1 1) (bs_xcs2 (by decide) hc hD ?_)
    have e : bs_cs1 D = 0 := by unfold bs_cs1; rw [if_pos g]
    rw [e] at h
    exact h
  · refine nm_r (e' := nI 2) (nI_1 1) (bs_xcs2 (by decide) hc hD ?_)
    have e : bs_cs1 D = 1 := by unfold bs_cs1; rw [if_neg (by omega)]
    rw [e] at h
    exact h
theorem bs_xsv3 {post : Int32 → Prop} {p m r t : Nat} (hL : L ≤ 24) (hp : p ≤ L) (hm : m < 5) (ht : ∀ i, i < L → te i = nI (T i) ∧ T i ≤ 128) (h102 : t ≤ 102)
    (h1 : ∀ v, v < t → ¬ bs_ca1 co (bs_ed T L p m v) = nI r) (h2 : bs_ca1 co (bs_ed T L p m t) = nI r) (h : post (nI t)) :
    ∀ d v, v + d = t → wX_smallestValue_3 post (nI p) (nI m) (nI r) s0 s1 s2 s3 s4 s5 s6 s7 s8 s9 s10 cap msc (nI L) sl st rl mo ck te sy sp re co va (d + 1) (nI v) := by
  intro d
  induction d with
  | zero =>
    intro v hv
    have e : v = t := by omega
    subst e
    refine pk_le 102 v (fun g => ?_) (fun g => ?_)
    · have e : v = 102 := by omega
      subst e
      exact h
    · exact bs_xca hL hp hm (by omega) ht (br_t h2 h)
  | succ d ih =>
    intro v hv
    refine pk_le 102 v (fun g => ?_) (fun g => ?_)
    · omega
    · exact bs_xca hL hp hm (by omega) ht (br_f (h1 v (by omega)) (nm_r (e' := nI (v + 1)) (nI_1 v) (ih (v + 1) (by omega))))
theorem bs_xsv {post : Int32 → Prop} {p m r t : Nat} (hL : L ≤ 24) (hp : p ≤ L) (hm : m < 5) (ht : ∀ i, i < L → te i = nI (T i) ∧ T i ≤ 128) (h102 : t ≤ 102)
    (h1 : ∀ v, v < t → ¬ bs_ca1 co (bs_ed T L p m v) = nI r) (h2 : bs_ca1 co (bs_ed T L p m t) = nI r) (h : post (nI t)) : wpX_smallestValue post (s0, s1, s2, s3, s4, s5, s6, s7, s8, s9, s10, cap, msc, nI L, sl, st, rl, mo, ck, te, sy, sp, re, co, va) (nI p) (nI m) (nI r) :=
  ⟨t + 1, bs_xsv3 hL hp hm ht h102 h1 h2 h t 0 (by omega)⟩
theorem bs_sub1 (n : Nat) : nI n + (-1) = nI n - 1 := by rw [Int32.sub_eq_add_neg]
theorem bs_xad14 {post : SX → Prop} (hL : L ≤ 24) (ht : ∀ i, i < L → te i = nI (T i) ∧ T i ≤ 128) (g : ∀ q, q ≤ L → bs_G T L D q) (hc : ∀ q, q ≤ L → ∀ m, m < 5 → co (q * 5 + m) = nI (D q m)) (pa : bs_Pa T L D N gp gm gv)
    (K : post (s0, s1, s2, s3, s4, s5, s6, s7, s8, s9, s10, cap, msc, nI L, nI (N + 1), st, rl, mo, ck, te, bs_sq sy (bs_sv gm gv) N, sp, re, co, va)) :
    ∀ d t, t + d = N → wX_appendData_14 post s0 s1 s2 s3 s4 s5 s6 s7 s8 s9 s10 cap msc (nI L) st rl (d + 1) (nI (gp t)) (nI (gm t)) (nI d - 1) (nI (t + 1)) mo ck te (bs_sq sy (bs_sv gm gv) t) sp re co va := by
  obtain ⟨p1, p2, p3, p4, p5, p6⟩ := pa
  have hT : ∀ i, i < L → T i ≤ 128 := fun i hi => (ht i hi).2
  intro d
  induction d with
  | zero =>
    intro t hd
    have e : t = N := by omega
    subst e
    exact br_t (by decide) K
  | succ d ih =>
    intro t hd
    obtain ⟨q1, q2, q3⟩ := p5 t (by omega)
    obtain ⟨r1, r2, r3⟩ := p6 t (by omega)
    have ok := bs_ed_some hT q2 r1 q1 r2
    have q3' := (p5 (t + 1) (by omega)).2.2
    have gl := g _ q1
    rw [nI_pred d]
    refine br_f (nI_pos (by omega)) (pk_le 37 (t + 1) (fun z => ?_) (fun z => ?_))
    · omega
    refine bs_xsv (t := gv t) hL q1 q2 ht (by omega) ?_ ?_ ?_
    · intro v hv
      cases e : bs_ed T L (gp t) (gm t) v with
      | none =>
        show ¬ nI 1000 = nI d
        rw [nI_eq (by decide) (by omega)]
        omega
      | some s =>
        obtain ⟨q, k⟩ := s
        have ok2 := bs_ed_some hT q2 (by omega) q1 e
        have r4 := r3 v hv q k e
        show ¬ co (q * 5 + k) = nI d
        have g6 := (g q ok2.2.2.2.2.1).2.2.2.2.2.2 k ok2.2.2.2.1
        rw [hc q ok2.2.2.2.2.1 k ok2.2.2.2.1, nI_eq (by omega) (by omega)]
        omega
    · rw [r2]
      show co (gp (t + 1) * 5 + gm (t + 1)) = nI d
      rw [hc _ ok.2.2.2.2.1 _ ok.2.2.2.1]
      have : D (gp (t + 1)) (gm (t + 1)) = d := by omega
      rw [this]
    · have e : (nI (t + 1)).toNatClampNeg = t + 1 := nI_clamp (by omega)
      refine ⟨vp_in_nI (by omega) (by decide), nm_r (e' := bs_sq sy (bs_sv gm gv) (t + 1)) (by rw [e]; exact bs_sq_s) (nm_r (e' := nI (t + 1 + 1)) (nI_1 (t + 1)) ?_)⟩
      refine bs_xwr q2 (by omega) (nm_r (e' := nI (gp (t + 1))) (by rw [nI_add, ← ok.2.1]) ?_)
      refine bs_xnm q2 (by omega) ?_
      have e2 := bs_c2 _ q2 _ r1 ok.1
      rw [e2.1, ← ok.2.2.1]
      exact nm_r (bs_sub1 d) (ih (t + 1) (by omega))
theorem bs_xad {post : SX → Prop} (hL : L ≤ 24) (ht : ∀ i, i < L → te i = nI (T i) ∧ T i ≤ 128) (g : ∀ q, q ≤ L → bs_G T L D q) (hc : ∀ q, q ≤ L → ∀ m, m < 5 → co (q * 5 + m) = nI (D q m)) (pa : bs_Pa T L D N gp gm gv)
    (K : post (s0, s1, s2, s3, s4, s5, s6, s7, s8, s9, s10, cap, msc, nI L, nI (N + 1), st, rl, mo, ck, te, bs_sq sy (bs_sv gm gv) N, sp, re, co, va)) :
    wpX_appendData post (s0, s1, s2, s3, s4, s5, s6, s7, s8, s9, s10, cap, msc, nI L, nI 1, st, rl, mo, ck, te, bs_sq sy (bs_sv gm gv) 0, sp, re, co, va) (nI (bs_cs D)) := by
  have cs := (bs_cs_r D).1
  have e : (nI (bs_cs D)).toNatClampNeg = bs_cs D := nI_clamp (by omega)
  have h := bs_xad14 hL ht g hc pa K N 0 (by omega)
  have pa' := pa
  obtain ⟨p1, p2, p3, p4, p5, p6⟩ := pa'
  rw [p1, p2] at h
  have c0 : co (bs_cs D) = nI N := by
    have := hc 0 (Nat.zero_le L) (bs_cs D) (by omega)
    rw [Nat.zero_mul, Nat.zero_add] at this
    rw [this, p3]
  exact ⟨vp_in_nI (by omega) (by decide), nm_r (e' := nI N - 1) (by rw [e, c0]) ⟨N + 1, h⟩⟩
theorem bs_xcq9 {post : SX → Prop} {s : Nat → Nat} (hN : N ≤ 36) (hs : ∀ q, q ≤ N → s q ≤ 106)
    (K : post (s0, s1, s2, s3, s4, s5, s6, s7, s8, s9, s10, cap, msc, tl, nI (N + 3), st, rl, mo, ck, te, bs_fs sy s N, sp, re, co, va)) :
    ∀ d j, j + d = N → wX_appendCheckAndStop_9 post s0 s1 s2 s3 s4 s5 s6 s7 s8 s9 s10 cap msc tl (nI (N + 1)) st rl mo ck te (bs_sq sy s N) sp re co va (d + 1) (nI (bs_sm s j)) (nI (j + 1)) := by
  intro d
  induction d with
  | zero =>
    intro j hj
    have e : j = N := by omega
    subst e
    have b := bs_sm_le j (by omega) hs
    have e1 : (nI (j + 1)).toNatClampNeg = j + 1 := nI_clamp (by omega)
    have e2 : (nI (j + 1) + 1).toNatClampNeg = j + 1 + 1 := by rw [nI_1]; exact nI_clamp (by omega)
    refine br_t (nI_le (Nat.le_refl _) (by omega)) ⟨by decide, vp_in_nI (by omega) (by decide), nm_r (e' := upd (bs_sq sy s j) (j + 1) (nI (bs_sm s j % 103))) ?_ ⟨by rw [nI_1]; exact vp_in_nI (by omega) (by decide), nm_r (e' := bs_fs sy s j) ?_ (nm_r (e' := nI (j + 3)) (nI_add (j + 1) 2) K)⟩⟩
    · rw [e1]
      exact congrArg _ (pk_rem (d := 103) (by omega) (by decide) (by decide))
    · rw [e2]; rfl
  | succ d ih =>
    intro j hj
    have e1 : (nI (j + 1)).toNatClampNeg = j + 1 := nI_clamp (by omega)
    refine br_f (nI_ge (by omega) (by omega)) ⟨vp_in_nI (by omega) (by decide), nm_r (e' := nI (bs_sm s (j + 1))) ?_ (nm_r (e' := nI (j + 1 + 1)) (nI_1 (j + 1)) (ih (j + 1) (by omega)))⟩
    rw [e1, bs_sq_le (by omega), pk_mul, nI_add]
    rfl
theorem bs_xcq {post : SX → Prop} {s : Nat → Nat} (hN : N ≤ 36) (hs : ∀ q, q ≤ N → s q ≤ 106)
    (K : post (s0, s1, s2, s3, s4, s5, s6, s7, s8, s9, s10, cap, msc, tl, nI (N + 3), st, rl, mo, ck, te, bs_fs sy s N, sp, re, co, va)) : wpX_appendCheckAndStop post (s0, s1, s2, s3, s4, s5, s6, s7, s8, s9, s10, cap, msc, tl, nI (N + 1), st, rl, mo, ck, te, bs_sq sy s N, sp, re, co, va) :=
  nm_r (e' := nI (bs_sm s 0)) (bs_sq_le (Nat.zero_le N)) ⟨N + 1, bs_xcq9 hN hs K N 0 (by omega)⟩
theorem bs_sv_le (pa : bs_Pa T L D N gp gm gv) : ∀ q, q ≤ N → bs_sv gm gv q ≤ 106 := by
  obtain ⟨p1, p2, p3, p4, p5, p6⟩ := pa
  intro q hq
  cases q with
  | zero =>
    have := (bs_cs_r D).1
    show 103 + gm 0 ≤ 106
    omega
  | succ q =>
    have := (p6 q (by omega)).1
    show gv q ≤ 106
    omega
/-- X's encode -/
theorem bs_xen {post : Int32 → SX → Prop} (hL : L ≤ 24) (ht : ∀ i, i < L → te i = nI (T i) ∧ T i ≤ 128)
    (K : ∀ D N gp gm gv c, (∀ q, q ≤ L → bs_G T L D q) → bs_Pa T L D N gp gm gv → post (nI (N + 3)) (s0, s1, s2, s3, s4, s5, s6, s7, s8, s9, s10, cap, msc, nI L, nI (N + 3), st, rl, mo, ck, te, bs_fs sy (bs_sv gm gv) N, sp, re, c, va)) :
    wpX_encode post (s0, s1, s2, s3, s4, s5, s6, s7, s8, s9, s10, cap, msc, nI L, sl, st, rl, mo, ck, te, sy, sp, re, co, va) := by
  have hT : ∀ i, i < L → T i ≤ 128 := fun i hi => (ht i hi).2
  refine ⟨L + 2, bs_xe5 hL ht (fun D c g hc => ?_) L (Nat.le_refl L) (fun _ _ => 0) co (fun q h1 h2 => by omega) (fun q h1 h2 => by omega)⟩
  obtain ⟨N, gp, gm, gv, pa⟩ := bs_Pex hT hL g
  have hc3 : ∀ m, m < 3 → c m = nI (D 0 m) := by
    intro m hm
    have := hc 0 (Nat.zero_le L) m (by omega)
    rw [Nat.zero_mul, Nat.zero_add] at this
    exact this
  refine br_t (by decide) ?_
  refine bs_xcs hc3 (g 0 (Nat.zero_le L)).2.2.2.2.2.1 ?_
  refine nm_r (e' := bs_sq sy (bs_sv gm gv) 0) ?_ ?_
  · rw [← bs_sq_0]
    show upd sy 0 (103 + nI (bs_cs D)) = upd sy 0 (nI (103 + gm 0))
    rw [pa.2.1, ← nI_add]
    rfl
  · refine bs_xad hL ht g hc pa ?_
    refine bs_xcq pa.2.2.2.1 (bs_sv_le pa) ?_
    exact K D N gp gm gv c g pa
end
end
section
/-! Y's small readers, its list -/
section
variable {cap msc tl sl st rl li : Int32} {te sy sp re pa xx ap am fr wd : Nat → Int32}
theorem bs_ye1 {post : Int32 → Prop} {m v : Nat} (hm : m < 5) (hv : v < 1000) (h : post (bs_oI (bs_e1 m v))) : wY_emit_120 post (nI m) (nI v) cap msc tl sl st rl li te sy sp re pa xx ap am fr wd :=
  bs_oeq v 101 h (fun _ h => bs_oeq m 0 h (fun _ h => h) fun _ h => h) fun _ h => h
theorem bs_ye5 {post : Int32 → Prop} {v z : Nat} (hz : z < 5) (hv : v < 1000) (h : post (bs_oI (bs_e5 v z))) : wY_emit_55 post (nI v) (nI z) cap msc tl sl st rl li te sy sp re pa xx ap am fr wd :=
  bs_oeq z 0 h (fun _ h => bs_at (nI_add v 32) h) fun _ h =>
    bs_olt v 64 h (fun _ h => bs_at (nI_add v 32) h) fun _ h => bs_at (pk_sub (b := 64) (by omega)) h
theorem bs_yem {post : Int32 → Prop} {m v : Nat} (hm : m < 5) (hv : v < 1000) (h : post (bs_oI (bs_em m v))) : wpY_emit post (cap, msc, tl, sl, st, rl, li, te, sy, sp, re, pa, xx, ap, am, fr, wd) (nI m) (nI v) :=
  bs_oeq m 2 h
    (fun _ h => bs_ole 100 v h (fun _ h => bs_oeq v 102 h (fun _ h => h) fun _ h => h) fun _ h => bs_at (nI_add 1000 v) h)
    fun _ h => bs_olt 95 v h
      (fun _ h => bs_ole 3 m h (fun _ h => h) fun _ h => bs_oeq v 96 h (fun _ h => h) fun _ h => bs_oeq v 97 h (fun _ h => h) fun _ h =>
        bs_oeq v 102 h (fun _ h => h) fun _ h => bs_oeq v 100 h (fun _ h => bs_oeq m 1 h (fun _ h => h) fun _ h => bs_ye1 hm hv h) fun _ h => bs_ye1 hm hv h)
      fun _ h => bs_oeq m 0 h (fun _ h => bs_ye5 (z := 1) (by omega) hv h) fun _ h => bs_oeq m 4 h (fun _ h => bs_ye5 (z := 1) (by omega) hv h) fun _ h => bs_ye5 (z := 0) (by omega) hv h
theorem bs_ya4 {post : Int32 → Prop} {m v : Nat} (hv : v < 1000) (h : post (nI (bs_a4 m v))) : wY_after_40 post (nI m) (nI v) cap msc tl sl st rl li te sy sp re pa xx ap am fr wd :=
  bs_neq v 99 h (fun _ h => h) fun _ h => h
theorem bs_yaf {post : Int32 → Prop} {m v : Nat} (hm : m < 5) (hv : v < 1000) (h : post (nI (bs_af m v))) : wpY_after post (cap, msc, tl, sl, st, rl, li, te, sy, sp, re, pa, xx, ap, am, fr, wd) (nI m) (nI v) :=
  bs_nlt m 3 h (fun _ h => bs_neq v 100 h (fun _ h => h) fun _ h => bs_neq v 101 h (fun _ h => h) fun _ h =>
      bs_nle 2 m h (fun _ h => bs_ya4 hv h) fun _ h => bs_neq v 98 h (fun _ h => bs_at (nI_add m 3) h) fun _ h => bs_ya4 hv h)
    fun _ h => bs_at (pk_sub (b := 3) (by omega)) h
end
section
variable {cap msc tl sl st rl li : Int32} {te sy sp re pa xx ap am fr wd : Nat → Int32}
variable {T : Nat → Nat} {L : Nat}
theorem bs_ymt {post : Int32 → Prop} {p : Nat} {o : Option Nat} (hL : L ≤ 24) (hp : p ≤ L) (ho : ∀ e, o = some e → e < 2000) (ht : ∀ i, i < L → te i = nI (T i) ∧ T i ≤ 128) (h : post (bs_oI (bs_mt T L p o))) : wpY_match post (cap, msc, nI L, sl, st, rl, li, te, sy, sp, re, pa, xx, ap, am, fr, wd) (nI p) (bs_oI o) := by
  unfold wpY_match
  dsimp only
  cases o with
  | none => exact br_f bs_n1' h
  | some e =>
    have he := ho e rfl
    refine br_t (nI_pos' (by omega)) ?_
    have e0 : (nI p).toNatClampNeg = p := nI_clamp (by omega)
    have e1 : (nI p + 1).toNatClampNeg = p + 1 := by rw [nI_1]; exact nI_clamp (by omega)
    refine bs_oeq e 200 h (fun _ h => h) fun _ h => ?_
    refine bs_ole 1000 e h (fun h1000 h => ?_) fun _ h => ?_
    · have es : bs_oI (some e) - 1000 = nI (e - 1000) := pk_sub (b := 1000) h1000
      refine bs_olt (p + 1) L h (fun hl h => ?_) (fun _ h => h) (nI_1 p)
      have d0 : (48 : Int32) + (bs_oI (some e) - 1000) / 10 = nI (48 + (e - 1000) / 10) := by
        rw [es, show (10 : Int32) = nI 10 from rfl, pk_div (by omega) (by decide) (by decide), show (48 : Int32) = nI 48 from rfl, nI_add]
      have d1 : (48 : Int32) + ((bs_oI (some e) - 1000) - (bs_oI (some e) - 1000) / 10 * 10) = nI (48 + (e - 1000) % 10) := by
        rw [es, show (10 : Int32) = nI 10 from rfl, pk_rem (by omega) (by decide) (by decide), show (48 : Int32) = nI 48 from rfl, nI_add]
      have t0 := ht p (by omega)
      have t1 := ht (p + 1) hl
      refine ⟨vp_in_nI (by omega) (by decide), by decide, ?_⟩
      refine bs_oeq (T p) (48 + (e - 1000) / 10) h (fun _ h => ?_) (fun _ h => h) (by rw [e0, t0.1]) d0
      refine ⟨by rw [nI_1]; exact vp_in_nI (by omega) (by decide), by decide, ?_⟩
      refine bs_oeq (T (p + 1)) (48 + (e - 1000) % 10) h (fun _ h => ?_) (fun _ h => h) (by rw [e1, t1.1]) d1
      exact bs_at (nI_add p 2) h
    · refine bs_ole L p h (fun _ h => h) fun hl h => ?_
      have t0 := ht p (by omega)
      refine ⟨vp_in_nI (by omega) (by decide), ?_⟩
      exact bs_oeq (T p) e h (fun _ h => bs_at (nI_1 p) h) (fun _ h => h) (by rw [e0, t0.1])
theorem bs_yl3 {post : SY → Prop} {p m n : Nat} {f w : Int32} {P M : Nat → Nat} (hn : n ≤ 125) (hp : p < 2 ^ 31) (hm : m < 2 ^ 31) (hq : ∀ q, q < n → ap q = nI (P q) ∧ am q = nI (M q) ∧ P q < 2 ^ 31 ∧ M q < 2 ^ 31)
    (Ki : ∀ q, q < n → P q = p → M q = m → post (cap, msc, tl, sl, st, rl, nI n, te, sy, sp, re, pa, xx, ap, am, fr, wd)) (Ko : (∀ q, q < n → ¬ (P q = p ∧ M q = m)) → wY_list_48 post (nI p) (nI m) f w cap msc tl sl st rl (nI n) te sy sp re pa xx ap am fr wd) :
    ∀ d x, x + d = n → (∀ q, q < x → ¬ (P q = p ∧ M q = m)) → wY_list_3 post (nI p) (nI m) f w cap msc tl sl st rl (nI n) te sy sp re pa xx ap am fr wd (d + 1) (nI x) := by
  intro d
  induction d with
  | zero =>
    intro x hx h
    have e : x = n := by omega
    subst e
    exact br_t (nI_le (Nat.le_refl _) (by omega)) (Ko h)
  | succ d ih =>
    intro x hx h
    have e0 : (nI x).toNatClampNeg = x := nI_clamp (by omega)
    obtain ⟨a1, a2, a3, a4⟩ := hq x (by omega)
    have V : vp_in (nI x) 125 := vp_in_nI (by omega) (by decide)
    refine br_f (nI_ge (by omega) (by omega)) (br_f (nI_ge (b := 125) (by omega) (by decide)) ⟨V, ?_⟩)
    refine pk_eq (P x) p (fun g => ⟨V, pk_eq (M x) m (fun g2 => Ki x (by omega) g g2) (fun g2 => ?_) (by rw [e0, a2])⟩) (fun g => ?_) (by rw [e0, a1])
    · refine nm_r (e' := nI (x + 1)) (nI_1 x) (ih (x + 1) (by omega) fun q hq' => ?_)
      by_cases z : q = x
      · rw [z]; exact fun y => g2 y.2
      · exact h q (by omega)
    · refine nm_r (e' := nI (x + 1)) (nI_1 x) (ih (x + 1) (by omega) fun q hq' => ?_)
      by_cases z : q = x
      · rw [z]; exact fun y => g y.1
      · exact h q (by omega)
theorem bs_yli {post : SY → Prop} {p m n : Nat} {f w : Int32} {P M : Nat → Nat} (hn : n ≤ 125) (hp : p < 2 ^ 31) (hm : m < 2 ^ 31) (hq : ∀ q, q < n → ap q = nI (P q) ∧ am q = nI (M q) ∧ P q < 2 ^ 31 ∧ M q < 2 ^ 31)
    (Ki : ∀ q, q < n → P q = p → M q = m → post (cap, msc, tl, sl, st, rl, nI n, te, sy, sp, re, pa, xx, ap, am, fr, wd)) (Kr : (∀ q, q < n → ¬ (P q = p ∧ M q = m)) → n < 125)
    (Ko : (∀ q, q < n → ¬ (P q = p ∧ M q = m)) → post (cap, msc, tl, sl, st, rl, nI (n + 1), te, sy, sp, re, pa, xx, upd ap n (nI p), upd am n (nI m), upd fr n f, upd wd n w)) :
    wpY_list post (cap, msc, tl, sl, st, rl, nI n, te, sy, sp, re, pa, xx, ap, am, fr, wd) (nI p) (nI m) f w := by
  refine ⟨n + 1, bs_yl3 hn hp hm hq Ki (fun h => ?_) n 0 (by omega) fun q hq' => by omega⟩
  have hr := Kr h
  have V : vp_in (nI n) 125 := vp_in_nI hr (by decide)
  have e0 : (nI n).toNatClampNeg = n := nI_clamp (by omega)
  unfold wY_list_48
  exact br_t (nI_lt (b := 125) hr (by decide)) ⟨V, nm_r (e' := upd ap n (nI p)) (by rw [e0]) ⟨V, nm_r (e' := upd am n (nI m)) (by rw [e0]) ⟨V, nm_r (e' := upd fr n f) (by rw [e0]) ⟨V, nm_r (e' := upd wd n w) (by rw [e0]) (nm_r (e' := nI (n + 1)) (nI_1 n) (Ko h))⟩⟩⟩⟩
end
end
section
/-! Y's search, its way back, its check -/
section
variable {cap msc tl sl st rl li : Int32} {te sy sp re pa xx ap am fr wd : Nat → Int32}
variable {T : Nat → Nat} {L : Nat} {D : Nat → Nat → Nat} {N : Nat} {gp gm gv : Nat → Nat}
theorem bs_y78 {post : Int32 → SY → Prop} {J : Int32 → Int32 → Int32 → Int32 → Int32 → Int32 → Int32 → Int32 → Int32 → (Nat → Int32) → (Nat → Int32) → (Nat → Int32) → (Nat → Int32) → (Nat → Int32) → (Nat → Int32) → (Nat → Int32) → (Nat → Int32) → (Nat → Int32) → (Nat → Int32) → Prop} {k : Nat} (hL : L ≤ 24) (ht : ∀ i, i < L → te i = nI (T i) ∧ T i ≤ 128) (g : ∀ q, q ≤ L → bs_G T L D q) (pth : bs_Pa T L D N gp gm gv)
    (K : ∀ (n : Nat) (ap am fr wd : Nat → Int32) (P M lev pi : Nat → Nat) (i : Nat), bs_B T L D N gp gm gv ap am fr wd n P M lev pi i k → k ≠ pi i → J (-1) (nI (k + 1)) cap msc (nI L) sl st rl (nI n) te sy sp re pa xx ap am fr wd) :
    ∀ d v, v + d = 103 → ∀ (n : Nat) (ap am fr wd : Nat → Int32) (P M lev pi : Nat → Nat) (i : Nat), bs_B T L D N gp gm gv ap am fr wd n P M lev pi i k → (k = pi i → i < N ∧ v ≤ gv i) →
    wY_encode_78 post J (-1) (nI k) (d + 1) (nI v) cap msc (nI L) sl st rl (nI n) te sy sp re pa xx ap am fr wd := by
  have hT : ∀ i, i < L → T i ≤ 128 := fun i hi => (ht i hi).2
  intro d
  induction d with
  | zero =>
    intro v hv n ap am fr wd P M lev pi i b hm
    refine pk_lt 102 v (fun _ => nm_r (e' := nI (k + 1)) (nI_1 k) (K n ap am fr wd P M lev pi i b fun e => ?_)) (fun h => ?_)
    · have h1 := hm e
      have h2 := (pth.2.2.2.2.2 i h1.1).1
      omega
    · omega
  | succ d ih =>
    intro v hv n ap am fr wd P M lev pi i b hm
    have bb := b
    obtain ⟨b1, b2, b3, b4, b5, b6, b7, b8, b9, b10, b12⟩ := bb
    have bi := b8 i (Nat.le_refl i)
    have hk : k < n := by omega
    obtain ⟨k1, k2, k3, k4⟩ := b2 k hk
    have e0 : (nI k).toNatClampNeg = k := nI_clamp (by omega)
    have ea : am (nI k).toNatClampNeg = nI (M k) := by rw [e0, k2]
    have ep : ap (nI k).toNatClampNeg = nI (P k) := by rw [e0, k1]
    have V : vp_in (nI k) 125 := vp_in_nI (by omega) (by decide)
    have tie := bs_tie (T := T) (L := L) (p := P k) (m := M k) (v := v) (hT (P k)) k4 (by omega)
    -- the path's own value gives an edge
    have own : k = pi i → v = gv i → bs_ed T L (P k) (M k) v = some (gp (i + 1), gm (i + 1)) := by
      intro z1 z2
      have := (pth.2.2.2.2.2 i (hm z1).1).2.1
      rw [z1, bi.2.1, bi.2.2.1, z2]
      exact this
    have NX : (k = pi i → v ≠ gv i) → wY_encode_78 post J (-1) (nI k) (d + 1) (nI (v + 1)) cap msc (nI L) sl st rl (nI n) te sy sp re pa xx ap am fr wd := by
      intro hne
      refine ih (v + 1) (by omega) n ap am fr wd P M lev pi i b fun z => ?_
      have h1 := hm z
      have h2 := hne z
      exact ⟨h1.1, by omega⟩
    have ho : ∀ e, bs_em (M k) v = some e → e < 2000 := by
      intro e he
      by_cases hn : bs_nm (M k) v = none
      · rw [bs_c1 _ k4 v (by omega) hn] at he; cases he
      · rcases bs_c6 (M k) v with w | w | w
        · rw [bs_c3 _ k4 v (by omega) hn w] at he
          cases he; decide
        · have h4 := bs_c4 _ k4 v (by omega) hn w
          rw [h4.1] at he
          cases he
          omega
        · have h5 := bs_c5 _ k4 v (by omega) w
          rw [h5.1] at he
          cases he
          omega
    refine pk_lt 102 v (fun h => ?_) (fun h => ?_)
    · omega
    refine br_f bs_n1' ⟨V, ?_⟩
    rw [ea, ep]
    refine bs_yem k4 (by omega) ⟨V, ?_⟩
    refine bs_ymt hL k3 ho ht ⟨V, ?_⟩
    refine bs_yaf k4 (by omega) ?_
    cases hmt : bs_mt T L (P k) (bs_em (M k) v) with
    | none =>
      rw [hmt] at tie
      refine br_t bs_n1 (nm_r (e' := nI (v + 1)) (nI_1 v) (NX fun z1 z2 => ?_))
      have := own z1 z2
      rw [tie] at this
      cases this
    | some p =>
      rw [hmt] at tie
      have he : bs_ed T L (P k) (M k) v = some (p, bs_af (M k) v) := tie
      have ok := bs_ed_some hT k4 (by omega) k3 he
      refine br_f (nI_pos (by omega)) ?_
      refine bs_yli (P := P) (M := M) b1 (by omega) (by omega) (fun q hq => ?_) (fun q hq z1 z2 => ?_) (fun h => ?_) fun h => ?_
      · have := b2 q hq
        exact ⟨this.1, this.2.1, by omega, by omega⟩
      · refine nm_r (e' := nI (v + 1)) (nI_1 v) (NX fun y1 y2 => ?_)
        have o := own y1 y2
        rw [he] at o
        have o' := Option.some.inj o
        have o1 : p = gp (i + 1) := congrArg Prod.fst o'
        have o2 : bs_af (M k) v = gm (i + 1) := congrArg Prod.snd o'
        exact bs_fresh pth b y1 (hm y1).1 q hq ⟨by rw [z1, o1], by rw [z2, o2]⟩
      · exact bs_room hL ok.2.2.2.2.1 ok.2.2.2.1 b h
      · have hr := bs_room hL ok.2.2.2.2.1 ok.2.2.2.1 b h
        obtain ⟨pi', i', b', m'⟩ := bs_push hT g pth b (by omega) hm he h hr
        exact nm_r (e' := nI (v + 1)) (nI_1 v) (ih (v + 1) (by omega) (n + 1) _ _ _ _ _ _ _ pi' i' b' m')
theorem bs_y33 {post : Int32 → SY → Prop} (hL : L ≤ 24) (ht : ∀ i, i < L → te i = nI (T i) ∧ T i ≤ 128) (g : ∀ q, q ≤ L → bs_G T L D q) (pth : bs_Pa T L D N gp gm gv)
    (K : ∀ (n : Nat) (ap am fr wd : Nat → Int32) (P M lev pi : Nat → Nat) (k : Nat), bs_B T L D N gp gm gv ap am fr wd n P M lev pi N k → ∃ n162, wY_encode_162 post (nI (pi N)) cap msc (nI L) sl st rl (nI n) te sy sp re pa xx ap am fr wd n162 0 (nI (pi N)) 0) :
    ∀ d k, k + d = 125 → ∀ (n : Nat) (ap am fr wd : Nat → Int32) (P M lev pi : Nat → Nat) (i : Nat), bs_B T L D N gp gm gv ap am fr wd n P M lev pi i k →
    wY_encode_33 post (d + 1) (-1) (nI k) cap msc (nI L) sl st rl (nI n) te sy sp re pa xx ap am fr wd := by
  intro d
  induction d with
  | zero =>
    intro k hk n ap am fr wd P M lev pi i b
    obtain ⟨b1, b2, b3, b4, b5, b6, b7, b8, b9, b10, b12⟩ := b
    have bi := b8 i (Nat.le_refl i)
    omega
  | succ d ih =>
    intro k hk n ap am fr wd P M lev pi i b
    have bb := b
    obtain ⟨b1, b2, b3, b4, b5, b6, b7, b8, b9, b10, b12⟩ := bb
    have bi := b8 i (Nat.le_refl i)
    have hk : k < n := by omega
    obtain ⟨k1, k2, k3, k4⟩ := b2 k hk
    have e0 : (nI k).toNatClampNeg = k := nI_clamp (by omega)
    have V : vp_in (nI k) 125 := vp_in_nI (by omega) (by decide)
    have go := bs_goal g pth b
    have IN : ¬ (k = pi i ∧ i = N) → ∃ n78, wY_encode_78 post (wY_encode_33 post (d + 1)) (-1) (nI k) n78 0 cap msc (nI L) sl st rl (nI n) te sy sp re pa xx ap am fr wd := by
      intro hne
      refine ⟨104, bs_y78 hL ht g pth (fun n ap am fr wd P M lev pi i b hb => ?_) 103 0 (by omega) n ap am fr wd P M lev pi i b fun z => ?_⟩
      · exact ih (k + 1) (by omega) n ap am fr wd P M lev pi i (bs_next b hb)
      · have h1 : i ≠ N := fun y => hne ⟨z, y⟩
        exact ⟨by omega, Nat.zero_le _⟩
    refine br_f (nI_ge (by omega) (by omega)) (br_f (nI_ge (b := 125) (by omega) (by decide)) (br_f bs_n1' ⟨V, ?_⟩))
    refine pk_eq (P k) L (fun h1 => ⟨V, ?_⟩) (fun h1 => ?_) (by rw [e0, k1])
    · refine pk_le 3 (M k) (fun h2 => ?_) (fun h2 => ?_) rfl (by rw [e0, k2])
      · exact IN fun z => by have := (go.mpr z).2; omega
      · obtain ⟨z1, z2⟩ := go.mp ⟨h1, h2⟩
        subst z2
        have E := K n ap am fr wd P M lev pi k b
        rw [← z1] at E
        have P0 : (0 : Int32) ≤ nI k := nI_pos' (by omega)
        refine ⟨1, br_f (by decide) (br_t P0 (nm_r (e' := nI (k + 1)) (nI_1 k) ?_))⟩
        exact br_c (fun _ => E) fun _ => br_c (fun _ => E) fun _ => br_t P0 E
    · exact IN fun z => h1 (go.mpr z).1
theorem bs_y162 {post : Int32 → SY → Prop} {x1 : Int32} {pi : Nat → Nat} (hN : N ≤ 36) (h1 : ∀ j, j ≤ N → pi j < 125) (h2 : ∀ j, j < N → fr (pi (j + 1)) = nI (pi j)) (h3 : fr (pi 0) = -1)
    (K : ∃ n196, wY_encode_196 post (nI (N + 1)) cap msc tl sl st rl li n196 x1 (nI N) te sy sp re pa xx ap am fr wd) :
    ∀ j, j ≤ N → wY_encode_162 post x1 cap msc tl sl st rl li te sy sp re pa xx ap am fr wd (j + 2) (nI (N - j)) (nI (pi j)) (nI (N - j)) := by
  intro j
  induction j with
  | zero =>
    intro hj
    have h := h1 0 hj
    have e0 : (nI (pi 0)).toNatClampNeg = pi 0 := nI_clamp (by omega)
    rw [Nat.sub_zero]
    refine br_f (nI_ge (b := 40) (by omega) (by decide)) (br_f (nI_pos (by omega)) (nm_r (e' := nI (N + 1)) (nI_1 N) ⟨vp_in_nI h (by decide), nm_r (e' := -1) (by rw [e0, h3]) (nm_r (e' := nI (N + 1)) (nI_1 N) ?_)⟩))
    exact br_f (nI_ge (b := 40) (by omega) (by decide)) (br_t bs_n1 (nm_r (e' := nI N) (nI_pred N) K))
  | succ j ih =>
    intro hj
    have h := h1 (j + 1) hj
    have e0 : (nI (pi (j + 1))).toNatClampNeg = pi (j + 1) := nI_clamp (by omega)
    have I := ih (by omega)
    have e1 : N - j = N - (j + 1) + 1 := by omega
    rw [e1] at I
    exact br_f (nI_ge (b := 40) (by omega) (by decide)) (br_f (nI_pos (by omega)) (nm_r (e' := nI (N - (j + 1) + 1)) (nI_1 _) ⟨vp_in_nI h (by decide), nm_r (e' := nI (pi j)) (by rw [e0, h2 j (by omega)]) (nm_r (e' := nI (N - (j + 1) + 1)) (nI_1 _) I)⟩))
theorem bs_y196 {post : Int32 → SY → Prop} {pi s : Nat → Nat} (hN : N ≤ 36) (h1 : ∀ j, j ≤ N → pi j < 125) (h2 : ∀ j, j < N → fr (pi (j + 1)) = nI (pi j)) (h3 : fr (pi 0) = -1) (h4 : ∀ j, j ≤ N → wd (pi j) = nI (s j))
    (K : ∃ n242, wY_encode_242 post (nI (N + 1)) cap msc tl sl st rl li te (bs_sq sy s N) sp re pa xx ap am fr wd n242 (nI (s 0)) 1) :
    ∀ j, j ≤ N → ∀ c : Nat → Int32, (∀ q, c q = if j < q ∧ q ≤ N then nI (s q) else sy q) → wY_encode_196 post (nI (N + 1)) cap msc tl sl st rl li (j + 2) (nI (pi j)) (nI j) te c sp re pa xx ap am fr wd := by
  intro j
  induction j with
  | zero =>
    intro hj c hc
    have h := h1 0 hj
    have e0 : (nI (pi 0)).toNatClampNeg = pi 0 := nI_clamp (by omega)
    have ec : upd c 0 (nI (s 0)) = bs_sq sy s N := by
      funext q
      unfold bs_sq upd
      by_cases z : q = 0
      · rw [if_pos z, if_pos (by omega), z]
      · rw [if_neg z, hc q]
        by_cases y : q ≤ N
        · rw [if_pos y, if_pos ⟨by omega, y⟩]
        · rw [if_neg y, if_neg (fun w => y w.2)]
    refine br_f (nI_pos (by decide)) (br_f (nI_pos (by omega)) ⟨vp_in_nI h (by decide), vp_in_nI (by decide) (by decide), nm_r (e' := bs_sq sy s N) ?_ ⟨vp_in_nI h (by decide), nm_r (e' := -1) (by rw [e0, h3]) (nm_r (e' := -1) (by decide) ?_)⟩⟩)
    · rw [e0, h4 0 hj]
      exact ec
    · exact br_t bs_n1 (nm_r (e' := nI (s 0)) (bs_sq_le (Nat.zero_le N)) K)
  | succ j ih =>
    intro hj c hc
    have h := h1 (j + 1) hj
    have e0 : (nI (pi (j + 1))).toNatClampNeg = pi (j + 1) := nI_clamp (by omega)
    have ej : (nI (j + 1)).toNatClampNeg = j + 1 := nI_clamp (by omega)
    refine br_f (nI_pos (by omega)) (br_f (nI_pos (by omega)) ⟨vp_in_nI h (by decide), vp_in_nI (by omega) (by decide), nm_r (e' := upd c (j + 1) (nI (s (j + 1)))) ?_ ⟨vp_in_nI h (by decide), nm_r (e' := nI (pi j)) (by rw [e0, h2 j (by omega)]) (nm_r (e' := nI j) (pk_m1 j) ?_)⟩⟩)
    · rw [e0, ej, h4 (j + 1) hj]
    · refine ih (by omega) _ fun q => ?_
      unfold upd
      by_cases z : q = j + 1
      · rw [if_pos z, if_pos ⟨by omega, by omega⟩, z]
      · rw [if_neg z, hc q]
        by_cases y : j < q ∧ q ≤ N
        · rw [if_pos y, if_pos ⟨by omega, by omega⟩]
        · rw [if_neg y, if_neg (fun w => y ⟨by omega, w.2⟩)]
theorem bs_y242 {post : Int32 → SY → Prop} {s : Nat → Nat} (hN : N ≤ 36) (hs : ∀ q, q ≤ N → s q ≤ 106)
    (K : post (nI (N + 3)) (cap, msc, tl, nI (N + 3), st, rl, li, te, bs_fs sy s N, sp, re, pa, xx, ap, am, fr, wd)) :
    ∀ d j, j + d = N → wY_encode_242 post (nI (N + 1)) cap msc tl sl st rl li te (bs_sq sy s N) sp re pa xx ap am fr wd (d + 1) (nI (bs_sm s j)) (nI (j + 1)) := by
  intro d
  induction d with
  | zero =>
    intro j hj
    have e : j = N := by omega
    subst e
    have b := bs_sm_le j (by omega) hs
    have e1 : (nI (j + 1)).toNatClampNeg = j + 1 := nI_clamp (by omega)
    have e2 : (nI (j + 1) + 1).toNatClampNeg = j + 1 + 1 := by rw [nI_1]; exact nI_clamp (by omega)
    refine br_t (nI_le (Nat.le_refl _) (by omega)) ⟨by decide, vp_in_nI (by omega) (by decide), nm_r (e' := upd (bs_sq sy s j) (j + 1) (nI (bs_sm s j % 103))) ?_ ⟨by rw [nI_1]; exact vp_in_nI (by omega) (by decide), nm_r (e' := bs_fs sy s j) ?_ (nm_r (e' := nI (j + 3)) (nI_add (j + 1) 2) K)⟩⟩
    · rw [e1]
      exact congrArg _ (pk_rem (d := 103) (by omega) (by decide) (by decide))
    · rw [e2]; rfl
  | succ d ih =>
    intro j hj
    have e1 : (nI (j + 1)).toNatClampNeg = j + 1 := nI_clamp (by omega)
    refine br_f (nI_ge (by omega) (by omega)) ⟨vp_in_nI (by omega) (by decide), nm_r (e' := nI (bs_sm s (j + 1))) ?_ (nm_r (e' := nI (j + 1 + 1)) (nI_1 (j + 1)) (ih (j + 1) (by omega)))⟩
    rw [e1, bs_sq_le (by omega), pk_mul, nI_add]
    rfl
/-- the list's beginning -/
theorem bs_B0 (hL : L ≤ 24) (pth : bs_Pa T L D N gp gm gv) (h : ∀ q, q < 3 → ap q = nI 0 ∧ am q = nI q ∧ fr q = -1 ∧ wd q = nI (103 + q)) : bs_B T L D N gp gm gv ap am fr wd 3 (fun _ => 0) (fun q => q) (fun _ => 0) (fun _ => gm 0) 0 0 := by
  obtain ⟨p1, p2, p3, p4, p5, p6⟩ := pth
  have cs := bs_cs_r D
  have hg : gm 0 < 3 := by omega
  refine ⟨by decide, fun q hq => ⟨(h q hq).1, (h q hq).2.1, Nat.zero_le _, by show q < 5; omega⟩, fun q r _ _ _ e => e, fun q r _ _ => Nat.le_refl _, fun q _ => Nat.zero_le _, fun q hq => ?_, ⟨Nat.zero_le _, Nat.zero_le _⟩, fun j hj => ?_, fun j hj => ?_, ⟨(h _ hg).2.2.1, (h _ hg).2.2.2⟩, fun q hq => ?_⟩
  · show N ≤ 0 + D 0 q
    have := cs.2.1 q hq
    omega
  · have e : j = 0 := by omega
    subst e
    exact ⟨hg, p1.symm, rfl, rfl⟩
  · omega
  · by_cases z : q < gm 0
    · left
      show N < 0 + D 0 q
      have := cs.2.2 q (by omega)
      omega
    · right
      right
      exact ⟨rfl, by show gm 0 ≤ q; omega⟩
theorem bs_y7 {post : Int32 → SY → Prop}
    (K : ∀ (ap am fr wd : Nat → Int32), (∀ q, q < 3 → ap q = nI 0 ∧ am q = nI q ∧ fr q = -1 ∧ wd q = nI (103 + q)) → ∃ n33, wY_encode_33 post n33 (-1) 0 cap msc tl sl st rl (nI 3) te sy sp re pa xx ap am fr wd) :
    ∀ d m, m + d = 3 → ∀ (ap am fr wd : Nat → Int32), (∀ q, q < m → ap q = nI 0 ∧ am q = nI q ∧ fr q = -1 ∧ wd q = nI (103 + q)) → wY_encode_7 post (d + 1) (nI m) cap msc tl sl st rl (nI m) te sy sp re pa xx ap am fr wd := by
  intro d
  induction d with
  | zero =>
    intro m hm ap am fr wd h
    have e : m = 3 := by omega
    subst e
    exact br_t (by decide) (K ap am fr wd h)
  | succ d ih =>
    intro m hm ap am fr wd h
    refine br_f (nI_ge (b := 3) (by omega) (by decide)) ?_
    refine bs_yli (p := 0) (P := fun _ => 0) (M := fun q => q) (by omega) (by decide) (by omega) (fun q hq => ⟨(h q hq).1, (h q hq).2.1, by decide, by show q < 2 ^ 31; omega⟩) (fun q hq z1 z2 => ?_) (fun _ => by omega) fun _ => ?_
    · have z2' : q = m := z2
      omega
    · refine nm_r (e' := nI (m + 1)) (nI_1 m) (ih (m + 1) (by omega) _ _ _ _ fun q hq => ?_)
      by_cases z : q = m
      · subst z
        rw [pk_us, pk_us, pk_us, pk_us]
        exact ⟨rfl, rfl, rfl, nI_add 103 q⟩
      · rw [pk_un z, pk_un z, pk_un z, pk_un z]
        exact h q (by omega)
/-- Y's encode -/
theorem bs_yen {post : Int32 → SY → Prop} (hL : L ≤ 24) (ht : ∀ i, i < L → te i = nI (T i) ∧ T i ≤ 128) (g : ∀ q, q ≤ L → bs_G T L D q) (pth : bs_Pa T L D N gp gm gv)
    (K : ∀ (li : Int32) (ap am fr wd : Nat → Int32), post (nI (N + 3)) (cap, msc, nI L, nI (N + 3), st, rl, li, te, bs_fs sy (bs_sv gm gv) N, sp, re, pa, xx, ap, am, fr, wd)) :
    wpY_encode post (cap, msc, nI L, sl, st, rl, li, te, sy, sp, re, pa, xx, ap, am, fr, wd) := by
  refine ⟨4, bs_y7 (fun ap am fr wd h => ?_) 3 0 rfl ap am fr wd fun q hq => by omega⟩
  refine ⟨126, bs_y33 hL ht g pth (fun n ap am fr wd P M lev pi k b => ?_) 125 0 rfl 3 ap am fr wd _ _ _ _ 0 (bs_B0 hL pth h)⟩
  obtain ⟨b1, b2, b3, b4, b5, b6, b7, b8, b9, b10, b12⟩ := b
  have hN := pth.2.2.2.1
  have h1 : ∀ j, j ≤ N → pi j < 125 := fun j hj => by have := (b8 j hj).1; omega
  have h2 : ∀ j, j < N → fr (pi (j + 1)) = nI (pi j) := fun j hj => (b9 j hj).1
  have h4 : ∀ j, j ≤ N → wd (pi j) = nI (bs_sv gm gv j) := by
    intro j hj
    cases j with
    | zero => exact b10.2
    | succ j => exact (b9 j (by omega)).2
  have W := bs_y162 (post := post) (x1 := nI (pi N)) (cap := cap) (msc := msc) (tl := nI L) (sl := sl) (st := st) (rl := rl) (li := nI n) (te := te) (sy := sy) (sp := sp) (re := re) (pa := pa) (xx := xx) (ap := ap) (am := am) (wd := wd) hN h1 h2 b10.1 ?_ N (Nat.le_refl N)
  · rw [Nat.sub_self] at W
    exact ⟨_, W⟩
  · refine ⟨N + 2, bs_y196 (sy := sy) (s := bs_sv gm gv) hN h1 h2 b10.1 h4 ?_ N (Nat.le_refl N) sy fun q => ?_⟩
    · exact ⟨N + 1, bs_y242 hN (bs_sv_le pth) (K (nI n) ap am fr wd) N 0 (by omega)⟩
    · rw [if_neg (by omega)]
end
end
section
/-! the constructors' tables -/
def bs_LI (w : Nat) (mo ck : Nat → Int32) : Prop := (∀ v, v < w → ∀ j, j < 6 → mo (6 * v + j) = nI (bs_el v j)) ∧ (∀ key, key < 4096 → ck key = nI (bs_cw w key))
def bs_kk (d : Nat) : Nat → Nat
  | 0 => 0
  | i + 1 => bs_kk d i * 8 + bs_dg d i + bs_dg d (i + 1)
theorem bs_kk4 (d : Nat) : bs_kk d 4 = bs_kd d := by
  show (((0 * 8 + bs_dg d 0 + bs_dg d 1) * 8 + bs_dg d 1 + bs_dg d 2) * 8 + bs_dg d 2 + bs_dg d 3) * 8 + bs_dg d 3 + bs_dg d 4 = (((bs_dg d 0 + bs_dg d 1) * 8 + (bs_dg d 1 + bs_dg d 2)) * 8 + (bs_dg d 2 + bs_dg d 3)) * 8 + (bs_dg d 3 + bs_dg d 4)
  omega
theorem bs_ky_lt : ∀ w, w < 107 → bs_ky w < 4096 := by decide +kernel
theorem bs_dg_lt (d k : Nat) : bs_dg d k < 10 := Nat.mod_lt _ (by decide)
section
variable {s0 s1 s2 s3 s4 s5 s6 s7 s8 s9 s10 cap msc tl sl st rl : Int32} {mo ck te sy sp re co va : Nat → Int32}
theorem bs_x49 {post : SX → Prop} {w d : Nat} (hw : w < 107) (hk : bs_kd d < 4096) (hc : ∀ j, j < 6 → mo (6 * w + j) = nI (bs_dg d j)) (K : post (s0, s1, s2, s3, s4, s5, s6, s7, s8, s9, s10, cap, msc, tl, sl, st, rl, mo, upd ck (bs_kd d) (nI (w + 1)), te, sy, sp, re, co, va)) :
    ∀ e i, i + e = 4 → wX_learn_49 post (nI w) (nI (6 * w)) s0 s1 s2 s3 s4 s5 s6 s7 s8 s9 s10 cap msc tl sl st rl mo ck te sy sp re co va (e + 1) (nI (bs_kk d i)) (nI i) := by
  intro e
  induction e with
  | zero =>
    intro i hi
    have e : i = 4 := by omega
    subst e
    rw [bs_kk4]
    have e0 : (nI (bs_kd d)).toNatClampNeg = bs_kd d := nI_clamp (by omega)
    exact br_t (by decide) ⟨vp_in_nI hk (by decide), nm_r (e' := upd ck (bs_kd d) (nI (w + 1))) (by rw [e0, nI_1]) K⟩
  | succ e ih =>
    intro i hi
    have e0 : (nI (6 * w) + nI i).toNatClampNeg = 6 * w + i := by rw [nI_add]; exact nI_clamp (by omega)
    have e1 : (nI (6 * w) + nI i + 1).toNatClampNeg = 6 * w + (i + 1) := by rw [nI_add, nI_1]; exact nI_clamp (by omega)
    refine br_f (nI_ge (b := 4) (by omega) (by decide)) ⟨by rw [nI_add]; exact vp_in_nI (by omega) (by decide), by rw [nI_add, nI_1]; exact vp_in_nI (by omega) (by decide), nm_r (e' := nI (bs_kk d (i + 1))) ?_ (nm_r (e' := nI (i + 1)) (nI_1 i) (ih (i + 1) (by omega)))⟩
    rw [e0, e1, hc i (by omega), hc (i + 1) (by omega), show (8 : Int32) = nI 8 from rfl, pk_mul, nI_add, nI_add]
    rfl
theorem bs_x11 {post : SX → Prop} {w d : Nat} (hw : w < 107) (hd : d < 1000000)
    (K : ∀ (m : Nat → Int32) (x4 : Int32), (∀ q, q < 6 * w → m q = mo q) → (∀ j, j < 6 → m (6 * w + j) = nI (bs_dg d j)) → wX_learn_11 post (nI w) (nI (6 * w)) s0 s1 s2 s3 s4 s5 s6 s7 s8 s9 s10 cap msc tl sl st rl 1 x4 (-1) m ck te sy sp re co va) :
    ∀ k, k ≤ 5 → ∀ m : Nat → Int32, (∀ q, q < 6 * w → m q = mo q) → (∀ j, k < j → j < 6 → m (6 * w + j) = nI (bs_dg d j)) →
    wX_learn_11 post (nI w) (nI (6 * w)) s0 s1 s2 s3 s4 s5 s6 s7 s8 s9 s10 cap msc tl sl st rl (k + 2) (nI (d / 10 ^ (5 - k))) (nI k) m ck te sy sp re co va := by
  intro k
  induction k with
  | zero =>
    intro hk m h1 h2
    have hq : d / 10 ^ (5 - 0) ≤ d := Nat.div_le_self _ _
    have e0 : (nI (6 * w) + nI 0).toNatClampNeg = 6 * w + 0 := by rw [nI_add]; exact nI_clamp (by omega)
    refine br_f (nI_pos (by decide)) ⟨by decide, by rw [nI_add]; exact vp_in_nI (by omega) (by decide), nm_r (e' := upd m (6 * w + 0) (nI (bs_dg d 0))) ?_ ⟨by decide, nm_e (nm_r (e' := -1) (by decide) ?_)⟩⟩
    · rw [e0]
      exact congrArg _ (pk_rem (d := 10) (by omega) (by decide) (by decide))
    · refine K _ _ (fun q hq => ?_) fun j hj => ?_
      · rw [pk_un (by omega)]; exact h1 q hq
      · by_cases z : j = 0
        · rw [z, pk_us]
        · rw [pk_un (by omega)]; exact h2 j (by omega) hj
  | succ k ih =>
    intro hk m h1 h2
    have hq : d / 10 ^ (5 - (k + 1)) ≤ d := Nat.div_le_self _ _
    have e0 : (nI (6 * w) + nI (k + 1)).toNatClampNeg = 6 * w + (k + 1) := by rw [nI_add]; exact nI_clamp (by omega)
    refine br_f (nI_pos (by omega)) ⟨by decide, by rw [nI_add]; exact vp_in_nI (by omega) (by decide), nm_r (e' := upd m (6 * w + (k + 1)) (nI (bs_dg d (k + 1)))) ?_ ⟨by decide, nm_r (e' := nI (d / 10 ^ (5 - k))) ?_ (nm_r (e' := nI k) (pk_m1 k) ?_)⟩⟩
    · rw [e0]
      exact congrArg _ (pk_rem (d := 10) (by omega) (by decide) (by decide))
    · rw [show (10 : Int32) = nI 10 from rfl, pk_div (by omega) (by decide) (by decide), Nat.div_div_eq_div_mul, ← Nat.pow_succ]
      have : (5 - (k + 1)).succ = 5 - k := by omega
      rw [this]
    · refine ih (by omega) _ (fun q hq => ?_) fun j hj hj6 => ?_
      · rw [pk_un (by omega)]; exact h1 q hq
      · by_cases z : j = k + 1
        · rw [z, pk_us]
        · rw [pk_un (by omega)]; exact h2 j (by omega) hj6
theorem bs_xle {post : SX → Prop} {x y : Int32} (w d : Nat) (hx : x = nI w) (hy : y = nI d) (hw : w < 107) (hd : bs_pt w = d) (h : bs_LI w mo ck)
    (K : ∀ mo ck : Nat → Int32, bs_LI (w + 1) mo ck → post (s0, s1, s2, s3, s4, s5, s6, s7, s8, s9, s10, cap, msc, tl, sl, st, rl, mo, ck, te, sy, sp, re, co, va)) : wpX_learn post (s0, s1, s2, s3, s4, s5, s6, s7, s8, s9, s10, cap, msc, tl, sl, st, rl, mo, ck, te, sy, sp, re, co, va) x y := by
  subst hx hy hd
  have hl := bs_pt_lt w hw
  have hk := bs_ky_eq w hw
  have hk2 := bs_ky_lt w hw
  refine nm_r (e' := nI (6 * w)) (pk_mul 6 w) ⟨7, ?_⟩
  have H := bs_x11 (post := post) (s0 := s0) (s1 := s1) (s2 := s2) (s3 := s3) (s4 := s4) (s5 := s5) (s6 := s6) (s7 := s7) (s8 := s8) (s9 := s9) (s10 := s10) (cap := cap) (msc := msc) (tl := tl) (sl := sl) (st := st) (rl := rl) (mo := mo) (ck := ck) (te := te) (sy := sy) (sp := sp) (re := re) (co := co) (va := va) hw hl ?_ 5 (by decide) mo (fun _ _ => rfl) (fun j a b => by omega)
  · have e : bs_pt w / 10 ^ (5 - 5) = bs_pt w := Nat.div_one _
    rw [e] at H
    exact H
  · intro m x4 h1 h2
    refine br_t bs_n1 ⟨5, ?_⟩
    refine bs_x49 hw (by omega) h2 ?_ 4 0 rfl
    refine K _ _ ⟨fun v hv j hj => ?_, fun key hkey => ?_⟩
    · by_cases z : v = w
      · rw [z]; exact h2 j hj
      · rw [h1 _ (by omega)]; exact h.1 v (by omega) j hj
    · rw [hk]
      show (if key = bs_ky w then nI (w + 1) else ck key) = nI (if key = bs_ky w then w + 1 else bs_cw w key)
      by_cases z : key = bs_ky w
      · rw [if_pos z, if_pos z]
      · rw [if_neg z, if_neg z]; exact h.2 key hkey
theorem bs_xl6 {post : SX → Prop} (w d0 d1 d2 d3 d4 d5 : Nat) (hw : w + 5 < 107) (h0 : bs_pt w = d0) (h1 : bs_pt (w + 1) = d1) (h2 : bs_pt (w + 2) = d2) (h3 : bs_pt (w + 3) = d3) (h4 : bs_pt (w + 4) = d4) (h5 : bs_pt (w + 5) = d5) (h : bs_LI w mo ck)
    (K : ∀ mo ck : Nat → Int32, bs_LI (w + 6) mo ck → post (s0, s1, s2, s3, s4, s5, s6, s7, s8, s9, s10, cap, msc, tl, sl, st, rl, mo, ck, te, sy, sp, re, co, va)) : wpX_learnSix post (s0, s1, s2, s3, s4, s5, s6, s7, s8, s9, s10, cap, msc, tl, sl, st, rl, mo, ck, te, sy, sp, re, co, va) (nI w) (nI d0) (nI d1) (nI d2) (nI d3) (nI d4) (nI d5) := by
  unfold wpX_learnSix
  dsimp only
  refine bs_xle w d0 rfl rfl (by omega) h0 h fun mo ck h => ?_
  refine bs_xle (w + 1) d1 (nI_1 w) rfl (by omega) h1 h fun mo ck h => ?_
  refine bs_xle (w + 2) d2 (nI_add w 2) rfl (by omega) h2 h fun mo ck h => ?_
  refine bs_xle (w + 3) d3 (nI_add w 3) rfl (by omega) h3 h fun mo ck h => ?_
  refine bs_xle (w + 4) d4 (nI_add w 4) rfl (by omega) h4 h fun mo ck h => ?_
  refine bs_xle (w + 5) d5 (nI_add w 5) rfl (by omega) h5 h fun mo ck h => ?_
  exact K mo ck h
theorem bs_xlo {post : SX → Prop} (h : bs_LI 0 mo ck) (K : ∀ mo ck : Nat → Int32, bs_LI 54 mo ck → post (s0, s1, s2, s3, s4, s5, s6, s7, s8, s9, s10, cap, msc, tl, sl, st, rl, mo, ck, te, sy, sp, re, co, va)) : wpX_learnLowPatterns post (s0, s1, s2, s3, s4, s5, s6, s7, s8, s9, s10, cap, msc, tl, sl, st, rl, mo, ck, te, sy, sp, re, co, va) := by
  unfold wpX_learnLowPatterns
  dsimp only
  refine bs_xl6 0 212222 222122 222221 121223 121322 131222 (by decide) rfl rfl rfl rfl rfl rfl h fun mo ck h => ?_
  refine bs_xl6 6 122213 122312 132212 221213 221312 231212 (by decide) rfl rfl rfl rfl rfl rfl h fun mo ck h => ?_
  refine bs_xl6 12 112232 122132 122231 113222 123122 123221 (by decide) rfl rfl rfl rfl rfl rfl h fun mo ck h => ?_
  refine bs_xl6 18 223211 221132 221231 213212 223112 312131 (by decide) rfl rfl rfl rfl rfl rfl h fun mo ck h => ?_
  refine bs_xl6 24 311222 321122 321221 312212 322112 322211 (by decide) rfl rfl rfl rfl rfl rfl h fun mo ck h => ?_
  refine bs_xl6 30 212123 212321 232121 111323 131123 131321 (by decide) rfl rfl rfl rfl rfl rfl h fun mo ck h => ?_
  refine bs_xl6 36 112313 132113 132311 211313 231113 231311 (by decide) rfl rfl rfl rfl rfl rfl h fun mo ck h => ?_
  refine bs_xl6 42 112133 112331 132131 113123 113321 133121 (by decide) rfl rfl rfl rfl rfl rfl h fun mo ck h => ?_
  refine bs_xl6 48 313121 211331 231131 213113 213311 213131 (by decide) rfl rfl rfl rfl rfl rfl h fun mo ck h => ?_
  exact K mo ck h
theorem bs_xhi {post : SX → Prop} (h : bs_LI 54 mo ck) (K : ∀ mo ck : Nat → Int32, bs_LI 107 mo ck → post (s0, s1, s2, s3, s4, s5, s6, s7, s8, s9, s10, cap, msc, tl, sl, st, rl, mo, ck, te, sy, sp, re, co, va)) : wpX_learnHighPatterns post (s0, s1, s2, s3, s4, s5, s6, s7, s8, s9, s10, cap, msc, tl, sl, st, rl, mo, ck, te, sy, sp, re, co, va) := by
  unfold wpX_learnHighPatterns
  dsimp only
  refine bs_xl6 54 311123 311321 331121 312113 312311 332111 (by decide) rfl rfl rfl rfl rfl rfl h fun mo ck h => ?_
  refine bs_xl6 60 314111 221411 431111 111224 111422 121124 (by decide) rfl rfl rfl rfl rfl rfl h fun mo ck h => ?_
  refine bs_xl6 66 121421 141122 141221 112214 112412 122114 (by decide) rfl rfl rfl rfl rfl rfl h fun mo ck h => ?_
  refine bs_xl6 72 122411 142112 142211 241211 221114 413111 (by decide) rfl rfl rfl rfl rfl rfl h fun mo ck h => ?_
  refine bs_xl6 78 241112 134111 111242 121142 121241 114212 (by decide) rfl rfl rfl rfl rfl rfl h fun mo ck h => ?_
  refine bs_xl6 84 124112 124211 411212 421112 421211 212141 (by decide) rfl rfl rfl rfl rfl rfl h fun mo ck h => ?_
  refine bs_xl6 90 214121 412121 111143 111341 131141 114113 (by decide) rfl rfl rfl rfl rfl rfl h fun mo ck h => ?_
  refine bs_xl6 96 114311 411113 411311 113141 114131 311141 (by decide) rfl rfl rfl rfl rfl rfl h fun mo ck h => ?_
  refine bs_xle 102 411131 rfl rfl (by decide) rfl h fun mo ck h => ?_
  refine bs_xle 103 211412 rfl rfl (by decide) rfl h fun mo ck h => ?_
  refine bs_xle 104 211214 rfl rfl (by decide) rfl h fun mo ck h => ?_
  refine bs_xle 105 211232 rfl rfl (by decide) rfl h fun mo ck h => ?_
  refine bs_xle 106 233111 rfl rfl (by decide) rfl h fun mo ck h => ?_
  exact K mo ck h
end
def bs_yp (v : Nat) : Nat := if v = 106 then 2331112 else bs_pt v
def bs_PI (w : Nat) (pa : Nat → Int32) : Prop := ∀ v, v < w → pa v = nI (bs_yp v)
theorem bs_PIs {w d : Nat} {pa : Nat → Int32} (h : bs_PI w pa) (hd : bs_yp w = d) : bs_PI (w + 1) (upd pa w (nI d)) := by
  intro v hv
  by_cases z : v = w
  · rw [z, pk_us, hd]
  · rw [pk_un z]; exact h v (by omega)
section
variable {cap msc tl sl st rl li : Int32} {te sy sp re pa xx ap am fr wd : Nat → Int32}
theorem bs_y6 {post : SY → Prop} (w d0 d1 d2 d3 d4 d5 : Nat) (hw : w ≤ 102) (h0 : bs_yp w = d0) (h1 : bs_yp (w + 1) = d1) (h2 : bs_yp (w + 2) = d2) (h3 : bs_yp (w + 3) = d3) (h4 : bs_yp (w + 4) = d4) (h5 : bs_yp (w + 5) = d5) (h : bs_PI w pa)
    (K : ∀ pa : Nat → Int32, bs_PI (w + 6) pa → post (cap, msc, tl, sl, st, rl, li, te, sy, sp, re, pa, xx, ap, am, fr, wd)) : wpY_six post (cap, msc, tl, sl, st, rl, li, te, sy, sp, re, pa, xx, ap, am, fr, wd) (nI w) (nI d0) (nI d1) (nI d2) (nI d3) (nI d4) (nI d5) := by
  have V : ∀ j, j < 6 → vp_in (nI w + nI j) 108 := by
    intro j hj
    rw [nI_add]; exact vp_in_nI (by omega) (by decide)
  have C : ∀ j, j < 6 → (nI w + nI j).toNatClampNeg = w + j := by
    intro j hj
    rw [nI_add]; exact nI_clamp (by omega)
  have e0 : (nI w).toNatClampNeg = w := nI_clamp (by omega)
  have p1 := bs_PIs h h0
  have p2 := bs_PIs p1 h1
  have p3 := bs_PIs p2 h2
  have p4 := bs_PIs p3 h3
  have p5 := bs_PIs p4 h4
  have p6 := bs_PIs p5 h5
  refine br_f (nI_pos (by omega)) (br_t (nI_le (b := 102) hw (by decide)) ⟨vp_in_nI (by omega) (by decide), nm_r (by rw [e0]) ?_⟩)
  refine ⟨V 1 (by decide), nm_r (congrArg (fun x => upd _ x _) (C 1 (by decide))) ?_⟩
  refine ⟨V 2 (by decide), nm_r (congrArg (fun x => upd _ x _) (C 2 (by decide))) ?_⟩
  refine ⟨V 3 (by decide), nm_r (congrArg (fun x => upd _ x _) (C 3 (by decide))) ?_⟩
  refine ⟨V 4 (by decide), nm_r (congrArg (fun x => upd _ x _) (C 4 (by decide))) ?_⟩
  refine ⟨V 5 (by decide), nm_r (congrArg (fun x => upd _ x _) (C 5 (by decide))) ?_⟩
  exact K _ p6
theorem bs_yi {post : SY → Prop} {z : Int32} (h : bs_PI 0 pa) (K : ∀ pa : Nat → Int32, bs_PI 108 pa → post (cap, z, tl, sl, st, rl, li, te, sy, sp, re, pa, xx, ap, am, fr, wd)) : wY_init_137 post z cap msc tl sl st rl li te sy sp re pa xx ap am fr wd := by
  unfold wY_init_137
  refine bs_y6 0 212222 222122 222221 121223 121322 131222 (by decide) rfl rfl rfl rfl rfl rfl h fun pa h => ?_
  refine bs_y6 6 122213 122312 132212 221213 221312 231212 (by decide) rfl rfl rfl rfl rfl rfl h fun pa h => ?_
  refine bs_y6 12 112232 122132 122231 113222 123122 123221 (by decide) rfl rfl rfl rfl rfl rfl h fun pa h => ?_
  refine bs_y6 18 223211 221132 221231 213212 223112 312131 (by decide) rfl rfl rfl rfl rfl rfl h fun pa h => ?_
  refine bs_y6 24 311222 321122 321221 312212 322112 322211 (by decide) rfl rfl rfl rfl rfl rfl h fun pa h => ?_
  refine bs_y6 30 212123 212321 232121 111323 131123 131321 (by decide) rfl rfl rfl rfl rfl rfl h fun pa h => ?_
  refine bs_y6 36 112313 132113 132311 211313 231113 231311 (by decide) rfl rfl rfl rfl rfl rfl h fun pa h => ?_
  refine bs_y6 42 112133 112331 132131 113123 113321 133121 (by decide) rfl rfl rfl rfl rfl rfl h fun pa h => ?_
  refine bs_y6 48 313121 211331 231131 213113 213311 213131 (by decide) rfl rfl rfl rfl rfl rfl h fun pa h => ?_
  refine bs_y6 54 311123 311321 331121 312113 312311 332111 (by decide) rfl rfl rfl rfl rfl rfl h fun pa h => ?_
  refine bs_y6 60 314111 221411 431111 111224 111422 121124 (by decide) rfl rfl rfl rfl rfl rfl h fun pa h => ?_
  refine bs_y6 66 121421 141122 141221 112214 112412 122114 (by decide) rfl rfl rfl rfl rfl rfl h fun pa h => ?_
  refine bs_y6 72 122411 142112 142211 241211 221114 413111 (by decide) rfl rfl rfl rfl rfl rfl h fun pa h => ?_
  refine bs_y6 78 241112 134111 111242 121142 121241 114212 (by decide) rfl rfl rfl rfl rfl rfl h fun pa h => ?_
  refine bs_y6 84 124112 124211 411212 421112 421211 212141 (by decide) rfl rfl rfl rfl rfl rfl h fun pa h => ?_
  refine bs_y6 90 214121 412121 111143 111341 131141 114113 (by decide) rfl rfl rfl rfl rfl rfl h fun pa h => ?_
  refine bs_y6 96 114311 411113 411311 113141 114131 311141 (by decide) rfl rfl rfl rfl rfl rfl h fun pa h => ?_
  refine bs_y6 102 411131 211412 211214 211232 2331112 0 (by decide) rfl rfl rfl rfl rfl rfl h fun pa h => ?_
  exact K pa h
end
end
section
/-! drawing -/
/-- element k of codeword w; the seventh of the stop is 2 -/
def bs_ye (w k : Nat) : Nat := if k = 6 then 2 else bs_el w k
def bs_tt (w : Nat) : Nat := if w = 106 then 7 else 6
def bs_wf (s : Nat) (g : Int32) (w k : Nat) : Int32 := if k % 2 = 0 then nI s * nI (bs_ye w k) + g else nI s * nI (bs_ye w k) - g
def bs_ap (t : Nat × (Nat → Int32)) (x : Int32) : Nat × (Nat → Int32) := if t.1 < 253 then (t.1 + 1, upd t.2 t.1 x) else t
def bs_dr (f : Nat → Int32) : Nat → Nat → Nat × (Nat → Int32) → Nat × (Nat → Int32)
  | 0, _, t => t
  | e + 1, k, t => bs_dr f e (k + 1) (bs_ap t (f k))
def bs_dw (s : Nat) (g : Int32) (w : Nat) (t : Nat × (Nat → Int32)) : Nat × (Nat → Int32) := bs_dr (bs_wf s g w) (bs_tt w) 0 t
def bs_pf (s : Nat) (g : Int32) (W : Nat → Nat) : Nat → Nat → Nat × (Nat → Int32) → Nat × (Nat → Int32)
  | 0, _, t => t
  | e + 1, i, t => bs_pf s g W e (i + 1) (bs_dw s g (W i) t)
/-- a strip in order -/
def bs_St (t : Nat × (Nat → Int32)) : Prop := t.1 ≤ 253 ∧ bs_R t.2 t.1 1 400
/-- a scale and a gain that fit -/
def bs_SG (s : Nat) (g : Int32) : Prop := 1 ≤ s ∧ s ≤ 16 ∧ -(s : Int) < g.toInt ∧ g.toInt < s
theorem bs_ap_St {t : Nat × (Nat → Int32)} {x : Int32} (h : bs_St t) (hx : ∃ n, 1 ≤ n ∧ n ≤ 400 ∧ x = nI n) : bs_St (bs_ap t x) := by
  obtain ⟨n, h1, h2, rfl⟩ := hx
  unfold bs_ap
  by_cases a : t.1 < 253
  · rw [if_pos a]
    exact ⟨a, bs_ext h.2 rfl h1 h2 (by decide)⟩
  · rw [if_neg a]; exact h
theorem bs_dr_St {f : Nat → Int32} : ∀ e k t, bs_St t → (∀ j, k ≤ j → j < k + e → ∃ n, 1 ≤ n ∧ n ≤ 400 ∧ f j = nI n) → bs_St (bs_dr f e k t) := by
  intro e
  induction e with
  | zero => intro k t h _; exact h
  | succ e ih =>
    intro k t h hf
    exact ih (k + 1) _ (bs_ap_St h (hf k (Nat.le_refl k) (by omega))) fun j h1 h2 => hf j (by omega) (by omega)
theorem bs_dr_full {f : Nat → Int32} : ∀ e k t, ¬ t.1 < 253 → bs_dr f e k t = t := by
  intro e
  induction e with
  | zero => intro k t _; rfl
  | succ e ih =>
    intro k t h
    have e1 : bs_ap t (f k) = t := by unfold bs_ap; rw [if_neg h]
    show bs_dr f e (k + 1) (bs_ap t (f k)) = t
    rw [e1]
    exact ih (k + 1) t h
theorem bs_wf_r {s w k : Nat} {g : Int32} (h : bs_SG s g) (hw : w < 107) (hk : k < 7) : ∃ n, 1 ≤ n ∧ n ≤ 400 ∧ bs_wf s g w k = nI n := by
  obtain ⟨h1, h2, h3, h4⟩ := h
  have hm : 1 ≤ bs_ye w k ∧ bs_ye w k ≤ 4 := by
    unfold bs_ye
    by_cases z : k = 6
    · rw [if_pos z]; decide
    · rw [if_neg z]; exact bs_el_r w hw k (by omega)
  have p1 : s ≤ s * bs_ye w k := Nat.le_mul_of_pos_right s (by omega)
  have p2 : s * bs_ye w k ≤ 16 * 4 := Nat.mul_le_mul h2 hm.2
  have hi : (nI (s * bs_ye w k)).toInt = ((s * bs_ye w k : Nat) : Int) := nI_toInt (by omega)
  unfold bs_wf
  rw [pk_mul]
  by_cases z : k % 2 = 0
  · rw [if_pos z]
    have e : (nI (s * bs_ye w k) + g).toInt = ((s * bs_ye w k : Nat) : Int) + g.toInt := by
      rw [Int32.toInt_add, hi]
      exact Int.bmod_eq_of_le (by omega) (by omega)
    refine ⟨(((s * bs_ye w k : Nat) : Int) + g.toInt).toNat, by omega, by omega, ?_⟩
    apply Int32.toInt_inj.mp
    rw [e, nI_toInt (by omega)]
    omega
  · rw [if_neg z]
    have e : (nI (s * bs_ye w k) - g).toInt = ((s * bs_ye w k : Nat) : Int) - g.toInt := by
      rw [Int32.toInt_sub, hi]
      exact Int.bmod_eq_of_le (by omega) (by omega)
    refine ⟨(((s * bs_ye w k : Nat) : Int) - g.toInt).toNat, by omega, by omega, ?_⟩
    apply Int32.toInt_inj.mp
    rw [e, nI_toInt (by omega)]
    omega
theorem bs_dw_St {s w : Nat} {g : Int32} {t : Nat × (Nat → Int32)} (h : bs_SG s g) (hw : w < 107) (ht : bs_St t) : bs_St (bs_dw s g w t) := by
  refine bs_dr_St _ _ _ ht fun j _ h2 => bs_wf_r h hw ?_
  unfold bs_tt at h2
  split at h2 <;> omega
theorem bs_pf_St {s : Nat} {g : Int32} {W : Nat → Nat} (h : bs_SG s g) : ∀ e i t, bs_St t → (∀ j, i ≤ j → j < i + e → W j < 107) → bs_St (bs_pf s g W e i t) := by
  intro e
  induction e with
  | zero => intro i t ht _; exact ht
  | succ e ih =>
    intro i t ht hW
    exact ih (i + 1) _ (bs_dw_St h (hW i (Nat.le_refl i) (by omega)) ht) fun j h1 h2 => hW j (by omega) (by omega)
theorem bs_even {k : Nat} (hk : k < 2 ^ 31) : (nI k - nI k / 2 * 2 = 0) ↔ k % 2 = 0 := by
  have e : nI k - nI k / 2 * 2 = nI (k % 2) := pk_rem (d := 2) hk (by decide) (by decide)
  rw [e, ← nI_0, nI_eq (by omega) (by decide)]
section
variable {s0 s1 s2 s3 s4 s5 s6 s7 s8 s9 s10 cap msc tl sl st rl : Int32} {mo ck te sy sp re co va : Nat → Int32}
theorem bs_xaw {post : SX → Prop} {x : Int32} {t : Nat × (Nat → Int32)} (ht : t.1 ≤ 253) (h : post (s0, s1, s2, s3, s4, s5, s6, s7, s8, s9, s10, cap, msc, tl, sl, nI (bs_ap t x).1, rl, mo, ck, te, sy, (bs_ap t x).2, re, co, va)) : wpX_appendWidth post (s0, s1, s2, s3, s4, s5, s6, s7, s8, s9, s10, cap, msc, tl, sl, nI t.1, rl, mo, ck, te, sy, t.2, re, co, va) x := by
  have e : (nI t.1).toNatClampNeg = t.1 := nI_clamp (by omega)
  unfold bs_ap at h
  by_cases a : t.1 < 253
  · rw [if_pos a] at h
    exact br_f (nI_ge (b := 253) a (by decide)) ⟨vp_in_nI a (by decide), nm_r (e' := upd t.2 t.1 x) (by rw [e]) (nm_r (e' := nI (t.1 + 1)) (nI_1 _) h)⟩
  · rw [if_neg a] at h
    exact br_t (nI_le (a := 253) (by omega) (by omega)) h
theorem bs_ap1 {t : Nat × (Nat → Int32)} {x : Int32} (ht : t.1 ≤ 253) : (bs_ap t x).1 ≤ 253 := by
  unfold bs_ap
  split
  · show t.1 + 1 ≤ 253
    omega
  · exact ht
theorem bs_xd3 {post : SX → Prop} {s w : Nat} {g : Int32} (hw : w < 107) (hm : ∀ k, k < 6 → mo (6 * w + k) = nI (bs_el w k)) :
    ∀ e k, k + e = 6 → ∀ t : Nat × (Nat → Int32), t.1 ≤ 253 → post (s0, s1, s2, s3, s4, s5, s6, s7, s8, s9, s10, cap, msc, tl, sl, nI (bs_dr (bs_wf s g w) (bs_tt w - k) k t).1, rl, mo, ck, te, sy, (bs_dr (bs_wf s g w) (bs_tt w - k) k t).2, re, co, va) →
    wX_draw_3 post (nI w) (nI s) g (e + 1) (nI k) s0 s1 s2 s3 s4 s5 s6 s7 s8 s9 s10 cap msc tl sl (nI t.1) rl mo ck te sy t.2 re co va := by
  intro e
  induction e with
  | zero =>
    intro k hk t ht K
    have ek : k = 6 := by omega
    subst ek
    refine br_t (by decide) (pk_eq w 106 (fun z => ?_) (fun z => ?_))
    · have e1 : bs_tt w - 6 = 1 := by unfold bs_tt; rw [if_pos z]
      rw [e1] at K
      exact bs_xaw ht K
    · have e1 : bs_tt w - 6 = 0 := by unfold bs_tt; rw [if_neg z]
      rw [e1] at K
      exact K
  | succ e ih =>
    intro k hk t ht K
    have htt : 6 ≤ bs_tt w := by unfold bs_tt; split <;> omega
    have e1 : bs_tt w - k = (bs_tt w - (k + 1)) + 1 := by omega
    rw [e1] at K
    have e2 : (6 : Int32) * nI w + nI k = nI (6 * w + k) := by rw [show (6 : Int32) = nI 6 from rfl, pk_mul, nI_add]
    have e3 : ((6 : Int32) * nI w + nI k).toNatClampNeg = 6 * w + k := by rw [e2]; exact nI_clamp (by omega)
    have e4 : bs_ye w k = bs_el w k := by unfold bs_ye; rw [if_neg (by omega)]
    have W : ∀ z0 : Int32, nI s * nI (bs_el w k) + z0 = bs_wf s g w k → wX_draw_23 post (wX_draw_3 post (nI w) (nI s) g (e + 1)) (nI w) (nI s) g (nI k) z0 s0 s1 s2 s3 s4 s5 s6 s7 s8 s9 s10 cap msc tl sl (nI t.1) rl mo ck te sy t.2 re co va := by
      intro z0 hz
      unfold wX_draw_23
      rw [e3, hm k (by omega), hz]
      refine ⟨by rw [e2]; exact vp_in_nI (by omega) (by decide), ?_⟩
      exact bs_xaw ht (nm_r (e' := nI (k + 1)) (nI_1 k) (ih (k + 1) (by omega) _ (bs_ap1 ht) K))
    refine br_f (nI_ge (b := 6) (by omega) (by decide)) ⟨by decide, ?_⟩
    by_cases z : k % 2 = 0
    · refine br_t ((bs_even (by omega)).mpr z) (W g ?_)
      unfold bs_wf; rw [if_pos z, e4]
    · refine br_f (fun q => z ((bs_even (by omega)).mp q)) (W (-g) ?_)
      unfold bs_wf; rw [if_neg z, e4, Int32.sub_eq_add_neg]
theorem bs_xdw {post : SX → Prop} {s w : Nat} {g : Int32} {t : Nat × (Nat → Int32)} (hw : w < 107) (hm : ∀ v, v < 107 → ∀ k, k < 6 → mo (6 * v + k) = nI (bs_el v k)) (ht : t.1 ≤ 253) (K : post (s0, s1, s2, s3, s4, s5, s6, s7, s8, s9, s10, cap, msc, tl, sl, nI (bs_dw s g w t).1, rl, mo, ck, te, sy, (bs_dw s g w t).2, re, co, va)) :
    wpX_draw post (s0, s1, s2, s3, s4, s5, s6, s7, s8, s9, s10, cap, msc, tl, sl, nI t.1, rl, mo, ck, te, sy, t.2, re, co, va) (nI w) (nI s) g := ⟨7, bs_xd3 hw (hm w hw) 6 0 rfl t ht K⟩
theorem bs_xp31 {post : Int32 → SX → Prop} {s n : Nat} {g : Int32} {W : Nat → Nat} (hs : bs_SG s g) (hn : n ≤ 39) (hm : ∀ v, v < 107 → ∀ k, k < 6 → mo (6 * v + k) = nI (bs_el v k)) (hW : ∀ i, i < n → sy i = nI (W i) ∧ W i < 107) :
    ∀ e i, i + e = n → ∀ t : Nat × (Nat → Int32), bs_St t → post 0 (s0, s1, s2, s3, s4, s5, s6, s7, s8, s9, s10, cap, msc, tl, nI n, nI (bs_pf s g W e i t).1, rl, mo, ck, te, sy, (bs_pf s g W e i t).2, re, co, va) →
    wX_print_31 post (nI s) g (e + 1) (nI i) s0 s1 s2 s3 s4 s5 s6 s7 s8 s9 s10 cap msc tl (nI n) (nI t.1) rl mo ck te sy t.2 re co va := by
  intro e
  induction e with
  | zero =>
    intro i hi t ht K
    exact br_t (nI_le (by omega) (by omega)) K
  | succ e ih =>
    intro i hi t ht K
    have e0 : (nI i).toNatClampNeg = i := nI_clamp (by omega)
    obtain ⟨w1, w2⟩ := hW i (by omega)
    refine br_f (nI_ge (by omega) (by omega)) ⟨vp_in_nI (by omega) (by decide), ?_⟩
    rw [e0, w1]
    exact bs_xdw w2 hm ht.1 (nm_r (e' := nI (i + 1)) (nI_1 i) (ih (i + 1) (by omega) _ (bs_dw_St hs w2 ht) K))
end
section
variable {cap msc tl sl st rl li : Int32} {te sy sp re pa xx ap am fr wd : Nat → Int32}
theorem bs_y37 {post : Int32 → Prop} {k : Nat} (hk : k < 7) : ∀ e p i, i = k + e → i < 8 → p < 2 ^ 31 → post (nI (p / 10 ^ e % 10)) → wY_element_37 post (nI k) cap msc tl sl st rl li te sy sp re pa xx ap am fr wd (e + 1) (nI p) (nI i) := by
  intro e
  induction e with
  | zero =>
    intro p i hi h8 hp h
    refine br_t (nI_le (by omega) (by omega)) ⟨by decide, bs_at (pk_rem (d := 10) hp (by decide) (by decide)) ?_⟩
    rw [Nat.pow_zero, Nat.div_one] at h
    exact h
  | succ e ih =>
    intro p i hi h8 hp h
    refine br_f (nI_ge (by omega) (by omega)) (br_f (nI_nle (by omega) (by omega)) ⟨by decide, nm_r (e' := nI (p / 10)) (pk_div (d := 10) hp (by decide) (by decide)) (nm_r (e' := nI (i - 1)) (sb_m1 (by omega)) ?_)⟩)
    refine ih (p / 10) (i - 1) (by omega) (by omega) (Nat.lt_of_le_of_lt (Nat.div_le_self _ _) hp) ?_
    rw [Nat.div_div_eq_div_mul, Nat.mul_comm, ← Nat.pow_succ]
    exact h
theorem bs_st_el : ∀ k, k < 6 → 2331112 / 10 ^ (6 - k) % 10 = bs_el 106 k := by decide +kernel
theorem bs_yel {post : Int32 → Prop} {w k : Nat} (hP : bs_PI 108 pa) (hw : w < 107) (hk : k < bs_tt w) (h : post (nI (bs_ye w k))) : wpY_element post (cap, msc, tl, sl, st, rl, li, te, sy, sp, re, pa, xx, ap, am, fr, wd) (nI w) (nI k) := by
  have e0 : (nI w).toNatClampNeg = w := nI_clamp (by omega)
  have pw := hP w (by omega)
  refine br_f (nI_pos (by omega)) (br_t (nI_le (b := 106) (by omega) (by decide)) ⟨vp_in_nI (by omega) (by decide), nm_r (e' := nI (bs_yp w)) (by rw [e0, pw]) ?_⟩)
  unfold bs_tt at hk
  refine pk_eq w 106 (fun z => ?_) (fun z => ?_)
  · rw [if_pos z] at hk
    have e1 : bs_yp w = 2331112 := by unfold bs_yp; rw [if_pos z]
    rw [e1]
    refine ⟨(6 - k) + 1, bs_y37 hk (6 - k) 2331112 6 (by omega) (by decide) (by decide) ?_⟩
    unfold bs_ye at h
    by_cases y : k = 6
    · rw [if_pos y] at h
      rw [y]
      exact h
    · rw [if_neg y, z] at h
      rw [bs_st_el k (by omega)]
      exact h
  · rw [if_neg z] at hk
    have e1 : bs_yp w = bs_pt w := by unfold bs_yp; rw [if_neg z]
    rw [e1]
    have hl := bs_pt_lt w hw
    refine ⟨(5 - k) + 1, bs_y37 (by omega) (5 - k) (bs_pt w) 5 (by omega) (by decide) (by omega) ?_⟩
    unfold bs_ye at h
    rw [if_neg (by omega)] at h
    exact h
theorem bs_yd18 {post : SY → Prop} {s w : Nat} {g : Int32} (hP : bs_PI 108 pa) (hw : w < 107) :
    ∀ e k, k + e = bs_tt w → ∀ t : Nat × (Nat → Int32), t.1 ≤ 253 → post (cap, msc, tl, sl, nI (bs_dr (bs_wf s g w) e k t).1, rl, li, te, sy, (bs_dr (bs_wf s g w) e k t).2, re, pa, xx, ap, am, fr, wd) →
    wY_draw_18 post (nI w) (nI s) g (nI (bs_tt w)) cap msc tl sl rl li (e + 1) (nI k) (nI t.1) te sy t.2 re pa xx ap am fr wd := by
  have htt : bs_tt w ≤ 7 := by unfold bs_tt; split <;> omega
  intro e
  induction e with
  | zero =>
    intro k hk t ht K
    exact br_t (nI_le (by omega) (by omega)) K
  | succ e ih =>
    intro k hk t ht K
    refine br_f (nI_ge (by omega) (by omega)) ?_
    by_cases a : t.1 < 253
    · have e0 : (nI t.1).toNatClampNeg = t.1 := nI_clamp (by omega)
      refine br_f (nI_ge (b := 253) a (by decide)) ?_
      refine bs_yel hP hw (by omega) (nm_r (e' := nI (t.1 + 1)) (nI_1 _) ⟨by decide, ?_⟩)
      have I := ih (k + 1) (by omega) (bs_ap t (bs_wf s g w k)) (bs_ap1 ht) K
      have ea : bs_ap t (bs_wf s g w k) = (t.1 + 1, upd t.2 t.1 (bs_wf s g w k)) := by unfold bs_ap; rw [if_pos a]
      rw [ea] at I
      by_cases z : k % 2 = 0
      · refine br_t ((bs_even (by omega)).mpr z) ⟨vp_in_nI a (by decide), nm_r (e' := upd t.2 t.1 (bs_wf s g w k)) ?_ (nm_r (e' := nI (k + 1)) (nI_1 k) I)⟩
        rw [e0]
        unfold bs_wf; rw [if_pos z]
      · refine br_f (fun q => z ((bs_even (by omega)).mp q)) ⟨vp_in_nI a (by decide), nm_r (e' := upd t.2 t.1 (bs_wf s g w k)) ?_ (nm_r (e' := nI (k + 1)) (nI_1 k) I)⟩
        rw [e0]
        unfold bs_wf; rw [if_neg z]
    · rw [bs_dr_full _ _ _ a] at K
      exact br_t (nI_le (a := 253) (by omega) (by omega)) K
theorem bs_ydw {post : SY → Prop} {s w : Nat} {g : Int32} {t : Nat × (Nat → Int32)} (hP : bs_PI 108 pa) (hw : w < 107) (ht : t.1 ≤ 253) (K : post (cap, msc, tl, sl, nI (bs_dw s g w t).1, rl, li, te, sy, (bs_dw s g w t).2, re, pa, xx, ap, am, fr, wd)) :
    wpY_draw post (cap, msc, tl, sl, nI t.1, rl, li, te, sy, t.2, re, pa, xx, ap, am, fr, wd) (nI w) (nI s) g := by
  have H := bs_yd18 (post := post) (cap := cap) (msc := msc) (tl := tl) (sl := sl) (rl := rl) (li := li) (te := te) (sy := sy) (re := re) (pa := pa) (xx := xx) (ap := ap) (am := am) (fr := fr) (wd := wd) hP hw (bs_tt w) 0 (by omega) t ht K
  refine pk_eq w 106 (fun z => ?_) (fun z => ?_)
  · have e : bs_tt w = 7 := by unfold bs_tt; rw [if_pos z]
    rw [e] at H
    exact ⟨_, H⟩
  · have e : bs_tt w = 6 := by unfold bs_tt; rw [if_neg z]
    rw [e] at H
    exact ⟨_, H⟩
theorem bs_yp45 {post : Int32 → SY → Prop} {s n : Nat} {g : Int32} {W : Nat → Nat} (hs : bs_SG s g) (hn : n ≤ 39) (hP : bs_PI 108 pa) (hW : ∀ i, i < n → sy i = nI (W i) ∧ W i < 107) :
    ∀ e i, i + e = n → ∀ t : Nat × (Nat → Int32), bs_St t → post 0 (cap, msc, tl, nI n, nI (bs_pf s g W e i t).1, rl, li, te, sy, (bs_pf s g W e i t).2, re, pa, xx, ap, am, fr, wd) →
    wY_print_45 post (nI s) g (e + 1) (nI i) cap msc tl (nI n) (nI t.1) rl li te sy t.2 re pa xx ap am fr wd := by
  intro e
  induction e with
  | zero =>
    intro i hi t ht K
    exact br_t (nI_le (by omega) (by omega)) K
  | succ e ih =>
    intro i hi t ht K
    have e0 : (nI i).toNatClampNeg = i := nI_clamp (by omega)
    obtain ⟨w1, w2⟩ := hW i (by omega)
    refine br_f (nI_ge (by omega) (by omega)) ⟨vp_in_nI (by omega) (by decide), ?_⟩
    rw [e0, w1]
    exact bs_ydw hP w2 ht.1 (nm_r (e' := nI (i + 1)) (nI_1 i) (ih (i + 1) (by omega) _ (bs_dw_St hs w2 ht) K))
end
end
section
/-! groups of widths and their values -/
def bs_gs (g : Nat → Nat) (a : Nat) : Nat → Nat
  | 0 => 0
  | k + 1 => bs_gs g a k + g (a + k)
def bs_nr (g : Nat → Nat) (P k : Nat) : Nat := (22 * (g k + g (k + 1)) + P) / (2 * P)
/-- the value of group j -/
def bs_V (g : Nat → Nat) (j : Nat) : Int32 := bs_vl (bs_nr g (bs_gs g (6 * j) 6) (6 * j)) (bs_nr g (bs_gs g (6 * j) 6) (6 * j + 1)) (bs_nr g (bs_gs g (6 * j) 6) (6 * j + 2)) (bs_nr g (bs_gs g (6 * j) 6) (6 * j + 3))
theorem bs_gs_r {g : Nat → Nat} {n : Nat} (hg : ∀ k, k < n → 1 ≤ g k ∧ g k ≤ 400) {a : Nat} : ∀ k, a + k ≤ n → k ≤ bs_gs g a k ∧ bs_gs g a k ≤ 400 * k := by
  intro k
  induction k with
  | zero => intro _; exact ⟨Nat.le_refl 0, Nat.le_refl 0⟩
  | succ k ih =>
    intro h
    have h1 := ih (by omega)
    have h2 := hg (a + k) (by omega)
    show k + 1 ≤ bs_gs g a k + g (a + k) ∧ bs_gs g a k + g (a + k) ≤ 400 * (k + 1)
    omega
theorem bs_nr_v {g : Nat → Nat} {n k P : Nat} (hg : ∀ k, k < n → 1 ≤ g k ∧ g k ≤ 400) (hk : k + 1 < n) (h1 : 1 ≤ P) (h2 : P ≤ 2400) : (22 * (nI (g k) + nI (g (k + 1))) + nI P) / (2 * nI P) = nI (bs_nr g P k) := by
  have a := hg k (by omega)
  have b := hg (k + 1) hk
  rw [nI_add, show (22 : Int32) = nI 22 from rfl, pk_mul, nI_add, show (2 : Int32) = nI 2 from rfl, pk_mul]
  exact pk_div (by omega) (by omega) (by omega)
theorem bs_nr_b {g : Nat → Nat} {n k P : Nat} (hg : ∀ k, k < n → 1 ≤ g k ∧ g k ≤ 400) (hk : k + 1 < n) (h2 : P ≤ 2400) : bs_nr g P k < 100000 := by
  have a := hg k (by omega)
  have b := hg (k + 1) hk
  unfold bs_nr
  exact Nat.lt_of_le_of_lt (Nat.div_le_self _ _) (by omega)
/-- X's direction: place k of the reading is at first + k * step -/
def bs_Di (sp : Nat → Int32) (n : Nat) (fi sp1 : Int32) (g : Nat → Nat) : Prop := ∀ k, k < n → vp_in (fi + nI k * sp1) 253 ∧ sp (fi + nI k * sp1).toNatClampNeg = nI (g k)
theorem bs_dia (fi s : Int32) (a k : Nat) : fi + nI a * s + nI k * s = fi + nI (a + k) * s := by
  rw [Int32.add_assoc, ← Int32.add_mul, nI_add]
theorem bs_di1 (fi s : Int32) (a : Nat) : fi + nI a * s + s = fi + nI (a + 1) * s := by
  have h := bs_dia fi s a 1
  rw [show nI 1 * s = s from Int32.one_mul s] at h
  exact h
theorem bs_diF {sp : Nat → Int32} {n : Nat} (hn : n ≤ 253) {g : Nat → Nat} (h : ∀ k, k < n → sp k = nI (g k)) : bs_Di sp n 0 1 g := by
  intro k hk
  have e : (0 : Int32) + nI k * 1 = nI k := by rw [Int32.zero_add, Int32.mul_one]
  rw [e, nI_clamp (by omega)]
  exact ⟨vp_in_nI (by omega) (by decide), h k hk⟩
theorem bs_diB {sp : Nat → Int32} {n : Nat} (hn : n ≤ 253) (h0 : 1 ≤ n) {g : Nat → Nat} (h : ∀ k, k < n → sp (n - 1 - k) = nI (g k)) : bs_Di sp n (nI n - 1) (-1) g := by
  intro k hk
  have e : nI n - 1 + nI k * (-1) = nI (n - 1 - k) := by
    rw [show nI n - 1 = nI (n - 1) from pk_sub (b := 1) h0, Int32.mul_neg, Int32.mul_one, ← Int32.sub_eq_add_neg, pk_sub (by omega)]
  rw [e, nI_clamp (by omega)]
  exact ⟨vp_in_nI (by omega) (by decide), h k hk⟩
section
variable {s0 s1 s2 s3 s4 s5 s6 s7 s8 s9 s10 cap msc tl sl st rl : Int32} {mo ck te sy sp re co va : Nat → Int32}
variable {n : Nat} {g : Nat → Nat} {fi s : Int32}
theorem bs_xg5 {post : Int32 → Prop} {a : Nat} (hd : bs_Di sp n fi s g) (ha : a + 6 ≤ n) (h : post (nI (bs_gs g a 6))) :
    ∀ e k, k + e = 6 → wX_groupSum_5 post (fi + nI a * s) s s0 s1 s2 s3 s4 s5 s6 s7 s8 s9 s10 cap msc tl sl st rl mo ck te sy sp re co va (e + 1) (nI (bs_gs g a k)) (nI k) := by
  intro e
  induction e with
  | zero =>
    intro k hk
    have e : k = 6 := by omega
    subst e
    exact br_t (by decide) h
  | succ e ih =>
    intro k hk
    obtain ⟨v, c⟩ := hd (a + k) (by omega)
    refine br_f (nI_ge (b := 6) (by omega) (by decide)) ⟨by rw [bs_dia]; exact v, nm_r (e' := nI (bs_gs g a (k + 1))) ?_ (nm_r (e' := nI (k + 1)) (nI_1 k) (ih (k + 1) (by omega)))⟩
    rw [bs_dia, c, nI_add]
    rfl
theorem bs_xgs {post : Int32 → Prop} {a : Nat} (hd : bs_Di sp n fi s g) (ha : a + 6 ≤ n) (h : post (nI (bs_gs g a 6))) : wpX_groupSum post (s0, s1, s2, s3, s4, s5, s6, s7, s8, s9, s10, cap, msc, tl, sl, st, rl, mo, ck, te, sy, sp, re, co, va) (fi + nI a * s) s :=
  ⟨7, bs_xg5 hd ha h 6 0 rfl⟩
theorem bs_xed {post : Int32 → Prop} {a P : Nat} (hd : bs_Di sp n fi s g) (hg : ∀ k, k < n → 1 ≤ g k ∧ g k ≤ 400) (ha : a + 1 < n) (h1 : 1 ≤ P) (h2 : P ≤ 2400) (h : post (nI (bs_nr g P a))) : wpX_edgeDistance post (s0, s1, s2, s3, s4, s5, s6, s7, s8, s9, s10, cap, msc, tl, sl, st, rl, mo, ck, te, sy, sp, re, co, va) (fi + nI a * s) s (nI P) := by
  obtain ⟨v, c⟩ := hd a (by omega)
  obtain ⟨v1, c1⟩ := hd (a + 1) ha
  have e2 : (2 : Int32) * nI P = nI (2 * P) := by rw [show (2 : Int32) = nI 2 from rfl, pk_mul]
  refine br_t (nI_le (a := 1) h1 (by omega)) ⟨v, by rw [bs_di1]; exact v1, by rw [e2]; exact nI_ne0 (by omega) (by omega), ?_⟩
  rw [bs_di1, c, c1, bs_nr_v hg ha h1 h2]
  exact h
def bs_vk (f : Nat → Nat) : Nat → Nat → Nat → Int32
  | 0, _, key => nI (bs_cw 107 key) - 1
  | e + 1, k, key => if f k ≤ 7 then bs_vk f e (k + 1) (key * 8 + f k) else -1
theorem bs_vk4 (f : Nat → Nat) : bs_vk f 4 0 0 = bs_vl (f 0) (f 1) (f 2) (f 3) := by
  unfold bs_vl
  show (if f 0 ≤ 7 then (if f 1 ≤ 7 then (if f 2 ≤ 7 then (if f 3 ≤ 7 then nI (bs_cw 107 ((((0 * 8 + f 0) * 8 + f 1) * 8 + f 2) * 8 + f 3)) - 1 else -1) else -1) else -1) else -1) = _
  by_cases a : f 0 ≤ 7
  · by_cases b : f 1 ≤ 7
    · by_cases c : f 2 ≤ 7
      · by_cases d : f 3 ≤ 7
        · rw [if_pos a, if_pos b, if_pos c, if_pos d, if_pos ⟨a, b, c, d⟩, Nat.zero_mul, Nat.zero_add]
          rfl
        · rw [if_pos a, if_pos b, if_pos c, if_neg d, if_neg (fun z => d z.2.2.2)]
      · rw [if_pos a, if_pos b, if_neg c, if_neg (fun z => c z.2.2.1)]
    · rw [if_pos a, if_neg b, if_neg (fun z => b z.2.1)]
  · rw [if_neg a, if_neg (fun z => a z.1)]
theorem bs_x13 {post : Int32 → Prop} {a P : Nat} (hd : bs_Di sp n fi s g) (hg : ∀ k, k < n → 1 ≤ g k ∧ g k ≤ 400) (hc : ∀ key, key < 4096 → ck key = nI (bs_cw 107 key)) (ha : a + 6 ≤ n) (h1 : 1 ≤ P) (h2 : P ≤ 2400) :
    ∀ e k, k + e = 4 → ∀ key, key < 8 ^ k → post (bs_vk (fun k => bs_nr g P (a + k)) e k key) → wX_classify_13 post (fi + nI a * s) s (nI P) s0 s1 s2 s3 s4 s5 s6 s7 s8 s9 s10 cap msc tl sl st rl mo ck te sy sp re co va (e + 1) (nI key) (nI k) := by
  intro e
  induction e with
  | zero =>
    intro k hk key hkey h
    have e : k = 4 := by omega
    subst e
    have hk4 : key < 4096 := hkey
    have e0 : (nI key).toNatClampNeg = key := nI_clamp (by omega)
    refine br_t (by decide) ⟨vp_in_nI hk4 (by decide), ?_⟩
    rw [e0, hc key hk4]
    exact h
  | succ e ih =>
    intro k hk key hkey h
    have hp : 8 ^ k ≤ 8 ^ 4 := Nat.pow_le_pow_right (by decide) (by omega)
    have hp' : (8 : Nat) ^ 4 = 4096 := by decide
    have hb := bs_nr_b (P := P) hg (show a + k + 1 < n by omega) h2
    refine br_f (nI_ge (b := 4) (by omega) (by decide)) ?_
    rw [bs_dia]
    refine bs_xed hd hg (by omega) h1 h2 ?_
    have h' : post (if bs_nr g P (a + k) ≤ 7 then bs_vk (fun k => bs_nr g P (a + k)) e (k + 1) (key * 8 + bs_nr g P (a + k)) else -1) := h
    refine bs_ile post (bs_nr g P (a + k)) 7 h' (fun z h => ?_) fun _ h => h
    refine nm_r (e' := nI (key * 8 + bs_nr g P (a + k))) ?_ (nm_r (e' := nI (k + 1)) (nI_1 k) (ih (k + 1) (by omega) _ ?_ h))
    · rw [show (8 : Int32) = nI 8 from rfl, pk_mul, nI_add]
    · rw [Nat.pow_succ]; omega
theorem bs_xcl {post : Int32 → Prop} {j : Nat} (hd : bs_Di sp n fi s g) (hg : ∀ k, k < n → 1 ≤ g k ∧ g k ≤ 400) (hc : ∀ key, key < 4096 → ck key = nI (bs_cw 107 key)) (hj : 6 * j + 6 ≤ n) (h : post (bs_V g j)) : wpX_classify post (s0, s1, s2, s3, s4, s5, s6, s7, s8, s9, s10, cap, msc, tl, sl, st, rl, mo, ck, te, sy, sp, re, co, va) (fi + nI (6 * j) * s) s := by
  unfold wpX_classify
  dsimp only
  have hr := bs_gs_r hg (a := 6 * j) 6 hj
  refine bs_xgs hd hj ⟨5, ?_⟩
  refine bs_x13 hd hg hc hj (by omega) (by omega) 4 0 rfl 0 (by decide) ?_
  rw [bs_vk4]
  exact h
theorem bs_xcg3 {post : SX → Prop} {c : Nat} (hd : bs_Di sp n fi s g) (hg : ∀ k, k < n → 1 ≤ g k ∧ g k ≤ 400) (hc : ∀ key, key < 4096 → ck key = nI (bs_cw 107 key)) (hn : 6 * c ≤ n) (hc42 : c ≤ 42)
    (K : ∀ va : Nat → Int32, (∀ j, j < c → va j = bs_V g j) → post (s0, s1, s2, s3, s4, s5, s6, s7, s8, s9, s10, cap, msc, tl, sl, st, rl, mo, ck, te, sy, sp, re, co, va)) :
    ∀ e j, j + e = c → ∀ va : Nat → Int32, (∀ i, i < j → va i = bs_V g i) → wX_classifyGroups_3 post fi s (nI c) s0 s1 s2 s3 s4 s5 s6 s7 s8 s9 s10 cap msc tl sl st rl (e + 1) (nI j) mo ck te sy sp re co va := by
  intro e
  induction e with
  | zero =>
    intro j hj va h
    exact br_t (nI_le (by omega) (by omega)) (K va fun i hi => h i (by omega))
  | succ e ih =>
    intro j hj va h
    have e0 : (nI j).toNatClampNeg = j := nI_clamp (by omega)
    refine br_f (nI_ge (by omega) (by omega)) ?_
    have e6 : (6 : Int32) * nI j = nI (6 * j) := by rw [show (6 : Int32) = nI 6 from rfl, pk_mul]
    rw [e6]
    refine bs_xcl hd hg hc (by omega) ⟨vp_in_nI (by omega) (by decide), nm_r (e' := upd va j (bs_V g j)) (by rw [e0]) (nm_r (e' := nI (j + 1)) (nI_1 j) (ih (j + 1) (by omega) _ fun i hi => ?_))⟩
    by_cases z : i = j
    · rw [z, pk_us]
    · rw [pk_un z]; exact h i (by omega)
theorem bs_xcg {post : SX → Prop} {c : Nat} (hd : bs_Di sp n fi s g) (hg : ∀ k, k < n → 1 ≤ g k ∧ g k ≤ 400) (hc : ∀ key, key < 4096 → ck key = nI (bs_cw 107 key)) (hn : 6 * c ≤ n) (hc42 : c ≤ 42)
    (K : ∀ va : Nat → Int32, (∀ j, j < c → va j = bs_V g j) → post (s0, s1, s2, s3, s4, s5, s6, s7, s8, s9, s10, cap, msc, tl, sl, st, rl, mo, ck, te, sy, sp, re, co, va)) : wpX_classifyGroups post (s0, s1, s2, s3, s4, s5, s6, s7, s8, s9, s10, cap, msc, tl, sl, st, rl, mo, ck, te, sy, sp, re, co, va) fi s (nI c) :=
  ⟨c + 1, bs_xcg3 hd hg hc hn hc42 K c 0 (by omega) va fun i hi => by omega⟩
theorem bs_xcv9 {post : Int32 → Prop} {w : Nat → Nat} {c : Nat} (hc : c ≤ 41) (hw : ∀ q, q ≤ c → va q = nI (w q) ∧ w q ≤ 106) (h : post (nI (bs_sm w c % 103))) :
    ∀ e j, j + e = c → wX_checkOfValues_9 post (nI (c + 1)) s0 s1 s2 s3 s4 s5 s6 s7 s8 s9 s10 cap msc tl sl st rl mo ck te sy sp re co va (e + 1) (nI (bs_sm w j)) (nI (j + 1)) := by
  intro e
  induction e with
  | zero =>
    intro j hj
    have e : j = c := by omega
    subst e
    have b := bs_sm_le j hc fun q hq => (hw q hq).2
    exact br_t (nI_le (Nat.le_refl _) (by omega)) ⟨by decide, bs_at (pk_rem (d := 103) (by omega) (by decide) (by decide)) h⟩
  | succ e ih =>
    intro j hj
    have e1 : (nI (j + 1)).toNatClampNeg = j + 1 := nI_clamp (by omega)
    refine br_f (nI_ge (by omega) (by omega)) ⟨vp_in_nI (by omega) (by decide), nm_r (e' := nI (bs_sm w (j + 1))) ?_ (nm_r (e' := nI (j + 1 + 1)) (nI_1 (j + 1)) (ih (j + 1) (by omega)))⟩
    rw [e1, (hw (j + 1) (by omega)).1, pk_mul, nI_add]
    rfl
theorem bs_xcv {post : Int32 → Prop} {w : Nat → Nat} {c : Nat} (hc : c ≤ 41) (hw : ∀ q, q ≤ c → va q = nI (w q) ∧ w q ≤ 106) (h : post (nI (bs_sm w c % 103))) : wpX_checkOfValues post (s0, s1, s2, s3, s4, s5, s6, s7, s8, s9, s10, cap, msc, tl, sl, st, rl, mo, ck, te, sy, sp, re, co, va) (nI (c + 1)) :=
  nm_r (e' := nI (bs_sm w 0)) (hw 0 (Nat.zero_le c)).1 ⟨c + 1, bs_xcv9 hc hw h c 0 (by omega)⟩
end
section
variable {cap msc tl sl st rl li : Int32} {te sy sp re pa xx ap am fr wd : Nat → Int32}
variable {n : Nat} {g : Nat → Nat} {b : Int32}
/-- Y's direction -/
def bs_Yd (sp : Nat → Int32) (n : Nat) (b : Int32) (g : Nat → Nat) : Prop := (b = 0 ∧ ∀ k, k < n → sp k = nI (g k)) ∨ (b = 1 ∧ ∀ k, k < n → sp (n - 1 - k) = nI (g k))
theorem bs_yr {post : Int32 → Prop} {k : Nat} (hn : n ≤ 253) (hd : bs_Yd sp n b g) (hk : k < n) (h : post (nI (g k))) : wpY_r post (cap, msc, tl, sl, nI n, rl, li, te, sy, sp, re, pa, xx, ap, am, fr, wd) (nI k) b := by
  have e0 : (nI k).toNatClampNeg = k := nI_clamp (by omega)
  refine br_f (nI_pos (by omega)) (br_t (nI_lt hk (by omega)) ?_)
  rcases hd with ⟨rfl, hd⟩ | ⟨rfl, hd⟩
  · refine br_t rfl ⟨vp_in_nI (by omega) (by decide), ?_⟩
    rw [e0, hd k hk]; exact h
  · have e : nI n - 1 - nI k = nI (n - 1 - k) := by rw [show nI n - 1 = nI (n - 1) from pk_sub (b := 1) (by omega), pk_sub (by omega)]
    refine br_f (by decide) ⟨by rw [e]; exact vp_in_nI (by omega) (by decide), ?_⟩
    rw [e, nI_clamp (by omega), hd k hk]; exact h
theorem bs_yt5 {post : Int32 → Prop} {j : Nat} (hn : n ≤ 253) (hd : bs_Yd sp n b g) (hj : 6 * j + 6 ≤ n) (h : post (nI (bs_gs g (6 * j) 6))) :
    ∀ e k, k + e = 6 → wY_total_5 post (nI j) b cap msc tl sl (nI n) rl li te sy sp re pa xx ap am fr wd (e + 1) (nI (bs_gs g (6 * j) k)) (nI k) := by
  intro e
  induction e with
  | zero =>
    intro k hk
    have e : k = 6 := by omega
    subst e
    exact br_t (by decide) h
  | succ e ih =>
    intro k hk
    refine br_f (nI_ge (b := 6) (by omega) (by decide)) ?_
    have e6 : (6 : Int32) * nI j + nI k = nI (6 * j + k) := by rw [show (6 : Int32) = nI 6 from rfl, pk_mul, nI_add]
    rw [e6]
    exact bs_yr hn hd (by omega) (nm_r (e' := nI (bs_gs g (6 * j) (k + 1))) (nI_add _ _) (nm_r (e' := nI (k + 1)) (nI_1 k) (ih (k + 1) (by omega))))
theorem bs_ytt {post : Int32 → Prop} {j : Nat} (hn : n ≤ 253) (hd : bs_Yd sp n b g) (hj : 6 * j + 6 ≤ n) (h : post (nI (bs_gs g (6 * j) 6))) : wpY_total post (cap, msc, tl, sl, nI n, rl, li, te, sy, sp, re, pa, xx, ap, am, fr, wd) (nI j) b :=
  ⟨7, bs_yt5 hn hd hj h 6 0 rfl⟩
theorem bs_ynr {post : Int32 → Prop} {x : Int32} {k P : Nat} (hn : n ≤ 253) (hd : bs_Yd sp n b g) (hg : ∀ k, k < n → 1 ≤ g k ∧ g k ≤ 400) (hx : x = nI k) (hk : k + 1 < n) (h1 : 1 ≤ P) (h2 : P ≤ 2400) (h : post (nI (bs_nr g P k))) : wpY_near post (cap, msc, tl, sl, nI n, rl, li, te, sy, sp, re, pa, xx, ap, am, fr, wd) x (nI P) b := by
  subst hx
  have e2 : (2 : Int32) * nI P = nI (2 * P) := by rw [show (2 : Int32) = nI 2 from rfl, pk_mul]
  unfold wpY_near
  dsimp only
  refine br_t (nI_le (a := 1) h1 (by omega)) ?_
  refine bs_yr hn hd (by omega) ?_
  rw [nI_1]
  refine bs_yr hn hd hk ⟨by rw [e2]; exact nI_ne0 (by omega) (by omega), ?_⟩
  rw [bs_nr_v hg hk h1 h2]
  exact h
theorem bs_y64 {post : Int32 → Prop} {a b c d : Nat} (hP : bs_PI 108 pa) (ha : a < 100000) (hb : b < 100000) (hc : c < 100000) (hd : d < 100000) (h : post (bs_vl a b c d)) :
    ∀ e v, v + e = 107 → (∀ u, u < v → ¬ bs_hit u a b c d) → wY_value_64 post (nI a) (nI b) (nI c) (nI d) cap msc tl sl st rl li te sy sp re pa xx ap am fr wd (e + 1) (nI v) := by
  intro e
  induction e with
  | zero =>
    intro v hv hn
    have e : v = 107 := by omega
    subst e
    rw [bs_vl_none hn] at h
    exact br_t (by decide) h
  | succ e ih =>
    intro v hv hn
    have hv7 : v < 107 := by omega
    have htt : 6 ≤ bs_tt v := by unfold bs_tt; split <;> omega
    have NX : ¬ bs_hit v a b c d → ∀ y : Int32, y = nI v + 1 → wY_value_64 post (nI a) (nI b) (nI c) (nI d) cap msc tl sl st rl li te sy sp re pa xx ap am fr wd (e + 1) y := by
      intro hh
      refine nm_r (e' := nI (v + 1)) (nI_1 v) (ih (v + 1) (by omega) fun u hu => ?_)
      by_cases z : u = v
      · rw [z]; exact hh
      · exact hn u (by omega)
    have y0 : bs_ye v 0 = bs_el v 0 := rfl
    have y1 : bs_ye v 1 = bs_el v 1 := rfl
    have y2 : bs_ye v 2 = bs_el v 2 := rfl
    have y3 : bs_ye v 3 = bs_el v 3 := rfl
    have y4 : bs_ye v 4 = bs_el v 4 := rfl
    have r0 := bs_el_r v hv7 0 (by decide)
    have r1 := bs_el_r v hv7 1 (by decide)
    have r2 := bs_el_r v hv7 2 (by decide)
    have r3 := bs_el_r v hv7 3 (by decide)
    have r4 := bs_el_r v hv7 4 (by decide)
    refine br_f (nI_nlt (a := 106) (b := v) (by omega) (by decide)) ?_
    refine bs_yel (k := 0) hP hv7 (by omega) ?_
    refine bs_yel (k := 1) hP hv7 (by omega) ?_
    rw [y0, y1]
    refine pk_eq (bs_el v 0 + bs_el v 1) a (fun q0 => ?_) (fun q0 => NX fun z => q0 z.1) (nI_add _ _)
    refine bs_yel (k := 1) hP hv7 (by omega) ?_
    refine bs_yel (k := 2) hP hv7 (by omega) ?_
    rw [y1, y2]
    refine pk_eq (bs_el v 1 + bs_el v 2) b (fun q1 => ?_) (fun q1 => NX fun z => q1 z.2.1) (nI_add _ _)
    refine bs_yel (k := 2) hP hv7 (by omega) ?_
    refine bs_yel (k := 3) hP hv7 (by omega) ?_
    rw [y2, y3]
    refine pk_eq (bs_el v 2 + bs_el v 3) c (fun q2 => ?_) (fun q2 => NX fun z => q2 z.2.2.1) (nI_add _ _)
    refine bs_yel (k := 3) hP hv7 (by omega) ?_
    refine bs_yel (k := 4) hP hv7 (by omega) ?_
    rw [y3, y4]
    refine pk_eq (bs_el v 3 + bs_el v 4) d (fun q3 => ?_) (fun q3 => NX fun z => q3 z.2.2.2) (nI_add _ _)
    rw [bs_vl_hit hv7 ⟨q0, q1, q2, q3⟩] at h
    exact h
theorem bs_yvl {post : Int32 → Prop} {j : Nat} (hP : bs_PI 108 pa) (hn : n ≤ 253) (hd : bs_Yd sp n b g) (hg : ∀ k, k < n → 1 ≤ g k ∧ g k ≤ 400) (hj : 6 * j + 6 ≤ n) (h : post (bs_V g j)) : wpY_value post (cap, msc, tl, sl, nI n, rl, li, te, sy, sp, re, pa, xx, ap, am, fr, wd) (nI j) b := by
  have hr := bs_gs_r hg (a := 6 * j) 6 hj
  have e6 : (6 : Int32) * nI j = nI (6 * j) := by rw [show (6 : Int32) = nI 6 from rfl, pk_mul]
  unfold wpY_value
  dsimp only
  refine bs_ytt hn hd hj ?_
  refine bs_ynr (k := 6 * j) hn hd hg e6 (by omega) (by omega) (by omega) ?_
  refine bs_ynr (k := 6 * j + 1) hn hd hg (by rw [e6, nI_1]) (by omega) (by omega) (by omega) ?_
  refine bs_ynr (k := 6 * j + 2) hn hd hg (by rw [e6]; exact nI_add _ 2) (by omega) (by omega) (by omega) ?_
  refine bs_ynr (k := 6 * j + 3) hn hd hg (by rw [e6]; exact nI_add _ 3) (by omega) (by omega) (by omega) ?_
  refine ⟨108, bs_y64 hP ?_ ?_ ?_ ?_ h 107 0 rfl fun u hu => by omega⟩
  · exact bs_nr_b hg (by omega) (by omega)
  · exact bs_nr_b hg (by omega) (by omega)
  · exact bs_nr_b hg (by omega) (by omega)
  · exact bs_nr_b hg (by omega) (by omega)
end
end
section
/-! reading a strip in one direction: both sides to one outcome -/
/-- what a reading leaves -/
def bs_O (C : Nat) (r rl' : Int32) (re' : Nat → Int32) : Prop := (r = 0 ∧ ∃ z, z ≤ C ∧ rl' = nI z ∧ bs_R re' z 0 128) ∨ (r ≠ 0 ∧ rl' = -1)
def bs_st2 (re : Nat → Int32) (sz v : Nat) : Nat → Int32 := upd (upd re sz (nI (48 + v / 10))) (sz + 1) (nI (48 + v % 10))
/-- the reading with value v stored -/
def bs_sto (re : Nat → Int32) (sz m v : Nat) : Nat → Int32 := if bs_wr m v = 2 then bs_st2 re sz v else if bs_wr m v = 1 then upd re sz (nI (bs_sc m v)) else re
theorem bs_stoR {re : Nat → Int32} {sz m v : Nat} (hm : m < 5) (hv : v < 103) (hn : bs_nm m v ≠ none) (h : bs_R re sz 0 128) : bs_R (bs_sto re sz m v) (sz + bs_wr m v) 0 128 := by
  unfold bs_sto
  rcases bs_c6 m v with w | w | w
  · rw [if_neg (by omega), if_neg (by omega), w]
    exact h
  · rw [if_neg (by omega), if_pos w, w]
    exact bs_ext h rfl (Nat.zero_le _) (bs_c4 m hm v hv hn w).2 (by decide)
  · rw [if_pos w, w]
    have h5 := bs_c5 m hm v hv w
    unfold bs_st2
    exact bs_ext (bs_ext h rfl (Nat.zero_le _) (by omega) (by decide)) rfl (Nat.zero_le _) (by omega) (by decide)
section
variable {s0 s1 s2 s3 s4 s5 s6 s7 s8 s9 s10 cap msc tl sl st rl : Int32} {mo ck te sy sp re co va : Nat → Int32}
theorem bs_xst' {post : SX → Prop} {sz m v : Nat} (hm : m < 5) (hv : v < 103) (hs : sz + bs_wr m v ≤ 24) (h : post (s0, s1, s2, s3, s4, s5, s6, s7, s8, s9, s10, cap, msc, tl, sl, st, rl, mo, ck, te, sy, sp, bs_sto re sz m v, co, va)) : wpX_store post (s0, s1, s2, s3, s4, s5, s6, s7, s8, s9, s10, cap, msc, tl, sl, st, rl, mo, ck, te, sy, sp, re, co, va) (nI sz) (nI m) (nI v) := by
  have e0 : (nI sz).toNatClampNeg = sz := nI_clamp (by omega)
  have e1 : (nI sz + 1).toNatClampNeg = sz + 1 := by rw [nI_1]; exact nI_clamp (by omega)
  unfold bs_sto at h
  unfold wpX_store
  dsimp only
  refine bs_xwr hm (by omega) ?_
  rcases bs_c6 m v with w | w | w
  · rw [if_neg (by omega), if_neg (by omega)] at h
    rw [w]
    exact br_f (by decide) (br_f (by decide) h)
  · rw [if_neg (by omega), if_pos w] at h
    rw [w] at hs ⊢
    refine br_f (by decide) (br_t rfl ?_)
    exact bs_xsc hm hv ⟨vp_in_nI (by omega) (by decide), nm_r (e' := upd re sz (nI (bs_sc m v))) (by rw [e0]) h⟩
  · rw [if_pos w] at h
    rw [w] at hs ⊢
    refine br_t rfl ⟨by decide, vp_in_nI (by omega) (by decide), nm_r (e' := upd re sz (nI (48 + v / 10))) ?_ ⟨by decide, by rw [nI_1]; exact vp_in_nI (by omega) (by decide), nm_r (e' := bs_st2 re sz v) ?_ h⟩⟩
    · rw [e0, show (10 : Int32) = nI 10 from rfl, pk_div (by omega) (by decide) (by decide), show (48 : Int32) = nI 48 from rfl, nI_add]
    · rw [e1, show (10 : Int32) = nI 10 from rfl, pk_rem (by omega) (by decide) (by decide), show (48 : Int32) = nI 48 from rfl, nI_add]
      rfl
end
section
variable {cap msc tl sl st rl li : Int32} {te sy sp re pa xx ap am fr wd : Nat → Int32}
theorem bs_y365 {post : Int32 → SY → Prop} {J : Int32 → Int32 → Int32 → (Nat → Int32) → (Nat → Int32) → (Nat → Int32) → (Nat → Int32) → (Nat → Int32) → (Nat → Int32) → (Nat → Int32) → (Nat → Int32) → (Nat → Int32) → (Nat → Int32) → Prop} {x2 : Int32} {m sz j v k : Nat} (hm : m < 5) (hv : v < 103) (hj : j < 42) (hx : xx j = nI v)
    (h : J (nI (bs_af m v)) (nI (sz + k)) (nI (j + 1)) te sy sp re pa xx ap am fr wd) : wY_read_365 post J x2 (nI m) (nI sz) (nI j) (nI k) cap msc tl sl st rl li te sy sp re pa xx ap am fr wd := by
  have e0 : (nI j).toNatClampNeg = j := nI_clamp (by omega)
  unfold wY_read_365
  refine nm_r (e' := nI (sz + k)) (nI_add sz k) ⟨vp_in_nI hj (by decide), ?_⟩
  rw [e0, hx]
  exact bs_yaf hm (by omega) (nm_r (e' := nI (j + 1)) (nI_1 j) h)
theorem bs_y231s {post : Int32 → SY → Prop} {c m sz j v f C : Nat} (hm : m < 5) (hv : v < 103) (hC : C ≤ 24) (hs : sz ≤ C) (hc : 3 ≤ c) (hc2 : c ≤ 42) (hj : j < c - 2) (hx : xx j = nI v)
    (K18 : bs_nm m v = none → post 18 (nI C, msc, tl, sl, st, rl, li, te, sy, sp, re, pa, xx, ap, am, fr, wd)) (K19 : bs_nm m v ≠ none → C < sz + bs_wr m v → post 19 (nI C, msc, tl, sl, st, rl, li, te, sy, sp, re, pa, xx, ap, am, fr, wd))
    (K : bs_nm m v ≠ none → sz + bs_wr m v ≤ C → wY_read_231 post (nI c) (nI C) msc tl sl st rl li f (nI (bs_af m v)) (nI (sz + bs_wr m v)) (nI (j + 1)) te sy sp (bs_sto re sz m v) pa xx ap am fr wd) :
    wY_read_231 post (nI c) (nI C) msc tl sl st rl li (f + 1) (nI m) (nI sz) (nI j) te sy sp re pa xx ap am fr wd := by
  have e0 : (nI j).toNatClampNeg = j := nI_clamp (by omega)
  have es : (nI sz).toNatClampNeg = sz := nI_clamp (by omega)
  have es1 : (nI sz + 1).toNatClampNeg = sz + 1 := by rw [nI_1]; exact nI_clamp (by omega)
  have ec : nI c - 3 = nI (c - 3) := pk_sub (b := 3) hc
  refine br_f (by rw [ec]; exact nI_nlt (by omega) (by omega)) ⟨vp_in_nI (by omega) (by decide), ?_⟩
  rw [e0, hx]
  refine bs_yem hm (by omega) ?_
  by_cases hn : bs_nm m v = none
  · rw [bs_c1 m hm v hv hn]
    exact br_f bs_n1' (K18 hn)
  · rcases bs_c6 m v with w | w | w
    · rw [bs_c3 m hm v hv hn w]
      have K' := K hn
      rw [w] at K'
      unfold bs_sto at K'
      rw [if_neg (by omega), if_neg (by omega)] at K'
      have k19 := K19 hn
      rw [w] at k19
      refine br_t (by decide) (br_t (by decide) (br_t rfl ?_))
      unfold wY_read_287
      refine pk_le (sz + 0) C (fun z => ?_) (fun z => k19 z) (nI_add sz 0)
      refine br_f (by decide) ?_
      unfold wY_read_319
      refine br_f (by decide) ?_
      exact bs_y365 (k := 0) hm hv (by omega) hx (K' z)
    · have h4 := bs_c4 m hm v hv hn w
      rw [h4.1]
      have K' := K hn
      rw [w] at K'
      unfold bs_sto at K'
      rw [if_neg (by omega), if_pos w] at K'
      have k19 := K19 hn
      rw [w] at k19
      refine br_t (nI_pos' (by omega)) (br_t (nI_lt (b := 1000) (by omega) (by decide)) (br_f (fun q => ?_) ?_))
      · have := (nI_eq (b := 200) (by omega) (by decide)).mp q
        omega
      unfold wY_read_287
      refine pk_le (sz + 1) C (fun z => ?_) (fun z => k19 z) (nI_1 sz)
      refine br_t rfl ⟨vp_in_nI (by omega) (by decide), nm_r (e' := upd re sz (nI (bs_sc m v))) (by rw [es]; rfl) ?_⟩
      unfold wY_read_319
      refine br_f (by decide) ?_
      exact bs_y365 (k := 1) hm hv (by omega) hx (K' z)
    · have h5 := bs_c5 m hm v hv w
      rw [h5.1]
      have K' := K hn
      rw [w] at K'
      unfold bs_sto at K'
      rw [if_pos w] at K'
      have k19 := K19 hn
      rw [w] at k19
      have ev : bs_oI (some (1000 + v)) - 1000 = nI v := by
        show nI (1000 + v) - nI 1000 = nI v
        rw [pk_sub (by omega), Nat.add_sub_cancel_left]
      refine br_t (nI_pos' (by omega)) (br_f (nI_nlt (b := 1000) (by omega) (by omega)) ?_)
      unfold wY_read_287
      refine pk_le (sz + 2) C (fun z => ?_) (fun z => k19 z) (nI_add sz 2)
      refine br_f (by decide) ?_
      unfold wY_read_319
      refine br_t rfl ⟨by decide, vp_in_nI (by omega) (by decide), nm_r (e' := upd re sz (nI (48 + v / 10))) ?_ ⟨by decide, by rw [nI_1]; exact vp_in_nI (by omega) (by decide), nm_r (e' := bs_st2 re sz v) ?_ ?_⟩⟩
      · rw [es, ev, show (10 : Int32) = nI 10 from rfl, pk_div (by omega) (by decide) (by decide), show (48 : Int32) = nI 48 from rfl, nI_add]
      · rw [es1, ev, show (10 : Int32) = nI 10 from rfl, pk_rem (by omega) (by decide) (by decide), show (48 : Int32) = nI 48 from rfl, nI_add]
        rfl
      · exact bs_y365 (k := 2) hm hv (by omega) hx (K' z)
end
section
variable {s0 s1 s2 s3 s4 s5 s6 s7 s8 s9 s10 cap msc tl sl st rl : Int32} {mo ck te sy sp re co va : Nat → Int32} {li : Int32} {pa xx ap am fr wd : Nat → Int32}
/-- decoding, in lockstep -/
theorem bs_dec {c C : Nat} {w : Nat → Nat} (hC : C ≤ 24) (hc : 3 ≤ c) (hc2 : c ≤ 42) (hw : ∀ j, 1 ≤ j → j < c - 2 → w j < 103) :
    ∀ e j, j + e = c - 2 → 1 ≤ j → ∀ m, m < 5 → ∀ sz, sz ≤ C → ∀ re : Nat → Int32, bs_R re sz 0 128 → ∃ (r rl' : Int32) (re' : Nat → Int32), r ≠ 14 ∧ bs_O C r rl' re' ∧
      (∀ (va : Nat → Int32) (post : Int32 → SX → Prop), (∀ j, 1 ≤ j → j < c - 2 → va j = nI (w j)) → post r (s0, s1, s2, s3, s4, s5, s6, s7, s8, s9, s10, nI C, msc, tl, sl, st, rl', mo, ck, te, sy, sp, re', co, va) → wX_decode_15 post (nI (c - 2)) (e + 1) (nI m) (nI sz) (nI j) s0 s1 s2 s3 s4 s5 s6 s7 s8 s9 s10 (nI C) msc tl sl st ((-1)) mo ck te sy sp re co va) ∧
      (∀ (xx : Nat → Int32) (post : Int32 → SY → Prop), (∀ j, 1 ≤ j → j < c - 2 → xx j = nI (w j)) → post r (nI C, msc, tl, sl, st, rl', li, te, sy, sp, re', pa, xx, ap, am, fr, wd) → wY_read_231 post (nI c) (nI C) msc tl sl st ((-1)) li (e + 1) (nI m) (nI sz) (nI j) te sy sp re pa xx ap am fr wd) := by
  have ec : nI c - 3 = nI (c - 3) := pk_sub (b := 3) hc
  intro e
  induction e with
  | zero =>
    intro j hj h1 m hm sz hs re hR
    by_cases z : m < 3
    · refine ⟨0, nI sz, re, by decide, Or.inl ⟨rfl, sz, hs, rfl, hR⟩, fun va post _ h => ?_, fun xx post _ h => ?_⟩
      · exact br_t (nI_le (by omega) (by omega)) (br_t (nI_lt (b := 3) z (by decide)) h)
      · exact br_t (by rw [ec]; exact nI_lt (by omega) (by omega)) (br_t (nI_lt (b := 3) z (by decide)) h)
    · refine ⟨18, -1, re, by decide, Or.inr ⟨by decide, rfl⟩, fun va post _ h => ?_, fun xx post _ h => ?_⟩
      · exact br_t (nI_le (by omega) (by omega)) (br_f (nI_nlt (b := 3) (by omega) (by omega)) h)
      · exact br_t (by rw [ec]; exact nI_lt (by omega) (by omega)) (br_f (nI_nlt (b := 3) (by omega) (by omega)) h)
  | succ e ih =>
    intro j hj h1 m hm sz hs re hR
    have hv := hw j h1 (by omega)
    have e0 : (nI j).toNatClampNeg = j := nI_clamp (by omega)
    have c6 := bs_c6 m (w j)
    by_cases hn : bs_nm m (w j) = none
    · refine ⟨18, -1, re, by decide, Or.inr ⟨by decide, rfl⟩, fun va post hva h => ?_, fun xx post hxx h => ?_⟩
      · refine br_f (nI_ge (by omega) (by omega)) ⟨vp_in_nI (by omega) (by decide), nm_r (e' := nI (w j)) (by rw [e0, hva j h1 (by omega)]) ?_⟩
        refine bs_xnm hm (by omega) ?_
        rw [hn]
        exact br_f bs_n1' h
      · exact bs_y231s hm hv hC hs hc hc2 (by omega) (hxx j h1 (by omega)) (fun _ => h) (fun z => absurd hn z) (fun z => absurd hn z)
    · have h2 := bs_c2 m hm (w j) hv hn
      by_cases hz : sz + bs_wr m (w j) ≤ C
      · obtain ⟨r, rl', re', hr, hO, hX, hY⟩ := ih (j + 1) (by omega) (by omega) (bs_af m (w j)) h2.2 (sz + bs_wr m (w j)) hz _ (bs_stoR hm hv hn hR)
        refine ⟨r, rl', re', hr, hO, fun va post hva h => ?_, fun xx post hxx h => ?_⟩
        · refine br_f (nI_ge (by omega) (by omega)) ⟨vp_in_nI (by omega) (by decide), nm_r (e' := nI (w j)) (by rw [e0, hva j h1 (by omega)]) ?_⟩
          refine bs_xnm hm (by omega) ?_
          rw [h2.1]
          refine br_t (nI_pos' (by omega)) ?_
          refine bs_xwr hm (by omega) ?_
          refine pk_le (sz + bs_wr m (w j)) C (fun _ => ?_) (fun y => ?_) (nI_add _ _)
          · refine bs_xst' hm hv (by omega) ?_
            exact nm_r (e' := nI (sz + bs_wr m (w j))) (nI_add _ _) (nm_r (e' := nI (j + 1)) (nI_1 j) (hX va post hva h))
          · omega
        · exact bs_y231s hm hv hC hs hc hc2 (by omega) (hxx j h1 (by omega)) (fun z => absurd z hn) (fun _ z => by omega) (fun _ _ => hY xx post hxx h)
      · refine ⟨19, -1, re, by decide, Or.inr ⟨by decide, rfl⟩, fun va post hva h => ?_, fun xx post hxx h => ?_⟩
        · refine br_f (nI_ge (by omega) (by omega)) ⟨vp_in_nI (by omega) (by decide), nm_r (e' := nI (w j)) (by rw [e0, hva j h1 (by omega)]) ?_⟩
          refine bs_xnm hm (by omega) ?_
          rw [h2.1]
          refine br_t (nI_pos' (by omega)) ?_
          refine bs_xwr hm (by omega) ?_
          exact pk_le (sz + bs_wr m (w j)) C (fun y => by omega) (fun _ => h) (nI_add _ _)
        · exact bs_y231s hm hv hC hs hc hc2 (by omega) (hxx j h1 (by omega)) (fun z => absurd z hn) (fun _ _ => h) (fun _ z => absurd z hz)
end
end
section
/-! one direction, then scan -/
def bs_ok (g : Nat → Nat) (j : Nat) : Prop := ¬ bs_V g j < 0 ∧ bs_V g j ≤ 102
def bs_all (g : Nat → Nat) (c : Nat) : Prop := ∀ j, 1 ≤ j → j ≤ c - 2 → bs_ok g j
def bs_stop (g : Nat → Nat) (c : Nat) : Prop := bs_V g (c - 1) = 106 ∧ bs_nr g (bs_gs g (6 * (c - 1)) 6) (6 * c - 1) = 3
theorem bs_Vn {g : Nat → Nat} {j : Nat} (h : ¬ bs_V g j < 0) : bs_V g j = nI (bs_N (bs_V g) j) ∧ bs_N (bs_V g) j < 107 := by
  rcases bs_vl_r (bs_nr g (bs_gs g (6 * j) 6) (6 * j)) (bs_nr g (bs_gs g (6 * j) 6) (6 * j + 1)) (bs_nr g (bs_gs g (6 * j) 6) (6 * j + 2)) (bs_nr g (bs_gs g (6 * j) 6) (6 * j + 3)) with e | ⟨v, hv, e⟩
  · have e' : bs_V g j = -1 := e
    rw [e'] at h
    exact absurd bs_n1 h
  · have e' : bs_V g j = nI v := e
    have e2 : bs_N (bs_V g) j = v := bs_Nof e' (by omega)
    rw [e2]
    exact ⟨e', hv⟩
theorem bs_okn {g : Nat → Nat} {j : Nat} (h : bs_ok g j) : bs_V g j = nI (bs_N (bs_V g) j) ∧ bs_N (bs_V g) j < 103 := by
  have h1 := bs_Vn h.1
  refine ⟨h1.1, ?_⟩
  have h2 := h.2
  rw [h1.1] at h2
  have := (nI_leI (b := 102) (by omega) (by decide)).mp h2
  omega
section
variable {s0 s1 s2 s3 s4 s5 s6 s7 s8 s9 s10 cap msc tl sl st rl : Int32} {mo ck te sy sp re co va : Nat → Int32}
variable {n c : Nat} {g : Nat → Nat} {fi s : Int32}
theorem bs_x35 {post : Int32 → SX → Prop} (hc : 3 ≤ c) (hc2 : c ≤ 42) (hva : ∀ j, j < c → va j = bs_V g j) (Kb : ¬ bs_all g c → post 15 (s0, s1, s2, s3, s4, s5, s6, s7, s8, s9, s10, cap, msc, tl, sl, st, rl, mo, ck, te, sy, sp, re, co, va)) (Ke : bs_all g c → wX_readFrom_35 post fi s (nI c) s0 s1 s2 s3 s4 s5 s6 s7 s8 s9 s10 cap msc tl sl st rl mo ck te sy sp re co va 1 (nI (c - 1))) :
    ∀ e j, j + e = c - 1 → 1 ≤ j → (∀ i, 1 ≤ i → i < j → bs_ok g i) → wX_readFrom_35 post fi s (nI c) s0 s1 s2 s3 s4 s5 s6 s7 s8 s9 s10 cap msc tl sl st rl mo ck te sy sp re co va (e + 1) (nI j) := by
  have ec : nI c - 2 = nI (c - 2) := pk_sub (b := 2) (by omega)
  intro e
  induction e with
  | zero =>
    intro j hj h1 h
    have e : j = c - 1 := by omega
    subst e
    exact Ke fun i h1 h2 => h i h1 (by omega)
  | succ e ih =>
    intro j hj h1 h
    have e0 : (nI j).toNatClampNeg = j := nI_clamp (by omega)
    have V : vp_in (nI j) 42 := vp_in_nI (by omega) (by decide)
    refine br_f (by rw [ec]; exact nI_nlt (by omega) (by omega)) ⟨V, ?_⟩
    rw [e0, hva j (by omega)]
    by_cases a : bs_V g j < 0
    · exact br_t a (Kb fun z => (z j h1 (by omega)).1 a)
    · refine br_f a ⟨V, ?_⟩
      by_cases b : bs_V g j ≤ 102
      · refine br_t b (nm_r (e' := nI (j + 1)) (nI_1 j) (ih (j + 1) (by omega) (by omega) fun i h1 h2 => ?_))
        by_cases z : i = j
        · rw [z]; exact ⟨a, b⟩
        · exact h i h1 (by omega)
      · exact br_f b (Kb fun z => b (z j h1 (by omega)).2)
theorem bs_xew {post : Int32 → Prop} (hc : 3 ≤ c) (hc2 : c ≤ 42) (hn : n = 6 * c + 1) (hd : bs_Di sp n fi s g) (hg : ∀ k, k < n → 1 ≤ g k ∧ g k ≤ 400) (hva : ∀ j, j < c → va j = bs_V g j) (K1 : bs_stop g c → post 1) (K0 : ¬ bs_stop g c → post 0) : wpX_endsWithStop post (s0, s1, s2, s3, s4, s5, s6, s7, s8, s9, s10, cap, msc, tl, sl, st, rl, mo, ck, te, sy, sp, re, co, va) fi s (nI c) := by
  have ec : nI c - 1 = nI (c - 1) := pk_sub (b := 1) (by omega)
  have e6 : (6 : Int32) * nI c = nI (6 * c) := by rw [show (6 : Int32) = nI 6 from rfl, pk_mul]
  have e61 : nI (6 * c) - 1 = nI (6 * c - 1) := pk_sub (b := 1) (by omega)
  have e66 : nI (6 * c) - 6 = nI (6 * (c - 1)) := by
    rw [show nI (6 * c) - 6 = nI (6 * c - 6) from pk_sub (b := 6) (by omega)]
    have : 6 * c - 6 = 6 * (c - 1) := by omega
    rw [this]
  have hr := bs_gs_r hg (a := 6 * (c - 1)) 6 (by omega)
  have hb := bs_nr_b (P := bs_gs g (6 * (c - 1)) 6) hg (show 6 * c - 1 + 1 < n by omega) (by omega)
  unfold wpX_endsWithStop
  dsimp only
  rw [ec, nI_clamp (show c - 1 < 2 ^ 31 by omega), hva (c - 1) (by omega), e6, e61, e66]
  refine ⟨vp_in_nI (by omega) (by decide), ?_⟩
  by_cases a : bs_V g (c - 1) = 106
  · refine br_t a ?_
    refine bs_xgs hd (by omega) ?_
    refine bs_xed hd hg (by omega) (by omega) (by omega) ?_
    exact pk_eq _ 3 (fun z => K1 ⟨a, z⟩) (fun z => K0 fun q => z q.2)
  · exact br_f a (K0 fun q => a q.1)
theorem bs_xrf {post : Int32 → SX → Prop} {v0 : Nat} (hc : 3 ≤ c) (hc2 : c ≤ 42) (hn : n = 6 * c + 1) (hd : bs_Di sp n fi s g) (hg : ∀ k, k < n → 1 ≤ g k ∧ g k ≤ 400) (hck : ∀ key, key < 4096 → ck key = nI (bs_cw 107 key))
    (h0 : bs_V g 0 = nI v0) (h1 : 103 ≤ v0) (h2 : v0 < 106)
    (K15 : ¬ bs_all g c → ∀ va : Nat → Int32, post 15 (s0, s1, s2, s3, s4, s5, s6, s7, s8, s9, s10, cap, msc, tl, sl, st, rl, mo, ck, te, sy, sp, re, co, va)) (K16 : bs_all g c → ¬ bs_stop g c → ∀ va : Nat → Int32, post 16 (s0, s1, s2, s3, s4, s5, s6, s7, s8, s9, s10, cap, msc, tl, sl, st, rl, mo, ck, te, sy, sp, re, co, va))
    (K17 : bs_all g c → bs_stop g c → bs_sm (bs_N (bs_V g)) (c - 3) % 103 ≠ bs_N (bs_V g) (c - 2) → ∀ va : Nat → Int32, post 17 (s0, s1, s2, s3, s4, s5, s6, s7, s8, s9, s10, cap, msc, tl, sl, st, rl, mo, ck, te, sy, sp, re, co, va))
    (K : bs_all g c → bs_stop g c → bs_sm (bs_N (bs_V g)) (c - 3) % 103 = bs_N (bs_V g) (c - 2) → ∀ va : Nat → Int32, (∀ j, j < c → va j = bs_V g j) → ∃ n15, wX_decode_15 (fun r u => match u with | (s0, s1, s2, s3, s4, s5, s6, s7, s8, s9, s10, cap, msc, tl, sl, st, rl, mo, ck, te, sy, sp, re, co, va) => post r (s0, s1, s2, s3, s4, s5, s6, s7, s8, s9, s10, cap, msc, tl, sl, st, rl, mo, ck, te, sy, sp, re, co, va)) (nI (c - 2)) n15 (nI (v0 - 103)) 0 1 s0 s1 s2 s3 s4 s5 s6 s7 s8 s9 s10 cap msc tl sl st rl mo ck te sy sp re co va) :
    wpX_readFrom post (s0, s1, s2, s3, s4, s5, s6, s7, s8, s9, s10, cap, msc, tl, sl, st, rl, mo, ck, te, sy, sp, re, co, va) fi s (nI c) := by
  have ec : nI c - 2 = nI (c - 2) := pk_sub (b := 2) (by omega)
  have ec2 : nI c - 2 = nI (c - 3 + 1) := by
    rw [ec]
    have : c - 2 = c - 3 + 1 := by omega
    rw [this]
  unfold wpX_readFrom
  dsimp only
  refine bs_xcg hd hg hck (by omega) (by omega) fun va hva => ?_
  have hv0 := hva 0 (by omega)
  rw [h0] at hv0
  dsimp only
  rw [hv0]
  refine br_f (nI_nlt (b := 103) h1 (by omega)) (br_t (nI_lt (b := 106) h2 (by decide)) ⟨c - 1, ?_⟩)
  have ef : c - 1 = (c - 2) + 1 := by omega
  rw [ef]
  refine bs_x35 hc hc2 hva (fun z => K15 z va) (fun hall => ?_) (c - 2) 1 (by omega) (by decide) fun i a b => by omega
  have hw : ∀ q, q ≤ c - 3 → va q = nI (bs_N (bs_V g) q) ∧ bs_N (bs_V g) q ≤ 106 := by
    intro q hq
    rw [hva q (by omega)]
    by_cases z : q = 0
    · have := bs_Nof h0 (by omega)
      rw [z, this]
      exact ⟨h0, by omega⟩
    · have := bs_okn (hall q (by omega) (by omega))
      exact ⟨this.1, by omega⟩
  have h2' := bs_okn (hall (c - 2) (by omega) (Nat.le_refl _))
  refine br_t (by rw [ec]; exact nI_lt (by omega) (by omega)) ?_
  refine bs_xew hc hc2 hn hd hg hva (fun hs => ?_) (fun hs => ?_)
  · refine br_f (by decide) ?_
    rw [ec2]
    refine bs_xcv (by omega) hw ⟨by rw [← ec2, ec]; exact vp_in_nI (by omega) (by decide), ?_⟩
    rw [← ec2, ec, nI_clamp (show c - 2 < 2 ^ 31 by omega), hva (c - 2) (by omega), h2'.1]
    refine pk_eq _ _ (fun z => ?_) (fun z => K17 hall hs z va) rfl rfl (Nat.lt_of_lt_of_le (Nat.mod_lt _ (by decide)) (by decide)) (by omega)
    exact nm_r (e' := nI (v0 - 103)) (by rw [hv0]; exact pk_sub (b := 103) h1) (K hall hs z va hva)
  · exact br_t rfl (K16 hall hs va)
end
section
variable {cap msc tl sl st rl li : Int32} {te sy sp re pa xx ap am fr wd : Nat → Int32}
variable {n c : Nat} {g : Nat → Nat} {b : Int32}
theorem bs_y74 {post : Int32 → SY → Prop} (hc : 3 ≤ c) (hc2 : c ≤ 42) (hxx : ∀ j, j < c → xx j = bs_V g j) (Kb : ¬ bs_all g c → post 15 (cap, msc, tl, sl, st, rl, li, te, sy, sp, re, pa, xx, ap, am, fr, wd)) (Ke : bs_all g c → wY_read_74 post b (nI c) cap msc tl sl st rl li te sy sp re pa xx ap am fr wd 1 (nI (c - 1))) :
    ∀ e j, j + e = c - 1 → 1 ≤ j → (∀ i, 1 ≤ i → i < j → bs_ok g i) → wY_read_74 post b (nI c) cap msc tl sl st rl li te sy sp re pa xx ap am fr wd (e + 1) (nI j) := by
  have ec : nI c - 2 = nI (c - 2) := pk_sub (b := 2) (by omega)
  intro e
  induction e with
  | zero =>
    intro j hj h1 h
    have e : j = c - 1 := by omega
    subst e
    exact Ke fun i h1 h2 => h i h1 (by omega)
  | succ e ih =>
    intro j hj h1 h
    have e0 : (nI j).toNatClampNeg = j := nI_clamp (by omega)
    have V : vp_in (nI j) 42 := vp_in_nI (by omega) (by decide)
    refine br_f (by rw [ec]; exact nI_nlt (by omega) (by omega)) ⟨V, ?_⟩
    rw [e0, hxx j (by omega)]
    by_cases a : bs_V g j < 0
    · exact br_t a (Kb fun z => (z j h1 (by omega)).1 a)
    · refine br_f a ⟨V, ?_⟩
      by_cases b : bs_V g j ≤ 102
      · refine br_t b (nm_r (e' := nI (j + 1)) (nI_1 j) (ih (j + 1) (by omega) (by omega) fun i h1 h2 => ?_))
        by_cases z : i = j
        · rw [z]; exact ⟨a, b⟩
        · exact h i h1 (by omega)
      · exact br_f b (Kb fun z => b (z j h1 (by omega)).2)
theorem bs_y166 {post : Int32 → SY → Prop} {w : Nat → Nat} (hc : 3 ≤ c) (hc2 : c ≤ 42) (hw : ∀ q, q ≤ c - 3 → xx q = nI (w q)) (K : wY_read_166 post (nI c) cap msc tl sl st rl li te sy sp re pa xx ap am fr wd 1 (nI (bs_sm w (c - 3))) (nI (c - 3 + 1))) :
    ∀ e j, j + e = c - 3 → wY_read_166 post (nI c) cap msc tl sl st rl li te sy sp re pa xx ap am fr wd (e + 1) (nI (bs_sm w j)) (nI (j + 1)) := by
  have ec : nI c - 3 = nI (c - 3) := pk_sub (b := 3) (by omega)
  intro e
  induction e with
  | zero =>
    intro j hj
    have e : j = c - 3 := by omega
    subst e
    exact K
  | succ e ih =>
    intro j hj
    have e1 : (nI (j + 1)).toNatClampNeg = j + 1 := nI_clamp (by omega)
    refine br_f (by rw [ec]; exact nI_nlt (by omega) (by omega)) ⟨vp_in_nI (by omega) (by decide), nm_r (e' := nI (bs_sm w (j + 1))) ?_ (nm_r (e' := nI (j + 1 + 1)) (nI_1 (j + 1)) (ih (j + 1) (by omega)))⟩
    rw [e1, hw (j + 1) (by omega), pk_mul, nI_add]
    rfl
theorem bs_y24 {post : Int32 → SY → Prop} (hP : bs_PI 108 pa) (hc2 : c ≤ 42) (hn : n = 6 * c + 1) (hd : bs_Yd sp n b g) (hg : ∀ k, k < n → 1 ≤ g k ∧ g k ≤ 400)
    (K : ∀ xx : Nat → Int32, (∀ j, j < c → xx j = bs_V g j) → wY_read_24 post b (nI c) cap msc tl sl (nI n) rl li 1 (nI c) te sy sp re pa xx ap am fr wd) :
    ∀ e j, j + e = c → ∀ xx : Nat → Int32, (∀ i, i < j → xx i = bs_V g i) → wY_read_24 post b (nI c) cap msc tl sl (nI n) rl li (e + 1) (nI j) te sy sp re pa xx ap am fr wd := by
  intro e
  induction e with
  | zero =>
    intro j hj xx h
    have e : j = c := by omega
    subst e
    exact K xx h
  | succ e ih =>
    intro j hj xx h
    have e0 : (nI j).toNatClampNeg = j := nI_clamp (by omega)
    refine br_f (nI_ge (by omega) (by omega)) ?_
    refine bs_yvl hP (by omega) hd hg (by omega) ⟨vp_in_nI (by omega) (by decide), nm_r (e' := upd xx j (bs_V g j)) (by rw [e0]) (nm_r (e' := nI (j + 1)) (nI_1 j) (ih (j + 1) (by omega) _ fun i hi => ?_))⟩
    by_cases z : i = j
    · rw [z, pk_us]
    · rw [pk_un z]; exact h i (by omega)
theorem bs_yrd {post : Int32 → SY → Prop} {v0 : Nat} (hP : bs_PI 108 pa) (hc : 3 ≤ c) (hc2 : c ≤ 42) (hn : n = 6 * c + 1) (hd : bs_Yd sp n b g) (hg : ∀ k, k < n → 1 ≤ g k ∧ g k ≤ 400)
    (h0 : bs_V g 0 = nI v0) (h1 : 103 ≤ v0) (h2 : v0 < 106)
    (K15 : ¬ bs_all g c → ∀ xx : Nat → Int32, post 15 (cap, msc, tl, sl, nI n, rl, li, te, sy, sp, re, pa, xx, ap, am, fr, wd)) (K16 : bs_all g c → ¬ bs_stop g c → ∀ xx : Nat → Int32, post 16 (cap, msc, tl, sl, nI n, rl, li, te, sy, sp, re, pa, xx, ap, am, fr, wd))
    (K17 : bs_all g c → bs_stop g c → bs_sm (bs_N (bs_V g)) (c - 3) % 103 ≠ bs_N (bs_V g) (c - 2) → ∀ xx : Nat → Int32, post 17 (cap, msc, tl, sl, nI n, rl, li, te, sy, sp, re, pa, xx, ap, am, fr, wd))
    (K : bs_all g c → bs_stop g c → bs_sm (bs_N (bs_V g)) (c - 3) % 103 = bs_N (bs_V g) (c - 2) → ∀ xx : Nat → Int32, (∀ j, j < c → xx j = bs_V g j) → ∃ n231, wY_read_231 post (nI c) cap msc tl sl (nI n) rl li n231 (nI (v0 - 103)) 0 1 te sy sp re pa xx ap am fr wd) :
    wpY_read post (cap, msc, tl, sl, nI n, rl, li, te, sy, sp, re, pa, xx, ap, am, fr, wd) b := by
  have ec : nI c - 2 = nI (c - 2) := pk_sub (b := 2) (by omega)
  have ec1 : nI c - 1 = nI (c - 1) := pk_sub (b := 1) (by omega)
  have ec3 : nI c - 3 = nI (c - 3) := pk_sub (b := 3) (by omega)
  have en : nI n / 6 = nI c := by
    rw [show (6 : Int32) = nI 6 from rfl, pk_div (by omega) (by decide) (by decide)]
    have : n / 6 = c := by omega
    rw [this]
  have e6 : (6 : Int32) * nI c = nI (6 * c) := by rw [show (6 : Int32) = nI 6 from rfl, pk_mul]
  have e61 : (6 : Int32) * nI c - 1 = nI (6 * c - 1) := by rw [e6]; exact pk_sub (b := 1) (by omega)
  refine ⟨by decide, nm_r (e' := nI c) en (br_f (nI_nlt (b := 3) hc (by omega)) (br_t (nI_le (b := 42) hc2 (by decide)) ⟨c + 1, ?_⟩))⟩
  refine bs_y24 hP hc2 hn hd hg (fun xx hxx => ?_) c 0 (by omega) xx fun i hi => by omega
  have hv0 := hxx 0 (by omega)
  rw [h0] at hv0
  refine br_t (nI_le (Nat.le_refl _) (by omega)) ?_
  rw [hv0]
  refine br_f (nI_nlt (b := 103) h1 (by omega)) (br_t (nI_le (b := 105) (by omega) (by decide)) ⟨c - 1, ?_⟩)
  have ef : c - 1 = (c - 2) + 1 := by omega
  rw [ef]
  refine bs_y74 hc hc2 hxx (fun z => K15 z xx) (fun hall => ?_) (c - 2) 1 (by omega) (by decide) fun i a b => by omega
  have hw : ∀ q, q ≤ c - 3 → xx q = nI (bs_N (bs_V g) q) ∧ bs_N (bs_V g) q ≤ 106 := by
    intro q hq
    rw [hxx q (by omega)]
    by_cases z : q = 0
    · have := bs_Nof h0 (by omega)
      rw [z, this]
      exact ⟨h0, by omega⟩
    · have := bs_okn (hall q (by omega) (by omega))
      exact ⟨this.1, by omega⟩
  have h2' := bs_okn (hall (c - 2) (by omega) (Nat.le_refl _))
  have hr := bs_gs_r hg (a := 6 * (c - 1)) 6 (by omega)
  have hb := bs_nr_b (P := bs_gs g (6 * (c - 1)) 6) hg (show 6 * c - 1 + 1 < n by omega) (by omega)
  refine br_t (by rw [ec]; exact nI_lt (by omega) (by omega)) ?_
  rw [ec1]
  refine bs_ytt (by omega) hd (by omega) ?_
  refine bs_ynr (k := 6 * c - 1) (by omega) hd hg e61 (by omega) (by omega) (by omega) ⟨vp_in_nI (by omega) (by decide), ?_⟩
  rw [nI_clamp (show c - 1 < 2 ^ 31 by omega), hxx (c - 1) (by omega)]
  by_cases a : bs_V g (c - 1) = 106
  · refine br_t a (pk_eq _ 3 (fun z => ?_) (fun z => K16 hall (fun q => z q.2) xx))
    have hs : bs_stop g c := ⟨a, z⟩
    have e00 := (hw 0 (Nat.zero_le _)).1
    refine nm_r (e' := nI (bs_sm (bs_N (bs_V g)) 0)) e00 ⟨c - 3 + 1, ?_⟩
    refine bs_y166 hc hc2 (fun q hq => (hw q hq).1) ?_ (c - 3) 0 (by omega)
    have bl := bs_sm_le (c - 3) (by omega) fun q hq => (hw q hq).2
    have em : nI (bs_sm (bs_N (bs_V g)) (c - 3)) - nI (bs_sm (bs_N (bs_V g)) (c - 3)) / 103 * 103 = nI (bs_sm (bs_N (bs_V g)) (c - 3) % 103) := pk_rem (d := 103) (by omega) (by decide) (by decide)
    refine br_t (by rw [ec3]; exact nI_lt (by omega) (by omega)) ⟨by decide, by rw [ec]; exact vp_in_nI (by omega) (by decide), ?_⟩
    refine pk_eq (bs_sm (bs_N (bs_V g)) (c - 3) % 103) (bs_N (bs_V g) (c - 2)) (fun z => ?_) (fun z => K17 hall hs z xx) em ?_ (Nat.lt_of_lt_of_le (Nat.mod_lt _ (by decide)) (by decide)) (by omega)
    · exact nm_r (e' := nI (v0 - 103)) (by rw [hv0]; exact pk_sub (b := 103) h1) (K hall hs z xx hxx)
    · rw [ec, nI_clamp (show c - 2 < 2 ^ 31 by omega), hxx (c - 2) (by omega)]
      exact h2'.1
  · exact br_f a (K16 hall (fun q => a q.1) xx)
theorem bs_yrd14 {post : Int32 → SY → Prop} (hP : bs_PI 108 pa) (hc : 3 ≤ c) (hc2 : c ≤ 42) (hn : n = 6 * c + 1) (hd : bs_Yd sp n b g) (hg : ∀ k, k < n → 1 ≤ g k ∧ g k ≤ 400)
    (h0 : bs_V g 0 < 103 ∨ (¬ bs_V g 0 < 103 ∧ ¬ bs_V g 0 ≤ 105)) (K : ∀ xx : Nat → Int32, post 14 (cap, msc, tl, sl, nI n, rl, li, te, sy, sp, re, pa, xx, ap, am, fr, wd)) : wpY_read post (cap, msc, tl, sl, nI n, rl, li, te, sy, sp, re, pa, xx, ap, am, fr, wd) b := by
  have en : nI n / 6 = nI c := by
    rw [show (6 : Int32) = nI 6 from rfl, pk_div (by omega) (by decide) (by decide)]
    have : n / 6 = c := by omega
    rw [this]
  refine ⟨by decide, nm_r (e' := nI c) en (br_f (nI_nlt (b := 3) hc (by omega)) (br_t (nI_le (b := 42) hc2 (by decide)) ⟨c + 1, ?_⟩))⟩
  refine bs_y24 hP hc2 hn hd hg (fun xx hxx => ?_) c 0 (by omega) xx fun i hi => by omega
  have hv0 := hxx 0 (by omega)
  refine br_t (nI_le (Nat.le_refl _) (by omega)) ?_
  rw [hv0]
  rcases h0 with h | ⟨h1, h2⟩
  · exact br_t h (K xx)
  · exact br_f h1 (br_f h2 (K xx))
end
section
variable {s0 s1 s2 s3 s4 s5 s6 s7 s8 s9 s10 cap msc tl sl st rl : Int32} {mo ck te sy sp re co va : Nat → Int32} {li : Int32} {pa xx ap am fr wd : Nat → Int32}
variable {n c : Nat} {g : Nat → Nat} {fi s b : Int32}
theorem bs_xrf14 {post : Int32 → SX → Prop} (hc : 3 ≤ c) (hc2 : c ≤ 42) (hn : n = 6 * c + 1) (hd : bs_Di sp n fi s g) (hg : ∀ k, k < n → 1 ≤ g k ∧ g k ≤ 400) (hck : ∀ key, key < 4096 → ck key = nI (bs_cw 107 key))
    (h0 : bs_V g 0 < 103 ∨ (¬ bs_V g 0 < 103 ∧ ¬ bs_V g 0 < 106)) (K : ∀ va : Nat → Int32, post 14 (s0, s1, s2, s3, s4, s5, s6, s7, s8, s9, s10, cap, msc, tl, sl, st, rl, mo, ck, te, sy, sp, re, co, va)) : wpX_readFrom post (s0, s1, s2, s3, s4, s5, s6, s7, s8, s9, s10, cap, msc, tl, sl, st, rl, mo, ck, te, sy, sp, re, co, va) fi s (nI c) := by
  unfold wpX_readFrom
  dsimp only
  refine bs_xcg hd hg hck (by omega) (by omega) fun va hva => ?_
  have hv0 := hva 0 (by omega)
  dsimp only
  rw [hv0]
  rcases h0 with h | ⟨h1, h2⟩
  · exact br_t h (K va)
  · exact br_f h1 (br_f h2 (K va))
/-- one direction, both sides -/
theorem bs_one {C : Nat} (hC : C ≤ 24) (hP : bs_PI 108 pa) (hck : ∀ key, key < 4096 → ck key = nI (bs_cw 107 key)) (hc : 3 ≤ c) (hc2 : c ≤ 42) (hn : n = 6 * c + 1) (hd : bs_Di sp n fi s g) (hy : bs_Yd sp n b g) (hg : ∀ k, k < n → 1 ≤ g k ∧ g k ≤ 400) :
    ∃ (r rl' : Int32) (re' : Nat → Int32), bs_O C r rl' re' ∧
      (∀ (va : Nat → Int32) (post : Int32 → SX → Prop), (∀ va : Nat → Int32, post r (s0, s1, s2, s3, s4, s5, s6, s7, s8, s9, s10, nI C, msc, tl, sl, nI n, rl', mo, ck, te, sy, sp, re', co, va)) → wpX_readFrom post (s0, s1, s2, s3, s4, s5, s6, s7, s8, s9, s10, nI C, msc, tl, sl, nI n, (-1), mo, ck, te, sy, sp, re, co, va) fi s (nI c)) ∧
      (∀ (xx : Nat → Int32) (post : Int32 → SY → Prop), (∀ xx : Nat → Int32, post r (nI C, msc, tl, sl, nI n, rl', li, te, sy, sp, re', pa, xx, ap, am, fr, wd)) → wpY_read post (nI C, msc, tl, sl, nI n, (-1), li, te, sy, sp, re, pa, xx, ap, am, fr, wd) b) := by
  have F14 : (bs_V g 0 < 103 ∨ (¬ bs_V g 0 < 103 ∧ ¬ bs_V g 0 < 106)) → (bs_V g 0 < 103 ∨ (¬ bs_V g 0 < 103 ∧ ¬ bs_V g 0 ≤ 105)) → _ := fun q1 q2 =>
    (⟨14, -1, re, Or.inr ⟨by decide, rfl⟩, fun va post h => bs_xrf14 hc hc2 hn hd hg hck q1 h, fun xx post h => bs_yrd14 hP hc hc2 hn hy hg q2 h⟩ :
    ∃ (r rl' : Int32) (re' : Nat → Int32), bs_O C r rl' re' ∧
      (∀ (va : Nat → Int32) (post : Int32 → SX → Prop), (∀ va : Nat → Int32, post r (s0, s1, s2, s3, s4, s5, s6, s7, s8, s9, s10, nI C, msc, tl, sl, nI n, rl', mo, ck, te, sy, sp, re', co, va)) → wpX_readFrom post (s0, s1, s2, s3, s4, s5, s6, s7, s8, s9, s10, nI C, msc, tl, sl, nI n, (-1), mo, ck, te, sy, sp, re, co, va) fi s (nI c)) ∧
      (∀ (xx : Nat → Int32) (post : Int32 → SY → Prop), (∀ xx : Nat → Int32, post r (nI C, msc, tl, sl, nI n, rl', li, te, sy, sp, re', pa, xx, ap, am, fr, wd)) → wpY_read post (nI C, msc, tl, sl, nI n, (-1), li, te, sy, sp, re, pa, xx, ap, am, fr, wd) b))
  by_cases neg : bs_V g 0 < 0
  · have : bs_V g 0 < 103 := by
      rw [Int32.lt_iff_toInt_lt] at neg ⊢
      have e1 : (0 : Int32).toInt = 0 := by decide
      have e2 : (103 : Int32).toInt = 103 := by decide
      omega
    exact F14 (Or.inl this) (Or.inl this)
  · obtain ⟨e0, l0⟩ := bs_Vn neg
    generalize hv : bs_N (bs_V g) 0 = v0 at e0 l0
    by_cases a : v0 < 103
    · have : bs_V g 0 < 103 := by rw [e0]; exact nI_lt (b := 103) a (by decide)
      exact F14 (Or.inl this) (Or.inl this)
    · have na : ¬ bs_V g 0 < 103 := by rw [e0]; exact nI_nlt (b := 103) (by omega) (by omega)
      by_cases a2 : v0 < 106
      · by_cases hall : bs_all g c
        · by_cases hs : bs_stop g c
          · by_cases hk : bs_sm (bs_N (bs_V g)) (c - 3) % 103 = bs_N (bs_V g) (c - 2)
            · obtain ⟨r, rl', re', hr, hO, hX, hY⟩ := bs_dec (s0 := s0) (s1 := s1) (s2 := s2) (s3 := s3) (s4 := s4) (s5 := s5) (s6 := s6) (s7 := s7) (s8 := s8) (s9 := s9) (s10 := s10) (msc := msc) (tl := tl) (sl := sl) (st := nI n) (mo := mo) (ck := ck) (te := te) (sy := sy) (sp := sp) (co := co) (li := li) (pa := pa) (ap := ap) (am := am) (fr := fr) (wd := wd) (w := bs_N (bs_V g)) hC hc hc2 (fun j h1 h2 => (bs_okn (hall j h1 (by omega))).2) (c - 3) 1 (by omega) (Nat.le_refl 1) (v0 - 103) (by omega) 0 (Nat.zero_le C) re bs_R0
              refine ⟨r, rl', re', hO, fun va post h => ?_, fun xx post h => ?_⟩
              · refine bs_xrf hc hc2 hn hd hg hck e0 (by omega) a2 (fun z => absurd hall z) (fun _ z => absurd hs z) (fun _ _ z => absurd hk z) fun _ _ _ va hva => ?_
                refine ⟨c - 3 + 1, hX va _ (fun j h1 h2 => ?_) (h va)⟩
                rw [hva j (by omega)]; exact (bs_okn (hall j h1 (by omega))).1
              · refine bs_yrd hP hc hc2 hn hy hg e0 (by omega) a2 (fun z => absurd hall z) (fun _ z => absurd hs z) (fun _ _ z => absurd hk z) fun _ _ _ xx hxx => ?_
                refine ⟨c - 3 + 1, hY xx _ (fun j h1 h2 => ?_) (h xx)⟩
                rw [hxx j (by omega)]; exact (bs_okn (hall j h1 (by omega))).1
            · exact ⟨17, -1, re, Or.inr ⟨by decide, rfl⟩, fun va post h => bs_xrf hc hc2 hn hd hg hck e0 (by omega) a2 (fun z => absurd hall z) (fun _ z => absurd hs z) (fun _ _ _ => h) fun _ _ z => absurd z hk, fun xx post h => bs_yrd hP hc hc2 hn hy hg e0 (by omega) a2 (fun z => absurd hall z) (fun _ z => absurd hs z) (fun _ _ _ => h) fun _ _ z => absurd z hk⟩
          · exact ⟨16, -1, re, Or.inr ⟨by decide, rfl⟩, fun va post h => bs_xrf hc hc2 hn hd hg hck e0 (by omega) a2 (fun z => absurd hall z) (fun _ _ => h) (fun _ z => absurd z hs) fun _ z => absurd z hs, fun xx post h => bs_yrd hP hc hc2 hn hy hg e0 (by omega) a2 (fun z => absurd hall z) (fun _ _ => h) (fun _ z => absurd z hs) fun _ z => absurd z hs⟩
        · exact ⟨15, -1, re, Or.inr ⟨by decide, rfl⟩, fun va post h => bs_xrf hc hc2 hn hd hg hck e0 (by omega) a2 (fun _ => h) (fun z => absurd z hall) (fun z => absurd z hall) fun z => absurd z hall, fun xx post h => bs_yrd hP hc hc2 hn hy hg e0 (by omega) a2 (fun _ => h) (fun z => absurd z hall) (fun z => absurd z hall) fun z => absurd z hall⟩
      · exact F14 (Or.inr ⟨na, by rw [e0]; exact nI_nlt (b := 106) (by omega) (by omega)⟩) (Or.inr ⟨na, by rw [e0]; exact nI_ge (a := 105) (by omega) (by omega)⟩)
end
end
section
/-! the relation, opened and closed -/
def bs_J (C ms L S n : Nat) (rl : Int32) (mo ck te sy sp re pa : Nat → Int32) : Prop :=
  (4 ≤ C ∧ C ≤ 24) ∧ (1 ≤ ms ∧ ms ≤ 16) ∧ L ≤ C ∧ S ≤ 39 ∧ n ≤ 253 ∧ bs_R te L 0 128 ∧ bs_R sy S 0 106 ∧ bs_R sp n 1 400 ∧
  (rl = -1 ∨ ∃ z, z ≤ C ∧ rl = nI z ∧ bs_R re z 0 128) ∧ bs_LI 107 mo ck ∧ bs_PI 108 pa
/-- text, symbol, strip and reading are the same on both sides, lengths and capacities too; the tables hold the code -/
def i_Rel (_ : Nat) (u : SX) (v : SY) : Prop :=
  match u with
  | (s0, s1, s2, s3, s4, s5, s6, s7, s8, s9, s10, cap, msc, tl, sl, st, rl, mo, ck, te, sy, sp, re, co, va) =>
    match v with
    | (cap', msc', tl', sl', st', rl', li, te', sy', sp', re', pa, xx, ap, am, fr, wd) =>
      (cap' = cap ∧ msc' = msc ∧ tl' = tl ∧ sl' = sl ∧ st' = st ∧ rl' = rl ∧ te' = te ∧ sy' = sy ∧ sp' = sp ∧ re' = re) ∧
      ∃ C ms L S n : Nat, (cap = nI C ∧ msc = nI ms ∧ tl = nI L ∧ sl = nI S ∧ st = nI n) ∧ bs_J C ms L S n rl mo ck te sy sp re pa
theorem bs_in {k C ms L S n : Nat} {s0 s1 s2 s3 s4 s5 s6 s7 s8 s9 s10 rl li : Int32} {mo ck te sy sp re co va pa xx ap am fr wd : Nat → Int32} (h : bs_J C ms L S n rl mo ck te sy sp re pa) :
    i_Rel k (s0, s1, s2, s3, s4, s5, s6, s7, s8, s9, s10, nI C, nI ms, nI L, nI S, nI n, rl, mo, ck, te, sy, sp, re, co, va) (nI C, nI ms, nI L, nI S, nI n, rl, li, te, sy, sp, re, pa, xx, ap, am, fr, wd) :=
  ⟨⟨rfl, rfl, rfl, rfl, rfl, rfl, rfl, rfl, rfl, rfl⟩, C, ms, L, S, n, ⟨rfl, rfl, rfl, rfl, rfl⟩, h⟩
theorem bs_op {k : Nat} {u : SX} {v : SY} {P : SX → SY → Prop}
    (h : ∀ (C ms L S n : Nat) (s0 s1 s2 s3 s4 s5 s6 s7 s8 s9 s10 rl li : Int32) (mo ck te sy sp re co va pa xx ap am fr wd : Nat → Int32), bs_J C ms L S n rl mo ck te sy sp re pa →
      P (s0, s1, s2, s3, s4, s5, s6, s7, s8, s9, s10, nI C, nI ms, nI L, nI S, nI n, rl, mo, ck, te, sy, sp, re, co, va) (nI C, nI ms, nI L, nI S, nI n, rl, li, te, sy, sp, re, pa, xx, ap, am, fr, wd)) (I : i_Rel k u v) : P u v := by
  obtain ⟨s0, s1, s2, s3, s4, s5, s6, s7, s8, s9, s10, cap, msc, tl, sl, st, rl, mo, ck, te, sy, sp, re, co, va⟩ := u
  obtain ⟨cap', msc', tl', sl', st', rl', li, te', sy', sp', re', pa, xx, ap, am, fr, wd⟩ := v
  obtain ⟨⟨e1, e2, e3, e4, e5, e6, e7, e8, e9, e10⟩, C, ms, L, S, n, ⟨f1, f2, f3, f4, f5⟩, j⟩ := I
  subst e1 e2 e3 e4 e5 e6 e7 e8 e9 e10
  subst f1 f2 f3 f4 f5
  exact h C ms L S n s0 s1 s2 s3 s4 s5 s6 s7 s8 s9 s10 rl' li mo ck te' sy' sp' re' co va pa xx ap am fr wd j
theorem bs_Rof {a : Nat → Int32} {L lo hi : Nat} (hh : hi < 2 ^ 31) (h : ∀ i, i < L → ∃ n, lo ≤ n ∧ n ≤ hi ∧ a i = nI n) : bs_R a L lo hi := by
  intro i hi'
  obtain ⟨n, h1, h2, e⟩ := h i hi'
  rw [bs_Nof e (by omega)]
  exact ⟨e, h1, h2⟩
theorem bs_fsR {sy : Nat → Int32} {s : Nat → Nat} {N : Nat} (hs : ∀ q, q ≤ N → s q ≤ 106) : bs_R (bs_fs sy s N) (N + 3) 0 106 := by
  have hm : bs_sm s N % 103 < 103 := Nat.mod_lt _ (by decide)
  refine bs_Rof (by decide) fun i hi => ?_
  unfold bs_fs
  by_cases a : i = N + 1 + 1
  · rw [a, pk_us]; exact ⟨106, by decide, by decide, rfl⟩
  · rw [pk_un a]
    by_cases b : i = N + 1
    · rw [b, pk_us]; exact ⟨_, Nat.zero_le _, by omega, rfl⟩
    · rw [pk_un b, bs_sq_le (by omega)]
      exact ⟨_, Nat.zero_le _, hs i (by omega), rfl⟩
/-! faults of drawing -/
def bs_df (p g m : Int32) : Int32 := if p < 1 then 2 else if p ≤ m then (if g ≤ -p then 3 else if g < p then 0 else 3) else 2
theorem bs_xdf {s0 s1 s2 s3 s4 s5 s6 s7 s8 s9 s10 cap msc tl sl st rl : Int32} {mo ck te sy sp re co va : Nat → Int32} {post : Int32 → Prop} {p g : Int32} (h : post (bs_df p g msc)) : wpX_drawingFault post (s0, s1, s2, s3, s4, s5, s6, s7, s8, s9, s10, cap, msc, tl, sl, st, rl, mo, ck, te, sy, sp, re, co, va) p g :=
  bs_ic post Iff.rfl h (fun _ h => h) fun _ h => bs_ic post Iff.rfl h (fun _ h => bs_ic post Iff.rfl h (fun _ h => h) fun _ h => bs_ic post Iff.rfl h (fun _ h => h) fun _ h => h) fun _ h => h
theorem bs_ydf {Q : Int32 → Prop} {A : Prop} {p g m : Int32} (h0 : bs_df p g m = 0 → A) (h1 : bs_df p g m ≠ 0 → Q (bs_df p g m)) :
    (p < 1 → Q 2) ∧ (¬ p < 1 → ((p ≤ m → ((g ≤ -p → Q 3) ∧ (¬ g ≤ -p → ((g < p → A) ∧ (¬ g < p → Q 3))))) ∧ (¬ p ≤ m → Q 2))) := by
  unfold bs_df at h0 h1
  by_cases a : p < 1
  · rw [if_pos a] at h1
    exact br_t a (h1 (by decide))
  · rw [if_neg a] at h0 h1
    by_cases b : p ≤ m
    · rw [if_pos b] at h0 h1
      by_cases c : g ≤ -p
      · rw [if_pos c] at h1
        exact br_f a (br_t b (br_t c (h1 (by decide))))
      · rw [if_neg c] at h0 h1
        by_cases d : g < p
        · rw [if_pos d] at h0
          exact br_f a (br_t b (br_f c (br_t d (h0 rfl))))
        · rw [if_neg d] at h1
          exact br_f a (br_t b (br_f c (br_f d (h1 (by decide)))))
    · rw [if_neg b] at h1
      exact br_f a (br_f b (h1 (by decide)))
theorem bs_df0 {p g : Int32} {ms : Nat} (hm : ms ≤ 16) (h : bs_df p g (nI ms) = 0) : ∃ s, p = nI s ∧ bs_SG s g := by
  unfold bs_df at h
  by_cases a : p < 1
  · rw [if_pos a] at h; exact absurd h (by decide)
  · rw [if_neg a] at h
    by_cases b : p ≤ nI ms
    · rw [if_pos b] at h
      by_cases c : g ≤ -p
      · rw [if_pos c] at h; exact absurd h (by decide)
      · rw [if_neg c] at h
        by_cases d : g < p
        · have o1 : (1 : Int32).toInt = 1 := by decide
          rw [Int32.lt_iff_toInt_lt, o1] at a
          have n0 : ¬ p < 0 := by
            rw [Int32.lt_iff_toInt_lt, show (0 : Int32).toInt = 0 from by decide]
            omega
          obtain ⟨s, hs, e⟩ := nI_of2 (nI_toInt (show ms < 2 ^ 31 by omega)) n0 b
          subst e
          have ts : (nI s).toInt = (s : Int) := nI_toInt (by omega)
          rw [ts] at a
          rw [Int32.le_iff_toInt_le, Int32.toInt_neg, ts] at c
          have eb : (-(s : Int)).bmod (2 ^ 32) = -(s : Int) := Int.bmod_eq_of_le (by omega) (by omega)
          rw [eb] at c
          rw [Int32.lt_iff_toInt_lt, ts] at d
          exact ⟨s, rfl, by omega, by omega, by omega, d⟩
        · rw [if_neg d] at h; exact absurd h (by decide)
    · rw [if_neg b] at h; exact absurd h (by decide)
end
section
/-! the check of a strip; flip; adopt -/
def bs_pos (g : Nat → Nat) (c : Nat) : Prop := ∀ j, j < c → ¬ bs_V g j < 0
def bs_ss (w : Nat → Nat) : Nat → Nat
  | 0 => 0
  | j + 1 => bs_sm w j
theorem bs_not0 {x : Int32} : (¬ x < 0) ↔ 0 ≤ x := Int32.not_lt
section
variable {s0 s1 s2 s3 s4 s5 s6 s7 s8 s9 s10 cap msc tl sl st rl : Int32} {mo ck te sy sp re co va : Nat → Int32}
variable {n c : Nat} {g : Nat → Nat}
theorem bs_x36 {post : Int32 → SX → Prop} (hc : 1 ≤ c) (hc2 : c ≤ 41) (hva : ∀ j, j < c → va j = bs_V g j) (Kb : ¬ bs_pos g c → post (-1) (s0, s1, s2, s3, s4, s5, s6, s7, s8, s9, s10, cap, msc, tl, sl, st, rl, mo, ck, te, sy, sp, re, co, va)) (Ke : bs_pos g c → post (nI (bs_sm (bs_N (bs_V g)) (c - 1) % 103)) (s0, s1, s2, s3, s4, s5, s6, s7, s8, s9, s10, cap, msc, tl, sl, st, rl, mo, ck, te, sy, sp, re, co, va)) :
    ∀ e j, j + e = c → (∀ i, i < j → ¬ bs_V g i < 0) → wX_checkOfStrip_36 post (nI c) s0 s1 s2 s3 s4 s5 s6 s7 s8 s9 s10 cap msc tl sl st rl mo ck te sy sp re co va (e + 1) (nI j) := by
  intro e
  induction e with
  | zero =>
    intro j hj h
    have e : j = c := by omega
    subst e
    refine br_t (nI_le (Nat.le_refl _) (by omega)) ?_
    have ec : j = j - 1 + 1 := by omega
    have H : wpX_checkOfValues (fun r_33 => post r_33 (s0, s1, s2, s3, s4, s5, s6, s7, s8, s9, s10, cap, msc, tl, sl, st, rl, mo, ck, te, sy, sp, re, co, va)) (s0, s1, s2, s3, s4, s5, s6, s7, s8, s9, s10, cap, msc, tl, sl, st, rl, mo, ck, te, sy, sp, re, co, va) (nI (j - 1 + 1)) := by
      refine bs_xcv (by omega) (fun q hq => ?_) (Ke h)
      rw [hva q (by omega)]
      have := bs_Vn (h q (by omega))
      exact ⟨this.1, by omega⟩
    rw [← ec] at H
    exact H
  | succ e ih =>
    intro j hj h
    have e0 : (nI j).toNatClampNeg = j := nI_clamp (by omega)
    refine br_f (nI_ge (by omega) (by omega)) ⟨vp_in_nI (by omega) (by decide), ?_⟩
    rw [e0, hva j (by omega)]
    by_cases a : bs_V g j < 0
    · exact br_f (fun z => (bs_not0.mpr z) a) (Kb fun z => z j (by omega) a)
    · refine br_t (bs_not0.mp a) (nm_r (e' := nI (j + 1)) (nI_1 j) (ih (j + 1) (by omega) fun i hi => ?_))
      by_cases z : i = j
      · rw [z]; exact a
      · exact h i (by omega)
theorem bs_xco {post : Int32 → SX → Prop} (hn : n ≤ 247) (hg : ∀ k, k < n → 1 ≤ g k ∧ g k ≤ 400) (hsp : ∀ k, k < n → sp k = nI (g k)) (hck : ∀ key, key < 4096 → ck key = nI (bs_cw 107 key))
    (Kb : (n = 0 ∨ n % 6 ≠ 0 ∨ ¬ bs_pos g (n / 6)) → ∀ va : Nat → Int32, post (-1) (s0, s1, s2, s3, s4, s5, s6, s7, s8, s9, s10, cap, msc, tl, sl, nI n, rl, mo, ck, te, sy, sp, re, co, va)) (Ke : n ≠ 0 → n % 6 = 0 → bs_pos g (n / 6) → ∀ va : Nat → Int32, post (nI (bs_sm (bs_N (bs_V g)) (n / 6 - 1) % 103)) (s0, s1, s2, s3, s4, s5, s6, s7, s8, s9, s10, cap, msc, tl, sl, nI n, rl, mo, ck, te, sy, sp, re, co, va)) :
    wpX_checkOfStrip post (s0, s1, s2, s3, s4, s5, s6, s7, s8, s9, s10, cap, msc, tl, sl, nI n, rl, mo, ck, te, sy, sp, re, co, va) := by
  have er : nI n - nI n / 6 * 6 = nI (n % 6) := pk_rem (d := 6) (by omega) (by decide) (by decide)
  have ed : nI n / 6 = nI (n / 6) := pk_div (d := 6) (by omega) (by decide) (by decide)
  unfold wpX_checkOfStrip
  dsimp only
  refine pk_eq n 0 (fun z => Kb (Or.inl z) va) (fun z => ⟨by decide, pk_eq (n % 6) 0 (fun y => ⟨by decide, nm_r (e' := nI (n / 6)) ed ?_⟩) (fun y => Kb (Or.inr (Or.inl y)) va) er⟩)
  refine bs_xcg (n := n) (bs_diF (by omega) hsp) hg hck (by omega) (by omega) fun va hva => ?_
  exact ⟨n / 6 + 1, bs_x36 (by omega) (by omega) hva (fun q => Kb (Or.inr (Or.inr q)) va) (fun q => Ke z y q va) (n / 6) 0 (by omega) fun i hi => by omega⟩
end
section
variable {cap msc tl sl st rl li : Int32} {te sy sp re pa xx ap am fr wd : Nat → Int32}
variable {n : Nat} {g : Nat → Nat}
theorem bs_y114 {post : Int32 → SY → Prop} {x2 x3 : Int32} (hP : bs_PI 108 pa) (h0 : n ≠ 0) (h6 : n % 6 = 0) (hn : n ≤ 247) (hg : ∀ k, k < n → 1 ≤ g k ∧ g k ≤ 400) (hsp : ∀ k, k < n → sp k = nI (g k))
    (Kb : ¬ bs_pos g (n / 6) → post 10 (cap, msc, tl, sl, nI n, rl, li, te, sy, sp, re, pa, xx, ap, am, fr, wd)) (Ke : bs_pos g (n / 6) → wY_stamp_176 post x2 x3 (nI (bs_sm (bs_N (bs_V g)) (n / 6 - 1) % 103)) cap msc tl sl (nI n) rl li te sy sp re pa xx ap am fr wd) :
    ∀ e j, j + e = n / 6 → (∀ i, i < j → ¬ bs_V g i < 0) → wY_stamp_114 post x2 x3 cap msc tl sl (nI n) rl li te sy sp re pa xx ap am fr wd (e + 1) (nI (bs_ss (bs_N (bs_V g)) j)) (nI j) := by
  have ed : nI n / 6 = nI (n / 6) := pk_div (d := 6) (by omega) (by decide) (by decide)
  intro e
  induction e with
  | zero =>
    intro j hj h
    have e : j = n / 6 := by omega
    subst e
    refine ⟨by decide, br_t (by rw [ed]; exact nI_le (Nat.le_refl _) (by omega)) ⟨by decide, nm_r (e' := nI (bs_sm (bs_N (bs_V g)) (n / 6 - 1) % 103)) ?_ (Ke h)⟩⟩
    have es : bs_ss (bs_N (bs_V g)) (n / 6) = bs_sm (bs_N (bs_V g)) (n / 6 - 1) := by
      have ec : n / 6 = n / 6 - 1 + 1 := by omega
      rw [ec]; rfl
    rw [es]
    have bl := bs_sm_le (s := bs_N (bs_V g)) (n / 6 - 1) (by omega) fun q hq => by have := (bs_Vn (h q (by omega))).2; omega
    exact pk_rem (d := 103) (by omega) (by decide) (by decide)
  | succ e ih =>
    intro j hj h
    refine ⟨by decide, br_f (by rw [ed]; exact nI_ge (by omega) (by omega)) ?_⟩
    refine bs_yvl hP (by omega) (Or.inl ⟨rfl, hsp⟩) hg (by omega) ?_
    by_cases a : bs_V g j < 0
    · exact br_f (fun z => (bs_not0.mpr z) a) (Kb fun z => z j (by omega) a)
    · have v := bs_Vn a
      have I := ih (j + 1) (by omega) fun i hi => by
        by_cases z : i = j
        · rw [z]; exact a
        · exact h i (by omega)
      refine br_t (bs_not0.mp a) (pk_eq j 0 (fun z => ?_) (fun z => ?_))
      · subst z
        refine nm_r (e' := nI (bs_sm (bs_N (bs_V g)) 0)) ?_ (nm_r (e' := nI (0 + 1)) (nI_1 0) I)
        rw [v.1]
        exact (nI_add 0 _).trans (by rw [Nat.zero_add]; rfl)
      · refine nm_r (e' := nI (bs_sm (bs_N (bs_V g)) j)) ?_ (nm_r (e' := nI (j + 1)) (nI_1 j) I)
        rw [v.1, pk_mul, nI_add]
        obtain ⟨q, rfl⟩ : ∃ q, j = q + 1 := ⟨j - 1, by omega⟩
        rfl
end
section
variable {s0 s1 s2 s3 s4 s5 s6 s7 s8 s9 s10 cap msc tl sl st rl : Int32} {mo ck te sy sp re co va : Nat → Int32} {li : Int32} {pa xx ap am fr wd : Nat → Int32}
/-- flip, both sides -/
theorem bs_fl {n : Nat} (h1 : 1 ≤ n) (hn : n ≤ 253) : ∀ e i, i + e = n / 2 → ∀ sp : Nat → Int32, bs_R sp n 1 400 → ∃ sp' : Nat → Int32, bs_R sp' n 1 400 ∧
    (∀ post : SX → Prop, post (s0, s1, s2, s3, s4, s5, s6, s7, s8, s9, s10, cap, msc, tl, sl, nI n, rl, mo, ck, te, sy, sp', re, co, va) → wX_flip_9 post s0 s1 s2 s3 s4 s5 s6 s7 s8 s9 s10 cap msc tl sl (nI n) rl (e + 1) (nI (n - 1 - i)) (nI i) mo ck te sy sp re co va) ∧
    (∀ post : SY → Prop, post (cap, msc, tl, sl, nI n, rl, li, te, sy, sp', re, pa, xx, ap, am, fr, wd) → wY_flip_2 post cap msc tl sl (nI n) rl li (e + 1) (nI i) te sy sp re pa xx ap am fr wd) := by
  have ed : nI n / 2 = nI (n / 2) := pk_div (d := 2) (by omega) (by decide) (by decide)
  intro e
  induction e with
  | zero =>
    intro i hi sp hR
    refine ⟨sp, hR, fun post h => ?_, fun post h => ?_⟩
    · exact br_t (nI_le (by omega) (by omega)) h
    · exact ⟨by decide, br_t (by rw [ed]; exact nI_le (by omega) (by omega)) h⟩
  | succ e ih =>
    intro i hi sp hR
    have ei : (nI i).toNatClampNeg = i := nI_clamp (by omega)
    have eh : (nI (n - 1 - i)).toNatClampNeg = n - 1 - i := nI_clamp (by omega)
    have ey : nI n - 1 - nI i = nI (n - 1 - i) := by rw [show nI n - 1 = nI (n - 1) from pk_sub (b := 1) h1, pk_sub (by omega)]
    have hR' : bs_R (upd (upd sp i (sp (n - 1 - i))) (n - 1 - i) (sp i)) n 1 400 := by
      refine bs_Rof (by decide) fun j hj => ?_
      by_cases z : j = n - 1 - i
      · have := hR i (by omega)
        rw [z, pk_us]; exact ⟨_, this.2.1, this.2.2, this.1⟩
      · rw [pk_un z]
        by_cases y : j = i
        · have := hR (n - 1 - i) (by omega)
          rw [y, pk_us]; exact ⟨_, this.2.1, this.2.2, this.1⟩
        · have := hR j hj
          rw [pk_un y]; exact ⟨_, this.2.1, this.2.2, this.1⟩
    obtain ⟨sp', hR'', hX, hY⟩ := ih (i + 1) (by omega) _ hR'
    have Vi : vp_in (nI i) 253 := vp_in_nI (by omega) (by decide)
    have Vh : vp_in (nI (n - 1 - i)) 253 := vp_in_nI (by omega) (by decide)
    refine ⟨sp', hR'', fun post h => ?_, fun post h => ?_⟩
    · refine br_f (nI_ge (by omega) (by omega)) ⟨Vi, nm_r (e' := sp i) (by rw [ei]) ⟨Vh, Vi, nm_r (e' := upd sp i (sp (n - 1 - i))) (by rw [ei, eh]) ⟨Vh, nm_r (e' := upd (upd sp i (sp (n - 1 - i))) (n - 1 - i) (sp i)) (by rw [eh]) (nm_r (e' := nI (n - 1 - (i + 1))) ?_ (nm_r (e' := nI (i + 1)) (nI_1 i) (hX post h)))⟩⟩⟩
      rw [sb_m1 (by omega)]
      have : n - 1 - i - 1 = n - 1 - (i + 1) := by omega
      rw [this]
    · exact ⟨by decide, br_f (by rw [ed]; exact nI_ge (by omega) (by omega)) ⟨Vi, nm_r (e' := sp i) (by rw [ei]) ⟨by rw [ey]; exact Vh, Vi, nm_r (e' := upd sp i (sp (n - 1 - i))) (by rw [ei, ey, eh]) ⟨by rw [ey]; exact Vh, nm_r (e' := upd (upd sp i (sp (n - 1 - i))) (n - 1 - i) (sp i)) (by rw [ey, eh]) (nm_r (e' := nI (i + 1)) (nI_1 i) (hY post h))⟩⟩⟩⟩
def bs_cp (te re : Nat → Int32) (z : Nat) : Nat → Int32 := fun q => if q < z then re q else te q
theorem bs_cp0 {te re : Nat → Int32} : bs_cp te re 0 = te := by
  funext q
  unfold bs_cp
  rw [if_neg (Nat.not_lt_zero q)]
theorem bs_cps {te re : Nat → Int32} {z : Nat} : upd (bs_cp te re z) z (re z) = bs_cp te re (z + 1) := by
  funext q
  show (if q = z then re z else if q < z then re q else te q) = (if q < z + 1 then re q else te q)
  by_cases a : q = z
  · rw [if_pos a, if_pos (by omega), a]
  · rw [if_neg a]
    by_cases b : q < z
    · rw [if_pos b, if_pos (by omega)]
    · rw [if_neg b, if_neg (by omega)]
theorem bs_xa12 {post : Int32 → SX → Prop} {z : Nat} (hz : z ≤ 24) (K : post 0 (s0, s1, s2, s3, s4, s5, s6, s7, s8, s9, s10, cap, msc, nI z, 0, st, nI z, mo, ck, bs_cp te re z, sy, sp, re, co, va)) :
    ∀ e i, i + e = z → wX_adopt_12 post s0 s1 s2 s3 s4 s5 s6 s7 s8 s9 s10 cap msc tl sl st (nI z) (e + 1) (nI i) mo ck (bs_cp te re i) sy sp re co va := by
  intro e
  induction e with
  | zero =>
    intro i hi
    have e : i = z := by omega
    subst e
    exact br_t (nI_le (Nat.le_refl _) (by omega)) K
  | succ e ih =>
    intro i hi
    have ei : (nI i).toNatClampNeg = i := nI_clamp (by omega)
    have V : vp_in (nI i) 24 := vp_in_nI (by omega) (by decide)
    exact br_f (nI_ge (by omega) (by omega)) ⟨V, V, nm_r (e' := bs_cp te re (i + 1)) (by rw [ei]; exact bs_cps) (nm_r (e' := nI (i + 1)) (nI_1 i) (ih (i + 1) (by omega)))⟩
theorem bs_ya12 {post : Int32 → SY → Prop} {z : Nat} (hz : z ≤ 24) (K : post 0 (cap, msc, nI z, 0, st, nI z, li, bs_cp te re z, sy, sp, re, pa, xx, ap, am, fr, wd)) :
    ∀ e i, i + e = z → wY_adopt_12 post cap msc tl sl st (nI z) li (e + 1) (nI i) (bs_cp te re i) sy sp re pa xx ap am fr wd := by
  intro e
  induction e with
  | zero =>
    intro i hi
    have e : i = z := by omega
    subst e
    exact br_t (nI_le (Nat.le_refl _) (by omega)) K
  | succ e ih =>
    intro i hi
    have ei : (nI i).toNatClampNeg = i := nI_clamp (by omega)
    have V : vp_in (nI i) 24 := vp_in_nI (by omega) (by decide)
    exact br_f (nI_ge (by omega) (by omega)) ⟨V, V, nm_r (e' := bs_cp te re (i + 1)) (by rw [ei]; exact bs_cps) (nm_r (e' := nI (i + 1)) (nI_1 i) (ih (i + 1) (by omega)))⟩
end
end
section
/-! stamp's tail: both sides to one outcome -/
section
variable {s0 s1 s2 s3 s4 s5 s6 s7 s8 s9 s10 cap msc tl sl st rl : Int32} {mo ck te sy sp re co va : Nat → Int32} {li : Int32} {pa xx ap am fr wd : Nat → Int32}
theorem bs_stp {n w s a : Nat} {g : Int32} (hn : n ≤ 253) (hw : w ≤ 107) (ha : a = if w = 106 then 7 else 6) (hs : bs_SG s g) (hsp : bs_R sp n 1 400) (hLI : bs_LI 107 mo ck) (hPI : bs_PI 108 pa) :
    ∃ (r : Int32) (t : Nat × (Nat → Int32)), bs_St t ∧
      (∀ post : Int32 → SX → Prop, (∀ va : Nat → Int32, post r (s0, s1, s2, s3, s4, s5, s6, s7, s8, s9, s10, cap, msc, tl, sl, nI t.1, rl, mo, ck, te, sy, t.2, re, co, va)) → wX_stamp_53 post (nI w) (nI s) g (nI a) s0 s1 s2 s3 s4 s5 s6 s7 s8 s9 s10 cap msc tl sl (nI n) rl mo ck te sy sp re co va) ∧
      (∀ post : Int32 → SY → Prop, post r (cap, msc, tl, sl, nI t.1, rl, li, te, sy, t.2, re, pa, xx, ap, am, fr, wd) → wY_stamp_69 post (nI w) (nI s) g (nI a) (nI n) cap msc tl sl (nI n) rl li te sy sp re pa xx ap am fr wd) := by
  have hSt : bs_St (n, sp) := ⟨hn, hsp⟩
  have ha7 : 6 ≤ a ∧ a ≤ 7 := by rw [ha]; split <;> omega
  by_cases hf : n + a ≤ 253
  · by_cases h107 : w = 107
    · have ea : a = 6 := by rw [ha, if_neg (by omega)]
      have hg : ∀ k, k < n → 1 ≤ bs_N sp k ∧ bs_N sp k ≤ 400 := fun k hk => (hsp k hk).2
      have hk : ∀ k, k < n → sp k = nI (bs_N sp k) := fun k hk => (hsp k hk).1
      have er : nI n - nI n / 6 * 6 = nI (n % 6) := pk_rem (d := 6) (by omega) (by decide) (by decide)
      by_cases bad : n = 0 ∨ n % 6 ≠ 0 ∨ ¬ bs_pos (bs_N sp) (n / 6)
      · refine ⟨10, (n, sp), hSt, fun post h => ?_, fun post h => ?_⟩
        · unfold wX_stamp_53
          refine pk_le (n + a) 253 (fun _ => pk_eq w 107 (fun _ => ?_) (fun y => absurd h107 y)) (fun y => by omega) (nI_add n a)
          refine bs_xco (by omega) hg hk hLI.2 (fun _ va => ?_) (fun z1 z2 z3 => ?_)
          · exact br_f bs_n1' (h va)
          · rcases bad with b | b | b
            · exact absurd b z1
            · exact absurd z2 b
            · exact absurd z3 b
        · unfold wY_stamp_69
          refine pk_le (n + a) 253 (fun _ => pk_eq w 107 (fun _ => ?_) (fun y => absurd h107 y)) (fun y => by omega) (nI_add n a)
          refine pk_eq n 0 (fun _ => h) (fun z => ⟨by decide, pk_eq (n % 6) 0 (fun y => ?_) (fun _ => h) er⟩)
          refine ⟨n / 6 + 1, bs_y114 hPI z y (by omega) hg hk (fun _ => h) (fun z3 => ?_) (n / 6) 0 (by omega) fun i hi => by omega⟩
          rcases bad with b | b | b
          · exact absurd b z
          · exact absurd y b
          · exact absurd z3 b
      · have z0 : n ≠ 0 := fun q => bad (Or.inl q)
        have z6 : n % 6 = 0 := by
          by_cases q : n % 6 = 0
          · exact q
          · exact absurd (Or.inr (Or.inl q)) bad
        have hv : bs_sm (bs_N (bs_V (bs_N sp))) (n / 6 - 1) % 103 < 103 := Nat.mod_lt _ (by decide)
        refine ⟨0, bs_dw s g (bs_sm (bs_N (bs_V (bs_N sp))) (n / 6 - 1) % 103) (n, sp), bs_dw_St hs (by omega) hSt, fun post h => ?_, fun post h => ?_⟩
        · unfold wX_stamp_53
          refine pk_le (n + a) 253 (fun _ => pk_eq w 107 (fun _ => ?_) (fun y => absurd h107 y)) (fun y => by omega) (nI_add n a)
          refine bs_xco (by omega) hg hk hLI.2 (fun q => absurd q bad) (fun z1 z2 z3 va => ?_)
          refine br_t (nI_pos' (by omega)) ?_
          exact bs_xdw (t := (n, sp)) (by omega) hLI.1 hn (h va)
        · unfold wY_stamp_69
          refine pk_le (n + a) 253 (fun _ => pk_eq w 107 (fun _ => ?_) (fun y => absurd h107 y)) (fun y => by omega) (nI_add n a)
          refine pk_eq n 0 (fun q => absurd q z0) (fun z => ⟨by decide, pk_eq (n % 6) 0 (fun y => ?_) (fun q => absurd z6 q) er⟩)
          refine ⟨n / 6 + 1, bs_y114 hPI z y (by omega) hg hk (fun q => absurd (Or.inr (Or.inr q)) bad) (fun z3 => ?_) (n / 6) 0 (by omega) fun i hi => by omega⟩
          exact bs_ydw (t := (n, sp)) hPI (by omega) hn h
    · refine ⟨0, bs_dw s g w (n, sp), bs_dw_St hs (by omega) hSt, fun post h => ?_, fun post h => ?_⟩
      · unfold wX_stamp_53
        refine pk_le (n + a) 253 (fun _ => pk_eq w 107 (fun y => absurd y h107) (fun _ => ?_)) (fun y => by omega) (nI_add n a)
        refine br_t (nI_pos' (by omega)) ?_
        exact bs_xdw (t := (n, sp)) (by omega) hLI.1 hn (h va)
      · unfold wY_stamp_69
        refine pk_le (n + a) 253 (fun _ => pk_eq w 107 (fun y => absurd y h107) (fun _ => ?_)) (fun y => by omega) (nI_add n a)
        exact bs_ydw (t := (n, sp)) hPI (by omega) hn h
  · refine ⟨6, (n, sp), hSt, fun post h => ?_, fun post h => ?_⟩
    · exact pk_le (n + a) 253 (fun y => absurd y hf) (fun _ => h va) (nI_add n a)
    · exact pk_le (n + a) 253 (fun y => absurd y hf) (fun _ => h) (nI_add n a)
end
end
section
/-! what is owed (the statements are the given ones) -/
theorem i_up {k : Nat} {u : SX} {v : SY} (h : i_Rel k u v) : i_Rel (k + 4) u v := h
theorem bs_xcm {s0 s1 s2 s3 s4 s5 s6 s7 s8 s9 s10 cap msc tl sl st rl : Int32} {mo ck te sy sp re co va : Nat → Int32} {post : Int32 → Prop} {x : Int32} {a b c : Nat} (H : ∀ Q : Int32 → Prop, Q (nI c) → ((nI a ≤ x → ((x ≤ nI b → Q x) ∧ (¬ x ≤ nI b → Q (nI b)))) ∧ (¬ nI a ≤ x → Q (nI a)))) (h : post (nI c)) : wpX_clamp post (s0, s1, s2, s3, s4, s5, s6, s7, s8, s9, s10, cap, msc, tl, sl, st, rl, mo, ck, te, sy, sp, re, co, va) x (nI a) (nI b) := H post h
theorem bs_ydf0 {A B1 B2 B3 B4 : Prop} {p g m : Int32} (d : bs_df p g m = 0) (h : A) :
    (p < 1 → B1) ∧ (¬ p < 1 → ((p ≤ m → ((g ≤ -p → B2) ∧ (¬ g ≤ -p → ((g < p → A) ∧ (¬ g < p → B3))))) ∧ (¬ p ≤ m → B4))) := by
  unfold bs_df at d
  by_cases a : p < 1
  · rw [if_pos a] at d; exact absurd d (by decide)
  · rw [if_neg a] at d
    by_cases b : p ≤ m
    · rw [if_pos b] at d
      by_cases c : g ≤ -p
      · rw [if_pos c] at d; exact absurd d (by decide)
      · rw [if_neg c] at d
        by_cases e : g < p
        · exact br_f a (br_t b (br_f c (br_t e h)))
        · rw [if_neg e] at d; exact absurd d (by decide)
    · rw [if_neg b] at d; exact absurd d (by decide)
theorem bs_cl {x : Int32} (a b : Nat) (hb : b < 2 ^ 31) (hab : a ≤ b) : ∃ c, a ≤ c ∧ c ≤ b ∧ ∀ Q : Int32 → Prop, Q (nI c) → ((nI a ≤ x → ((x ≤ nI b → Q x) ∧ (¬ x ≤ nI b → Q (nI b)))) ∧ (¬ nI a ≤ x → Q (nI a))) := by
  by_cases h1 : nI a ≤ x
  · by_cases h2 : x ≤ nI b
    · have n0 : ¬ x < 0 := by
        rw [Int32.lt_iff_toInt_lt, show (0 : Int32).toInt = 0 from by decide]
        rw [Int32.le_iff_toInt_le, nI_toInt (by omega)] at h1
        omega
      obtain ⟨c, hc, e⟩ := nI_of2 (nI_toInt hb) n0 h2
      subst e
      have := (nI_leI (by omega) (by omega)).mp h1
      exact ⟨c, this, hc, fun Q q => br_t h1 (br_t h2 q)⟩
    · exact ⟨b, hab, Nat.le_refl b, fun Q q => br_t h1 (br_f h2 q)⟩
  · exact ⟨a, Nat.le_refl a, hab, fun Q q => br_f h1 q⟩
theorem i_vc0 (k0 : Int32) (k1 : Int32) : wpX_init (fun u => wpY_init (fun v => i_Rel 2 u v) k0 k1) k0 k1 := by
  obtain ⟨C, hc1, hc2, HC⟩ := bs_cl (x := k0) 4 24 (by decide) (by decide)
  obtain ⟨M, hm1, hm2, HM⟩ := bs_cl (x := k1) 1 16 (by decide) (by decide)
  unfold wpX_init
  refine bs_xcm HC ?_
  refine bs_xcm HM ?_
  have h0 : bs_LI 0 (fun _ => 0) (fun _ => 0) := ⟨fun v hv => absurd hv (Nat.not_lt_zero v), fun key _ => rfl⟩
  refine bs_xlo h0 fun mo ck h => ?_
  refine bs_xhi h fun mo ck h => ?_
  unfold wpY_init
  refine HC (fun c => wY_init_112 _ k1 c 0 0 0 0 0 (-1) 0 (fun _ => 0) (fun _ => 0) (fun _ => 0) (fun _ => 0) (fun _ => 0) (fun _ => 0) (fun _ => 0) (fun _ => 0) (fun _ => 0) (fun _ => 0)) ?_
  unfold wY_init_112
  refine HM (fun m => wY_init_137 _ m _ 0 0 0 0 (-1) 0 (fun _ => 0) (fun _ => 0) (fun _ => 0) (fun _ => 0) (fun _ => 0) (fun _ => 0) (fun _ => 0) (fun _ => 0) (fun _ => 0) (fun _ => 0)) ?_
  refine bs_yi (fun v hv => absurd hv (Nat.not_lt_zero v)) fun pa hp => ?_
  exact bs_in (C := C) (ms := M) (L := 0) (S := 0) (n := 0) ⟨⟨hc1, hc2⟩, ⟨hm1, hm2⟩, Nat.zero_le _, Nat.zero_le _, Nat.zero_le _, bs_R0, bs_R0, bs_R0, Or.inl rfl, h, hp⟩
theorem i_vc_clearText {k : Nat} {u : SX} {v : SY} (I : i_Rel k u v) (hk : k + 4 ≤ 2050) : wpX_clearText (fun u' => wpY_clearText (fun v' => i_Rel (k + 4) u' v') v) u := by
  refine bs_op (P := fun u v => wpX_clearText (fun u' => wpY_clearText (fun v' => i_Rel (k + 4) u' v') v) u) ?_ I
  intro C ms L S n s0 s1 s2 s3 s4 s5 s6 s7 s8 s9 s10 rl li mo ck te sy sp re co va pa xx ap am fr wd j
  have jj := j
  obtain ⟨⟨c1, c2⟩, ⟨m1, m2⟩, hL, hS, hn, hte, hsy, hsp, hrl, hLI, hPI⟩ := jj
  show i_Rel (k + 4) (s0, s1, s2, s3, s4, s5, s6, s7, s8, s9, s10, nI C, nI ms, 0, 0, nI n, rl, mo, ck, te, sy, sp, re, co, va) (nI C, nI ms, 0, 0, nI n, rl, li, te, sy, sp, re, pa, xx, ap, am, fr, wd)
  exact bs_in (L := 0) (S := 0) ⟨⟨c1, c2⟩, ⟨m1, m2⟩, Nat.zero_le _, Nat.zero_le _, hn, bs_R0, bs_R0, hsp, hrl, hLI, hPI⟩
theorem i_vc_addChar {k : Nat} {u : SX} {v : SY} (I : i_Rel k u v) (hk : k + 4 ≤ 2050) (v1 : Int32) : wpX_addChar (fun r u' => wpY_addChar (fun r' v' => r' = r ∧ i_Rel (k + 4) u' v') v v1) u v1 := by
  refine bs_op (P := fun u v => wpX_addChar (fun r u' => wpY_addChar (fun r' v' => r' = r ∧ i_Rel (k + 4) u' v') v v1) u v1) ?_ I
  intro C ms L S n s0 s1 s2 s3 s4 s5 s6 s7 s8 s9 s10 rl li mo ck te sy sp re co va pa xx ap am fr wd j
  have jj := j
  obtain ⟨⟨c1, c2⟩, ⟨m1, m2⟩, hL, hS, hn, hte, hsy, hsp, hrl, hLI, hPI⟩ := jj
  by_cases h0 : v1 < 0
  · exact br_t h0 (br_t h0 ⟨rfl, bs_in j⟩)
  · by_cases h1 : v1 ≤ 128
    · obtain ⟨q, hq, e⟩ := nI_of2 (n := 128) (by decide) h0 h1
      subst e
      have eL : (nI L).toNatClampNeg = L := nI_clamp (by omega)
      refine br_f h0 (br_t h1 (pk_lt L C (fun hl => ?_) (fun hl => ?_)))
      · refine ⟨vp_in_nI (by omega) (by decide), nm_r (e' := upd te L (nI q)) (by rw [eL]) (nm_r (e' := nI (L + 1)) (nI_1 L) ?_)⟩
        refine br_f h0 (br_t h1 (pk_lt L C (fun hl => ?_) (fun hl => ?_)))
        · exact nm_r (e' := nI (L + 1)) (nI_1 L) ⟨vp_in_nI (by omega) (by decide), nm_r (e' := upd te L (nI q)) (by rw [eL]) ⟨rfl, bs_in (S := 0) ⟨⟨c1, c2⟩, ⟨m1, m2⟩, hl, Nat.zero_le _, hn, bs_ext hte rfl (Nat.zero_le _) hq (by decide), bs_R0, hsp, hrl, hLI, hPI⟩⟩⟩
        · omega
      · refine br_f h0 (br_t h1 (pk_lt L C (fun hl => ?_) (fun hl => ?_)))
        · omega
        · exact ⟨rfl, bs_in j⟩
    · exact br_f h0 (br_f h1 (br_f h0 (br_f h1 ⟨rfl, bs_in j⟩)))
theorem i_vc_textChar {k : Nat} {u : SX} {v : SY} (I : i_Rel k u v) (hk : k + 4 ≤ 2050) (v1 : Int32) : wpX_textChar (fun r => wpY_textChar (fun r' => r' = r ∧ i_Rel (k + 4) u v) v v1) u v1 := by
  refine bs_op (P := fun u v => wpX_textChar (fun r => wpY_textChar (fun r' => r' = r ∧ i_Rel (k + 4) u v) v v1) u v1) ?_ I
  intro C ms L S n s0 s1 s2 s3 s4 s5 s6 s7 s8 s9 s10 rl li mo ck te sy sp re co va pa xx ap am fr wd j
  have jj := j
  obtain ⟨⟨c1, c2⟩, ⟨m1, m2⟩, hL, hS, hn, hte, hsy, hsp, hrl, hLI, hPI⟩ := jj
  by_cases h0 : v1 < 0
  · exact br_t h0 (br_t h0 ⟨rfl, bs_in j⟩)
  · by_cases h1 : v1 < nI L
    · obtain ⟨q, hq, e⟩ := nI_of h0
      subst e
      have hq2 := (nI_ltI hq (by omega)).mp h1
      exact br_f h0 (br_t h1 ⟨vp_in_nI (by omega) (by decide), br_f h0 (br_t h1 ⟨vp_in_nI (by omega) (by decide), rfl, bs_in j⟩)⟩)
    · exact br_f h0 (br_f h1 (br_f h0 (br_f h1 ⟨rfl, bs_in j⟩)))
theorem i_vc_encode {k : Nat} {u : SX} {v : SY} (I : i_Rel k u v) (hk : k + 4 ≤ 2050) : wpX_encode (fun r u' => wpY_encode (fun r' v' => r' = r ∧ i_Rel (k + 4) u' v') v) u := by
  refine bs_op (P := fun u v => wpX_encode (fun r u' => wpY_encode (fun r' v' => r' = r ∧ i_Rel (k + 4) u' v') v) u) ?_ I
  intro C ms L S n s0 s1 s2 s3 s4 s5 s6 s7 s8 s9 s10 rl li mo ck te sy sp re co va pa xx ap am fr wd j
  have jj := j
  obtain ⟨⟨c1, c2⟩, ⟨m1, m2⟩, hL, hS, hn, hte, hsy, hsp, hrl, hLI, hPI⟩ := jj
  have ht : ∀ i, i < L → te i = nI (bs_N te i) ∧ bs_N te i ≤ 128 := fun i hi => ⟨(hte i hi).1, (hte i hi).2.2⟩
  refine bs_xen (by omega) ht fun D N gp gm gv c g pth => ?_
  refine bs_yen (by omega) ht g pth fun li ap am fr wd => ⟨rfl, ?_⟩
  have hN := pth.2.2.2.1
  exact bs_in ⟨⟨c1, c2⟩, ⟨m1, m2⟩, hL, by omega, hn, hte, bs_fsR (bs_sv_le pth), hsp, hrl, hLI, hPI⟩
theorem i_vc_codeword {k : Nat} {u : SX} {v : SY} (I : i_Rel k u v) (hk : k + 4 ≤ 2050) (v1 : Int32) : wpX_codeword (fun r => wpY_codeword (fun r' => r' = r ∧ i_Rel (k + 4) u v) v v1) u v1 := by
  refine bs_op (P := fun u v => wpX_codeword (fun r => wpY_codeword (fun r' => r' = r ∧ i_Rel (k + 4) u v) v v1) u v1) ?_ I
  intro C ms L S n s0 s1 s2 s3 s4 s5 s6 s7 s8 s9 s10 rl li mo ck te sy sp re co va pa xx ap am fr wd j
  have jj := j
  obtain ⟨⟨c1, c2⟩, ⟨m1, m2⟩, hL, hS, hn, hte, hsy, hsp, hrl, hLI, hPI⟩ := jj
  by_cases h0 : v1 < 0
  · exact br_t h0 (br_t h0 ⟨rfl, bs_in j⟩)
  · by_cases h1 : v1 < nI S
    · obtain ⟨q, hq, e⟩ := nI_of h0
      subst e
      have hq2 := (nI_ltI hq (by omega)).mp h1
      exact br_f h0 (br_t h1 ⟨vp_in_nI (by omega) (by decide), br_f h0 (br_t h1 ⟨vp_in_nI (by omega) (by decide), rfl, bs_in j⟩)⟩)
    · exact br_f h0 (br_f h1 (br_f h0 (br_f h1 ⟨rfl, bs_in j⟩)))
theorem i_vc_print {k : Nat} {u : SX} {v : SY} (I : i_Rel k u v) (hk : k + 4 ≤ 2050) (v1 : Int32) (v2 : Int32) : wpX_print (fun r u' => wpY_print (fun r' v' => r' = r ∧ i_Rel (k + 4) u' v') v v1 v2) u v1 v2 := by
  refine bs_op (P := fun u v => wpX_print (fun r u' => wpY_print (fun r' v' => r' = r ∧ i_Rel (k + 4) u' v') v v1 v2) u v1 v2) ?_ I
  intro C ms L S n s0 s1 s2 s3 s4 s5 s6 s7 s8 s9 s10 rl li mo ck te sy sp re co va pa xx ap am fr wd j
  have jj := j
  obtain ⟨⟨c1, c2⟩, ⟨m1, m2⟩, hL, hS, hn, hte, hsy, hsp, hrl, hLI, hPI⟩ := jj
  refine pk_eq S 0 (fun z => ?_) (fun z => ?_)
  · exact pk_eq S 0 (fun _ => ⟨rfl, bs_in j⟩) (fun y => absurd z y)
  refine bs_xdf ?_
  by_cases d : bs_df v1 v2 (nI ms) = 0
  · obtain ⟨s, e, hs⟩ := bs_df0 m2 d
    have hW : ∀ i, i < S → sy i = nI (bs_N sy i) ∧ bs_N sy i < 107 := fun i hi => ⟨(hsy i hi).1, by have := (hsy i hi).2.2; omega⟩
    have hSt : bs_St (0, sp) := ⟨Nat.zero_le _, bs_R0⟩
    have hF := bs_pf_St (W := bs_N sy) hs S 0 (0, sp) hSt fun j _ h2 => (hW j (by omega)).2
    refine br_t d ?_
    subst e
    refine ⟨S + 1, bs_xp31 hs hS hLI.1 hW S 0 (by omega) (0, sp) hSt ?_⟩
    refine pk_eq S 0 (fun y => absurd y z) (fun _ => ?_)
    refine bs_ydf0 d ?_
    refine ⟨S + 1, bs_yp45 hs hS hPI hW S 0 (by omega) (0, sp) hSt ⟨rfl, ?_⟩⟩
    exact bs_in ⟨⟨c1, c2⟩, ⟨m1, m2⟩, hL, hS, hF.1, hte, hsy, hF.2, hrl, hLI, hPI⟩
  · refine br_f d (pk_eq S 0 (fun y => absurd y z) (fun _ => ?_))
    exact bs_ydf (Q := fun r => r = bs_df v1 v2 (nI ms) ∧ i_Rel (k + 4) (s0, s1, s2, s3, s4, s5, s6, s7, s8, s9, s10, nI C, nI ms, nI L, nI S, nI n, rl, mo, ck, te, sy, sp, re, co, va) (nI C, nI ms, nI L, nI S, nI n, rl, li, te, sy, sp, re, pa, xx, ap, am, fr, wd)) (fun y => absurd y d) (fun _ => ⟨rfl, bs_in j⟩)
theorem i_vc_stamp {k : Nat} {u : SX} {v : SY} (I : i_Rel k u v) (hk : k + 4 ≤ 2050) (v1 : Int32) (v2 : Int32) (v3 : Int32) : wpX_stamp (fun r u' => wpY_stamp (fun r' v' => r' = r ∧ i_Rel (k + 4) u' v') v v1 v2 v3) u v1 v2 v3 := by
  refine bs_op (P := fun u v => wpX_stamp (fun r u' => wpY_stamp (fun r' v' => r' = r ∧ i_Rel (k + 4) u' v') v v1 v2 v3) u v1 v2 v3) ?_ I
  intro C ms L S n s0 s1 s2 s3 s4 s5 s6 s7 s8 s9 s10 rl li mo ck te sy sp re co va pa xx ap am fr wd j
  have jj := j
  obtain ⟨⟨c1, c2⟩, ⟨m1, m2⟩, hL, hS, hn, hte, hsy, hsp, hrl, hLI, hPI⟩ := jj
  by_cases h0 : v1 < 0
  · exact br_t h0 (br_t h0 ⟨rfl, bs_in j⟩)
  by_cases h1 : ¬ v1 ≤ 107
  · exact br_f h0 (br_f h1 (br_f h0 (br_f h1 ⟨rfl, bs_in j⟩)))
  have h1 : v1 ≤ 107 := Decidable.not_not.mp h1
  obtain ⟨w, hw, e⟩ := nI_of2 (n := 107) (by decide) h0 h1
  subst e
  refine br_f h0 (br_t h1 (bs_xdf ?_))
  by_cases d : ¬ bs_df v2 v3 (nI ms) = 0
  · refine br_f d (br_f h0 (br_t h1 ?_))
    exact bs_ydf (Q := fun r => r = bs_df v2 v3 (nI ms) ∧ i_Rel (k + 4) (s0, s1, s2, s3, s4, s5, s6, s7, s8, s9, s10, nI C, nI ms, nI L, nI S, nI n, rl, mo, ck, te, sy, sp, re, co, va) (nI C, nI ms, nI L, nI S, nI n, rl, li, te, sy, sp, re, pa, xx, ap, am, fr, wd)) (fun y => absurd y d) (fun _ => ⟨rfl, bs_in j⟩)
  have d : bs_df v2 v3 (nI ms) = 0 := Decidable.not_not.mp d
  obtain ⟨s, e, hs⟩ := bs_df0 m2 d
  subst e
  refine br_t d ⟨by decide, ?_⟩
  by_cases ev : n % 2 = 0
  · have ev' : nI n - nI n / 2 * 2 = 0 := (bs_even (by omega)).mpr ev
    refine br_t ev' ?_
    obtain ⟨r, t, hT, hX, hY⟩ := bs_stp (s0 := s0) (s1 := s1) (s2 := s2) (s3 := s3) (s4 := s4) (s5 := s5) (s6 := s6) (s7 := s7) (s8 := s8) (s9 := s9) (s10 := s10) (cap := nI C) (msc := nI ms) (tl := nI L) (sl := nI S) (rl := rl) (mo := mo) (ck := ck) (te := te) (sy := sy) (sp := sp) (re := re) (co := co) (va := va) (li := li) (pa := pa) (xx := xx) (ap := ap) (am := am) (fr := fr) (wd := wd) (w := w) hn hw rfl hs hsp hLI hPI
    have jj : bs_J C ms L S t.1 rl mo ck te sy t.2 re pa := ⟨⟨c1, c2⟩, ⟨m1, m2⟩, hL, hS, hT.1, hte, hsy, hT.2, hrl, hLI, hPI⟩
    refine pk_eq w 106 (fun z => ?_) (fun z => ?_)
    · rw [if_pos z] at hX hY
      refine hX _ fun va => ?_
      refine br_f h0 (br_t h1 (bs_ydf0 d ⟨by decide, br_t ev' (pk_eq w 106 (fun _ => ?_) (fun y => absurd z y))⟩))
      exact hY _ ⟨rfl, bs_in jj⟩
    · rw [if_neg z] at hX hY
      refine hX _ fun va => ?_
      refine br_f h0 (br_t h1 (bs_ydf0 d ⟨by decide, br_t ev' (pk_eq w 106 (fun y => absurd y z) (fun _ => ?_))⟩))
      exact hY _ ⟨rfl, bs_in jj⟩
  · have ev' : ¬ nI n - nI n / 2 * 2 = 0 := fun q => ev ((bs_even (by omega)).mp q)
    refine br_f ev' (br_f h0 (br_t h1 (bs_ydf0 d ⟨by decide, br_f ev' ⟨rfl, bs_in j⟩⟩)))
theorem i_vc_setWidth {k : Nat} {u : SX} {v : SY} (I : i_Rel k u v) (hk : k + 4 ≤ 2050) (v1 : Int32) (v2 : Int32) : wpX_setWidth (fun r u' => wpY_setWidth (fun r' v' => r' = r ∧ i_Rel (k + 4) u' v') v v1 v2) u v1 v2 := by
  refine bs_op (P := fun u v => wpX_setWidth (fun r u' => wpY_setWidth (fun r' v' => r' = r ∧ i_Rel (k + 4) u' v') v v1 v2) u v1 v2) ?_ I
  intro C ms L S n s0 s1 s2 s3 s4 s5 s6 s7 s8 s9 s10 rl li mo ck te sy sp re co va pa xx ap am fr wd j
  have jj := j
  obtain ⟨⟨c1, c2⟩, ⟨m1, m2⟩, hL, hS, hn, hte, hsy, hsp, hrl, hLI, hPI⟩ := jj
  by_cases h0 : v1 < 0
  · exact br_t h0 (br_t h0 ⟨rfl, bs_in j⟩)
  by_cases h1 : ¬ v1 ≤ nI n
  · exact br_f h0 (br_f h1 (br_f h0 (br_f h1 ⟨rfl, bs_in j⟩)))
  have h1 : v1 ≤ nI n := Decidable.not_not.mp h1
  by_cases h2 : v2 < 1
  · exact br_f h0 (br_t h1 (br_t h2 (br_f h0 (br_t h1 (br_t h2 ⟨rfl, bs_in j⟩)))))
  by_cases h3 : ¬ v2 ≤ 400
  · exact br_f h0 (br_t h1 (br_f h2 (br_f h3 (br_f h0 (br_t h1 (br_f h2 (br_f h3 ⟨rfl, bs_in j⟩)))))))
  have h3 : v2 ≤ 400 := Decidable.not_not.mp h3
  obtain ⟨q, hq, e⟩ := nI_of2 (nI_toInt (show n < 2 ^ 31 by omega)) h0 h1
  subst e
  have h20 : ¬ v2 < 0 := by
    rw [Int32.lt_iff_toInt_lt, show (1 : Int32).toInt = 1 from by decide] at h2
    rw [Int32.lt_iff_toInt_lt, show (0 : Int32).toInt = 0 from by decide]
    omega
  obtain ⟨w, hw, e⟩ := nI_of2 (n := 400) (by decide) h20 h3
  subst e
  have hw1 : 1 ≤ w := by
    have : ¬ w < 1 := fun z => h2 (nI_lt (b := 1) z (by decide))
    omega
  have eq0 : (nI q).toNatClampNeg = q := nI_clamp (by omega)
  refine br_f h0 (br_t h1 (br_f h2 (br_t h3 (pk_lt q 253 (fun hl => ?_) (fun hl => ?_)))))
  · refine ⟨vp_in_nI hl (by decide), nm_r (e' := upd sp q (nI w)) (by rw [eq0]) (pk_eq q n (fun z => ?_) (fun z => ?_))⟩
    · refine nm_r (e' := nI (n + 1)) (nI_1 n) ?_
      refine br_f h0 (br_t h1 (br_f h2 (br_t h3 (br_t (nI_lt (b := 253) hl (by decide)) ⟨vp_in_nI hl (by decide), nm_r (e' := upd sp q (nI w)) (by rw [eq0]) (br_t (by rw [z]) (nm_r (e' := nI (n + 1)) (nI_1 n) ⟨rfl, ?_⟩))⟩))))
      exact bs_in ⟨⟨c1, c2⟩, ⟨m1, m2⟩, hL, hS, by omega, hte, hsy, bs_Rupd hsp (fun i hi => by omega) hw1 hw (by decide), hrl, hLI, hPI⟩
    · refine br_f h0 (br_t h1 (br_f h2 (br_t h3 (br_t (nI_lt (b := 253) hl (by decide)) ⟨vp_in_nI hl (by decide), nm_r (e' := upd sp q (nI w)) (by rw [eq0]) (br_f (fun y => z ((nI_eq (by omega) (by omega)).mp y)) ⟨rfl, ?_⟩)⟩))))
      exact bs_in ⟨⟨c1, c2⟩, ⟨m1, m2⟩, hL, hS, hn, hte, hsy, bs_Rupd hsp (fun i hi => Or.inr hi) hw1 hw (by decide), hrl, hLI, hPI⟩
  · exact br_f h0 (br_t h1 (br_f h2 (br_t h3 (br_f (nI_nlt (b := 253) hl (by omega)) ⟨rfl, bs_in j⟩))))
theorem i_vc_clearStrip {k : Nat} {u : SX} {v : SY} (I : i_Rel k u v) (hk : k + 4 ≤ 2050) : wpX_clearStrip (fun u' => wpY_clearStrip (fun v' => i_Rel (k + 4) u' v') v) u := by
  refine bs_op (P := fun u v => wpX_clearStrip (fun u' => wpY_clearStrip (fun v' => i_Rel (k + 4) u' v') v) u) ?_ I
  intro C ms L S n s0 s1 s2 s3 s4 s5 s6 s7 s8 s9 s10 rl li mo ck te sy sp re co va pa xx ap am fr wd j
  have jj := j
  obtain ⟨⟨c1, c2⟩, ⟨m1, m2⟩, hL, hS, hn, hte, hsy, hsp, hrl, hLI, hPI⟩ := jj
  show i_Rel (k + 4) (s0, s1, s2, s3, s4, s5, s6, s7, s8, s9, s10, nI C, nI ms, nI L, nI S, 0, rl, mo, ck, te, sy, sp, re, co, va) (nI C, nI ms, nI L, nI S, 0, rl, li, te, sy, sp, re, pa, xx, ap, am, fr, wd)
  exact bs_in (n := 0) ⟨⟨c1, c2⟩, ⟨m1, m2⟩, hL, hS, Nat.zero_le _, hte, hsy, bs_R0, hrl, hLI, hPI⟩
theorem i_vc_flip {k : Nat} {u : SX} {v : SY} (I : i_Rel k u v) (hk : k + 4 ≤ 2050) : wpX_flip (fun u' => wpY_flip (fun v' => i_Rel (k + 4) u' v') v) u := by
  refine bs_op (P := fun u v => wpX_flip (fun u' => wpY_flip (fun v' => i_Rel (k + 4) u' v') v) u) ?_ I
  intro C ms L S n s0 s1 s2 s3 s4 s5 s6 s7 s8 s9 s10 rl li mo ck te sy sp re co va pa xx ap am fr wd j
  have jj := j
  obtain ⟨⟨c1, c2⟩, ⟨m1, m2⟩, hL, hS, hn, hte, hsy, hsp, hrl, hLI, hPI⟩ := jj
  by_cases z : n = 0
  · subst z
    refine nm_r (e' := -1) (by decide) ⟨1, br_t (by decide) ?_⟩
    exact ⟨1, by decide, br_t (by decide) (bs_in j)⟩
  · obtain ⟨sp', hR, hX, hY⟩ := bs_fl (s0 := s0) (s1 := s1) (s2 := s2) (s3 := s3) (s4 := s4) (s5 := s5) (s6 := s6) (s7 := s7) (s8 := s8) (s9 := s9) (s10 := s10) (cap := nI C) (msc := nI ms) (tl := nI L) (sl := nI S) (rl := rl) (mo := mo) (ck := ck) (te := te) (sy := sy) (re := re) (co := co) (va := va) (li := li) (pa := pa) (xx := xx) (ap := ap) (am := am) (fr := fr) (wd := wd) (show 1 ≤ n by omega) hn (n / 2) 0 (by omega) sp hsp
    refine nm_r (e' := nI (n - 1 - 0)) (pk_sub (b := 1) (by omega)) ⟨n / 2 + 1, hX _ ?_⟩
    exact ⟨n / 2 + 1, hY _ (bs_in ⟨⟨c1, c2⟩, ⟨m1, m2⟩, hL, hS, hn, hte, hsy, hR, hrl, hLI, hPI⟩)⟩
theorem i_vc_width {k : Nat} {u : SX} {v : SY} (I : i_Rel k u v) (hk : k + 4 ≤ 2050) (v1 : Int32) : wpX_width (fun r => wpY_width (fun r' => r' = r ∧ i_Rel (k + 4) u v) v v1) u v1 := by
  refine bs_op (P := fun u v => wpX_width (fun r => wpY_width (fun r' => r' = r ∧ i_Rel (k + 4) u v) v v1) u v1) ?_ I
  intro C ms L S n s0 s1 s2 s3 s4 s5 s6 s7 s8 s9 s10 rl li mo ck te sy sp re co va pa xx ap am fr wd j
  have jj := j
  obtain ⟨⟨c1, c2⟩, ⟨m1, m2⟩, hL, hS, hn, hte, hsy, hsp, hrl, hLI, hPI⟩ := jj
  by_cases h0 : v1 < 0
  · exact br_t h0 (br_t h0 ⟨rfl, bs_in j⟩)
  · by_cases h1 : v1 < nI n
    · obtain ⟨q, hq, e⟩ := nI_of h0
      subst e
      have hq2 := (nI_ltI hq (by omega)).mp h1
      exact br_f h0 (br_t h1 ⟨vp_in_nI (by omega) (by decide), br_f h0 (br_t h1 ⟨vp_in_nI (by omega) (by decide), rfl, bs_in j⟩)⟩)
    · exact br_f h0 (br_f h1 (br_f h0 (br_f h1 ⟨rfl, bs_in j⟩)))
theorem i_vc_length {k : Nat} {u : SX} {v : SY} (I : i_Rel k u v) (hk : k + 4 ≤ 2050) (v1 : Int32) : wpX_length (fun r => wpY_length (fun r' => r' = r ∧ i_Rel (k + 4) u v) v v1) u v1 := by
  refine bs_op (P := fun u v => wpX_length (fun r => wpY_length (fun r' => r' = r ∧ i_Rel (k + 4) u v) v v1) u v1) ?_ I
  intro C ms L S n s0 s1 s2 s3 s4 s5 s6 s7 s8 s9 s10 rl li mo ck te sy sp re co va pa xx ap am fr wd j
  have jj := j
  obtain ⟨⟨c1, c2⟩, ⟨m1, m2⟩, hL, hS, hn, hte, hsy, hsp, hrl, hLI, hPI⟩ := jj
  have F : ∀ r : Int32, r = r ∧ i_Rel (k + 4) (s0, s1, s2, s3, s4, s5, s6, s7, s8, s9, s10, nI C, nI ms, nI L, nI S, nI n, rl, mo, ck, te, sy, sp, re, co, va) (nI C, nI ms, nI L, nI S, nI n, rl, li, te, sy, sp, re, pa, xx, ap, am, fr, wd) := fun r => ⟨rfl, bs_in j⟩
  by_cases h0 : v1 < 0
  · have a0 : ∀ x : Int32, ¬ x < 0 → ¬ v1 = x := fun x hx e => hx (e ▸ h0)
    exact br_t h0 (br_f (a0 0 (by decide)) (br_f (a0 1 (by decide)) (br_f (a0 2 (by decide)) (br_f (a0 3 (by decide)) (F _)))))
  by_cases h3 : 3 < v1
  · have a0 : ∀ x : Int32, ¬ 3 < x → ¬ v1 = x := fun x hx e => hx (e ▸ h3)
    exact br_f h0 (br_t h3 (br_f (a0 0 (by decide)) (br_f (a0 1 (by decide)) (br_f (a0 2 (by decide)) (br_f (a0 3 (by decide)) (F _))))))
  refine br_f h0 (br_f h3 ?_)
  by_cases e0 : v1 = 0
  · exact br_t e0 (br_t e0 (F _))
  by_cases e1 : v1 = 1
  · exact br_f e0 (br_t e1 (br_f e0 (br_t e1 (F _))))
  by_cases e2 : v1 = 2
  · exact br_f e0 (br_f e1 (br_t e2 (br_f e0 (br_f e1 (br_t e2 (F _))))))
  by_cases e3 : v1 = 3
  · exact br_f e0 (br_f e1 (br_f e2 (br_t e3 (br_f e0 (br_f e1 (br_f e2 (br_t e3 (F _))))))))
  exact br_f e0 (br_f e1 (br_f e2 (br_f e3 trivial)))
theorem i_vc_scan {k : Nat} {u : SX} {v : SY} (I : i_Rel k u v) (hk : k + 4 ≤ 2050) : wpX_scan (fun r u' => wpY_scan (fun r' v' => r' = r ∧ i_Rel (k + 4) u' v') v) u := by
  refine bs_op (P := fun u v => wpX_scan (fun r u' => wpY_scan (fun r' v' => r' = r ∧ i_Rel (k + 4) u' v') v) u) ?_ I
  intro C ms L S n s0 s1 s2 s3 s4 s5 s6 s7 s8 s9 s10 rl li mo ck te sy sp re co va pa xx ap am fr wd j
  have jj := j
  obtain ⟨⟨c1, c2⟩, ⟨m1, m2⟩, hL, hS, hn, hte, hsy, hsp, hrl, hLI, hPI⟩ := jj
  have jm : ∀ re' : Nat → Int32, bs_J C ms L S n (-1) mo ck te sy sp re' pa := fun re' => ⟨⟨c1, c2⟩, ⟨m1, m2⟩, hL, hS, hn, hte, hsy, hsp, Or.inl rfl, hLI, hPI⟩
  by_cases h19 : n < 19
  · have h : nI n < 19 := nI_lt (b := 19) h19 (by decide)
    exact br_t h (br_t h ⟨rfl, bs_in (jm re)⟩)
  have n19 : ¬ nI n < 19 := nI_nlt (b := 19) (by omega) (by omega)
  have er : nI n - nI n / 6 * 6 = nI (n % 6) := pk_rem (d := 6) (by omega) (by decide) (by decide)
  have ed : nI n / 6 = nI (n / 6) := pk_div (d := 6) (by omega) (by decide) (by decide)
  by_cases h6 : ¬ n % 6 = 1
  · have h : ¬ nI n - nI n / 6 * 6 = 1 := by
      rw [er]
      exact fun q => h6 ((nI_eq (b := 1) (by omega) (by decide)).mp q)
    exact br_f n19 ⟨by decide, br_f h (br_f n19 ⟨by decide, br_f h ⟨rfl, bs_in (jm re)⟩⟩)⟩
  have h6 : n % 6 = 1 := Decidable.not_not.mp h6
  have h : nI n - nI n / 6 * 6 = 1 := by rw [er, h6]; rfl
  have hnc : n = 6 * (n / 6) + 1 := by omega
  have hgF : ∀ k, k < n → 1 ≤ bs_N sp k ∧ bs_N sp k ≤ 400 := fun k hk => (hsp k hk).2
  have hkF : ∀ k, k < n → sp k = nI (bs_N sp k) := fun k hk => (hsp k hk).1
  have hgB : ∀ k, k < n → 1 ≤ bs_N sp (n - 1 - k) ∧ bs_N sp (n - 1 - k) ≤ 400 := fun k hk => (hsp _ (by omega)).2
  have hkB : ∀ k, k < n → sp (n - 1 - k) = nI (bs_N sp (n - 1 - k)) := fun k hk => (hsp _ (by omega)).1
  obtain ⟨r, rl', re', hO, hX, hY⟩ := bs_one (s0 := s0) (s1 := s1) (s2 := s2) (s3 := s3) (s4 := s4) (s5 := s5) (s6 := s6) (s7 := s7) (s8 := s8) (s9 := s9) (s10 := s10) (msc := nI ms) (tl := nI L) (sl := nI S) (mo := mo) (te := te) (sy := sy) (re := re) (co := co) (li := li) (ap := ap) (am := am) (fr := fr) (wd := wd) (C := C) c2 hPI hLI.2 (show 3 ≤ n / 6 by omega) (by omega) hnc (bs_diF hn hkF) (Or.inl ⟨rfl, hkF⟩) hgF
  have jO : ∀ (r rl' : Int32) (re' : Nat → Int32), bs_O C r rl' re' → bs_J C ms L S n rl' mo ck te sy sp re' pa := by
    intro r rl' re' hO
    refine ⟨⟨c1, c2⟩, ⟨m1, m2⟩, hL, hS, hn, hte, hsy, hsp, ?_, hLI, hPI⟩
    rcases hO with ⟨_, z⟩ | ⟨_, z⟩
    · exact Or.inr z
    · exact Or.inl z
  refine br_f n19 ⟨by decide, br_t h ⟨by decide, nm_r (e' := nI (n / 6)) ed ?_⟩⟩
  refine hX va _ fun va => ?_
  by_cases r0 : r = 0
  · refine br_t r0 (br_f n19 ⟨by decide, br_t h (hY xx _ fun xx => ?_)⟩)
    exact br_f (by rw [r0]; decide) (br_t r0 ⟨rfl, bs_in (jO r rl' re' hO)⟩)
  · refine br_f r0 ?_
    by_cases r14 : r = 14
    · have erl : rl' = -1 := by
        rcases hO with ⟨z, _⟩ | ⟨_, z⟩
        · exact absurd z r0
        · exact z
      subst erl
      obtain ⟨q, ql, qe, qO, qX, qY⟩ := bs_one (s0 := s0) (s1 := s1) (s2 := s2) (s3 := s3) (s4 := s4) (s5 := s5) (s6 := s6) (s7 := s7) (s8 := s8) (s9 := s9) (s10 := s10) (msc := nI ms) (tl := nI L) (sl := nI S) (mo := mo) (te := te) (sy := sy) (re := re') (co := co) (li := li) (ap := ap) (am := am) (fr := fr) (wd := wd) (C := C) c2 hPI hLI.2 (show 3 ≤ n / 6 by omega) (by omega) hnc (bs_diB hn (by omega) hkB) (Or.inr ⟨rfl, hkB⟩) hgB
      refine br_t r14 (qX va _ fun va => ?_)
      by_cases q0 : q = 0
      · refine br_t q0 (br_f n19 ⟨by decide, br_t h (hY xx _ fun xx => ?_)⟩)
        refine br_t r14 (qY xx _ fun xx => ?_)
        exact br_t q0 ⟨rfl, bs_in (jO q ql qe qO)⟩
      · refine br_f q0 (br_f n19 ⟨by decide, br_t h (hY xx _ fun xx => ?_)⟩)
        refine br_t r14 (qY xx _ fun xx => ?_)
        exact br_f q0 ⟨rfl, bs_in (jO q ql qe qO)⟩
    · refine br_f r14 (br_f n19 ⟨by decide, br_t h (hY xx _ fun xx => ?_)⟩)
      exact br_f r14 (br_f r0 ⟨rfl, bs_in (jO r rl' re' hO)⟩)
theorem i_vc_readChar {k : Nat} {u : SX} {v : SY} (I : i_Rel k u v) (hk : k + 4 ≤ 2050) (v1 : Int32) : wpX_readChar (fun r => wpY_readChar (fun r' => r' = r ∧ i_Rel (k + 4) u v) v v1) u v1 := by
  refine bs_op (P := fun u v => wpX_readChar (fun r => wpY_readChar (fun r' => r' = r ∧ i_Rel (k + 4) u v) v v1) u v1) ?_ I
  intro C ms L S n s0 s1 s2 s3 s4 s5 s6 s7 s8 s9 s10 rl li mo ck te sy sp re co va pa xx ap am fr wd j
  have jj := j
  obtain ⟨⟨c1, c2⟩, ⟨m1, m2⟩, hL, hS, hn, hte, hsy, hsp, hrl, hLI, hPI⟩ := jj
  by_cases h0 : v1 < 0
  · exact br_t h0 (br_t h0 ⟨rfl, bs_in j⟩)
  · by_cases h1 : v1 < rl
    · obtain ⟨q, hq, e⟩ := nI_of h0
      subst e
      rcases hrl with e | ⟨z, hz, e, _⟩
      · rw [e] at h1
        rw [Int32.lt_iff_toInt_lt, show (-1 : Int32).toInt = -1 from by decide, nI_toInt hq] at h1
        omega
      · subst e
        have hq2 := (nI_ltI hq (by omega)).mp h1
        exact br_f h0 (br_t h1 ⟨vp_in_nI (by omega) (by decide), br_f h0 (br_t h1 ⟨vp_in_nI (by omega) (by decide), rfl, bs_in j⟩)⟩)
    · exact br_f h0 (br_f h1 (br_f h0 (br_f h1 ⟨rfl, bs_in j⟩)))
theorem i_vc_adopt {k : Nat} {u : SX} {v : SY} (I : i_Rel k u v) (hk : k + 4 ≤ 2050) : wpX_adopt (fun r u' => wpY_adopt (fun r' v' => r' = r ∧ i_Rel (k + 4) u' v') v) u := by
  refine bs_op (P := fun u v => wpX_adopt (fun r u' => wpY_adopt (fun r' v' => r' = r ∧ i_Rel (k + 4) u' v') v) u) ?_ I
  intro C ms L S n s0 s1 s2 s3 s4 s5 s6 s7 s8 s9 s10 rl li mo ck te sy sp re co va pa xx ap am fr wd j
  have jj := j
  obtain ⟨⟨c1, c2⟩, ⟨m1, m2⟩, hL, hS, hn, hte, hsy, hsp, hrl, hLI, hPI⟩ := jj
  rcases hrl with e | ⟨z, hz, e, hre⟩
  · subst e
    exact br_f bs_n1' (br_f bs_n1' ⟨rfl, bs_in j⟩)
  · subst e
    have p0 : (0 : Int32) ≤ nI z := nI_pos' (by omega)
    have hT : bs_R (bs_cp te re z) z 0 128 := by
      refine bs_Rof (by decide) fun i hi => ?_
      have := hre i hi
      unfold bs_cp
      rw [if_pos hi]
      exact ⟨_, this.2.1, this.2.2, this.1⟩
    have jj : bs_J C ms z 0 n (nI z) mo ck (bs_cp te re z) sy sp re pa := ⟨⟨c1, c2⟩, ⟨m1, m2⟩, hz, Nat.zero_le _, hn, hT, bs_R0, hsp, Or.inr ⟨z, hz, rfl, hre⟩, hLI, hPI⟩
    refine br_t p0 ⟨z + 1, ?_⟩
    rw [← bs_cp0 (te := te) (re := re)]
    refine bs_xa12 (te := te) (by omega) ?_ z 0 (by omega)
    refine br_t p0 ⟨z + 1, ?_⟩
    have H := bs_ya12 (post := fun r' v' => r' = 0 ∧ i_Rel (k + 4) (s0, s1, s2, s3, s4, s5, s6, s7, s8, s9, s10, nI C, nI ms, nI z, 0, nI n, nI z, mo, ck, bs_cp te re z, sy, sp, re, co, va) v') (cap := nI C) (msc := nI ms) (tl := nI L) (sl := nI S) (st := nI n) (te := te) (sy := sy) (sp := sp) (re := re) (li := li) (pa := pa) (xx := xx) (ap := ap) (am := am) (fr := fr) (wd := wd) (z := z) (by omega) ⟨rfl, bs_in jj⟩ z 0 (by omega)
    rw [bs_cp0] at H
    exact H
end
