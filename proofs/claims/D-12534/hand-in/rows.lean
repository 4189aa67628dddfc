section
/-! ===== sums and counts below n ===== -/
/-- the sum of w over the i below n that C takes -/
def cv_ws (C : Nat → Bool) (w : Nat → Int32) : Nat → Int32
  | 0 => 0
  | n + 1 => cv_ws C w n + (if C n = true then w n else 0)
/-- how many i below n C takes -/
def cv_ct (C : Nat → Bool) : Nat → Nat
  | 0 => 0
  | n + 1 => cv_ct C n + (if C n = true then 1 else 0)
theorem cv_ws_congr {C C' : Nat → Bool} {w w' : Nat → Int32} {n : Nat} (h : ∀ i, i < n → C i = C' i) (hw : ∀ i, i < n → w i = w' i) : cv_ws C w n = cv_ws C' w' n := by
  induction n with
  | zero => rfl
  | succ n ih =>
    show cv_ws C w n + (if C n = true then w n else 0) = cv_ws C' w' n + (if C' n = true then w' n else 0)
    rw [ih (fun i hi => h i (by omega)) (fun i hi => hw i (by omega)), h n (by omega), hw n (by omega)]
theorem cv_ws_or {C D E : Nat → Bool} {w : Nat → Int32} {n : Nat} (h : ∀ i, i < n → (C i = true → D i = false) ∧ E i = (C i || D i)) : cv_ws E w n = cv_ws C w n + cv_ws D w n := by
  induction n with
  | zero => rfl
  | succ n ih =>
    show cv_ws E w n + (if E n = true then w n else 0) = (cv_ws C w n + (if C n = true then w n else 0)) + (cv_ws D w n + (if D n = true then w n else 0))
    rw [ih (fun i hi => h i (by omega))]
    obtain ⟨h1, h2⟩ := h n (by omega)
    rw [h2]
    cases hC : C n
    · cases hD : D n
      · simp
      · simp
        grind
    · rw [h1 hC]
      simp
      grind
theorem cv_ws_none {C : Nat → Bool} {w : Nat → Int32} {n : Nat} (h : ∀ i, i < n → C i = false) : cv_ws C w n = 0 := by
  induction n with
  | zero => rfl
  | succ n ih =>
    show cv_ws C w n + (if C n = true then w n else 0) = 0
    rw [ih (fun i hi => h i (by omega)), h n (by omega)]
    rfl
theorem cv_ws_one (C : Nat → Bool) (n : Nat) : cv_ws C (fun _ => 1) n = nI (cv_ct C n) := by
  induction n with
  | zero => rfl
  | succ n ih =>
    show cv_ws C (fun _ => 1) n + (if C n = true then 1 else 0) = nI (cv_ct C n + (if C n = true then 1 else 0))
    rw [ih]
    cases C n
    · simp
    · simp
      exact nI_1 _
theorem cv_ct_le (C : Nat → Bool) (n : Nat) : cv_ct C n ≤ n := by
  induction n with
  | zero => exact Nat.le_refl 0
  | succ n ih =>
    show cv_ct C n + (if C n = true then 1 else 0) ≤ n + 1
    split <;> omega
theorem cv_ct_none {C : Nat → Bool} {n : Nat} (h : cv_ct C n = 0) : ∀ i, i < n → C i = false := by
  induction n with
  | zero => exact fun i hi => absurd hi (by omega)
  | succ n ih =>
    have e : cv_ct C n + (if C n = true then 1 else 0) = 0 := h
    intro i hi
    by_cases ei : i = n
    · rw [ei]
      cases hC : C n
      · rfl
      · rw [hC] at e
        simp at e
    · exact ih (by omega) i (by omega)
theorem cv_ct_congr {C C' : Nat → Bool} {n : Nat} (h : ∀ i, i < n → C i = C' i) : cv_ct C n = cv_ct C' n := by
  induction n with
  | zero => rfl
  | succ n ih =>
    show cv_ct C n + (if C n = true then 1 else 0) = cv_ct C' n + (if C' n = true then 1 else 0)
    rw [ih (fun i hi => h i (by omega)), h n (by omega)]
theorem cv_ct_list (C : Nat → Bool) (n : Nat) : cv_ct C n = (List.range n).countP C := by
  induction n with
  | zero => rfl
  | succ n ih =>
    rw [List.range_succ, List.countP_append, ← ih]
    show cv_ct C n + (if C n = true then 1 else 0) = _
    cases hC : C n <;> simp [hC]
theorem cv_ws_set {C : Nat → Bool} {w : Nat → Int32} {n j : Nat} {v : Int32} (hj : j < n) : cv_ws C (upd w j v) n = cv_ws C w n + (if C j = true then v - w j else 0) := by
  induction n with
  | zero => exact absurd hj (by omega)
  | succ n ih =>
    show cv_ws C (upd w j v) n + (if C n = true then upd w j v n else 0) = cv_ws C w n + (if C n = true then w n else 0) + (if C j = true then v - w j else 0)
    by_cases e : j = n
    · subst e
      rw [cv_ws_congr (C' := C) (w' := w) (fun i _ => rfl) (fun i hi => pk_un (by omega)), pk_us]
      cases C j
      · simp
      · simp
        grind
    · rw [ih (by omega), pk_un (by omega)]
      grind
/-- the count, not above zero: nothing is taken -/
theorem cv_ct_pos {C : Nat → Bool} {n : Nat} (hn : n < 2 ^ 31) : (cv_ws C (fun _ => 1) n ≤ 0) ↔ cv_ct C n = 0 := by
  rw [cv_ws_one]
  have := cv_ct_le C n
  have e := nI_leI (a := cv_ct C n) (b := 0) (by omega) (by omega)
  rw [nI_0] at e
  rw [e]
  omega
/-! ===== the greatest of those that C takes, no less than e ===== -/
def cv_mx (e : Int32) (C : Nat → Bool) (A : Nat → Int32) (n : Nat) (r : Int32) : Prop := e ≤ r ∧ (∀ i, i < n → C i = true → A i ≤ r) ∧ (r = e ∨ ∃ i, i < n ∧ C i = true ∧ A i = r)
theorem cv_mx_uniq {e : Int32} {C : Nat → Bool} {A : Nat → Int32} {n : Nat} {r r' : Int32} (h : cv_mx e C A n r) (h' : cv_mx e C A n r') : r = r' := by
  obtain ⟨h1, h2, h3⟩ := h
  obtain ⟨g1, g2, g3⟩ := h'
  refine Int32.le_antisymm ?_ ?_
  · rcases h3 with z | ⟨i, hi, hc, hr⟩
    · rw [z]; exact g1
    · rw [← hr]; exact g2 i hi hc
  · rcases g3 with z | ⟨i, hi, hc, hr⟩
    · rw [z]; exact h1
    · rw [← hr]; exact h2 i hi hc
theorem cv_mx_congr {e : Int32} {C C' : Nat → Bool} {A : Nat → Int32} {n : Nat} {r : Int32} (h : ∀ i, i < n → C i = C' i) (hm : cv_mx e C A n r) : cv_mx e C' A n r := by
  obtain ⟨h1, h2, h3⟩ := hm
  refine ⟨h1, fun i hi hc => h2 i hi (by rw [h i hi]; exact hc), ?_⟩
  rcases h3 with z | ⟨i, hi, hc, hr⟩
  · exact Or.inl z
  · exact Or.inr ⟨i, hi, by rw [← h i hi]; exact hc, hr⟩
theorem cv_mx_0 {e : Int32} {C : Nat → Bool} {A : Nat → Int32} {n : Nat} (h : ∀ i, i < n → C i = false) : cv_mx e C A n e :=
  ⟨Int32.le_refl e, fun i hi hc => absurd hc (by rw [h i hi]; decide), Or.inl rfl⟩
theorem cv_mx_l {e : Int32} {C D E : Nat → Bool} {A : Nat → Int32} {n : Nat} {x y : Int32} (hC : cv_mx e C A n x) (hD : cv_mx e D A n y) (h : ∀ i, i < n → E i = (C i || D i)) (hl : y ≤ x) : cv_mx e E A n x := by
  obtain ⟨h1, h2, h3⟩ := hC
  obtain ⟨g1, g2, g3⟩ := hD
  refine ⟨h1, fun i hi he => ?_, ?_⟩
  · rw [h i hi, Bool.or_eq_true] at he
    rcases he with z | z
    · exact h2 i hi z
    · exact Int32.le_trans (g2 i hi z) hl
  · rcases h3 with z | ⟨i, hi, hc, hr⟩
    · exact Or.inl z
    · exact Or.inr ⟨i, hi, by rw [h i hi, hc]; rfl, hr⟩
theorem cv_mx_r {e : Int32} {C D E : Nat → Bool} {A : Nat → Int32} {n : Nat} {x y : Int32} (hC : cv_mx e C A n x) (hD : cv_mx e D A n y) (h : ∀ i, i < n → E i = (C i || D i)) (hl : x ≤ y) : cv_mx e E A n y :=
  cv_mx_l hD hC (fun i hi => by rw [h i hi, Bool.or_comm]) hl
/-! ===== places and groups ===== -/
/-- the group of place p in grouping g -/
def cv_g (p g : Nat) : Nat := (if g % 2 = 0 then 0 else p % 4) + 4 * (if g / 2 % 2 = 0 then 0 else p / 4 % 5) + 20 * (if g / 4 % 2 = 0 then 0 else p / 20)
/-- whether place p passes filter F in dimensions d -/
def cv_ok (F d p : Nat) : Bool := (decide (d % 2 = 0) || F.testBit (p % 4)) && (decide (d / 2 % 2 = 0) || F.testBit (4 + p / 4 % 5)) && (decide (d / 4 % 2 = 0) || F.testBit (9 + p / 20))
/-- the dimensions that a filter cuts -/
def cv_cu (F : Nat) : Nat := (if F % 16 = 15 then 0 else 1) + (if F / 16 % 32 = 31 then 0 else 2) + (if F / 512 = 63 then 0 else 4)
theorem cv_g_lt {p : Nat} (hp : p < 120) (g : Nat) : cv_g p g < 120 := by
  unfold cv_g
  split <;> split <;> split <;> omega
theorem cv_g_r {p g : Nat} (h : g % 2 = 1) : cv_g p g % 4 = p % 4 := by
  unfold cv_g
  rw [if_neg (by omega)]
  split <;> split <;> omega
theorem cv_g_k {p g : Nat} (h : g / 2 % 2 = 1) : cv_g p g / 4 % 5 = p / 4 % 5 := by
  unfold cv_g
  rw [if_neg (show ¬ g / 2 % 2 = 0 by omega)]
  split <;> split <;> omega
theorem cv_g_m {p g : Nat} (h : g / 4 % 2 = 1) : cv_g p g / 20 = p / 20 := by
  unfold cv_g
  rw [if_neg (show ¬ g / 4 % 2 = 0 by omega)]
  split <;> split <;> omega
theorem cv_bits : ∀ g, g < 8 → ∀ d, d < 8 → g &&& d = d → (d % 2 = 1 → g % 2 = 1) ∧ (d / 2 % 2 = 1 → g / 2 % 2 = 1) ∧ (d / 4 % 2 = 1 → g / 4 % 2 = 1) := by decide +kernel
theorem cv_bor : ∀ c, c < 8 → ∀ d, d < 8 → (c ||| d) < 8 ∧ ((c ||| d) % 2 = 0 → c % 2 = 0) ∧ ((c ||| d) / 2 % 2 = 0 → c / 2 % 2 = 0) ∧ ((c ||| d) / 4 % 2 = 0 → c / 4 % 2 = 0) ∧ (c ||| d) &&& d = d := by decide +kernel
theorem cv_band : ∀ g, g < 8 → ∀ c, c < 8 → ∀ d, d < 8 → g &&& c = c → c &&& d = d → g &&& d = d := by decide +kernel
theorem cv_gg {p g d : Nat} (hg : g < 8) (hd : d < 8) (h : g &&& d = d) : cv_g (cv_g p g) d = cv_g p d := by
  obtain ⟨h1, h2, h3⟩ := cv_bits g hg d hd h
  have e1 : d % 2 = 1 → cv_g p g % 4 = p % 4 := fun z => cv_g_r (h1 z)
  have e2 : d / 2 % 2 = 1 → cv_g p g / 4 % 5 = p / 4 % 5 := fun z => cv_g_k (h2 z)
  have e3 : d / 4 % 2 = 1 → cv_g p g / 20 = p / 20 := fun z => cv_g_m (h3 z)
  generalize cv_g p g = q at e1 e2 e3
  unfold cv_g
  split <;> split <;> split <;> omega
theorem cv_cu_lt (F : Nat) : cv_cu F < 8 := by
  unfold cv_cu
  split <;> split <;> split <;> omega
theorem cv_cu_r {F : Nat} (h : cv_cu F % 2 = 0) : F % 16 = 15 := by
  unfold cv_cu at h
  by_cases e : F % 16 = 15
  · exact e
  · rw [if_neg e] at h
    split at h <;> split at h <;> omega
theorem cv_cu_k {F : Nat} (h : cv_cu F / 2 % 2 = 0) : F / 16 % 32 = 31 := by
  unfold cv_cu at h
  by_cases e : F / 16 % 32 = 31
  · exact e
  · rw [if_neg e] at h
    split at h <;> split at h <;> omega
theorem cv_cu_m {F : Nat} (h : cv_cu F / 4 % 2 = 0) : F / 512 = 63 := by
  unfold cv_cu at h
  by_cases e : F / 512 = 63
  · exact e
  · rw [if_neg e] at h
    split at h <;> split at h <;> omega
theorem cv_tb {F j : Nat} : F.testBit j = true ↔ F / 2 ^ j % 2 = 1 := by
  rw [Nat.testBit_eq_decide_div_mod_eq, decide_eq_true_eq]
theorem cv_tb_r {F : Nat} (h : F % 16 = 15) : ∀ r, r < 4 → F.testBit r = true := by
  intro r hr
  rw [cv_tb]
  rcases (by omega : r = 0 ∨ r = 1 ∨ r = 2 ∨ r = 3) with z | z | z | z <;> subst z <;> omega
theorem cv_tb_k {F : Nat} (h : F / 16 % 32 = 31) : ∀ k, k < 5 → F.testBit (4 + k) = true := by
  intro k hk
  rw [cv_tb]
  rcases (by omega : k = 0 ∨ k = 1 ∨ k = 2 ∨ k = 3 ∨ k = 4) with z | z | z | z | z <;> subst z <;> omega
theorem cv_tb_m {F : Nat} (h : F / 512 = 63) : ∀ m, m < 6 → F.testBit (9 + m) = true := by
  intro m hm
  rw [cv_tb]
  rcases (by omega : m = 0 ∨ m = 1 ∨ m = 2 ∨ m = 3 ∨ m = 4 ∨ m = 5) with z | z | z | z | z | z <;> subst z <;> omega
/-- a cell of a grouping that parts by all that is needed answers for its facts -/
theorem cv_okg {F p g d : Nat} (hp : p < 120) (hg : g < 8) (hd : d < 8) (h : g &&& (cv_cu F ||| d) = cv_cu F ||| d) : cv_ok F (cv_cu F ||| d) (cv_g p g) = cv_ok F 7 p := by
  obtain ⟨o0, o1, o2, o3, o4⟩ := cv_bor (cv_cu F) (cv_cu_lt F) d hd
  obtain ⟨h1, h2, h3⟩ := cv_bits g hg _ o0 h
  have t1 : (decide ((cv_cu F ||| d) % 2 = 0) || F.testBit (cv_g p g % 4)) = F.testBit (p % 4) := by
    by_cases z : (cv_cu F ||| d) % 2 = 0
    · rw [cv_tb_r (cv_cu_r (o1 z)) (p % 4) (by omega), decide_eq_true z]
      rfl
    · rw [decide_eq_false z, cv_g_r (h1 (by omega))]
      rfl
  have t2 : (decide ((cv_cu F ||| d) / 2 % 2 = 0) || F.testBit (4 + cv_g p g / 4 % 5)) = F.testBit (4 + p / 4 % 5) := by
    by_cases z : (cv_cu F ||| d) / 2 % 2 = 0
    · rw [cv_tb_k (cv_cu_k (o2 z)) (p / 4 % 5) (by omega), decide_eq_true z]
      rfl
    · rw [decide_eq_false z, cv_g_k (h2 (by omega))]
      rfl
  have t3 : (decide ((cv_cu F ||| d) / 4 % 2 = 0) || F.testBit (9 + cv_g p g / 20)) = F.testBit (9 + p / 20) := by
    by_cases z : (cv_cu F ||| d) / 4 % 2 = 0
    · rw [cv_tb_m (cv_cu_m (o3 z)) (p / 20) (by omega), decide_eq_true z]
      rfl
    · rw [decide_eq_false z, cv_g_m (h3 (by omega))]
      rfl
  unfold cv_ok
  rw [t1, t2, t3]
  rfl
end
section
/-! ===== the small methods ===== -/
section
variable {c : Int32} {a1 a2 a3 a4 a5 a6 a7 a8 a9 : Nat → Int32}
def cv_bI : Bool → Int32
  | true => 1
  | false => 0
theorem cv_sh : ∀ n, n < 32 → ((nI n &&& 31).toBitVec.smod 32).toNat = n := by decide +kernel
theorem cv_bit {F j : Nat} (hF : F < 2 ^ 31) (hj : j < 32) : ((nI F >>> (nI j &&& 31)) &&& 1) = 1 ↔ F.testBit j = true := by
  have hd := Nat.div_le_self F (2 ^ j)
  rw [pk_shrN hF _ j (cv_sh j hj), pk_andN (by omega) 1 (by decide), cv_tb]
  exact nI_eq (a := F / 2 ^ j % 2) (b := 1) (by omega) (by omega)
theorem cv_bit2 {F j k : Nat} (hF : F < 2 ^ 31) (hj : k + j < 32) : ((nI F >>> ((nI k + nI j) &&& 31)) &&& 1) = 1 ↔ F.testBit (k + j) = true := by
  rw [nI_add]
  exact cv_bit hF hj
theorem cv_gb : ∀ g, g < 8 → ((nI g &&& 1 = 0 ↔ g % 2 = 0) ∧ (nI g &&& 2 = 0 ↔ g / 2 % 2 = 0) ∧ (nI g &&& 4 = 0 ↔ g / 4 % 2 = 0)) := by decide +kernel
theorem cv_ba : ∀ g, g < 8 → ∀ d, d < 8 → (nI g &&& nI d = nI d ↔ g &&& d = d) := by decide +kernel
theorem cv_bo : ∀ g, g < 8 → ∀ d, d < 8 → nI g ||| nI d = nI (g ||| d) := by decide +kernel
theorem cv_region {post : Int32 → Prop} {p : Nat} (hp : p < 120) (h : post (nI (p % 4))) : wpX_region post (c, a1, a2, a3, a4, a5, a6, a7, a8, a9) (nI p) :=
  And.intro (by decide) (ek_v (P := post) (pk_rem (a := p) (d := 4) (by omega) (by omega) (by omega)) h)
theorem cv_kind {post : Int32 → Prop} {p : Nat} (hp : p < 120) (h : post (nI (p / 4 % 5))) : wpX_kind post (c, a1, a2, a3, a4, a5, a6, a7, a8, a9) (nI p) := by
  have e : nI p / 4 = nI (p / 4) := pk_div (a := p) (d := 4) (by omega) (by omega) (by omega)
  have e2 : nI p / 4 - nI p / 4 / 5 * 5 = nI (p / 4 % 5) := by
    rw [e]
    exact pk_rem (a := p / 4) (d := 5) (by omega) (by omega) (by omega)
  exact And.intro (by decide) (And.intro (by decide) (ek_v (P := post) e2 h))
theorem cv_month {post : Int32 → Prop} {p : Nat} (hp : p < 120) (h : post (nI (p / 20))) : wpX_month post (c, a1, a2, a3, a4, a5, a6, a7, a8, a9) (nI p) :=
  And.intro (by decide) (ek_v (P := post) (pk_div (a := p) (d := 20) (by omega) (by omega) (by omega)) h)
theorem cv_group {post : Int32 → Prop} {p g : Nat} (hp : p < 120) (hg : g < 8) (h : post (nI (cv_g p g))) : wpX_group post (c, a1, a2, a3, a4, a5, a6, a7, a8, a9) (nI p) (nI g) := by
  obtain ⟨b1, b2, b3⟩ := cv_gb g hg
  have s48 : ∀ x y z : Nat, post (nI (x + 4 * y + 20 * z)) → wX_group_48 post (nI x) (nI y) (nI z) c a1 a2 a3 a4 a5 a6 a7 a8 a9 := fun x y z h =>
    ek_v (P := post) (by show nI x + nI 4 * nI y + nI 20 * nI z = _; rw [pk_mul, pk_mul, nI_add, nI_add]) h
  have s31 : ∀ x y : Nat, post (nI (x + 4 * y + 20 * (if g / 4 % 2 = 0 then 0 else p / 20))) → wX_group_31 post (nI p) (nI g) (nI x) (nI y) c a1 a2 a3 a4 a5 a6 a7 a8 a9 := fun x y h =>
    ek_if b3 (fun z => s48 x y 0 (by rw [if_pos z] at h; exact h)) (fun z => cv_month hp (s48 x y (p / 20) (by rw [if_neg z] at h; exact h)))
  have s15 : ∀ x : Nat, post (nI (x + 4 * (if g / 2 % 2 = 0 then 0 else p / 4 % 5) + 20 * (if g / 4 % 2 = 0 then 0 else p / 20))) → wX_group_15 post (nI p) (nI g) (nI x) c a1 a2 a3 a4 a5 a6 a7 a8 a9 := fun x h =>
    ek_if b2 (fun z => s31 x 0 (by rw [if_pos z] at h; exact h)) (fun z => cv_kind hp (s31 x (p / 4 % 5) (by rw [if_neg z] at h; exact h)))
  unfold cv_g at h
  exact ek_if b1 (fun z => s15 0 (by rw [if_pos z] at h; exact h)) (fun z => cv_region hp (s15 (p % 4) (by rw [if_neg z] at h; exact h)))
theorem cv_passesB {post : Int32 → Prop} {p F d : Nat} (hp : p < 120) (hF : F < 2 ^ 31) (hd : d < 8) (h : post (cv_bI (cv_ok F d p))) : wpX_passes post (c, a1, a2, a3, a4, a5, a6, a7, a8, a9) (nI p) (nI F) (nI d) := by
  obtain ⟨b1, b2, b3⟩ := cv_gb d hd
  have s81 : ∀ x y z : Bool, post (cv_bI (x && y && z)) → wX_passes_81 post (cv_bI x) (cv_bI y) (cv_bI z) c a1 a2 a3 a4 a5 a6 a7 a8 a9 := by
    intro x y z h
    cases x
    · exact br_t rfl h
    · cases y
      · exact br_f (by decide) (br_t rfl h)
      · cases z
        · exact br_f (by decide) (br_f (by decide) (br_t rfl h))
        · exact br_f (by decide) (br_f (by decide) (br_f (by decide) h))
  have s52 : ∀ x y : Bool, post (cv_bI (x && y && (decide (d / 4 % 2 = 0) || F.testBit (9 + p / 20)))) → wX_passes_52 post (nI p) (nI F) (nI d) (cv_bI x) (cv_bI y) c a1 a2 a3 a4 a5 a6 a7 a8 a9 := fun x y h =>
    ek_if b3 (fun z => s81 x y true (by rw [decide_eq_true z] at h; exact h)) (fun z => cv_month hp (ek_if (cv_bit2 (k := 9) hF (by omega)) (fun t => s81 x y true (by rw [decide_eq_false z, t] at h; exact h)) (fun t => s81 x y false (by rw [decide_eq_false z, Bool.eq_false_iff.mpr t] at h; exact h))))
  have s24 : ∀ x : Bool, post (cv_bI (x && (decide (d / 2 % 2 = 0) || F.testBit (4 + p / 4 % 5)) && (decide (d / 4 % 2 = 0) || F.testBit (9 + p / 20)))) → wX_passes_24 post (nI p) (nI F) (nI d) (cv_bI x) c a1 a2 a3 a4 a5 a6 a7 a8 a9 := fun x h =>
    ek_if b2 (fun z => s52 x true (by rw [decide_eq_true z] at h; exact h)) (fun z => cv_kind hp (ek_if (cv_bit2 (k := 4) hF (by omega)) (fun t => s52 x true (by rw [decide_eq_false z, t] at h; exact h)) (fun t => s52 x false (by rw [decide_eq_false z, Bool.eq_false_iff.mpr t] at h; exact h))))
  unfold cv_ok at h
  exact ek_if b1 (fun z => s24 true (by rw [decide_eq_true z] at h; exact h)) (fun z => cv_region hp (ek_if (cv_bit hF (by omega)) (fun t => s24 true (by rw [decide_eq_false z, t] at h; exact h)) (fun t => s24 false (by rw [decide_eq_false z, Bool.eq_false_iff.mpr t] at h; exact h))))
theorem cv_passes {post : Int32 → Prop} {p F d : Nat} (hp : p < 120) (hF : F < 2 ^ 31) (hd : d < 8) (ht : cv_ok F d p = true → post 1) (hf : cv_ok F d p = false → post 0) : wpX_passes post (c, a1, a2, a3, a4, a5, a6, a7, a8, a9) (nI p) (nI F) (nI d) := by
  refine cv_passesB hp hF hd ?_
  cases e : cv_ok F d p
  · exact hf e
  · exact ht e
theorem cv_cuts {post : Int32 → Prop} {F : Nat} (hF : F < 2 ^ 31) (h : post (nI (cv_cu F))) : wpX_cuts post (c, a1, a2, a3, a4, a5, a6, a7, a8, a9) (nI F) := by
  have b1 : nI F &&& 15 = 15 ↔ F % 16 = 15 := by
    rw [pk_andN (by omega) 4 (by decide)]
    exact nI_eq (a := F % 16) (b := 15) (by omega) (by omega)
  have b2 : (nI F >>> ((4 : Int32) &&& 31)) &&& 31 = 31 ↔ F / 16 % 32 = 31 := by
    rw [pk_shrN hF _ 4 (by decide), pk_andN (by omega) 5 (by decide)]
    exact nI_eq (a := F / 16 % 32) (b := 31) (by omega) (by omega)
  have b3 : nI F >>> ((9 : Int32) &&& 31) = 63 ↔ F / 512 = 63 := by
    rw [pk_shrN hF _ 9 (by decide)]
    exact nI_eq (a := F / 512) (b := 63) (by omega) (by omega)
  have o2 : ∀ x, x < 2 → nI x ||| 2 = nI (x + 2) := by decide +kernel
  have o4 : ∀ x, x < 4 → nI x ||| 4 = nI (x + 4) := by decide +kernel
  have s33 : ∀ x : Nat, x < 4 → post (nI (x + (if F / 512 = 63 then 0 else 4))) → wX_cuts_33 post (nI F) (nI x) c a1 a2 a3 a4 a5 a6 a7 a8 a9 := fun x hx h =>
    ek_if b3 (fun z => by rw [if_pos z] at h; exact h) (fun z => ek_v (P := post) (o4 x hx) (by rw [if_neg z] at h; exact h))
  have s14 : ∀ x : Nat, x < 2 → post (nI (x + (if F / 16 % 32 = 31 then 0 else 2) + (if F / 512 = 63 then 0 else 4))) → wX_cuts_14 post (nI F) (nI x) c a1 a2 a3 a4 a5 a6 a7 a8 a9 := fun x hx h =>
    ek_if b2 (fun z => s33 x (by omega) (by rw [if_pos z] at h; exact h)) (fun z => ek_v (P := fun y => wX_cuts_33 post (nI F) y c a1 a2 a3 a4 a5 a6 a7 a8 a9) (o2 x hx) (s33 (x + 2) (by omega) (by rw [if_neg z] at h; exact h)))
  unfold cv_cu at h
  exact ek_if b1 (fun z => s14 0 (by omega) (by rw [if_pos z] at h; exact h)) (fun z => s14 1 (by omega) (by rw [if_neg z] at h; exact h))
theorem cv_cells {post : Int32 → Prop} {x : Int32} (h : ∀ r, post r) : wpX_cells post (c, a1, a2, a3, a4, a5, a6, a7, a8, a9) x := by
  have s25 : ∀ z : Int32, wX_cells_25 post x z c a1 a2 a3 a4 a5 a6 a7 a8 a9 := fun z => br_c (fun _ => h _) (fun _ => h _)
  have s11 : ∀ z : Int32, wX_cells_11 post x z c a1 a2 a3 a4 a5 a6 a7 a8 a9 := fun z => br_c (fun _ => s25 _) (fun _ => s25 _)
  exact br_c (fun _ => s11 _) (fun _ => s11 _)
theorem cv_smallest {post : Int32 → Prop} {nd : Nat} (hd : nd < 8) (h : ∀ r : Int32, (r = -1 ∨ ∃ g, g < 8 ∧ r = nI g ∧ a5 g ≠ 0 ∧ g &&& nd = nd) → post r) : wpX_smallest post (c, a1, a2, a3, a4, a5, a6, a7, a8, a9) (nI nd) := by
  refine pk_loop (fun m i (s : Int32) => wX_smallest_4 post (nI nd) c a1 a2 a3 a4 a5 a6 a7 a8 a9 m s (nI i)) (fun _ s => s = -1 ∨ ∃ g, g < 8 ∧ s = nI g ∧ a5 g ≠ 0 ∧ g &&& nd = nd) 8 0 (-1) (by omega) (Or.inl rfl) ?_ ?_
  · exact fun m s hs => pk_le 8 8 (fun _ => h s hs) (fun z => absurd z (by omega))
  · intro m i s hi hs hw
    refine pk_le 8 i (fun z => absurd z (by omega)) (fun _ => ⟨pk_in i 8 hi, br_c (fun _ => nm_r (nI_1 i) (hw s hs)) (fun hk => ek_if (cv_ba i hi nd hd) (fun hn => ?_) (fun _ => nm_r (nI_1 i) (hw s hs)))⟩)
    have new : nI i = -1 ∨ ∃ g, g < 8 ∧ nI i = nI g ∧ a5 g ≠ 0 ∧ g &&& nd = nd := Or.inr ⟨i, hi, rfl, fun e => hk (by rw [nI_clamp (by omega)]; exact e), hn⟩
    exact br_c (fun _ => nm_r (nI_1 i) (hw (nI i) new)) (fun _ => cv_cells (fun r9 => cv_cells (fun r10 => br_c (fun _ => nm_r (nI_1 i) (hw s hs)) (fun _ => nm_r (nI_1 i) (hw (nI i) new)))))
theorem cv_note {post : St1 → Prop} {q : Nat} {x y : Int32} (hq : q < 120) (h : post (c, a1, a2, a3, a4, a5, a6, a7, upd a8 q (a8 q + x), upd a9 q (a9 q + y))) : wpX_note post (c, a1, a2, a3, a4, a5, a6, a7, a8, a9) (nI q) x y :=
  And.intro (pk_in q 120 hq) (And.intro (pk_in q 120 hq) (nm_r (e' := upd a8 q (a8 q + x)) (by rw [nI_clamp (by omega)]) (And.intro (pk_in q 120 hq) (And.intro (pk_in q 120 hq) (nm_r (e' := upd a9 q (a9 q + y)) (by rw [nI_clamp (by omega)]) h)))))
theorem cv_badF {post : Int32 → Prop} {F : Nat} (hF : F < 32768) (h : post 0) : wpX_badFilter post (c, a1, a2, a3, a4, a5, a6, a7, a8, a9) (nI F) :=
  pk_lt F 0 (fun z => absurd z (by omega)) (fun _ => pk_le F 32767 (fun _ => h) (fun z => absurd z (by omega)))
theorem cv_badG {post : Int32 → Prop} {g : Nat} (hg : g < 8) (h : post 0) : wpX_badGrouping post (c, a1, a2, a3, a4, a5, a6, a7, a8, a9) (nI g) :=
  pk_lt g 0 (fun z => absurd z (by omega)) (fun _ => pk_lt g 8 (fun _ => h) (fun z => absurd z (by omega)))
end
end
section
/-! ===== the picture, and gather ===== -/
/-- fact j passes filter F and is of group q in grouping d -/
def cv_C (F d : Nat) (P : Nat → Nat) (q j : Nat) : Bool := cv_ok F 7 (P j) && decide (cv_g (P j) d = q)
/-- and its cell in grouping g stands below i -/
def cv_E (F d : Nat) (P : Nat → Nat) (g i q j : Nat) : Bool := cv_C F d P q j && decide (cv_g (P j) g < i)
/-- fact j is in cell p of grouping g -/
def cv_cell (P : Nat → Nat) (g p j : Nat) : Bool := decide (cv_g (P j) g = p)
/-- the last i below n at place p -/
def cv_la (P : Nat → Nat) (p : Nat) : Nat → Int32
  | 0 => -1
  | n + 1 => if P n = p then nI n else cv_la P p n
/-- the cells of grouping g are up to date -/
def cv_V (n : Nat) (P : Nat → Nat) (A : Nat → Int32) (g : Nat) (a6 a7 : Nat → Int32) : Prop := ∀ p, p < 120 → a6 (120 * g + p) = cv_ws (cv_cell P g p) (fun _ => 1) n ∧ a7 (120 * g + p) = cv_ws (cv_cell P g p) A n
/-- the state holds the facts -/
def cv_K (n : Nat) (P : Nat → Nat) (A : Nat → Int32) (a1 a2 a3 a4 a5 a6 a7 : Nat → Int32) : Prop := n ≤ 40 ∧ (∀ i, i < n → P i < 120 ∧ a1 i = nI (P i) ∧ a2 i = A i) ∧ (∀ p, p < 120 → a3 p = cv_la P p n) ∧ (∀ i, i < n → a4 i = cv_la P (P i) i) ∧ (∀ g, g < 8 → a5 g ≠ 0 → cv_V n P A g a6 a7)
/-- what gather leaves in the question's arrays -/
def cv_G (n : Nat) (P : Nat → Nat) (A : Nat → Int32) (F d : Nat) (a8 a9 : Nat → Int32) : Prop := ∀ q, q < 120 → a8 q = cv_ws (cv_C F d P q) (fun _ => 1) n ∧ a9 q = cv_ws (cv_C F d P q) A n
theorem cv_E_skip {F d : Nat} {P : Nat → Nat} {g i q n : Nat} {w : Nat → Int32} (h : ∀ j, j < n → cv_g (P j) g = i → cv_ok F 7 (P j) = false) : cv_ws (cv_E F d P g (i + 1) q) w n = cv_ws (cv_E F d P g i q) w n := by
  refine cv_ws_congr (fun j hj => ?_) (fun _ _ => rfl)
  unfold cv_E cv_C
  by_cases e : cv_g (P j) g = i
  · rw [h j hj e]
    rfl
  · rw [show decide (cv_g (P j) g < i + 1) = decide (cv_g (P j) g < i) from decide_eq_decide.mpr (by omega)]
theorem cv_E_add {F d : Nat} {P : Nat → Nat} {g i q n k : Nat} {w : Nat → Int32} (h : ∀ j, j < n → cv_g (P j) g = i → cv_ok F 7 (P j) = true ∧ cv_g (P j) d = k) : cv_ws (cv_E F d P g (i + 1) q) w n = cv_ws (cv_E F d P g i q) w n + (if k = q then cv_ws (cv_cell P g i) w n else 0) := by
  by_cases z : k = q
  · rw [if_pos z]
    refine cv_ws_or (fun j hj => ⟨fun t => ?_, ?_⟩)
    · unfold cv_E at t
      rw [Bool.and_eq_true, decide_eq_true_eq] at t
      exact decide_eq_false (by omega)
    · unfold cv_E cv_C cv_cell
      by_cases e : cv_g (P j) g = i
      · obtain ⟨t1, t2⟩ := h j hj e
        rw [t1, t2, decide_eq_true z, decide_eq_true e, decide_eq_true (show cv_g (P j) g < i + 1 by omega)]
        simp
      · rw [show decide (cv_g (P j) g < i + 1) = decide (cv_g (P j) g < i) from decide_eq_decide.mpr (by omega), decide_eq_false e, Bool.or_false]
  · rw [if_neg z, Int32.add_zero]
    refine cv_ws_congr (fun j hj => ?_) (fun _ _ => rfl)
    unfold cv_E cv_C
    by_cases e : cv_g (P j) g = i
    · obtain ⟨t1, t2⟩ := h j hj e
      rw [t2, decide_eq_false z, Bool.and_false]
      rfl
    · rw [show decide (cv_g (P j) g < i + 1) = decide (cv_g (P j) g < i) from decide_eq_decide.mpr (by omega)]
theorem cv_ua (f : Nat → Int32) (k : Nat) (x : Int32) (q : Nat) : upd f k (f k + x) q = f q + (if k = q then x else 0) := by
  by_cases e : q = k
  · subst e
    rw [pk_us, if_pos rfl]
  · rw [pk_un e, if_neg (fun z => e z.symm), Int32.add_zero]
theorem cv_ix (g i : Nat) : (120 : Int32) * nI g + nI i = nI (120 * g + i) := by
  show nI 120 * nI g + nI i = _
  rw [pk_mul, nI_add]
section
variable {a1 a2 a3 a4 a5 a6 a7 a8 a9 : Nat → Int32} {n : Nat} {P : Nat → Nat} {A : Nat → Int32} {F d g : Nat} {post : St1 → Prop}
theorem cv_g115 (K : cv_K n P A a1 a2 a3 a4 a5 a6 a7) (hF : F < 32768) (hd : d < 8) (hg : g < 8) (hk : a5 g ≠ 0) (hn : g &&& (cv_cu F ||| d) = cv_cu F ||| d) (h0 : ∀ q, q < 120 → a8 q = 0 ∧ a9 q = 0) (H : ∀ b8 b9, cv_G n P A F d b8 b9 → post (nI n, a1, a2, a3, a4, a5, a6, a7, b8, b9)) : ∃ m, wX_gather_115 post (nI d) (nI F) (nI (cv_cu F ||| d)) (nI g) m 0 (nI n) a1 a2 a3 a4 a5 a6 a7 a8 a9 := by
  obtain ⟨k0, k1, k2, k3, k4⟩ := K
  have V := k4 g hg hk
  obtain ⟨o0, o1, o2, o3, o4⟩ := cv_bor (cv_cu F) (cv_cu_lt F) d hd
  have hgd : g &&& d = d := cv_band g hg _ o0 d hd hn o4
  refine pk_loop (fun m i (s : (Nat → Int32) × (Nat → Int32)) => wX_gather_115 post (nI d) (nI F) (nI (cv_cu F ||| d)) (nI g) m (nI i) (nI n) a1 a2 a3 a4 a5 a6 a7 s.1 s.2) (fun i s => ∀ q, q < 120 → s.1 q = cv_ws (cv_E F d P g i q) (fun _ => 1) n ∧ s.2 q = cv_ws (cv_E F d P g i q) A n) 120 0 (a8, a9) (by omega) ?_ ?_ ?_
  · intro q hq
    have e : ∀ w, cv_ws (cv_E F d P g 0 q) w n = 0 := fun w => cv_ws_none (fun j _ => by simp [cv_E])
    rw [e, e]
    exact h0 q hq
  · intro m s hs
    refine pk_le 120 120 (fun _ => H s.1 s.2 (fun q hq => ?_)) (fun z => absurd z (by omega))
    have e : ∀ w, cv_ws (cv_E F d P g 120 q) w n = cv_ws (cv_C F d P q) w n := fun w => cv_ws_congr (fun j hj => by simp [cv_E, cv_g_lt (k1 j hj).1 g]) (fun _ _ => rfl)
    rw [← e, ← e]
    exact hs q hq
  · intro m i s hi hs hw
    refine pk_le 120 i (fun z => absurd z (by omega)) (fun _ => ?_)
    rw [cv_ix g i, nI_clamp (show 120 * g + i < 2 ^ 31 by omega)]
    obtain ⟨v1, v2⟩ := V i hi
    have skip : (∀ j, j < n → cv_g (P j) g = i → cv_ok F 7 (P j) = false) → wX_gather_115 post (nI d) (nI F) (nI (cv_cu F ||| d)) (nI g) m (nI (i + 1)) (nI n) a1 a2 a3 a4 a5 a6 a7 s.1 s.2 := fun h => hw s (fun q hq => by rw [cv_E_skip h, cv_E_skip h]; exact hs q hq)
    have okj : ∀ j, j < n → cv_g (P j) g = i → cv_ok F 7 (P j) = cv_ok F (cv_cu F ||| d) i := fun j hj e => by
      rw [← cv_okg (k1 j hj).1 hg hd hn, e]
    refine ⟨pk_in (120 * g + i) 960 (by omega), br_c (fun z => nm_r (nI_1 i) (skip ?_)) (fun z => cv_passes hi (by omega) o0 (fun t => br_f (by decide) ?_) (fun t => br_t rfl (nm_r (nI_1 i) (skip ?_))))⟩
    · intro j hj e
      rw [v1, cv_ct_pos (by omega)] at z
      have z2 : decide (cv_g (P j) g = i) = false := cv_ct_none z j hj
      exact absurd e (of_decide_eq_false z2)
    · refine cv_group hi hd ⟨pk_in (120 * g + i) 960 (by omega), pk_in (120 * g + i) 960 (by omega), cv_note (cv_g_lt hi d) (nm_r (nI_1 i) (hw (_, _) (fun q hq => ?_)))⟩
      have hh : ∀ j, j < n → cv_g (P j) g = i → cv_ok F 7 (P j) = true ∧ cv_g (P j) d = cv_g i d := fun j hj e => ⟨by rw [okj j hj e]; exact t, by rw [← e]; exact (cv_gg hg hd hgd).symm⟩
      rw [cv_E_add hh, cv_E_add hh, ← v1, ← v2, ← (hs q hq).1, ← (hs q hq).2]
      exact ⟨cv_ua _ _ _ _, cv_ua _ _ _ _⟩
    · intro j hj e
      rw [okj j hj e]
      exact t
theorem cv_g51 (K : cv_K n P A a1 a2 a3 a4 a5 a6 a7) (hF : F < 32768) (hd : d < 8) (h0 : ∀ q, q < 120 → a8 q = 0 ∧ a9 q = 0) (H : ∀ b8 b9, cv_G n P A F d b8 b9 → post (nI n, a1, a2, a3, a4, a5, a6, a7, b8, b9)) : ∃ m, wX_gather_51 post (nI d) (nI F) m 0 (nI n) a1 a2 a3 a4 a5 a6 a7 a8 a9 := by
  obtain ⟨k0, k1, k2, k3, k4⟩ := K
  refine pk_loop (fun m i (s : (Nat → Int32) × (Nat → Int32)) => wX_gather_51 post (nI d) (nI F) m (nI i) (nI n) a1 a2 a3 a4 a5 a6 a7 s.1 s.2) (fun i s => ∀ q, q < 120 → s.1 q = cv_ws (cv_C F d P q) (fun _ => 1) i ∧ s.2 q = cv_ws (cv_C F d P q) A i) n 0 (a8, a9) (by omega) h0 ?_ ?_
  · exact fun m s hs => pk_le n n (fun _ => H s.1 s.2 hs) (fun z => absurd z (by omega))
  · intro m i s hi hs hw
    refine pk_le n i (fun z => absurd z (by omega)) (fun _ => ?_)
    obtain ⟨p1, p2, p3⟩ := k1 i hi
    rw [nI_clamp (show i < 2 ^ 31 by omega), p2, p3]
    refine ⟨pk_in i 40 (by omega), cv_passes (d := 7) p1 (by omega) (by omega) (fun t => br_f (by decide) ⟨pk_in i 40 (by omega), cv_group p1 hd ⟨pk_in i 40 (by omega), cv_note (cv_g_lt p1 d) (nm_r (nI_1 i) (hw (_, _) (fun q hq => ?_)))⟩⟩) (fun t => br_t rfl (nm_r (nI_1 i) (hw s (fun q hq => ?_))))⟩
    · have e : ∀ w : Nat → Int32, cv_ws (cv_C F d P q) w (i + 1) = cv_ws (cv_C F d P q) w i + (if cv_g (P i) d = q then w i else 0) := by
        intro w
        show cv_ws (cv_C F d P q) w i + (if (cv_ok F 7 (P i) && decide (cv_g (P i) d = q)) = true then w i else 0) = _
        rw [t, Bool.true_and]
        simp only [decide_eq_true_eq]
      rw [e, e, ← (hs q hq).1, ← (hs q hq).2]
      exact ⟨cv_ua _ _ _ _, cv_ua _ _ _ _⟩
    · have e : ∀ w : Nat → Int32, cv_ws (cv_C F d P q) w (i + 1) = cv_ws (cv_C F d P q) w i := by
        intro w
        show cv_ws (cv_C F d P q) w i + (if (cv_ok F 7 (P i) && decide (cv_g (P i) d = q)) = true then w i else 0) = _
        rw [t, Bool.false_and, if_neg (by decide), Int32.add_zero]
      rw [e, e]
      exact hs q hq
theorem cv_gather (K : cv_K n P A a1 a2 a3 a4 a5 a6 a7) (hF : F < 32768) (hd : d < 8) (H : ∀ b8 b9, cv_G n P A F d b8 b9 → post (nI n, a1, a2, a3, a4, a5, a6, a7, b8, b9)) : wpX_gather post (nI n, a1, a2, a3, a4, a5, a6, a7, a8, a9) (nI d) (nI F) := by
  refine pk_loop (fun m i (s : (Nat → Int32) × (Nat → Int32)) => wX_gather_2 post (nI d) (nI F) (nI n) m (nI i) a1 a2 a3 a4 a5 a6 a7 s.1 s.2) (fun i s => ∀ q, q < i → s.1 q = 0 ∧ s.2 q = 0) 120 0 (a8, a9) (by omega) (fun q hq => absurd hq (by omega)) ?_ ?_
  · intro m s hs
    refine pk_le 120 120 (fun _ => cv_cuts (by omega) (nm_r (cv_bo _ (cv_cu_lt F) d hd) (cv_smallest (cv_bor (cv_cu F) (cv_cu_lt F) d hd).1 (fun r hr => ?_)))) (fun z => absurd z (by omega))
    rcases hr with z | ⟨g, hg, z, hk, hn⟩
    · subst z
      exact br_f (by decide) (cv_g51 K hF hd hs H)
    · subst z
      exact br_t (nI_pos' (by omega)) (cv_g115 K hF hd hg hk hn hs H)
  · intro m i s hi hs hw
    refine pk_le 120 i (fun z => absurd z (by omega)) (fun _ => ⟨pk_in i 120 hi, nm_r (e' := upd s.1 i 0) (by rw [nI_clamp (by omega)]) ⟨pk_in i 120 hi, nm_r (e' := upd s.2 i 0) (by rw [nI_clamp (by omega)]) (nm_r (nI_1 i) (hw (_, _) (fun q hq => ?_)))⟩⟩)
    show upd s.1 i 0 q = 0 ∧ upd s.2 i 0 q = 0
    by_cases e : q = i
    · subst e
      exact ⟨pk_us, pk_us⟩
    · rw [pk_un e, pk_un e]
      exact hs q (by omega)
end
end
section
/-! ===== the questions ===== -/
/-- the filter of a quarter -/
def cv_qf (q r : Nat) : Nat := (2 ^ r ||| 496) ||| (7 * 2 ^ (9 + 3 * q))
theorem cv_qfe : ∀ q, q < 2 → ∀ r, r < 4 → (((1 : Int32) <<< (nI r &&& 31)) ||| 496) ||| ((7 : Int32) <<< ((9 + (3 * nI q)) &&& 31)) = nI (cv_qf q r) := by decide +kernel
theorem cv_qfl : ∀ q, q < 2 → ∀ r, r < 4 → cv_qf q r < 32768 := by decide +kernel
/-- group q has a fact -/
def cv_gp (n : Nat) (P : Nat → Nat) (F d q : Nat) : Bool := decide (¬ cv_ct (cv_C F d P q) n = 0)
/-- group q has a fact, and its sum isn't below x -/
def cv_gl (n : Nat) (P : Nat → Nat) (A : Nat → Int32) (F d : Nat) (x : Int32) (q : Nat) : Bool := cv_gp n P F d q && decide (¬ cv_ws (cv_C F d P q) A n < x)
/-- r is the greatest sum of a group -/
def cv_tp (n : Nat) (P : Nat → Nat) (A : Nat → Int32) (F d : Nat) (r : Int32) : Prop := (r = -4000000 ∧ ∀ q, q < 120 → cv_gp n P F d q = false) ∨ (∃ b, b < 120 ∧ cv_gp n P F d b = true ∧ r = cv_ws (cv_C F d P b) A n ∧ ∀ q, q < 120 → cv_gp n P F d q = true → cv_ws (cv_C F d P q) A n ≤ r)
/-- s is the first of the groups below i with the greatest sum -/
def cv_ti (n : Nat) (P : Nat → Nat) (A : Nat → Int32) (F d i : Nat) (s : Int32) : Prop := (s = -1 ∧ ∀ q, q < i → cv_gp n P F d q = false) ∨ (∃ b, b < i ∧ cv_gp n P F d b = true ∧ s = nI b ∧ ∀ q, q < i → cv_gp n P F d q = true → cv_ws (cv_C F d P q) A n ≤ cv_ws (cv_C F d P b) A n)
section
variable {a1 a2 a3 a4 a5 a6 a7 a8 a9 : Nat → Int32} {n : Nat} {P : Nat → Nat} {A : Nat → Int32} {F d : Nat} {post : Int32 → St1 → Prop}
theorem cv_count (K : cv_K n P A a1 a2 a3 a4 a5 a6 a7) (hF : F < 32768) (H : ∀ b8 b9, post (cv_ws (cv_C F 0 P 0) (fun _ => 1) n) (nI n, a1, a2, a3, a4, a5, a6, a7, b8, b9)) : wpX_count post (nI n, a1, a2, a3, a4, a5, a6, a7, a8, a9) (nI F) := by
  unfold wpX_count
  exact cv_badF hF (br_t rfl (cv_gather (d := 0) K hF (by omega) (fun b8 b9 hG => ek_v (P := fun y => post y (nI n, a1, a2, a3, a4, a5, a6, a7, b8, b9)) (hG 0 (by omega)).1 (H b8 b9))))
theorem cv_sum (K : cv_K n P A a1 a2 a3 a4 a5 a6 a7) (hF : F < 32768) (H : ∀ b8 b9, post (cv_ws (cv_C F 0 P 0) A n) (nI n, a1, a2, a3, a4, a5, a6, a7, b8, b9)) : wpX_sum post (nI n, a1, a2, a3, a4, a5, a6, a7, a8, a9) (nI F) := by
  unfold wpX_sum
  exact cv_badF hF (br_t rfl (cv_gather (d := 0) K hF (by omega) (fun b8 b9 hG => ek_v (P := fun y => post y (nI n, a1, a2, a3, a4, a5, a6, a7, b8, b9)) (hG 0 (by omega)).2 (H b8 b9))))
theorem cv_quarter {q r : Nat} (K : cv_K n P A a1 a2 a3 a4 a5 a6 a7) (hq : q < 2) (hr : r < 4) (H : ∀ b8 b9, post (cv_ws (cv_C (cv_qf q r) 0 P 0) A n) (nI n, a1, a2, a3, a4, a5, a6, a7, b8, b9)) : wpX_quarter post (nI n, a1, a2, a3, a4, a5, a6, a7, a8, a9) (nI q) (nI r) := by
  refine pk_lt q 0 (fun z => absurd z (by omega)) (fun _ => pk_lt 1 q (fun z => absurd z (by omega)) (fun _ => pk_lt r 0 (fun z => absurd z (by omega)) (fun _ => pk_lt r 4 (fun _ => ?_) (fun z => absurd z (by omega)))))
  rw [cv_qfe q hq r hr]
  exact cv_gather (d := 0) K (cv_qfl q hq r hr) (by omega) (fun b8 b9 hG => ek_v (P := fun y => post y (nI n, a1, a2, a3, a4, a5, a6, a7, b8, b9)) (hG 0 (by omega)).2 (H b8 b9))
theorem cv_growth {m : Nat} (K : cv_K n P A a1 a2 a3 a4 a5 a6 a7) (h1 : 1 ≤ m) (h6 : m < 6) (H : ∀ b8 b9, post (cv_ws (cv_C 32767 4 P (20 * m)) A n - cv_ws (cv_C 32767 4 P (20 * m - 20)) A n) (nI n, a1, a2, a3, a4, a5, a6, a7, b8, b9)) : wpX_growth post (nI n, a1, a2, a3, a4, a5, a6, a7, a8, a9) (nI m) := by
  have e1 : (20 : Int32) * nI m = nI (20 * m) := pk_mul 20 m
  have e2 : nI (20 * m) - 20 = nI (20 * m - 20) := pk_sub (a := 20 * m) (b := 20) (by omega)
  refine pk_lt m 1 (fun z => absurd z (by omega)) (fun _ => pk_lt m 6 (fun _ => ?_) (fun z => absurd z (by omega)))
  rw [e1, e2, nI_clamp (show 20 * m < 2 ^ 31 by omega), nI_clamp (show 20 * m - 20 < 2 ^ 31 by omega)]
  refine cv_gather (d := 4) (F := 32767) K (by omega) (by omega) (fun b8 b9 hG => ⟨pk_in (20 * m) 120 (by omega), pk_in (20 * m - 20) 120 (by omega), ?_⟩)
  have h := H b8 b9
  rw [← (hG (20 * m) (by omega)).2, ← (hG (20 * m - 20) (by omega)).2] at h
  exact h
theorem cv_groups (K : cv_K n P A a1 a2 a3 a4 a5 a6 a7) (hF : F < 32768) (hd : d < 8) (H : ∀ b8 b9, post (nI (cv_ct (cv_gp n P F d) 120)) (nI n, a1, a2, a3, a4, a5, a6, a7, b8, b9)) : wpX_groups post (nI n, a1, a2, a3, a4, a5, a6, a7, a8, a9) (nI d) (nI F) := by
  unfold wpX_groups
  refine cv_badG hd (br_t rfl (cv_badF hF (br_t rfl (cv_gather K hF hd (fun b8 b9 hG => ?_)))))
  have hn := K.1
  refine pk_loop (fun m i (s : Int32) => wX_groups_30 post (nI n) a1 a2 a3 a4 a5 a6 a7 b8 b9 m s (nI i)) (fun i s => s = nI (cv_ct (cv_gp n P F d) i)) 120 0 0 (by omega) rfl ?_ ?_
  · intro m s hs
    subst hs
    exact pk_le 120 120 (fun _ => H b8 b9) (fun z => absurd z (by omega))
  · intro m i s hi hs hw
    subst hs
    refine pk_le 120 i (fun z => absurd z (by omega)) (fun _ => ?_)
    rw [nI_clamp (show i < 2 ^ 31 by omega), (hG i hi).1]
    refine ⟨pk_in i 120 hi, ek_if (cv_ct_pos (by omega)) (fun z => nm_r (nI_1 i) (hw _ ?_)) (fun z => nm_r (nI_1 _) (nm_r (nI_1 i) (hw _ ?_)))⟩
    · show nI (cv_ct (cv_gp n P F d) i) = nI (cv_ct (cv_gp n P F d) i + (if decide (¬ cv_ct (cv_C F d P i) n = 0) = true then 1 else 0))
      rw [if_neg (by simp [z])]
      rfl
    · show nI (cv_ct (cv_gp n P F d) i + 1) = nI (cv_ct (cv_gp n P F d) i + (if decide (¬ cv_ct (cv_C F d P i) n = 0) = true then 1 else 0))
      rw [if_pos (by simp [z])]
theorem cv_atLeast {x : Int32} (K : cv_K n P A a1 a2 a3 a4 a5 a6 a7) (hd : d < 8) (H : ∀ b8 b9, post (nI (cv_ct (cv_gl n P A 32767 d x) 120)) (nI n, a1, a2, a3, a4, a5, a6, a7, b8, b9)) : wpX_atLeast post (nI n, a1, a2, a3, a4, a5, a6, a7, a8, a9) (nI d) x := by
  unfold wpX_atLeast
  refine cv_badG hd (br_t rfl (cv_gather (F := 32767) K (by omega) hd (fun b8 b9 hG => ?_)))
  have hn := K.1
  refine pk_loop (fun m i (s : Int32) => wX_atLeast_24 post x (nI n) a1 a2 a3 a4 a5 a6 a7 b8 b9 m s (nI i)) (fun i s => s = nI (cv_ct (cv_gl n P A 32767 d x) i)) 120 0 0 (by omega) rfl ?_ ?_
  · intro m s hs
    subst hs
    exact pk_le 120 120 (fun _ => H b8 b9) (fun z => absurd z (by omega))
  · intro m i s hi hs hw
    subst hs
    refine pk_le 120 i (fun z => absurd z (by omega)) (fun _ => ?_)
    rw [nI_clamp (show i < 2 ^ 31 by omega), (hG i hi).1, (hG i hi).2]
    have e : cv_ct (cv_gl n P A 32767 d x) (i + 1) = cv_ct (cv_gl n P A 32767 d x) i + (if (decide (¬ cv_ct (cv_C 32767 d P i) n = 0) && decide (¬ cv_ws (cv_C 32767 d P i) A n < x)) = true then 1 else 0) := rfl
    refine ⟨pk_in i 120 hi, ek_if (cv_ct_pos (by omega)) (fun z => nm_r (nI_1 i) (hw _ ?_)) (fun z => ⟨pk_in i 120 hi, br_c (fun y => nm_r (nI_1 i) (hw _ ?_)) (fun y => nm_r (nI_1 _) (nm_r (nI_1 i) (hw _ ?_)))⟩)⟩
    · rw [e, if_neg (by simp [z])]
      rfl
    · rw [e, if_neg (by simp [y])]
      rfl
    · rw [e, if_pos (by simp [z, Int32.not_lt.mp y])]
theorem cv_top (K : cv_K n P A a1 a2 a3 a4 a5 a6 a7) (hF : F < 32768) (hd : d < 8) (H : ∀ s b8 b9, cv_G n P A F d b8 b9 → cv_ti n P A F d 120 s → post s (nI n, a1, a2, a3, a4, a5, a6, a7, b8, b9)) : wpX_top post (nI n, a1, a2, a3, a4, a5, a6, a7, a8, a9) (nI d) (nI F) := by
  refine cv_gather K hF hd (fun b8 b9 hG => ?_)
  have hn := K.1
  refine pk_loop (fun m i (s : Int32) => wX_top_11 post (nI n) a1 a2 a3 a4 a5 a6 a7 b8 b9 m s (nI i)) (fun i s => cv_ti n P A F d i s) 120 0 (-1) (by omega) (Or.inl ⟨rfl, fun q hq => absurd hq (by omega)⟩) ?_ ?_
  · intro m s hs
    exact pk_le 120 120 (fun _ => H s b8 b9 hG hs) (fun z => absurd z (by omega))
  · intro m i s hi hs hw
    refine pk_le 120 i (fun z => absurd z (by omega)) (fun _ => ?_)
    rw [nI_clamp (show i < 2 ^ 31 by omega), (hG i hi).1, (hG i hi).2]
    refine ⟨pk_in i 120 hi, ek_if (cv_ct_pos (by omega)) (fun z => nm_r (nI_1 i) (hw _ ?_)) (fun z => ?_)⟩
    · have zf : cv_gp n P F d i = false := decide_eq_false (fun t => t z)
      rcases hs with ⟨h1, h2⟩ | ⟨b, h1, h2, h3, h4⟩
      · refine Or.inl ⟨h1, fun q hq => ?_⟩
        by_cases e : q = i
        · rw [e]; exact zf
        · exact h2 q (by omega)
      · refine Or.inr ⟨b, by omega, h2, h3, fun q hq hp => ?_⟩
        by_cases e : q = i
        · rw [e, zf] at hp; exact absurd hp (by decide)
        · exact h4 q (by omega) hp
    · have zt : cv_gp n P F d i = true := decide_eq_true z
      rcases hs with ⟨h1, h2⟩ | ⟨b, h1, h2, h3, h4⟩
      · subst h1
        refine br_t (by decide) (nm_r (nI_1 i) (hw _ (Or.inr ⟨i, by omega, zt, rfl, fun q hq hp => ?_⟩)))
        by_cases e : q = i
        · rw [e]; exact Int32.le_refl _
        · rw [h2 q (by omega)] at hp; exact absurd hp (by decide)
      · subst h3
        refine br_f (nI_pos (by omega)) ⟨pk_in i 120 hi, pk_in b 120 (by omega), ?_⟩
        rw [nI_clamp (show b < 2 ^ 31 by omega), (hG b (by omega)).2]
        refine br_c (fun y => nm_r (nI_1 i) (hw _ (Or.inr ⟨b, by omega, h2, rfl, fun q hq hp => ?_⟩))) (fun y => nm_r (nI_1 i) (hw _ (Or.inr ⟨i, by omega, zt, rfl, fun q hq hp => ?_⟩)))
        · by_cases e : q = i
          · rw [e]; exact y
          · exact h4 q (by omega) hp
        · by_cases e : q = i
          · rw [e]; exact Int32.le_refl _
          · exact Int32.le_trans (h4 q (by omega) hp) (Int32.le_of_lt (Int32.not_le.mp y))
theorem cv_topSum (K : cv_K n P A a1 a2 a3 a4 a5 a6 a7) (hF : F < 32768) (hd : d < 8) (H : ∀ r b8 b9, cv_tp n P A F d r → post r (nI n, a1, a2, a3, a4, a5, a6, a7, b8, b9)) : wpX_topSum post (nI n, a1, a2, a3, a4, a5, a6, a7, a8, a9) (nI d) (nI F) := by
  unfold wpX_topSum
  refine cv_badG hd (br_t rfl (cv_badF hF (br_t rfl (cv_top K hF hd (fun s b8 b9 hG hs => ?_)))))
  rcases hs with ⟨h1, h2⟩ | ⟨b, h1, h2, h3, h4⟩
  · subst h1
    exact br_f (by decide) (H _ b8 b9 (Or.inl ⟨rfl, h2⟩))
  · subst h3
    refine br_t (nI_pos' (by omega)) ⟨pk_in b 120 h1, H _ b8 b9 (Or.inr ⟨b, h1, h2, ?_, fun q hq hp => ?_⟩)⟩
    · rw [nI_clamp (by omega)]
      exact (hG b h1).2
    · rw [nI_clamp (by omega), (hG b h1).2]
      exact h4 q hq hp
end
/-! ===== the greatest amount, along the lists ===== -/
theorem cv_la_cases (P : Nat → Nat) (p n : Nat) : (cv_la P p n = -1 ∧ ∀ i, i < n → P i ≠ p) ∨ (∃ i, i < n ∧ cv_la P p n = nI i ∧ P i = p ∧ ∀ j, i < j → j < n → P j ≠ p) := by
  induction n with
  | zero => exact Or.inl ⟨rfl, fun i hi => absurd hi (by omega)⟩
  | succ n ih =>
    by_cases e : P n = p
    · exact Or.inr ⟨n, by omega, if_pos e, e, fun j h1 h2 => absurd h1 (by omega)⟩
    · have e' : cv_la P p (n + 1) = cv_la P p n := if_neg e
      rw [e']
      rcases ih with ⟨h1, h2⟩ | ⟨i, h1, h2, h3, h4⟩
      · refine Or.inl ⟨h1, fun i hi => ?_⟩
        by_cases z : i = n
        · rw [z]; exact e
        · exact h2 i (by omega)
      · refine Or.inr ⟨i, by omega, h2, h3, fun j g1 g2 => ?_⟩
        by_cases z : j = n
        · rw [z]; exact e
        · exact h4 j g1 (by omega)
theorem cv_mx_s1 {e : Int32} {C E : Nat → Bool} {A : Nat → Int32} {n k : Nat} {x : Int32} (hC : cv_mx e C A n x) (hl : A k ≤ x) (h : ∀ i, i < n → E i = (C i || decide (i = k))) : cv_mx e E A n x := by
  obtain ⟨h1, h2, h3⟩ := hC
  refine ⟨h1, fun i hi he => ?_, ?_⟩
  · rw [h i hi, Bool.or_eq_true, decide_eq_true_eq] at he
    rcases he with z | z
    · exact h2 i hi z
    · rw [z]; exact hl
  · rcases h3 with z | ⟨i, hi, hc, hr⟩
    · exact Or.inl z
    · exact Or.inr ⟨i, hi, by rw [h i hi, hc]; rfl, hr⟩
theorem cv_mx_s2 {e : Int32} {C E : Nat → Bool} {A : Nat → Int32} {n k : Nat} {x : Int32} (hC : cv_mx e C A n x) (hk : k < n) (hl : x ≤ A k) (h : ∀ i, i < n → E i = (C i || decide (i = k))) : cv_mx e E A n (A k) := by
  obtain ⟨h1, h2, h3⟩ := hC
  refine ⟨Int32.le_trans h1 hl, fun i hi he => ?_, Or.inr ⟨k, hk, by rw [h k hk]; simp, rfl⟩⟩
  rw [h i hi, Bool.or_eq_true, decide_eq_true_eq] at he
  rcases he with z | z
  · exact Int32.le_trans (h2 i hi z) hl
  · rw [z]; exact Int32.le_refl _
section
variable {a1 a2 a3 a4 a5 a6 a7 a8 a9 : Nat → Int32} {n : Nat} {P : Nat → Nat} {A : Nat → Int32} {F : Nat} {post : Int32 → Prop}
theorem cv_gAt {p : Nat} (K : cv_K n P A a1 a2 a3 a4 a5 a6 a7) (hp : p < 120) (H : ∀ r, cv_mx (-4000000) (fun i => decide (P i = p)) A n r → post r) : wpX_greatestAt post (nI n, a1, a2, a3, a4, a5, a6, a7, a8, a9) (nI p) := by
  obtain ⟨k0, k1, k2, k3, k4⟩ := K
  refine And.intro (pk_in p 120 hp) (nm_r (e' := cv_la P p n) (by rw [nI_clamp (by omega)]; exact k2 p hp) ?_)
  refine pk_loop (fun m k (s : Int32 × Int32) => wX_greatestAt_13 post (nI n) a1 a2 a3 a4 a5 a6 a7 a8 a9 m s.1 s.2 (nI k)) (fun k s => ∃ j, j + k ≤ 40 ∧ j ≤ n ∧ s.2 = cv_la P p j ∧ cv_mx (-4000000) (fun i => decide (P i = p) && decide (j ≤ i)) A n s.1) 40 0 (-4000000, cv_la P p n) (by omega) ⟨n, by omega, Nat.le_refl n, rfl, cv_mx_0 (fun i hi => by simp; omega)⟩ ?_ ?_
  · intro m s hs
    obtain ⟨j, j1, j2, j3, j4⟩ := hs
    refine pk_le 40 40 (fun _ => H s.1 (cv_mx_congr (fun i hi => ?_) j4)) (fun z => absurd z (by omega))
    rw [decide_eq_true (show j ≤ i by omega), Bool.and_true]
  · intro m k s hk hs hw
    obtain ⟨x, y⟩ := s
    obtain ⟨j, j1, j2, j3, j4⟩ := hs
    have j3' : y = cv_la P p j := j3
    have j4' : cv_mx (-4000000) (fun i => decide (P i = p) && decide (j ≤ i)) A n x := j4
    subst j3'
    show wX_greatestAt_13 post (nI n) a1 a2 a3 a4 a5 a6 a7 a8 a9 (m + 1) x (cv_la P p j) (nI k)
    refine pk_le 40 k (fun z => absurd z (by omega)) (fun _ => ?_)
    rcases cv_la_cases P p j with ⟨h1, h2⟩ | ⟨i, h1, h2, h3, h4⟩
    · rw [h1]
      refine br_t (by decide) (H x (cv_mx_congr (fun i hi => ?_) j4'))
      by_cases z : j ≤ i
      · rw [decide_eq_true z, Bool.and_true]
      · rw [decide_eq_false (h2 i (by omega))]
        rfl
    · rw [h2, nI_clamp (show i < 2 ^ 31 by omega), (k1 i (by omega)).2.2]
      have hE : ∀ t, t < n → (decide (P t = p) && decide (i ≤ t)) = ((decide (P t = p) && decide (j ≤ t)) || decide (t = i)) := by
        intro t ht
        by_cases z : j ≤ t
        · rw [decide_eq_true z, decide_eq_true (show i ≤ t by omega), decide_eq_false (show ¬ t = i by omega), Bool.or_false]
        · rw [decide_eq_false z, Bool.and_false, Bool.false_or]
          by_cases y : t = i
          · rw [y, h3]
            simp
          · rw [decide_eq_false y]
            by_cases u : i ≤ t
            · rw [decide_eq_false (h4 t (by omega) (by omega))]
              rfl
            · rw [decide_eq_false u, Bool.and_false]
      have go : ∀ x' : Int32, cv_mx (-4000000) (fun t => decide (P t = p) && decide (i ≤ t)) A n x' → wX_greatestAt_44 post (wX_greatestAt_13 post (nI n) a1 a2 a3 a4 a5 a6 a7 a8 a9 m) (nI i) (nI k) x' (nI n) a1 a2 a3 a4 a5 a6 a7 a8 a9 := fun x' hx =>
        And.intro (pk_in i 40 (by omega)) (nm_r (e' := cv_la P p i) (by rw [nI_clamp (by omega), k3 i (by omega), h3]) (nm_r (nI_1 k) (hw (x', cv_la P p i) ⟨i, by omega, by omega, rfl, hx⟩)))
      exact br_f (nI_pos (by omega)) ⟨pk_in i 40 (by omega), br_c (fun z => go x (cv_mx_s1 j4' z hE)) (fun z => ⟨pk_in i 40 (by omega), go (A i) (cv_mx_s2 j4' (by omega) (Int32.le_of_lt (Int32.not_le.mp z)) hE)⟩)⟩
theorem cv_greatest (K : cv_K n P A a1 a2 a3 a4 a5 a6 a7) (hF : F < 32768) (H : ∀ r, cv_mx (-4000000) (fun i => cv_ok F 7 (P i)) A n r → post r) : wpX_greatest post (nI n, a1, a2, a3, a4, a5, a6, a7, a8, a9) (nI F) := by
  have K' := K
  obtain ⟨k0, k1, k2, k3, k4⟩ := K'
  unfold wpX_greatest
  refine cv_badF hF (br_t rfl ?_)
  refine pk_loop (fun m p (s : Int32) => wX_greatest_16 post (nI F) (nI n) a1 a2 a3 a4 a5 a6 a7 a8 a9 m s (nI p)) (fun p s => cv_mx (-4000000) (fun i => cv_ok F 7 (P i) && decide (P i < p)) A n s) 120 0 (-4000000) (by omega) (cv_mx_0 (fun i hi => by simp)) ?_ ?_
  · intro m s hs
    refine pk_le 120 120 (fun _ => H s (cv_mx_congr (fun i hi => ?_) hs)) (fun z => absurd z (by omega))
    rw [decide_eq_true (k1 i hi).1, Bool.and_true]
  · intro m p s hp hs hw
    refine pk_le 120 p (fun z => absurd z (by omega)) (fun _ => ?_)
    rw [nI_clamp (show p < 2 ^ 31 by omega), k2 p hp]
    have skip : (∀ i, i < n → P i = p → cv_ok F 7 p = false) → wX_greatest_16 post (nI F) (nI n) a1 a2 a3 a4 a5 a6 a7 a8 a9 m s (nI (p + 1)) := by
      intro h
      refine hw s (cv_mx_congr (fun i hi => ?_) hs)
      by_cases z : P i = p
      · rw [z, h i hi z]
        rfl
      · rw [show decide (P i < p + 1) = decide (P i < p) from decide_eq_decide.mpr (by omega)]
    refine ⟨pk_in p 120 hp, br_c (fun z => nm_r (nI_1 p) (skip (fun i hi e => ?_))) (fun z => cv_passes (d := 7) hp (by omega) (by omega) (fun t => br_f (by decide) (cv_gAt K hp (fun r hr => ?_))) (fun t => br_t rfl (nm_r (nI_1 p) (skip (fun i hi e => t)))))⟩
    · rcases cv_la_cases P p n with ⟨h1, h2⟩ | ⟨j, h1, h2, h3, h4⟩
      · exact absurd e (h2 i hi)
      · rw [h2] at z
        exact absurd z (nI_pos (by omega))
    · have hE : ∀ i, i < n → (cv_ok F 7 (P i) && decide (P i < p + 1)) = ((cv_ok F 7 (P i) && decide (P i < p)) || decide (P i = p)) := by
        intro i hi
        by_cases y : P i = p
        · rw [y, t]
          simp
        · rw [show decide (P i < p + 1) = decide (P i < p) from decide_eq_decide.mpr (by omega), decide_eq_false y, Bool.or_false]
      exact br_c (fun y => nm_r (nI_1 p) (hw s (cv_mx_l hs hr hE y))) (fun y => nm_r (nI_1 p) (hw r (cv_mx_r hs hr hE (Int32.le_of_lt (Int32.not_le.mp y)))))
end
end
section
/-! ===== enter, add, remove, change ===== -/
theorem cv_sif {a x : Int32} {i g q k kg : Nat} (h1 : k < 120) (hq : q < 120) (he : g = i → kg = k) : a + (if g < i ∧ kg = q then x else 0) + (if 120 * i + k = 120 * g + q then x else 0) = a + (if g < i + 1 ∧ kg = q then x else 0) := by
  by_cases e : g = i
  · have h := he e
    subst h
    subst e
    rw [if_neg (show ¬ (g < g ∧ kg = q) from fun z => absurd z.1 (by omega)), Int32.add_zero]
    by_cases z : kg = q
    · rw [if_pos (by omega), if_pos ⟨by omega, z⟩]
    · rw [if_neg (by omega), if_neg (fun t => z t.2)]
  · rw [if_neg (show ¬ 120 * i + k = 120 * g + q by omega), Int32.add_zero]
    by_cases z : g < i ∧ kg = q
    · rw [if_pos z, if_pos ⟨by omega, z.2⟩]
    · rw [if_neg z, if_neg (fun t => z ⟨by omega, t.2⟩)]
theorem cv_la_congr {P P' : Nat → Nat} {q n : Nat} (h : ∀ i, i < n → P' i = P i) : cv_la P' q n = cv_la P q n := by
  induction n with
  | zero => rfl
  | succ n ih =>
    show (if P' n = q then nI n else cv_la P' q n) = (if P n = q then nI n else cv_la P q n)
    rw [h n (by omega), ih (fun i hi => h i (by omega))]
section
variable {c : Int32} {a1 a2 a3 a4 a5 a6 a7 a8 a9 : Nat → Int32}
theorem cv_enter {post : St1 → Prop} {p : Nat} {x y : Int32} (hp : p < 120) (H : ∀ b6 b7, (∀ g, g < 8 → a5 g ≠ 0 → ∀ q, q < 120 → b6 (120 * g + q) = a6 (120 * g + q) + (if cv_g p g = q then x else 0) ∧ b7 (120 * g + q) = a7 (120 * g + q) + (if cv_g p g = q then y else 0)) → post (c, a1, a2, a3, a4, a5, b6, b7, a8, a9)) : wpX_enter post (c, a1, a2, a3, a4, a5, a6, a7, a8, a9) (nI p) x y := by
  refine pk_loop (fun m i (s : (Nat → Int32) × (Nat → Int32)) => wX_enter_3 post (nI p) x y c m (nI i) a1 a2 a3 a4 a5 s.1 s.2 a8 a9) (fun i s => ∀ g, g < 8 → a5 g ≠ 0 → ∀ q, q < 120 → s.1 (120 * g + q) = a6 (120 * g + q) + (if g < i ∧ cv_g p g = q then x else 0) ∧ s.2 (120 * g + q) = a7 (120 * g + q) + (if g < i ∧ cv_g p g = q then y else 0)) 8 0 (a6, a7) (by omega) ?_ ?_ ?_
  · intro g hg hk q hq
    rw [if_neg (fun z => absurd z.1 (by omega)), if_neg (fun z => absurd z.1 (by omega)), Int32.add_zero, Int32.add_zero]
    exact ⟨rfl, rfl⟩
  · intro m s hs
    refine pk_le 8 8 (fun _ => H s.1 s.2 (fun g hg hk q hq => ?_)) (fun z => absurd z (by omega))
    have h := hs g hg hk q hq
    by_cases z : cv_g p g = q
    · rw [if_pos ⟨hg, z⟩, if_pos ⟨hg, z⟩] at h
      rw [if_pos z, if_pos z]
      exact h
    · rw [if_neg (fun t => z t.2), if_neg (fun t => z t.2)] at h
      rw [if_neg z, if_neg z]
      exact h
  · intro m i s hi hs hw
    refine pk_le 8 i (fun z => absurd z (by omega)) (fun _ => ?_)
    rw [nI_clamp (show i < 2 ^ 31 by omega)]
    have hgl := cv_g_lt hp i
    refine ⟨pk_in i 8 hi, br_c (fun z => nm_r (nI_1 i) (hw s (fun g hg hk q hq => ?_))) (fun z => cv_group hp hi (nm_r (cv_ix i (cv_g p i)) ?_))⟩
    · have e : ¬ g = i := fun t => hk (by rw [t]; exact z)
      have h := hs g hg hk q hq
      by_cases t : g < i ∧ cv_g p g = q
      · rw [if_pos t, if_pos t] at h
        rw [if_pos ⟨by omega, t.2⟩, if_pos ⟨by omega, t.2⟩]
        exact h
      · rw [if_neg t, if_neg t] at h
        rw [if_neg (fun u => t ⟨by omega, u.2⟩), if_neg (fun u => t ⟨by omega, u.2⟩)]
        exact h
    · rw [nI_clamp (show 120 * i + cv_g p i < 2 ^ 31 by omega)]
      refine ⟨pk_in (120 * i + cv_g p i) 960 (by omega), pk_in (120 * i + cv_g p i) 960 (by omega), nm_e ⟨pk_in (120 * i + cv_g p i) 960 (by omega), pk_in (120 * i + cv_g p i) 960 (by omega), nm_e (nm_r (nI_1 i) (hw (_, _) (fun g hg hk q hq => ?_)))⟩⟩
      obtain ⟨h1, h2⟩ := hs g hg hk q hq
      have e1 := cv_ua s.1 (120 * i + cv_g p i) x (120 * g + q)
      have e2 := cv_ua s.2 (120 * i + cv_g p i) y (120 * g + q)
      rw [h1, cv_sif hgl hq (fun t => by rw [t])] at e1
      rw [h2, cv_sif hgl hq (fun t => by rw [t])] at e2
      exact ⟨e1, e2⟩
theorem cv_add_bad {post : Int32 → St1 → Prop} {x y : Int32} (hb : x < 0 ∨ 120 ≤ x ∨ y < -50 ∨ ¬ y ≤ 50) (H : post (-1000000) (c, a1, a2, a3, a4, a5, a6, a7, a8, a9)) : wpX_add post (c, a1, a2, a3, a4, a5, a6, a7, a8, a9) x y := by
  refine br_c (fun _ => H) (fun h1 => br_c (fun _ => H) (fun h2 => br_c (fun _ => H) (fun h3 => br_f ?_ H)))
  rcases hb with z | z | z | z
  · exact absurd z h1
  · exact absurd z h2
  · exact absurd z h3
  · exact z
theorem cv_add_full {post : Int32 → St1 → Prop} {p : Nat} {y : Int32} (hp : p < 120) (h3 : ¬ y < -50) (h4 : y ≤ 50) (H : post (-2000000) (nI 40, a1, a2, a3, a4, a5, a6, a7, a8, a9)) : wpX_add post (nI 40, a1, a2, a3, a4, a5, a6, a7, a8, a9) (nI p) y :=
  pk_lt p 0 (fun z => absurd z (by omega)) (fun _ => pk_le 120 p (fun z => absurd z (by omega)) (fun _ => br_f h3 (br_t h4 (br_t rfl H))))
variable {n : Nat} {P : Nat → Nat} {A : Nat → Int32} {post : Int32 → St1 → Prop}
theorem cv_add_ok {p : Nat} {y : Int32} (K : cv_K n P A a1 a2 a3 a4 a5 a6 a7) (hn : n < 40) (hp : p < 120) (h3 : ¬ y < -50) (h4 : y ≤ 50) (H : ∀ b1 b2 b3 b4 b6 b7, (∀ (P' : Nat → Nat) (A' : Nat → Int32), (∀ i, i < n → P' i = P i ∧ A' i = A i) → P' n = p → A' n = y → cv_K (n + 1) P' A' b1 b2 b3 b4 a5 b6 b7) → post (nI n) (nI (n + 1), b1, b2, b3, b4, a5, b6, b7, a8, a9)) : wpX_add post (nI n, a1, a2, a3, a4, a5, a6, a7, a8, a9) (nI p) y := by
  obtain ⟨k0, k1, k2, k3, k4⟩ := K
  refine pk_lt p 0 (fun z => absurd z (by omega)) (fun _ => pk_le 120 p (fun z => absurd z (by omega)) (fun _ => br_f h3 (br_t h4 (pk_eq n 40 (fun z => absurd z (by omega)) (fun _ => ?_)))))
  rw [nI_clamp (show n < 2 ^ 31 by omega), nI_clamp (show p < 2 ^ 31 by omega)]
  refine ⟨pk_in n 40 hn, nm_e ⟨pk_in n 40 hn, nm_e ⟨pk_in p 120 hp, pk_in n 40 hn, nm_e ⟨pk_in p 120 hp, nm_e (nm_r (nI_1 n) (cv_enter hp (fun b6 b7 hb => ek_v (P := fun r => post r (nI (n + 1), upd a1 n (nI p), upd a2 n y, upd a3 p (nI n), upd a4 n (a3 p), a5, b6, b7, a8, a9)) (nI_pred n) (H _ _ _ _ b6 b7 (fun P' A' hPA hPn hAn => ?_)))))⟩⟩⟩⟩
  refine ⟨by omega, fun i hi => ?_, fun q hq => ?_, fun i hi => ?_, fun g hg hk q hq => ?_⟩
  · by_cases e : i = n
    · subst e
      rw [hPn, hAn, pk_us, pk_us]
      exact ⟨hp, rfl, rfl⟩
    · rw [pk_un e, pk_un e, (hPA i (by omega)).1, (hPA i (by omega)).2]
      exact k1 i (by omega)
  · show _ = (if P' n = q then nI n else cv_la P' q n)
    by_cases e : q = p
    · subst e
      rw [pk_us, if_pos hPn]
    · rw [pk_un e, if_neg (fun z => e (by rw [← z, hPn])), cv_la_congr (fun i hi => (hPA i hi).1)]
      exact k2 q hq
  · by_cases e : i = n
    · subst e
      rw [pk_us, hPn, cv_la_congr (fun i hi => (hPA i hi).1)]
      exact k2 p hp
    · rw [pk_un e, cv_la_congr (fun j hj => (hPA j (by omega)).1), (hPA i (by omega)).1]
      exact k3 i (by omega)
  · obtain ⟨h1, h2⟩ := hb g hg hk q hq
    obtain ⟨v1, v2⟩ := k4 g hg hk q hq
    rw [h1, h2, v1, v2]
    have e : ∀ (w w' : Nat → Int32), (∀ i, i < n → w' i = w i) → cv_ws (cv_cell P g q) w n + (if cv_g p g = q then w' n else 0) = cv_ws (cv_cell P' g q) w' (n + 1) := by
      intro w w' hw
      show _ = cv_ws (cv_cell P' g q) w' n + (if decide (cv_g (P' n) g = q) = true then w' n else 0)
      rw [hPn, cv_ws_congr (C := cv_cell P' g q) (C' := cv_cell P g q) (w := w') (w' := w) (fun i hi => by unfold cv_cell; rw [(hPA i hi).1]) hw]
      simp only [decide_eq_true_eq]
    have f2 := e A A' (fun i hi => (hPA i hi).2)
    rw [hAn] at f2
    exact ⟨e (fun _ => 1) (fun _ => 1) (fun _ _ => rfl), f2⟩
theorem cv_remove_0 (H : post (-4000000) (nI 0, a1, a2, a3, a4, a5, a6, a7, a8, a9)) : wpX_remove post (nI 0, a1, a2, a3, a4, a5, a6, a7, a8, a9) := br_t rfl H
theorem cv_remove_ok (K : cv_K (n + 1) P A a1 a2 a3 a4 a5 a6 a7) (H : ∀ b3 b6 b7, cv_K n P A a1 a2 b3 a4 a5 b6 b7 → post (A n) (nI n, a1, a2, b3, a4, a5, b6, b7, a8, a9)) : wpX_remove post (nI (n + 1), a1, a2, a3, a4, a5, a6, a7, a8, a9) := by
  obtain ⟨k0, k1, k2, k3, k4⟩ := K
  obtain ⟨p1, p2, p3⟩ := k1 n (by omega)
  refine pk_eq (n + 1) 0 (fun z => absurd z (by omega)) (fun _ => nm_r (nI_pred n) ?_)
  rw [nI_clamp (show n < 2 ^ 31 by omega), p2, p3]
  refine ⟨pk_in n 40 (by omega), nm_e ⟨pk_in n 40 (by omega), pk_in (P n) 120 p1, nm_r (e' := upd a3 (P n) (a4 n)) (by rw [nI_clamp (by omega)]) ⟨pk_in n 40 (by omega), cv_enter p1 (fun b6 b7 hb => ⟨pk_in n 40 (by omega), ek_v (P := fun r => post r (nI n, a1, a2, upd a3 (P n) (a4 n), a4, a5, b6, b7, a8, a9)) (by rw [nI_clamp (by omega)]; exact p3) (H _ _ _ ?_)⟩)⟩⟩⟩
  refine ⟨by omega, fun i hi => k1 i (by omega), fun q hq => ?_, fun i hi => k3 i (by omega), fun g hg hk q hq => ?_⟩
  · by_cases e : q = P n
    · subst e
      rw [pk_us]
      exact k3 n (by omega)
    · rw [pk_un e, k2 q hq]
      exact if_neg (fun z => e z.symm)
  · obtain ⟨h1, h2⟩ := hb g hg hk q hq
    obtain ⟨v1, v2⟩ := k4 g hg hk q hq
    rw [h1, h2, v1, v2]
    have e : ∀ (w : Nat → Int32), cv_ws (cv_cell P g q) w (n + 1) + (if cv_g (P n) g = q then -(w n) else 0) = cv_ws (cv_cell P g q) w n := by
      intro w
      show cv_ws (cv_cell P g q) w n + (if decide (cv_g (P n) g = q) = true then w n else 0) + _ = _
      by_cases z : cv_g (P n) g = q
      · rw [if_pos z, decide_eq_true z, if_pos rfl]
        grind
      · rw [if_neg z, decide_eq_false z, if_neg (by decide), Int32.add_zero, Int32.add_zero]
    exact ⟨e (fun _ => 1), e A⟩
theorem cv_change_bad {x y : Int32} (hb : x < 0 ∨ c ≤ x ∨ y < -50 ∨ ¬ y ≤ 50) (H : post (-1000000) (c, a1, a2, a3, a4, a5, a6, a7, a8, a9)) : wpX_change post (c, a1, a2, a3, a4, a5, a6, a7, a8, a9) x y := by
  refine br_c (fun _ => H) (fun h1 => br_c (fun _ => H) (fun h2 => br_c (fun _ => H) (fun h3 => br_f ?_ H)))
  rcases hb with z | z | z | z
  · exact absurd z h1
  · exact absurd z h2
  · exact absurd z h3
  · exact z
theorem cv_change_ok {i : Nat} {y : Int32} (K : cv_K n P A a1 a2 a3 a4 a5 a6 a7) (hi : i < n) (h3 : ¬ y < -50) (h4 : y ≤ 50) (H : ∀ b2 b6 b7, cv_K n P (upd A i y) a1 b2 a3 a4 a5 b6 b7 → post (A i) (nI n, a1, b2, a3, a4, a5, b6, b7, a8, a9)) : wpX_change post (nI n, a1, a2, a3, a4, a5, a6, a7, a8, a9) (nI i) y := by
  obtain ⟨k0, k1, k2, k3, k4⟩ := K
  obtain ⟨p1, p2, p3⟩ := k1 i hi
  refine pk_lt i 0 (fun z => absurd z (by omega)) (fun _ => pk_le n i (fun z => absurd z (by omega)) (fun _ => br_f h3 (br_t h4 ?_)))
  rw [nI_clamp (show i < 2 ^ 31 by omega), p2, p3]
  refine ⟨pk_in i 40 (by omega), nm_e ⟨pk_in i 40 (by omega), nm_e ⟨pk_in i 40 (by omega), cv_enter p1 (fun b6 b7 hb => H _ _ _ ?_)⟩⟩⟩
  refine ⟨k0, fun j hj => ?_, k2, k3, fun g hg hk q hq => ?_⟩
  · obtain ⟨q1, q2, q3⟩ := k1 j hj
    refine ⟨q1, q2, ?_⟩
    by_cases e : j = i
    · subst e
      rw [pk_us, pk_us]
    · rw [pk_un e, pk_un e]
      exact q3
  · obtain ⟨h1, h2⟩ := hb g hg hk q hq
    obtain ⟨v1, v2⟩ := k4 g hg hk q hq
    rw [h1, h2, v1, v2, cv_ws_set hi]
    refine ⟨?_, ?_⟩
    · rw [ite_self, Int32.add_zero]
    · show _ = _ + (if decide (cv_g (P i) g = q) = true then y - A i else 0)
      simp only [decide_eq_true_eq]
end
end
section
/-! ===== workWith, fill, plan, the constructor ===== -/
section
variable {c : Int32} {a1 a2 a3 a4 a5 a6 a7 a8 a9 : Nat → Int32}
theorem cv_workWith {post : Int32 → Prop} {x : Int32} (h : ∀ r, post r) : wpX_workWith post (c, a1, a2, a3, a4, a5, a6, a7, a8, a9) x := by
  refine pk_loop (fun m i (s : Int32) => wX_workWith_4 post x c a1 a2 a3 a4 a5 a6 a7 a8 a9 m s (nI i)) (fun _ _ => True) 8 0 0 (by omega) trivial ?_ ?_
  · exact fun m s _ => pk_le 8 8 (fun _ => h s) (fun z => absurd z (by omega))
  · intro m i s hi _ hw
    refine pk_le 8 i (fun z => absurd z (by omega)) (fun _ => ?_)
    refine pk_loop (fun m' k (t : Int32) => wX_workWith_18 post (wX_workWith_4 post x c a1 a2 a3 a4 a5 a6 a7 a8 a9 m) x s (nI i) c a1 a2 a3 a4 a5 a6 a7 a8 a9 m' t (nI k)) (fun _ _ => True) 8 0 160 (by omega) trivial ?_ ?_
    · exact fun m' t _ => pk_le 8 8 (fun _ => nm_e (nm_r (nI_1 i) (hw _ trivial))) (fun z => absurd z (by omega))
    · intro m' k t hk _ hw'
      have s41 : wX_workWith_41 post (wX_workWith_4 post x c a1 a2 a3 a4 a5 a6 a7 a8 a9 m) (wX_workWith_18 post (wX_workWith_4 post x c a1 a2 a3 a4 a5 a6 a7 a8 a9 m) x s (nI i) c a1 a2 a3 a4 a5 a6 a7 a8 a9 m') x s (nI i) t (nI k) c a1 a2 a3 a4 a5 a6 a7 a8 a9 :=
        br_c (fun _ => cv_cells (fun r9 => br_c (fun _ => nm_r (nI_1 k) (hw' _ trivial)) (fun _ => cv_cells (fun r12 => nm_r (nI_1 k) (hw' _ trivial))))) (fun _ => nm_r (nI_1 k) (hw' _ trivial))
      exact pk_le 8 k (fun z => absurd z (by omega)) (fun _ => ⟨pk_in k 8 hk, br_c (fun _ => br_c (fun _ => s41) (fun _ => nm_r (nI_1 k) (hw' _ trivial))) (fun _ => s41)⟩)
variable {n : Nat} {P : Nat → Nat} {A : Nat → Int32}
theorem cv_fill {post : St1 → Prop} {g : Nat} (hg : g < 8) (k0 : n ≤ 40) (k1 : ∀ i, i < n → P i < 120 ∧ a1 i = nI (P i) ∧ a2 i = A i) (H : ∀ b6 b7, cv_V n P A g b6 b7 → (∀ h, h ≠ g → ∀ q, q < 120 → b6 (120 * h + q) = a6 (120 * h + q) ∧ b7 (120 * h + q) = a7 (120 * h + q)) → post (nI n, a1, a2, a3, a4, a5, b6, b7, a8, a9)) : wpX_fill post (nI n, a1, a2, a3, a4, a5, a6, a7, a8, a9) (nI g) := by
  refine pk_loop (fun m i (s : (Nat → Int32) × (Nat → Int32)) => wX_fill_2 post (nI g) (nI n) m (nI i) a1 a2 a3 a4 a5 s.1 s.2 a8 a9) (fun i s => (∀ q, q < i → s.1 (120 * g + q) = 0 ∧ s.2 (120 * g + q) = 0) ∧ (∀ h, h ≠ g → ∀ q, q < 120 → s.1 (120 * h + q) = a6 (120 * h + q) ∧ s.2 (120 * h + q) = a7 (120 * h + q))) 120 0 (a6, a7) (by omega) ⟨fun q hq => absurd hq (by omega), fun h _ q _ => ⟨rfl, rfl⟩⟩ ?_ ?_
  · intro m s hs
    refine pk_le 120 120 (fun _ => ?_) (fun z => absurd z (by omega))
    refine pk_loop (fun m' i (t : (Nat → Int32) × (Nat → Int32)) => wX_fill_40 post (nI g) (nI n) m' (nI i) a1 a2 a3 a4 a5 t.1 t.2 a8 a9) (fun i t => (∀ q, q < 120 → t.1 (120 * g + q) = cv_ws (cv_cell P g q) (fun _ => 1) i ∧ t.2 (120 * g + q) = cv_ws (cv_cell P g q) A i) ∧ (∀ h, h ≠ g → ∀ q, q < 120 → t.1 (120 * h + q) = a6 (120 * h + q) ∧ t.2 (120 * h + q) = a7 (120 * h + q))) n 0 s (by omega) hs ?_ ?_
    · exact fun m' t ht => pk_le n n (fun _ => H t.1 t.2 ht.1 ht.2) (fun z => absurd z (by omega))
    · intro m' i t hi ht hw
      obtain ⟨p1, p2, p3⟩ := k1 i hi
      have hgl := cv_g_lt p1 g
      refine pk_le n i (fun z => absurd z (by omega)) (fun _ => ?_)
      rw [nI_clamp (show i < 2 ^ 31 by omega), p2, p3]
      refine ⟨pk_in i 40 (by omega), cv_group p1 hg (nm_r (cv_ix g (cv_g (P i) g)) ?_)⟩
      rw [nI_clamp (show 120 * g + cv_g (P i) g < 2 ^ 31 by omega)]
      refine ⟨pk_in (120 * g + cv_g (P i) g) 960 (by omega), pk_in (120 * g + cv_g (P i) g) 960 (by omega), nm_e ⟨pk_in (120 * g + cv_g (P i) g) 960 (by omega), pk_in i 40 (by omega), pk_in (120 * g + cv_g (P i) g) 960 (by omega), nm_e (nm_r (nI_1 i) (hw (_, _) ⟨fun q hq => ?_, fun h hh q hq => ?_⟩))⟩⟩
      · have e1 := cv_ua t.1 (120 * g + cv_g (P i) g) 1 (120 * g + q)
        have e2 := cv_ua t.2 (120 * g + cv_g (P i) g) (A i) (120 * g + q)
        rw [(ht.1 q hq).1] at e1
        rw [(ht.1 q hq).2] at e2
        have e : ∀ w : Nat → Int32, cv_ws (cv_cell P g q) w (i + 1) = cv_ws (cv_cell P g q) w i + (if 120 * g + cv_g (P i) g = 120 * g + q then w i else 0) := by
          intro w
          show cv_ws (cv_cell P g q) w i + (if decide (cv_g (P i) g = q) = true then w i else 0) = _
          by_cases z : cv_g (P i) g = q
          · rw [decide_eq_true z, if_pos rfl, if_pos (by omega)]
          · rw [decide_eq_false z, if_neg (by decide), if_neg (by omega)]
        rw [e, e]
        exact ⟨e1, e2⟩
      · show upd t.1 _ _ (120 * h + q) = _ ∧ upd t.2 _ _ (120 * h + q) = _
        rw [pk_un (by omega), pk_un (by omega)]
        exact ht.2 h hh q hq
  · intro m i s hi hs hw
    refine pk_le 120 i (fun z => absurd z (by omega)) (fun _ => ?_)
    rw [cv_ix g i, nI_clamp (show 120 * g + i < 2 ^ 31 by omega)]
    refine ⟨pk_in (120 * g + i) 960 (by omega), nm_e ⟨pk_in (120 * g + i) 960 (by omega), nm_e (nm_r (nI_1 i) (hw (_, _) ⟨fun q hq => ?_, fun h hh q hq => ?_⟩))⟩⟩
    · show upd s.1 (120 * g + i) 0 (120 * g + q) = 0 ∧ upd s.2 (120 * g + i) 0 (120 * g + q) = 0
      by_cases e : q = i
      · subst e
        exact ⟨pk_us, pk_us⟩
      · rw [pk_un (by omega), pk_un (by omega)]
        exact hs.1 q (by omega)
    · show upd s.1 (120 * g + i) 0 (120 * h + q) = _ ∧ upd s.2 (120 * g + i) 0 (120 * h + q) = _
      rw [pk_un (by omega), pk_un (by omega)]
      exact hs.2 h hh q hq
theorem cv_plan {post : Int32 → St1 → Prop} {x : Int32} (K : cv_K n P A a1 a2 a3 a4 a5 a6 a7) (Hb : ¬ (¬ x < 0 ∧ x ≤ 200) → post (-1000000) (nI n, a1, a2, a3, a4, a5, a6, a7, a8, a9)) (H : ∀ b5 b6 b7, cv_K n P A a1 a2 a3 a4 b5 b6 b7 → post 0 (nI n, a1, a2, a3, a4, b5, b6, b7, a8, a9)) : wpX_plan post (nI n, a1, a2, a3, a4, a5, a6, a7, a8, a9) x := by
  obtain ⟨k0, k1, k2, k3, k4⟩ := K
  refine br_c (fun z => Hb (fun t => t.1 z)) (fun z => br_c (fun y => ?_) (fun y => Hb (fun t => y t.2)))
  refine pk_loop (fun m i (s : Nat → Int32) => wX_plan_16 post x (nI n) m (nI i) a1 a2 a3 a4 s a6 a7 a8 a9) (fun i s => ∀ g, g < i → s g = 0) 8 0 a5 (by omega) (fun g hg => absurd hg (by omega)) ?_ ?_
  · intro m s hs
    refine pk_le 8 8 (fun _ => ?_) (fun z => absurd z (by omega))
    refine pk_loop (fun m r (s : Int32 × Int32 × (Nat → Int32) × (Nat → Int32) × (Nat → Int32)) => wX_plan_42 post m s.1 s.2.1 (nI r) (nI n) a1 a2 a3 a4 s.2.2.1 s.2.2.2.1 s.2.2.2.2 a8 a9) (fun _ s => ∀ g, g < 8 → s.2.2.1 g ≠ 0 → cv_V n P A g s.2.2.2.1 s.2.2.2.2) 8 0 (x, 1, s, a6, a7) (by omega) (fun g hg hk => absurd (hs g hg) hk) ?_ ?_
    · exact fun m t ht => pk_le 8 8 (fun _ => H _ _ _ ⟨k0, k1, k2, k3, ht⟩) (fun z => absurd z (by omega))
    · intro m r t hr ht hw
      obtain ⟨x2, x3, b5, b6, b7⟩ := t
      have ht' : ∀ g, g < 8 → b5 g ≠ 0 → cv_V n P A g b6 b7 := ht
      show wX_plan_42 post (m + 1) x2 x3 (nI r) (nI n) a1 a2 a3 a4 b5 b6 b7 a8 a9
      refine pk_le 8 r (fun z => absurd z (by omega)) (fun _ => br_c (fun _ => H _ _ _ ⟨k0, k1, k2, k3, ht'⟩) (fun _ => cv_workWith (fun x5 => ?_)))
      refine pk_loop (fun m' k (v : Int32 × Int32) => wX_plan_69 post (wX_plan_42 post m) x2 (nI r) x5 (nI n) a1 a2 a3 a4 b5 b6 b7 a8 a9 m' v.1 v.2 (nI k)) (fun _ v => v.1 = -1 ∨ ∃ g, g < 8 ∧ v.1 = nI g) 8 0 (-1, 0) (by omega) (Or.inl rfl) ?_ ?_
      · intro m' v hv
        obtain ⟨x6, x7⟩ := v
        have hv' : x6 = -1 ∨ ∃ g, g < 8 ∧ x6 = nI g := hv
        show wX_plan_69 post (wX_plan_42 post m) x2 (nI r) x5 (nI n) a1 a2 a3 a4 b5 b6 b7 a8 a9 (m' + 1) x6 x7 (nI 8)
        refine pk_le 8 8 (fun _ => ?_) (fun z => absurd z (by omega))
        rcases hv' with z | ⟨g, hg, z⟩
        · subst z
          exact br_t (by decide) (br_t rfl (nm_r (nI_1 r) (hw (x2, 0, b5, b6, b7) ht')))
        · subst z
          refine br_f (nI_pos (by omega)) (br_f (by decide) ?_)
          rw [nI_clamp (show g < 2 ^ 31 by omega)]
          refine ⟨pk_in g 8 hg, nm_e (cv_cells (fun r13 => nm_e (cv_fill hg k0 k1 (fun c6 c7 hV hO => nm_r (nI_1 r) (hw (x2 - r13, 1, upd b5 g 1, c6, c7) (fun h hh hk => ?_))))))⟩
          show cv_V n P A h c6 c7
          by_cases e : h = g
          · rw [e]; exact hV
          · have hk' : b5 h ≠ 0 := by
              have hk2 : upd b5 g 1 h ≠ 0 := hk
              rw [pk_un e] at hk2
              exact hk2
            intro q hq
            rw [(hO h e q hq).1, (hO h e q hq).2]
            exact ht' h hh hk' q hq
      · intro m' k v hk hv hw'
        refine pk_le 8 k (fun z => absurd z (by omega)) (fun _ => cv_workWith (fun r45 => nm_e ⟨pk_in k 8 hk, br_c (fun _ => cv_cells (fun r50 => br_c (fun _ => nm_r (nI_1 k) (hw' v hv)) (fun _ => br_c (fun _ => nm_r (nI_1 k) (hw' v hv)) (fun _ => nm_r (nI_1 k) (hw' (nI k, x5 - r45) (Or.inr ⟨k, hk, rfl⟩)))))) (fun _ => nm_r (nI_1 k) (hw' v hv))⟩))
  · intro m i s hi hs hw
    refine pk_le 8 i (fun z => absurd z (by omega)) (fun _ => ⟨pk_in i 8 hi, nm_r (e' := upd s i 0) (by rw [nI_clamp (by omega)]) (nm_r (nI_1 i) (hw _ (fun g hg => ?_)))⟩)
    by_cases e : g = i
    · subst e
      exact pk_us
    · rw [pk_un e]
      exact hs g (by omega)
end
theorem cv_init {post : St1 → Prop} (H : ∀ b3, (∀ (P : Nat → Nat) (A : Nat → Int32), cv_K 0 P A (fun _ => 0) (fun _ => 0) b3 (fun _ => 0) (fun _ => 0) (fun _ => 0) (fun _ => 0)) → post (nI 0, (fun _ => 0), (fun _ => 0), b3, (fun _ => 0), (fun _ => 0), (fun _ => 0), (fun _ => 0), (fun _ => 0), (fun _ => 0))) : wpX_init post 9 2408 0 := by
  refine ⟨by omega, by omega, by omega, by omega, by omega, by omega, by omega, by omega, by omega, by omega, by omega, by omega, by omega, by omega, by omega, by omega, by omega, by omega, ?_⟩
  refine pk_loop (fun m i (s : Nat → Int32) => wX_init_80 post 9 2408 9 2408 0 m (nI i) (fun _ => 0) (fun _ => 0) s (fun _ => 0) (fun _ => 0) (fun _ => 0) (fun _ => 0) (fun _ => 0) (fun _ => 0)) (fun i s => ∀ p, p < i → s p = -1) 120 0 (fun _ => 0) (by omega) (fun p hp => absurd hp (by omega)) ?_ ?_
  · exact fun m s hs => pk_le 120 120 (fun _ => H s (fun P A => ⟨by omega, fun i hi => absurd hi (by omega), fun p hp => hs p hp, fun i hi => absurd hi (by omega), fun g hg hk => absurd rfl hk⟩)) (fun z => absurd z (by omega))
  · intro m i s hi hs hw
    refine pk_le 120 i (fun z => absurd z (by omega)) (fun _ => ⟨pk_in i 120 hi, nm_r (e' := upd s i (-1)) (by rw [nI_clamp (by omega)]) (nm_r (nI_1 i) (hw _ (fun g hg => ?_)))⟩)
    by_cases e : g = i
    · subst e
      exact pk_us
    · rw [pk_un e]
      exact hs g (by omega)
end
section
/-! ===== the mirror: place p becomes 119 - p ===== -/
/-- where a filter's bit goes -/
def cv_tau (j : Nat) : Nat := if j < 4 then 3 - j else if j < 9 then 12 - j else 23 - j
/-- F' is F turned -/
def cv_T (F F' : Nat) : Prop := ∀ j, j < 15 → F'.testBit (cv_tau j) = F.testBit j
/-- where a group goes -/
def cv_fl (d q : Nat) : Nat := (if d % 2 = 0 then q % 4 else 3 - q % 4) + 4 * (if d / 2 % 2 = 0 then q / 4 % 5 else 4 - q / 4 % 5) + 20 * (if d / 4 % 2 = 0 then q / 20 else 5 - q / 20)
theorem cv_ok_fl {F F' p : Nat} (h : cv_T F F') (hp : p < 120) : cv_ok F' 7 (119 - p) = cv_ok F 7 p := by
  have e1 : (119 - p) % 4 = cv_tau (p % 4) := by
    unfold cv_tau
    rw [if_pos (by omega)]
    omega
  have e2 : 4 + (119 - p) / 4 % 5 = cv_tau (4 + p / 4 % 5) := by
    unfold cv_tau
    rw [if_neg (by omega), if_pos (by omega)]
    omega
  have e3 : 9 + (119 - p) / 20 = cv_tau (9 + p / 20) := by
    unfold cv_tau
    rw [if_neg (by omega), if_neg (by omega)]
    omega
  unfold cv_ok
  rw [e1, e2, e3, h _ (by omega), h _ (by omega), h _ (by omega)]
theorem cv_fl_g : ∀ d, d < 8 → ∀ p, p < 120 → cv_g (119 - p) d = cv_fl d (cv_g p d) := by decide +kernel
theorem cv_fl_i : ∀ d, d < 8 → ∀ q, q < 120 → cv_fl d q < 120 ∧ cv_fl d (cv_fl d q) = q := by decide +kernel
theorem cv_fl_p : ∀ d, d < 8 → ((List.range 120).map (cv_fl d)).isPerm (List.range 120) = true := by decide +kernel
theorem cv_ct_fl {C C' : Nat → Bool} {d : Nat} (hd : d < 8) (h : ∀ q, q < 120 → C' (cv_fl d q) = C q) : cv_ct C' 120 = cv_ct C 120 := by
  rw [cv_ct_list, cv_ct_list, ← (List.isPerm_iff.mp (cv_fl_p d hd)).countP_eq C', List.countP_map]
  refine List.countP_congr (fun q hq => ?_)
  rw [List.mem_range] at hq
  show C' (cv_fl d q) = true ↔ C q = true
  rw [h q hq]
section
variable {n : Nat} {P : Nat → Nat} {A : Nat → Int32} {F F' d : Nat}
theorem cv_C_fl {q i : Nat} (hT : cv_T F F') (hd : d < 8) (hq : q < 120) (hp : P i < 120) : cv_C F' d (fun j => 119 - P j) (cv_fl d q) i = cv_C F d P q i := by
  show (cv_ok F' 7 (119 - P i) && decide (cv_g (119 - P i) d = cv_fl d q)) = (cv_ok F 7 (P i) && decide (cv_g (P i) d = q))
  rw [cv_ok_fl hT hp, cv_fl_g d hd _ hp]
  congr 1
  refine decide_eq_decide.mpr ⟨fun z => ?_, fun z => by rw [z]⟩
  have e := congrArg (cv_fl d) z
  rw [(cv_fl_i d hd _ (cv_g_lt hp d)).2, (cv_fl_i d hd q hq).2] at e
  exact e
theorem cv_ws_fl {w : Nat → Int32} {q : Nat} (hP : ∀ i, i < n → P i < 120) (hT : cv_T F F') (hd : d < 8) (hq : q < 120) : cv_ws (cv_C F' d (fun j => 119 - P j) (cv_fl d q)) w n = cv_ws (cv_C F d P q) w n :=
  cv_ws_congr (fun i hi => cv_C_fl hT hd hq (hP i hi)) (fun _ _ => rfl)
theorem cv_gp_fl {q : Nat} (hP : ∀ i, i < n → P i < 120) (hT : cv_T F F') (hd : d < 8) (hq : q < 120) : cv_gp n (fun j => 119 - P j) F' d (cv_fl d q) = cv_gp n P F d q := by
  unfold cv_gp
  rw [cv_ct_congr (fun i hi => cv_C_fl hT hd hq (hP i hi))]
theorem cv_groups_fl (hP : ∀ i, i < n → P i < 120) (hT : cv_T F F') (hd : d < 8) : cv_ct (cv_gp n (fun j => 119 - P j) F' d) 120 = cv_ct (cv_gp n P F d) 120 :=
  cv_ct_fl hd (fun q hq => cv_gp_fl hP hT hd hq)
theorem cv_atLeast_fl {x : Int32} (hP : ∀ i, i < n → P i < 120) (hT : cv_T F F') (hd : d < 8) : cv_ct (cv_gl n (fun j => 119 - P j) A F' d x) 120 = cv_ct (cv_gl n P A F d x) 120 := by
  refine cv_ct_fl hd (fun q hq => ?_)
  unfold cv_gl
  rw [cv_gp_fl hP hT hd hq, cv_ws_fl hP hT hd hq]
theorem cv_top_fl {r r' : Int32} (hP : ∀ i, i < n → P i < 120) (hT : cv_T F F') (hd : d < 8) (h : cv_tp n P A F d r) (h' : cv_tp n (fun j => 119 - P j) A F' d r') : r = r' := by
  have back : ∀ b, b < 120 → cv_gp n (fun j => 119 - P j) F' d b = true → cv_gp n P F d (cv_fl d b) = true ∧ cv_ws (cv_C F' d (fun j => 119 - P j) b) A n = cv_ws (cv_C F d P (cv_fl d b)) A n := by
    intro b hb t
    obtain ⟨i1, i2⟩ := cv_fl_i d hd b hb
    rw [← cv_gp_fl hP hT hd i1, ← cv_ws_fl hP hT hd i1, i2]
    exact ⟨t, rfl⟩
  rcases h with ⟨h1, h2⟩ | ⟨b, h1, h2, h3, h4⟩
  · rcases h' with ⟨g1, g2⟩ | ⟨b', g1, g2, g3, g4⟩
    · rw [h1, g1]
    · have t := (back b' g1 g2).1
      rw [h2 _ (cv_fl_i d hd b' g1).1] at t
      exact absurd t (by decide)
  · have b1 := (cv_fl_i d hd b h1).1
    have b2 := cv_gp_fl hP hT hd h1
    rw [h2] at b2
    rcases h' with ⟨g1, g2⟩ | ⟨b', g1, g2, g3, g4⟩
    · rw [g2 _ b1] at b2
      exact absurd b2 (by decide)
    · refine Int32.le_antisymm ?_ ?_
      · have t := g4 _ b1 b2
        rw [cv_ws_fl hP hT hd h1, ← h3] at t
        exact t
      · obtain ⟨t1, t2⟩ := back b' g1 g2
        rw [g3, t2]
        exact h4 _ (cv_fl_i d hd b' g1).1 t1
theorem cv_great_fl {e r r' : Int32} (hP : ∀ i, i < n → P i < 120) (hT : cv_T F F') (h : cv_mx e (fun i => cv_ok F 7 (P i)) A n r) (h' : cv_mx e (fun i => cv_ok F' 7 (119 - P i)) A n r') : r = r' :=
  cv_mx_uniq h (cv_mx_congr (fun i hi => cv_ok_fl hT (hP i hi)) h')
end
theorem cv_T_all : cv_T 32767 32767 := by
  unfold cv_T
  decide +kernel
theorem cv_T_q : ∀ q, q < 2 → ∀ r, r < 4 → ∀ j, j < 15 → (cv_qf (1 - q) (3 - r)).testBit (cv_tau j) = (cv_qf q r).testBit j := by decide +kernel
theorem cv_fl_m : ∀ m, m < 6 → 1 ≤ m → 20 * (6 - m) = cv_fl 4 (20 * m - 20) ∧ 20 * (6 - m) - 20 = cv_fl 4 (20 * m) := by decide +kernel
theorem cv_fl_0 : cv_fl 0 0 = 0 := by decide
/-! ===== turned, other ===== -/
theorem cv_or (a b : Nat) : nI a ||| nI b = nI (a ||| b) := by
  apply Int32.toBitVec_inj.1
  show BitVec.ofNat 32 a ||| BitVec.ofNat 32 b = BitVec.ofNat 32 (a ||| b)
  apply BitVec.eq_of_getLsbD_eq
  intro i hi
  simp [hi]
theorem cv_1sh : ∀ t, t < 15 → (1 : Int32) <<< (nI t &&& 31) = nI (2 ^ t) := by decide +kernel
theorem cv_tau_lt : ∀ j, j < 15 → cv_tau j < 15 := by decide +kernel
theorem cv_tau_inj : ∀ i, i < 15 → ∀ j, j < 15 → (cv_tau i = cv_tau j ↔ i = j) := by decide +kernel
theorem cv_turned {post : Int32 → Prop} {F : Nat} (hF : F < 32768) (H : ∀ F', F' < 32768 → cv_T F F' → post (nI F')) : wpL_turned post () (nI F) := by
  refine pk_loop (fun m i (s : Int32) => wL_turned_4 post (nI F) m s (nI i)) (fun i s => ∃ R, R < 2 ^ 15 ∧ s = nI R ∧ ∀ j, j < 15 → R.testBit (cv_tau j) = (decide (j < i) && F.testBit j)) 15 0 0 (by omega) ⟨0, by omega, rfl, fun j hj => by simp⟩ ?_ ?_
  · intro m s hs
    obtain ⟨R, r1, r2, r3⟩ := hs
    subst r2
    refine pk_le 15 15 (fun _ => H R (by omega) (fun j hj => ?_)) (fun z => absurd z (by omega))
    rw [r3 j hj, decide_eq_true hj, Bool.true_and]
  · intro m i s hi hs hw
    obtain ⟨R, r1, r2, r3⟩ := hs
    subst r2
    have s38 : ∀ z : Int32, z = nI (cv_tau i) → wL_turned_38 post (wL_turned_4 post (nI F) m) (nI F) (nI R) (nI i) z := by
      intro z hz
      subst hz
      refine ek_if (cv_bit (by omega) (by omega)) (fun t => nm_r (e' := nI (R ||| 2 ^ cv_tau i)) (by rw [cv_1sh _ (cv_tau_lt i hi), cv_or]) (nm_r (nI_1 i) (hw _ ⟨R ||| 2 ^ cv_tau i, Nat.or_lt_two_pow r1 (Nat.pow_lt_pow_right (by omega) (cv_tau_lt i hi)), rfl, fun j hj => ?_⟩))) (fun t => nm_r (nI_1 i) (hw _ ⟨R, r1, rfl, fun j hj => ?_⟩))
      · rw [Nat.testBit_or, r3 j hj, Nat.testBit_two_pow, decide_eq_decide.mpr (cv_tau_inj i hi j hj)]
        by_cases e : i = j
        · subst e
          rw [t]
          simp
        · rw [decide_eq_false e, Bool.or_false, show decide (j < i + 1) = decide (j < i) from decide_eq_decide.mpr (by omega)]
      · rw [r3 j hj]
        by_cases e : i = j
        · subst e
          rw [Bool.eq_false_iff.mpr t]
          simp
        · rw [show decide (j < i + 1) = decide (j < i) from decide_eq_decide.mpr (by omega)]
    refine pk_le 15 i (fun z => absurd z (by omega)) (fun _ => pk_le 4 i (fun h4 => pk_le 9 i (fun h9 => s38 _ ?_) (fun h9 => s38 _ ?_)) (fun h4 => s38 _ ?_))
    · unfold cv_tau
      rw [if_neg (by omega), if_neg (by omega)]
      exact pk_sub (a := 23) (by omega)
    · unfold cv_tau
      rw [if_neg (by omega), if_pos (by omega)]
      exact pk_sub (a := 12) (by omega)
    · unfold cv_tau
      rw [if_pos (by omega)]
      exact pk_sub (a := 3) (by omega)
end
section
/-! ===== the law's end: one more fact, a plan, and back; growth; the groupings ===== -/
theorem cv_pk {p : Nat} (hp : p < 120) : nI p / 4 - nI p / 4 / 5 * 5 = nI (p / 4 % 5) := by
  rw [show nI p / 4 = nI (p / 4) from pk_div (a := p) (d := 4) (by omega) (by omega) (by omega)]
  exact pk_rem (a := p / 4) (d := 5) (by omega) (by omega) (by omega)
theorem cv_ok7 (F p : Nat) : cv_ok F 7 p = (F.testBit (p % 4) && F.testBit (4 + p / 4 % 5) && F.testBit (9 + p / 20)) := rfl
section
variable {L : Nat} {xs : Nat → Int32} {kc ks n F : Nat} {P : Nat → Nat} {A : Nat → Int32} {a1 a2 a3 a4 a5 a6 a7 a8 a9 : Nat → Int32}
theorem cv_494 {x6 x10 x11 : Int32} (K : cv_K n P A a1 a2 a3 a4 a5 a6 a7) (hF : F < 32768) (he : cv_ws (cv_C F 0 P 0) A n = x11 - x10) : wL_law_494 (fun r => r = 1) L xs (nI F) x6 x6 0 x10 x11 9 kc ks (nI n) a1 a2 a3 a4 a5 a6 a7 a8 a9 :=
  br_t rfl (br_t rfl (br_t rfl (cv_sum K hF (fun b8 b9 => br_t he (rfl : (1 : Int32) = 1)))))
theorem cv_470 {more : Int32} (K : cv_K (n + 1) P A a1 a2 a3 a4 a5 a6 a7) (hF : F < 32768) (hA : A n = 9) (hm : more = if cv_ok F 7 (P n) = true then 9 else 0) : wL_law_470 (fun r => r = 1) L xs (nI F) (nI n) (nI n) 0 more kc ks (nI (n + 1)) a1 a2 a3 a4 a5 a6 a7 a8 a9 := by
  have hn := K.1
  refine cv_sum K hF (fun b8 b9 => br_f (nI_pos (by omega)) (cv_remove_ok K (fun b3 b6 b7 K' => ?_)))
  rw [hA]
  refine cv_494 K' hF ?_
  show _ = cv_ws (cv_C F 0 P 0) A n + (if (cv_ok F 7 (P n) && decide (cv_g (P n) 0 = 0)) = true then A n else 0) - more
  rw [show decide (cv_g (P n) 0 = 0) = true from rfl, Bool.and_true, hA, ← hm]
  grind
theorem cv_470f {x6 : Int32} (K : cv_K n P A a1 a2 a3 a4 a5 a6 a7) (hF : F < 32768) (hx : x6 < 0) : wL_law_470 (fun r => r = 1) L xs (nI F) x6 x6 0 0 kc ks (nI n) a1 a2 a3 a4 a5 a6 a7 a8 a9 :=
  cv_sum K hF (fun b8 b9 => br_t hx (cv_494 K hF (by grind)))
variable {b1 b2 b3 b4 b5 b6 b7 b8 b9 : Nat → Int32} {x3 : Int32}
theorem cv_323 (K : cv_K n P A a1 a2 a3 a4 a5 a6 a7) (K' : cv_K n (fun j => 119 - P j) A b1 b2 b3 b4 b5 b6 b7) (hF : F < 32768) : ∃ m, wL_law_323 (fun r => r = 1) L xs x3 (nI F) kc ks m 1 (nI n) a1 a2 a3 a4 a5 a6 a7 a8 a9 (nI n) b1 b2 b3 b4 b5 b6 b7 b8 b9 := by
  have hn40 := K.1
  have hP : ∀ i, i < n → P i < 120 := fun i hi => (K.2.1 i hi).1
  refine pk_loop (fun m i (s : ((Nat → Int32) × (Nat → Int32)) × ((Nat → Int32) × (Nat → Int32))) => wL_law_323 (fun r => r = 1) L xs x3 (nI F) kc ks m (nI i) (nI n) a1 a2 a3 a4 a5 a6 a7 s.1.1 s.1.2 (nI n) b1 b2 b3 b4 b5 b6 b7 s.2.1 s.2.2) (fun i _ => 1 ≤ i) 6 1 ((a8, a9), (b8, b9)) (by omega) (by omega) ?_ ?_
  · intro m s _
    obtain ⟨p, hp, e63, e3⟩ : ∃ p, p < 64 ∧ x3 &&& 63 = nI p ∧ x3 &&& 3 = nI (p % 4) := ⟨x3.toBitVec.toNat % 64, by omega, pk_and x3 6 (by decide), by rw [pk_and x3 2 (by decide)]; exact congrArg nI (by omega)⟩
    obtain ⟨rm, hrm, e127⟩ := pk_andE (x3 >>> ((6 : Int32) &&& 31)) (m := 127) 7 (by decide)
    have e119 : (119 : Int32) - nI p = nI (119 - p) := pk_sub (a := 119) (by omega)
    have e20 : nI p / 20 = nI (p / 20) := pk_div (a := p) (d := 20) (by omega) (by omega) (by omega)
    refine pk_le 6 6 (fun _ => ?_) (fun z => absurd z (by omega))
    rw [e63, e3, e127, e119, e20, cv_pk (show p < 120 by omega)]
    have hroom : ¬ ¬ (¬ nI rm < 0 ∧ nI rm ≤ 200) := fun h => h ⟨nI_pos (by omega), nI_le (b := 200) (by omega) (by omega)⟩
    by_cases hn : n < 40
    · refine cv_add_ok K hn (by omega) (by decide) (by decide) (fun c1 c2 c3 c4 c6 c7 KC => cv_add_ok K' hn (by omega) (by decide) (by decide) (fun d1 d2 d3 d4 d6 d7 KD => cv_plan (KC (fun i => if i = n then p else P i) (upd A n 9) (fun i hi => ⟨if_neg (by omega), pk_un (by omega)⟩) (if_pos rfl) pk_us) (fun h => absurd h hroom) (fun e5 e6 e7 KE => br_f (nI_pos (by omega)) ?_)))
      have hPn : (if n = n then p else P n) = p := if_pos rfl
      have Z : ∀ more : Int32, more = (if cv_ok F 7 p = true then 9 else 0) → wL_law_470 (fun r => r = 1) L xs (nI F) (nI n) (nI n) 0 more kc ks (nI (n + 1)) c1 c2 c3 c4 e5 e6 e7 s.1.1 s.1.2 := fun more h => cv_470 KE hF pk_us (by rw [hPn]; exact h)
      have Z0 : cv_ok F 7 p = false → wL_law_456 (fun r => r = 1) L xs (nI F) (nI n) (nI n) 0 kc ks (nI (n + 1)) c1 c2 c3 c4 e5 e6 e7 s.1.1 s.1.2 := fun h => br_t rfl (Z 0 (by rw [h]; rfl))
      refine ek_if (cv_bit (by omega) (by omega)) (fun t1 => ⟨by decide, by decide, ek_if (cv_bit2 (k := 4) (by omega) (by omega)) (fun t2 => ⟨by decide, ek_if (cv_bit2 (k := 9) (by omega) (by omega)) (fun t3 => br_f (by decide) (Z 9 ?_)) (fun t3 => Z0 ?_)⟩) (fun t2 => Z0 ?_)⟩) (fun t1 => Z0 ?_)
      · rw [cv_ok7, t1, t2, t3]
        rfl
      · rw [cv_ok7, Bool.eq_false_iff.mpr t3, Bool.and_false]
      · rw [cv_ok7, Bool.eq_false_iff.mpr t2, Bool.and_false, Bool.false_and]
      · rw [cv_ok7, Bool.eq_false_iff.mpr t1, Bool.false_and, Bool.false_and]
    · have e40 : n = 40 := by omega
      subst e40
      exact cv_add_full (by omega) (by decide) (by decide) (cv_add_full (by omega) (by decide) (by decide) (cv_plan K (fun h => absurd h hroom) (fun e5 e6 e7 KE => br_t (by decide) (br_t rfl (cv_470f KE hF (by decide))))))
  · intro m i s hi h1 hw
    have e6 : (6 : Int32) - nI i = nI (6 - i) := pk_sub (a := 6) (by omega)
    refine pk_le 6 i (fun z => absurd z (by omega)) (fun _ => ?_)
    rw [e6]
    refine cv_growth K h1 (by omega) (fun c8 c9 => cv_growth K' (by omega) (by omega) (fun d8 d9 => br_t ?_ (nm_r (nI_1 i) (hw ((c8, c9), (d8, d9)) (by omega)))))
    obtain ⟨f1, f2⟩ := cv_fl_m i (by omega) h1
    rw [f2, f1, cv_ws_fl hP cv_T_all (by omega) (by omega), cv_ws_fl hP cv_T_all (by omega) (by omega)]
    grind
theorem cv_211 {F' : Nat} (K : cv_K n P A a1 a2 a3 a4 a5 a6 a7) (K' : cv_K n (fun j => 119 - P j) A b1 b2 b3 b4 b5 b6 b7) (hF : F < 32768) (hF' : F' < 32768) (hT : cv_T F F') : ∃ m, wL_law_211 (fun r => r = 1) L xs x3 (nI F) (nI F') kc ks m 0 (nI n) a1 a2 a3 a4 a5 a6 a7 a8 a9 (nI n) b1 b2 b3 b4 b5 b6 b7 b8 b9 := by
  have hP : ∀ i, i < n → P i < 120 := fun i hi => (K.2.1 i hi).1
  refine pk_loop (fun m i (s : ((Nat → Int32) × (Nat → Int32)) × ((Nat → Int32) × (Nat → Int32))) => wL_law_211 (fun r => r = 1) L xs x3 (nI F) (nI F') kc ks m (nI i) (nI n) a1 a2 a3 a4 a5 a6 a7 s.1.1 s.1.2 (nI n) b1 b2 b3 b4 b5 b6 b7 s.2.1 s.2.2) (fun _ _ => True) 8 0 ((a8, a9), (b8, b9)) (by omega) trivial ?_ ?_
  · exact fun m s _ => pk_le 8 8 (fun _ => cv_323 K K' hF) (fun z => absurd z (by omega))
  · intro m g s hg _ hw
    have e1 : nI g >>> ((2 : Int32) &&& 31) = nI (g / 4) := pk_shrN (by omega) _ 2 (by decide)
    have e2 : nI g &&& 3 = nI (g % 4) := pk_andN (by omega) 2 (by decide)
    have e3 : (1 : Int32) - nI (g / 4) = nI (1 - g / 4) := pk_sub (a := 1) (by omega)
    have e4 : (3 : Int32) - nI (g % 4) = nI (3 - g % 4) := pk_sub (a := 3) (by omega)
    refine pk_le 8 g (fun z => absurd z (by omega)) (fun _ => ?_)
    rw [e1, e2, e3, e4]
    refine cv_groups K hF hg (fun _ _ => cv_groups K' hF' hg (fun _ _ => br_t ?_ (cv_topSum K hF hg (fun r _ _ hr => cv_topSum K' hF' hg (fun r' _ _ hr' => br_t (cv_top_fl hP hT hg hr hr') (cv_atLeast K hg (fun _ _ => cv_atLeast K' hg (fun _ _ => br_t ?_ (cv_quarter K (by omega) (by omega) (fun c8 c9 => cv_quarter K' (by omega) (by omega) (fun d8 d9 => br_t ?_ (nm_r (nI_1 g) (hw ((c8, c9), (d8, d9)) trivial)))))))))))))
    · rw [cv_groups_fl hP hT hg]
    · rw [cv_atLeast_fl hP cv_T_all hg]
    · have h := cv_ws_fl (w := A) (d := 0) (q := 0) hP (cv_T_q (g / 4) (by omega) (g % 4) (by omega)) (by omega) (by omega)
      rw [cv_fl_0] at h
      exact h.symm
end
end
section
/-! ===== the law's turns ===== -/
theorem cv_a15 : ∀ o, o < 16 → nI o &&& 15 = nI o := by decide +kernel
section
variable {L : Nat} {xs : Nat → Int32} {kc ks n : Nat} {P : Nat → Nat} {A : Nat → Int32} {a1 a2 a3 a4 a5 a6 a7 a8 a9 b1 b2 b3 b4 b5 b6 b7 b8 b9 : Nat → Int32} {x3 x4 : Int32}
theorem cv_82 {J : Int32 → Int32 → (Nat → Int32) → (Nat → Int32) → (Nat → Int32) → (Nat → Int32) → (Nat → Int32) → (Nat → Int32) → (Nat → Int32) → (Nat → Int32) → (Nat → Int32) → Int32 → (Nat → Int32) → (Nat → Int32) → (Nat → Int32) → (Nat → Int32) → (Nat → Int32) → (Nat → Int32) → (Nat → Int32) → (Nat → Int32) → (Nat → Int32) → Prop} {k o : Nat} {x z : Int32} (hk : k + 2 < L) (hL : L ≤ 260) (ho : o < 16)
    (hz : 10 ≤ o → z = x) (hz2 : o < 10 → ((x < 0 ∨ 120 ≤ x) ∧ z = x) ∨ ∃ p, p < 120 ∧ x = nI p ∧ z = nI (119 - p))
    (K : cv_K n P A a1 a2 a3 a4 a5 a6 a7) (K' : cv_K n (fun j => 119 - P j) A b1 b2 b3 b4 b5 b6 b7)
    (HJ : ∀ (n : Nat) (P : Nat → Nat) (A : Nat → Int32) (a1 a2 a3 a4 a5 a6 a7 a8 a9 b1 b2 b3 b4 b5 b6 b7 b8 b9 : Nat → Int32), cv_K n P A a1 a2 a3 a4 a5 a6 a7 → cv_K n (fun j => 119 - P j) A b1 b2 b3 b4 b5 b6 b7 → J (nI (k + 3)) (nI n) a1 a2 a3 a4 a5 a6 a7 a8 a9 (nI n) b1 b2 b3 b4 b5 b6 b7 b8 b9) :
    wL_law_82 (fun r => r = 1) L xs J x3 x4 (nI k) (nI o) x z kc ks (nI n) a1 a2 a3 a4 a5 a6 a7 a8 a9 (nI n) b1 b2 b3 b4 b5 b6 b7 b8 b9 := by
  have hn40 := K.1
  have E : ∀ (r : Int32) (n : Nat) (P : Nat → Nat) (A : Nat → Int32) (a1 a2 a3 a4 a5 a6 a7 a8 a9 b1 b2 b3 b4 b5 b6 b7 b8 b9 : Nat → Int32), cv_K n P A a1 a2 a3 a4 a5 a6 a7 → cv_K n (fun j => 119 - P j) A b1 b2 b3 b4 b5 b6 b7 → wL_law_126 (fun r => r = 1) L xs J x3 x4 (nI k) r r kc ks (nI n) a1 a2 a3 a4 a5 a6 a7 a8 a9 (nI n) b1 b2 b3 b4 b5 b6 b7 b8 b9 :=
    fun r n P A a1 a2 a3 a4 a5 a6 a7 a8 a9 b1 b2 b3 b4 b5 b6 b7 b8 b9 h h' => br_t rfl (nm_r (nI_add k 3) (HJ n P A a1 a2 a3 a4 a5 a6 a7 a8 a9 b1 b2 b3 b4 b5 b6 b7 b8 b9 h h'))
  have hin : vp_in (nI k + 2) L := pk_in (k + 2) L hk (nI_add k 2)
  refine And.intro hin ?_
  generalize xs (nI k + 2).toNatClampNeg = y
  refine nm_r (cv_a15 o ho) ?_
  refine pk_le 10 o (fun h10 => ?_) (fun h10 => ?_)
  · have ez := hz h10
    subst ez
    refine pk_eq o 10 (fun e => ?_) (fun e => ?_)
    · cases n with
      | zero => exact cv_remove_0 (pk_le o 13 (fun _ => ⟨hin, nm_r (cv_a15 o ho) (pk_le 10 o (fun _ => pk_eq o 10 (fun _ => cv_remove_0 (E _ _ _ _ _ _ _ _ _ _ _ _ _ _ _ _ _ _ _ _ _ _ K K')) (fun u => absurd e u)) (fun u => absurd u (by omega)))⟩) (fun u => absurd u (by omega)))
      | succ n => exact cv_remove_ok K (fun c3 c6 c7 KC => pk_le o 13 (fun _ => ⟨hin, nm_r (cv_a15 o ho) (pk_le 10 o (fun _ => pk_eq o 10 (fun _ => cv_remove_ok K' (fun d3 d6 d7 KD => E _ _ _ _ _ _ _ _ _ _ _ _ _ _ _ _ _ _ _ _ _ _ KC KD)) (fun u => absurd e u)) (fun u => absurd u (by omega)))⟩) (fun u => absurd u (by omega)))
    · refine pk_le 14 o (fun h14 => ?_) (fun h14 => ?_)
      · exact cv_plan K (fun _ => pk_le o 13 (fun u => absurd u (by omega)) (fun _ => E _ _ _ _ _ _ _ _ _ _ _ _ _ _ _ _ _ _ _ _ _ _ K K')) (fun c5 c6 c7 KC => pk_le o 13 (fun u => absurd u (by omega)) (fun _ => E _ _ _ _ _ _ _ _ _ _ _ _ _ _ _ _ _ _ _ _ _ _ KC K'))
      · by_cases hb : z < 0 ∨ nI n ≤ z ∨ y < -50 ∨ ¬ y ≤ 50
        · exact cv_change_bad hb (pk_le o 13 (fun _ => ⟨hin, nm_r (cv_a15 o ho) (pk_le 10 o (fun _ => pk_eq o 10 (fun u => absurd u e) (fun _ => pk_le 14 o (fun u => absurd u (by omega)) (fun _ => cv_change_bad hb (E _ _ _ _ _ _ _ _ _ _ _ _ _ _ _ _ _ _ _ _ _ _ K K')))) (fun u => absurd u (by omega)))⟩) (fun u => absurd u (by omega)))
        · have g1 : ¬ z < 0 := fun t => hb (Or.inl t)
          have g2 : ¬ nI n ≤ z := fun t => hb (Or.inr (Or.inl t))
          have g3 : ¬ y < -50 := fun t => hb (Or.inr (Or.inr (Or.inl t)))
          have g4 : y ≤ 50 := Classical.byContradiction (fun t => hb (Or.inr (Or.inr (Or.inr t))))
          rcases pk_ix z (n := n) (by omega) with t | t | ⟨i, hi, t⟩
          · exact absurd t g1
          · exact absurd t g2
          · subst t
            exact cv_change_ok K hi g3 g4 (fun c2 c6 c7 KC => pk_le o 13 (fun _ => ⟨hin, nm_r (cv_a15 o ho) (pk_le 10 o (fun _ => pk_eq o 10 (fun u => absurd u e) (fun _ => pk_le 14 o (fun u => absurd u (by omega)) (fun _ => cv_change_ok K' hi g3 g4 (fun d2 d6 d7 KD => E _ _ _ _ _ _ _ _ _ _ _ _ _ _ _ _ _ _ _ _ _ _ KC KD)))) (fun u => absurd u (by omega)))⟩) (fun u => absurd u (by omega)))
  · have bad : (x < 0 ∨ 120 ≤ x ∨ y < -50 ∨ ¬ y ≤ 50) → (z < 0 ∨ 120 ≤ z ∨ y < -50 ∨ ¬ y ≤ 50) → wpX_add (fun r_691 u => match u with | (fm0_count_692, am951_695, am952_698, am953_701, am954_704, am955_707, am956_710, am957_713, am958_716, am959_719) => (((nI o ≤ 13 → (vp_in (nI k + 2) L ∧ (wpL_turn (fun r_722 u => match u with | (fm8_count_723, am1231_726, am1232_729, am1233_732, am1234_735, am1235_738, am1236_741, am1237_744, am1238_747, am1239_750) => (wL_law_126 (fun r => r = 1) L xs J x3 x4 (nI k) r_691 r_722 kc ks fm0_count_692 am951_695 am952_698 am953_701 am954_704 am955_707 am956_710 am957_713 am958_716 am959_719 fm8_count_723 am1231_726 am1232_729 am1233_732 am1234_735 am1235_738 am1236_741 am1237_744 am1238_747 am1239_750)) (nI n, b1, b2, b3, b4, b5, b6, b7, b8, b9) (nI o) z y))) ∧ (¬ nI o ≤ 13 → (wL_law_126 (fun r => r = 1) L xs J x3 x4 (nI k) r_691 r_691 kc ks fm0_count_692 am951_695 am952_698 am953_701 am954_704 am955_707 am956_710 am957_713 am958_716 am959_719 (nI n) b1 b2 b3 b4 b5 b6 b7 b8 b9))))) (nI n, a1, a2, a3, a4, a5, a6, a7, a8, a9) x y := fun hb hb' =>
      cv_add_bad hb (pk_le o 13 (fun _ => ⟨hin, nm_r (cv_a15 o ho) (pk_le 10 o (fun u => absurd u (by omega)) (fun _ => cv_add_bad hb' (E _ _ _ _ _ _ _ _ _ _ _ _ _ _ _ _ _ _ _ _ _ _ K K')))⟩) (fun u => absurd u (by omega)))
    rcases hz2 h10 with ⟨h1, h2⟩ | ⟨p, hp, h1, h2⟩
    · subst h2
      have hb : z < 0 ∨ 120 ≤ z ∨ y < -50 ∨ ¬ y ≤ 50 := h1.elim Or.inl (fun t => Or.inr (Or.inl t))
      exact bad hb hb
    · by_cases hy : y < -50 ∨ ¬ y ≤ 50
      · exact bad (Or.inr (Or.inr hy)) (Or.inr (Or.inr hy))
      · have g3 : ¬ y < -50 := fun t => hy (Or.inl t)
        have g4 : y ≤ 50 := Classical.byContradiction (fun t => hy (Or.inr t))
        subst h1
        subst h2
        by_cases hn : n < 40
        · refine cv_add_ok K hn hp g3 g4 (fun c1 c2 c3 c4 c6 c7 KC => pk_le o 13 (fun _ => ⟨hin, nm_r (cv_a15 o ho) (pk_le 10 o (fun u => absurd u (by omega)) (fun _ => cv_add_ok K' hn (by omega) g3 g4 (fun d1 d2 d3 d4 d6 d7 KD => E _ _ (fun i => if i = n then p else P i) (upd A n y) _ _ _ _ _ _ _ _ _ _ _ _ _ _ _ _ _ _ (KC _ _ (fun i hi => ⟨if_neg (by omega), pk_un (by omega)⟩) (if_pos rfl) pk_us) (KD _ _ (fun i hi => ⟨?_, pk_un (by omega)⟩) ?_ pk_us))))⟩) (fun u => absurd u (by omega)))
          · show 119 - (if i = n then p else P i) = 119 - P i
            rw [if_neg (by omega)]
          · show 119 - (if n = n then p else P n) = 119 - p
            rw [if_pos rfl]
        · have e40 : n = 40 := by omega
          subst e40
          exact cv_add_full hp g3 g4 (pk_le o 13 (fun _ => ⟨hin, nm_r (cv_a15 o ho) (pk_le 10 o (fun u => absurd u (by omega)) (fun _ => cv_add_full (by omega) g3 g4 (E _ _ _ _ _ _ _ _ _ _ _ _ _ _ _ _ _ _ _ _ _ _ K K')))⟩) (fun u => absurd u (by omega)))
end
theorem cv_39 {L : Nat} {xs : Nat → Int32} {kc ks F : Nat} {x3 : Int32} (hL : L ≤ 260) (hF : F < 32768) : ∀ (fu k n : Nat) (P : Nat → Nat) (A : Nat → Int32) (a1 a2 a3 a4 a5 a6 a7 a8 a9 b1 b2 b3 b4 b5 b6 b7 b8 b9 : Nat → Int32), k < 1000 → L - k < fu → cv_K n P A a1 a2 a3 a4 a5 a6 a7 → cv_K n (fun j => 119 - P j) A b1 b2 b3 b4 b5 b6 b7 → wL_law_39 (fun r => r = 1) L xs x3 (nI F) kc ks fu (nI k) (nI n) a1 a2 a3 a4 a5 a6 a7 a8 a9 (nI n) b1 b2 b3 b4 b5 b6 b7 b8 b9 := by
  intro fu
  induction fu with
  | zero =>
    intro k n P A a1 a2 a3 a4 a5 a6 a7 a8 a9 b1 b2 b3 b4 b5 b6 b7 b8 b9 _ h
    exact absurd h (by omega)
  | succ fu ih =>
    intro k n P A a1 a2 a3 a4 a5 a6 a7 a8 a9 b1 b2 b3 b4 b5 b6 b7 b8 b9 hk hfu K K'
    have hP : ∀ i, i < n → P i < 120 := fun i hi => (K.2.1 i hi).1
    refine pk_le L (k + 2) (fun hx => ?_) (fun hx => ?_) rfl (nI_add k 2)
    · refine cv_turned hF (fun F' hF' hT => ?_)
      have W : ∀ w : Nat → Int32, cv_ws (cv_C F 0 P 0) w n = cv_ws (cv_C F' 0 (fun j => 119 - P j) 0) w n := by
        intro w
        have h := cv_ws_fl (w := w) (d := 0) (q := 0) hP hT (by omega) (by omega)
        rw [cv_fl_0] at h
        exact h.symm
      exact cv_count K hF (fun _ _ => cv_count K' hF' (fun _ _ => br_t (W _) (cv_sum K hF (fun _ _ => cv_sum K' hF' (fun _ _ => br_t (W _) (cv_greatest K hF (fun r hr => cv_greatest K' hF' (fun r' hr' => br_t (cv_great_fl hP hT hr hr') (br_t rfl (cv_211 K K' hF hF' hT))))))))))
    · obtain ⟨o, ho, eo⟩ := pk_andE (xs (nI k).toNatClampNeg) (m := 15) 4 (by decide)
      refine And.intro (pk_in k L (by omega)) (nm_r eo (And.intro (pk_in (k + 1) L (by omega) (nI_1 k)) (nm_e ?_)))
      generalize xs (nI k + 1).toNatClampNeg = x
      have HJ : ∀ (n : Nat) (P : Nat → Nat) (A : Nat → Int32) (a1 a2 a3 a4 a5 a6 a7 a8 a9 b1 b2 b3 b4 b5 b6 b7 b8 b9 : Nat → Int32), cv_K n P A a1 a2 a3 a4 a5 a6 a7 → cv_K n (fun j => 119 - P j) A b1 b2 b3 b4 b5 b6 b7 → wL_law_39 (fun r => r = 1) L xs x3 (nI F) kc ks fu (nI (k + 3)) (nI n) a1 a2 a3 a4 a5 a6 a7 a8 a9 (nI n) b1 b2 b3 b4 b5 b6 b7 b8 b9 :=
        fun n P A a1 a2 a3 a4 a5 a6 a7 a8 a9 b1 b2 b3 b4 b5 b6 b7 b8 b9 h h' => ih (k + 3) n P A a1 a2 a3 a4 a5 a6 a7 a8 a9 b1 b2 b3 b4 b5 b6 b7 b8 b9 (by omega) (by omega) h h'
      refine pk_le 10 o (fun h10 => cv_82 hx hL ho (fun _ => rfl) (fun u => absurd u (by omega)) K K' HJ) (fun h10 => ?_)
      refine br_c (fun z => cv_82 hx hL ho (fun _ => rfl) (fun _ => Or.inl ⟨Or.inl z, rfl⟩) K K' HJ) (fun z => ?_)
      rcases pk_ix x (n := 120) (by omega) with t | t | ⟨p, hp, t⟩
      · exact absurd t z
      · refine br_c (fun _ => cv_82 hx hL ho (fun _ => rfl) (fun _ => Or.inl ⟨Or.inr t, rfl⟩) K K' HJ) (fun u => ?_)
        refine absurd ?_ u
        have t' : nI 120 ≤ x := t
        rw [Int32.le_iff_toInt_le] at t'
        rw [Int32.lt_iff_toInt_lt]
        have e1 : (nI 120).toInt = 120 := by decide
        have e2 : (119 : Int32).toInt = 119 := by decide
        omega
      · subst t
        exact pk_lt 119 p (fun u => absurd u (by omega)) (fun _ => cv_82 hx hL ho (fun u => absurd u (by omega)) (fun _ => Or.inr ⟨p, hp, rfl, pk_sub (a := 119) (by omega)⟩) K K' HJ)
end
section
theorem i_vc (xs : Nat → Int32) (L : Nat) (hL : L ≤ 260) : wpL_law (fun r => r = 1) L xs := by
  refine ⟨9, 2408, by omega, by omega, cv_init (fun e3 KC => ⟨by omega, by omega, 9, 2408, by omega, by omega, cv_init (fun f3 KD => ?_)⟩)⟩
  refine pk_le L 0 (fun h => nm_r (e' := nI 0) (by decide) ⟨L + 1, ?_⟩) (fun h => ⟨pk_in 0 L h, nm_e (nm_r (pk_and _ 15 (by decide)) ⟨L + 1, ?_⟩)⟩)
  · exact cv_39 hL (by omega) (L + 1) 1 0 (fun _ => 0) (fun _ => 0) _ _ _ _ _ _ _ _ _ _ _ _ _ _ _ _ _ _ (by omega) (by omega) (KC _ _) (KD _ _)
  · exact cv_39 hL (by omega) (L + 1) 1 0 (fun _ => 0) (fun _ => 0) _ _ _ _ _ _ _ _ _ _ _ _ _ _ _ _ _ _ (by omega) (by omega) (KC _ _) (KD _ _)
end
