section
/-! rows pasted out of the kit (PURE-ROWS, BITS) -/
theorem pk_us {f : Nat → Int32} {k : Nat} {x : Int32} : upd f k x k = x := if_pos rfl
theorem pk_un {f : Nat → Int32} {k j : Nat} {x : Int32} (h : j ≠ k) : upd f k x j = f j := if_neg h
theorem pk_sub {a b : Nat} (h : b ≤ a) : nI a - nI b = nI (a - b) := by
  obtain ⟨c, rfl⟩ : ∃ c, a = c + b := ⟨a - b, by omega⟩
  rw [← nI_add, Int32.add_sub_cancel, Nat.add_sub_cancel]
theorem pk_m1 (n : Nat) : nI (n + 1) + (-1) = nI n := by
  rw [← nI_1, Int32.add_assoc, show (1 : Int32) + (-1) = 0 from rfl, Int32.add_zero]
theorem pk_ix (x : Int32) {n : Nat} (hn : n < 2 ^ 31) : x < 0 ∨ nI n ≤ x ∨ ∃ j : Nat, j < n ∧ x = nI j := by
  by_cases h : x < 0
  · exact Or.inl h
  · obtain ⟨j, hj, rfl⟩ := nI_of h
    by_cases h2 : j < n
    · exact Or.inr (Or.inr ⟨j, h2, rfl⟩)
    · exact Or.inr (Or.inl (nI_le (by omega) hj))
theorem pk_le {x y : Int32} {A B : Prop} (a b : Nat) (f : a ≤ b → A) (g : b < a → B) (hx : x = nI a := by rfl) (hy : y = nI b := by rfl) (ha : a < 2 ^ 31 := by omega) (hb : b < 2 ^ 31 := by omega) : (x ≤ y → A) ∧ (¬ x ≤ y → B) := by
  subst hx hy
  rw [nI_leI ha hb]
  exact ⟨f, fun z => g (by omega)⟩
theorem pk_lt {x y : Int32} {A B : Prop} (a b : Nat) (f : a < b → A) (g : b ≤ a → B) (hx : x = nI a := by rfl) (hy : y = nI b := by rfl) (ha : a < 2 ^ 31 := by omega) (hb : b < 2 ^ 31 := by omega) : (x < y → A) ∧ (¬ x < y → B) := by
  subst hx hy
  rw [nI_ltI ha hb]
  exact ⟨f, fun z => g (by omega)⟩
theorem pk_eq {x y : Int32} {A B : Prop} (a b : Nat) (f : a = b → A) (g : a ≠ b → B) (hx : x = nI a := by rfl) (hy : y = nI b := by rfl) (ha : a < 2 ^ 31 := by omega) (hb : b < 2 ^ 31 := by omega) : (x = y → A) ∧ (¬ x = y → B) := by
  subst hx hy
  rw [nI_eq ha hb]
  exact ⟨f, g⟩
theorem pk_in {x : Int32} (n N : Nat) (h : n < N) (hx : x = nI n := by rfl) (hN : N < 2 ^ 31 := by omega) : vp_in x N := by
  subst hx
  exact vp_in_nI h hN
theorem pk_cl {x : Int32} (n : Nat) (hx : x = nI n := by rfl) (h : n < 2 ^ 31 := by omega) : x.toNatClampNeg = n := by
  subst hx
  exact nI_clamp h
theorem pk_tn {n : Nat} (h : n < 2 ^ 32) : (nI n).toBitVec.toNat = n := Nat.mod_eq_of_lt h
theorem pk_and (x : Int32) {m : Int32} (k : Nat) (hm : m.toBitVec.toNat = 2 ^ k - 1) : x &&& m = nI (x.toBitVec.toNat % 2 ^ k) := by
  apply Int32.toBitVec_inj.mp
  apply BitVec.eq_of_toNat_eq
  rw [Int32.toBitVec_and, BitVec.toNat_and, hm, Nat.and_two_pow_sub_one_eq_mod]
  show _ = (BitVec.ofNat 32 _).toNat
  rw [BitVec.toNat_ofNat]
  exact (Nat.mod_eq_of_lt (Nat.lt_of_le_of_lt (Nat.mod_le _ _) x.toBitVec.isLt)).symm
theorem pk_andN {n : Nat} (h : n < 2 ^ 32) {m : Int32} (k : Nat) (hm : m.toBitVec.toNat = 2 ^ k - 1) : nI n &&& m = nI (n % 2 ^ k) := by
  rw [pk_and _ k hm, pk_tn h]
theorem pk_andE (x : Int32) {m : Int32} (k : Nat) (hm : m.toBitVec.toNat = 2 ^ k - 1) : ∃ j : Nat, j < 2 ^ k ∧ x &&& m = nI j := ⟨_, Nat.mod_lt _ (Nat.two_pow_pos k), pk_and x k hm⟩
theorem pk_andIn (x : Int32) {m : Int32} (k : Nat) (hm : m.toBitVec.toNat = 2 ^ k - 1) (hk : k ≤ 30) : vp_in (x &&& m) (2 ^ k) := by
  obtain ⟨j, hj, e⟩ := pk_andE x k hm
  rw [e]
  exact vp_in_nI hj (Nat.lt_of_le_of_lt (Nat.pow_le_pow_right (by decide) hk) (by decide))
theorem sb_shr0 (x : Int32) : x >>> ((0 : Int32) &&& 31) = x := by
  rw [show ((0 : Int32) &&& 31) = 0 by decide]
  simp
theorem sb_cl0 : (0 : Int32).toNatClampNeg = 0 := by decide
def bt (x : Int32) (i : Nat) : Bool := x.toBitVec.getLsbD i
theorem b_ext {x y : Int32} (h : ∀ i, i < 32 → bt x i = bt y i) : x = y := Int32.toBitVec_inj.mp (BitVec.eq_of_getLsbD_eq (fun i hi => h i hi))
theorem b_or (x y : Int32) (i : Nat) : bt (x ||| y) i = (bt x i || bt y i) := by unfold bt; rw [Int32.toBitVec_or, BitVec.getLsbD_or]
theorem b_and (x y : Int32) (i : Nat) : bt (x &&& y) i = (bt x i && bt y i) := by unfold bt; rw [Int32.toBitVec_and, BitVec.getLsbD_and]
theorem b_xor (x y : Int32) (i : Nat) : bt (x ^^^ y) i = (bt x i ^^ bt y i) := by unfold bt; rw [Int32.toBitVec_xor, BitVec.getLsbD_xor]
theorem b_big {x : Int32} {i : Nat} (h : 32 ≤ i) : bt x i = false := BitVec.getLsbD_of_ge _ _ h
theorem b_m1 : ∀ i, i < 32 → bt (-1) i = true := by decide +kernel
theorem b_0 (i : Nat) : bt 0 i = false := BitVec.getLsbD_zero
theorem s_l : ∀ n, n < 32 → ((nI n &&& 31).toBitVec.smod 32).toNat = n := by decide +kernel
theorem b_shl (n : Nat) (hn : n < 32) (x : Int32) {i : Nat} (hi : i < 32) : bt (x <<< (nI n &&& 31)) i = (decide (n ≤ i) && bt x (i - n)) := by
  unfold bt
  rw [Int32.toBitVec_shiftLeft]
  show (x.toBitVec <<< ((nI n &&& 31).toBitVec.smod 32).toNat).getLsbD i = _
  rw [s_l n hn, BitVec.getLsbD_shiftLeft]
  rcases Nat.lt_or_ge i n with h | h
  · simp [h, Nat.not_le.mpr h]
  · simp [hi, h, Nat.not_lt.mpr h]
theorem b_sshr (n : Nat) (hn : n < 32) (x : Int32) {i : Nat} (hi : i < 32) : bt (x >>> (nI n &&& 31)) i = if n + i < 32 then bt x (n + i) else bt x 31 := by
  unfold bt
  rw [Int32.toBitVec_shiftRight]
  show (x.toBitVec.sshiftRight ((nI n &&& 31).toBitVec.smod 32).toNat).getLsbD i = _
  rw [s_l n hn, BitVec.getLsbD_sshiftRight, BitVec.msb_eq_getLsbD_last]
  simp [hi]
end
section
/-! ===== bits of a mask ===== -/
theorem mt_b1 : ∀ i, i < 32 → bt 1 i = decide (i = 0) := by decide +kernel
theorem mt_and1 (x : Int32) : x &&& 1 = if bt x 0 = true then 1 else 0 := by
  apply b_ext
  intro i hi
  rw [b_and, mt_b1 i hi]
  by_cases h : i = 0
  · subst h
    cases e : bt x 0
    · decide
    · decide
  · rw [decide_eq_false h, Bool.and_false]
    cases e : bt x 0
    · rw [if_neg (by decide)]
      exact (b_0 i).symm
    · rw [if_pos rfl, mt_b1 i hi, decide_eq_false h]
theorem mt_v (m : Int32) {f : Nat} (hf : f < 32) : (m >>> (nI f &&& 31)) &&& 1 = if bt m f = true then 1 else 0 := by
  rw [mt_and1, b_sshr f hf m (by omega), if_pos (show f + 0 < 32 by omega), Nat.add_zero]
theorem mt_bit (m : Int32) {f : Nat} (hf : f < 32) : ((m >>> (nI f &&& 31)) &&& 1) = 1 ↔ bt m f = true := by
  rw [mt_v m hf]
  cases bt m f <;> decide
theorem mt_bit0 (m : Int32) {f : Nat} (hf : f < 32) : ((m >>> (nI f &&& 31)) &&& 1) = 0 ↔ bt m f = false := by
  rw [mt_v m hf]
  cases bt m f <;> decide
theorem mt_one {f : Nat} (g : Nat) (hf : f < 32) : bt ((1 : Int32) <<< (nI f &&& 31)) g = decide (g = f) := by
  rcases Nat.lt_or_ge g 32 with hg | hg
  · rw [b_shl f hf 1 hg, mt_b1 (g - f) (by omega)]
    by_cases h : g = f
    · subst h
      simp
    · by_cases h2 : f ≤ g
      · rw [decide_eq_true h2, decide_eq_false (show ¬ g - f = 0 by omega), decide_eq_false h]; rfl
      · rw [decide_eq_false h2, decide_eq_false h]; rfl
  · rw [b_big hg, decide_eq_false (by omega)]
theorem mt_lt32 {m : Int32} {g : Nat} (h : bt m g = true) : g < 32 := by
  rcases Nat.lt_or_ge g 32 with z | z
  · exact z
  · rw [b_big z] at h; cases h
theorem mt_sub (m p : Int32) : (m &&& (p ^^^ (-1))) = 0 ↔ ∀ g, bt m g = true → bt p g = true := by
  constructor
  · intro h g hg
    have h1 : bt (m &&& (p ^^^ (-1))) g = false := by rw [h]; exact b_0 g
    rw [b_and, b_xor, b_m1 g (mt_lt32 hg), hg] at h1
    revert h1
    cases bt p g <;> simp
  · intro h
    apply b_ext
    intro i hi
    rw [b_and, b_xor, b_m1 i hi, b_0]
    cases e : bt m i
    · rfl
    · rw [h i e]; rfl
/-- a mask of flows -/
def mt_sm (m : Int32) : Prop := ∀ i, bt m i = true → i < 18
theorem mt_sm0 : mt_sm 0 := fun i h => by rw [b_0] at h; cases h
theorem mt_nt {b : Bool} (h : ¬ b = true) : b = false := by cases b <;> simp_all
theorem mt_tf {b : Bool} (h : b = false) : ¬ b = true := by rw [h]; decide
/-- two masks that differ, the one within the other: a bit -/
theorem mt_dif {a b : Int32} (hs : ∀ g, bt a g = true → bt b g = true) (h : ¬ b = a) : ∃ g, bt b g = true ∧ bt a g = false := by
  by_cases c : ∃ g, bt b g = true ∧ bt a g = false
  · exact c
  · exfalso
    apply h
    apply b_ext
    intro i _
    cases e : bt b i
    · cases e2 : bt a i
      · rfl
      · rw [hs i e2] at e; cases e
    · cases e2 : bt a i
      · exact absurd ⟨i, e, e2⟩ c
      · rfl
/-! ===== counts ===== -/
def mt_cn (p : Nat → Bool) : Nat → Nat
  | 0 => 0
  | n + 1 => mt_cn p n + (if p n = true then 1 else 0)
theorem mt_cn_le (p : Nat → Bool) : ∀ n, mt_cn p n ≤ n
  | 0 => Nat.le_refl 0
  | n + 1 => by
    have h := mt_cn_le p n
    show mt_cn p n + (if p n = true then 1 else 0) ≤ n + 1
    split <;> omega
theorem mt_cn_mono {p q : Nat → Bool} (h : ∀ i, p i = true → q i = true) : ∀ n, mt_cn p n ≤ mt_cn q n
  | 0 => Nat.le_refl 0
  | n + 1 => by
    have hn := mt_cn_mono h n
    show mt_cn p n + (if p n = true then 1 else 0) ≤ mt_cn q n + (if q n = true then 1 else 0)
    by_cases hp : p n = true
    · rw [if_pos hp, if_pos (h n hp)]; omega
    · rw [if_neg hp]; exact Nat.le_trans hn (Nat.le_add_right _ _)
theorem mt_cn_lt {p q : Nat → Bool} (h : ∀ i, p i = true → q i = true) {j : Nat} (hp : p j = false) (hq : q j = true) : ∀ n, j < n → mt_cn p n < mt_cn q n
  | 0, hj => absurd hj (Nat.not_lt_zero j)
  | n + 1, hj => by
    show mt_cn p n + (if p n = true then 1 else 0) < mt_cn q n + (if q n = true then 1 else 0)
    by_cases e : j = n
    · subst e
      have hn := mt_cn_mono h j
      rw [if_neg (mt_tf hp), if_pos hq]; omega
    · have hn := mt_cn_lt h hp hq n (by omega)
      by_cases hp' : p n = true
      · rw [if_pos hp', if_pos (h n hp')]; omega
      · rw [if_neg hp']; exact Nat.lt_of_lt_of_le hn (Nat.le_add_right _ _)
theorem mt_cn_full {p : Nat → Bool} : ∀ n, mt_cn p n = n → ∀ j, j < n → p j = true
  | 0, _, j, hj => absurd hj (Nat.not_lt_zero j)
  | n + 1, h, j, hj => by
    have h1 := mt_cn_le p n
    have h2 : mt_cn p n + (if p n = true then 1 else 0) = n + 1 := h
    by_cases hp : p n = true
    · rw [if_pos hp] at h2
      by_cases e : j = n
      · rw [e]; exact hp
      · exact mt_cn_full n (by omega) j (by omega)
    · rw [if_neg hp] at h2; omega
theorem mt_cn_eq {p q : Nat → Bool} : ∀ n, (∀ i, i < n → p i = q i) → mt_cn p n = mt_cn q n
  | 0, _ => rfl
  | n + 1, h => by
    show mt_cn p n + (if p n = true then 1 else 0) = mt_cn q n + (if q n = true then 1 else 0)
    rw [mt_cn_eq n (fun i hi => h i (by omega)), h n (by omega)]
theorem mt_cn_add {p q : Nat → Bool} {j : Nat} (hp : p j = false) (hq : q j = true) (h : ∀ i, i ≠ j → q i = p i) : ∀ n, j < n → mt_cn q n = mt_cn p n + 1
  | 0, hj => absurd hj (Nat.not_lt_zero j)
  | n + 1, hj => by
    show mt_cn q n + (if q n = true then 1 else 0) = mt_cn p n + (if p n = true then 1 else 0) + 1
    by_cases e : j = n
    · subst e
      rw [if_neg (mt_tf hp), if_pos hq, mt_cn_eq j (fun i hi => h i (by omega))]
    · rw [mt_cn_add hp hq h n (by omega), h n (fun z => e z.symm)]
      omega
theorem mt_cn0 : ∀ n, mt_cn (fun _ => false) n = 0
  | 0 => rfl
  | n + 1 => by
    show mt_cn (fun _ => false) n + (if false = true then 1 else 0) = 0
    rw [mt_cn0 n, if_neg (by decide)]
theorem mt_cn1 : ∀ n, mt_cn (fun _ => true) n = n
  | 0 => rfl
  | n + 1 => by
    show mt_cn (fun _ => true) n + (if true = true then 1 else 0) = n + 1
    rw [mt_cn1 n, if_pos rfl]
/-! ===== closure of a set ===== -/
def mt_cs (N : Nat → Int32) (b : Int32) : Nat → Int32
  | 0 => b
  | f + 1 => if bt b f = true then mt_cs N b f ||| N f else mt_cs N b f
theorem mt_cs_bt (N : Nat → Int32) (b : Int32) (g : Nat) : ∀ n, bt (mt_cs N b n) g = true ↔ (bt b g = true ∨ ∃ f, f < n ∧ bt b f = true ∧ bt (N f) g = true)
  | 0 => ⟨Or.inl, fun h => h.elim id (fun ⟨_, z, _⟩ => absurd z (Nat.not_lt_zero _))⟩
  | n + 1 => by
    have ih := mt_cs_bt N b g n
    by_cases hb : bt b n = true
    · have e : mt_cs N b (n + 1) = mt_cs N b n ||| N n := if_pos hb
      rw [e, b_or, Bool.or_eq_true, ih]
      constructor
      · rintro ((h | ⟨f, hf, h⟩) | h)
        · exact Or.inl h
        · exact Or.inr ⟨f, by omega, h⟩
        · exact Or.inr ⟨n, by omega, hb, h⟩
      · rintro (h | ⟨f, hf, h1, h2⟩)
        · exact Or.inl (Or.inl h)
        · by_cases ef : f = n
          · subst ef; exact Or.inr h2
          · exact Or.inl (Or.inr ⟨f, by omega, h1, h2⟩)
    · have e : mt_cs N b (n + 1) = mt_cs N b n := if_neg hb
      rw [e, ih]
      constructor
      · rintro (h | ⟨f, hf, h⟩)
        · exact Or.inl h
        · exact Or.inr ⟨f, by omega, h⟩
      · rintro (h | ⟨f, hf, h1, h2⟩)
        · exact Or.inl h
        · by_cases ef : f = n
          · subst ef; exact absurd h1 hb
          · exact Or.inr ⟨f, by omega, h1, h2⟩
/-- the least set over s that is closed under N -/
def mt_lst (N : Nat → Int32) (s R : Int32) : Prop := ∀ T : Nat → Prop, (∀ g, bt s g = true → T g) → (∀ f, f < 18 → T f → ∀ g, bt (N f) g = true → T g) → ∀ g, bt R g = true → T g
def mt_cl (N : Nat → Int32) (R : Int32) : Prop := ∀ f, bt R f = true → ∀ g, bt (N f) g = true → bt R g = true
def mt_in (s R : Int32) : Prop := ∀ g, bt s g = true → bt R g = true
def mt_CS (N : Nat → Int32) (s R : Int32) : Prop := mt_sm R ∧ mt_in s R ∧ mt_cl N R ∧ mt_lst N s R
def mt_CH (N : Nat → Int32) (s : Int32) (i : Nat) (all bef : Int32) : Prop := mt_sm all ∧ mt_in s all ∧ mt_lst N s all ∧ (all = bef → mt_cl N all) ∧ (¬ all = bef → i + 1 ≤ mt_cn (bt all) 18)
theorem mt_CH0 {N : Nat → Int32} {s : Int32} (hs : mt_sm s) : mt_CH N s 0 s 0 := by
  refine ⟨hs, fun g h => h, fun T h _ g hg => h g hg, ?_, ?_⟩
  · intro e f hf
    rw [e, b_0] at hf
    cases hf
  · intro e
    obtain ⟨g, hg, _⟩ := mt_dif (a := 0) (b := s) (fun g h => by rw [b_0] at h; cases h) e
    have := mt_cn_lt (p := fun _ => false) (q := bt s) (fun i h => by cases h) (j := g) rfl hg 18 (hs g hg)
    omega
theorem mt_CHs {N : Nat → Int32} {s all bef : Int32} {i : Nat} (hN : ∀ f, f < 18 → mt_sm (N f)) (h : mt_CH N s i all bef) (hne : ¬ all = bef) : mt_CH N s (i + 1) (mt_cs N all 18) all := by
  obtain ⟨h1, h2, h3, _, h5⟩ := h
  have h5 := h5 hne
  have hs : ∀ g, bt all g = true → bt (mt_cs N all 18) g = true := fun g hg => (mt_cs_bt N all g 18).mpr (Or.inl hg)
  have h1' : mt_sm (mt_cs N all 18) := by
    intro g hg
    rcases (mt_cs_bt N all g 18).mp hg with z | ⟨f, hf, _, z⟩
    · exact h1 g z
    · exact hN f hf g z
  refine ⟨h1', fun g hg => hs g (h2 g hg), ?_, ?_, ?_⟩
  · intro T hT hc g hg
    rcases (mt_cs_bt N all g 18).mp hg with z | ⟨f, hf, zf, z⟩
    · exact h3 T hT hc g z
    · exact hc f hf (h3 T hT hc f zf) g z
  · intro e f hf g hg
    rw [e] at hf
    exact (mt_cs_bt N all g 18).mpr (Or.inr ⟨f, h1 f hf, hf, hg⟩)
  · intro e
    obtain ⟨g, hg, hg0⟩ := mt_dif hs e
    have := mt_cn_lt hs hg0 hg 18 (h1' g hg)
    omega
theorem mt_CHe {N : Nat → Int32} {s all bef : Int32} {i : Nat} (h : mt_CH N s i all bef) (he : all = bef ∨ 18 ≤ i) : mt_CS N s all := by
  obtain ⟨h1, h2, h3, h4, h5⟩ := h
  refine ⟨h1, h2, ?_, h3⟩
  by_cases e : all = bef
  · exact h4 e
  · have a := h5 e
    have b := mt_cn_le (bt all) 18
    rcases he with z | z
    · exact absurd z e
    · omega
/-! ===== Warshall ===== -/
def mt_ws (k : Nat) (W : Nat → Int32) (n : Nat) : Nat → Int32 := fun j => if j < n then (if bt (W j) k = true then W j ||| W k else W j) else W j
theorem mt_ws0 (k : Nat) (W : Nat → Int32) : mt_ws k W 0 = W := funext fun _ => if_neg (Nat.not_lt_zero _)
theorem mt_ors (x : Int32) : x ||| x = x := b_ext fun i _ => by rw [b_or, Bool.or_self]
theorem mt_ws_k (k : Nat) (W : Nat → Int32) (n : Nat) : mt_ws k W n k = W k := by
  unfold mt_ws
  by_cases h : k < n
  · rw [if_pos h]
    by_cases h2 : bt (W k) k = true
    · rw [if_pos h2, mt_ors]
    · rw [if_neg h2]
  · rw [if_neg h]
theorem mt_ws_n (k : Nat) (W : Nat → Int32) (n : Nat) : mt_ws k W n n = W n := if_neg (Nat.lt_irrefl n)
theorem mt_ws_t {k : Nat} {W : Nat → Int32} {n : Nat} (h : bt (W n) k = true) : upd (mt_ws k W n) n (W n ||| W k) = mt_ws k W (n + 1) := by
  funext j
  unfold upd mt_ws
  by_cases e : j = n
  · subst e
    rw [if_pos rfl, if_pos (Nat.lt_succ_self j), if_pos h]
  · rw [if_neg e]
    by_cases l : j < n
    · rw [if_pos l, if_pos (show j < n + 1 by omega)]
    · rw [if_neg l, if_neg (show ¬ j < n + 1 by omega)]
theorem mt_ws_f {k : Nat} {W : Nat → Int32} {n : Nat} (h : ¬ bt (W n) k = true) : mt_ws k W n = mt_ws k W (n + 1) := by
  funext j
  unfold mt_ws
  by_cases e : j = n
  · subst e
    rw [if_neg (Nat.lt_irrefl j), if_pos (Nat.lt_succ_self j), if_neg h]
  · by_cases l : j < n
    · rw [if_pos l, if_pos (show j < n + 1 by omega)]
    · rw [if_neg l, if_neg (show ¬ j < n + 1 by omega)]
theorem mt_ws_bt {k : Nat} {W : Nat → Int32} {f g : Nat} (hf : f < 18) : bt (mt_ws k W 18 f) g = true ↔ (bt (W f) g = true ∨ (bt (W f) k = true ∧ bt (W k) g = true)) := by
  unfold mt_ws
  rw [if_pos hf]
  by_cases h : bt (W f) k = true
  · rw [if_pos h, b_or, Bool.or_eq_true]
    exact ⟨fun z => z.imp id (fun z => ⟨h, z⟩), fun z => z.imp id (fun z => z.2)⟩
  · rw [if_neg h]
    exact ⟨Or.inl, fun z => z.elim id (fun z => absurd z.1 h)⟩
/-- after the pivots below k -/
def mt_WI (N : Nat → Int32) (k : Nat) (W : Nat → Int32) : Prop := ∀ f, f < 18 → mt_sm (W f) ∧ mt_in (N f) (W f) ∧ mt_lst N (N f) (W f) ∧ ∀ p, p < k → bt (W f) p = true → mt_in (W p) (W f)
def mt_WS (N : Nat → Int32) (W : Nat → Int32) : Prop := ∀ f, f < 18 → mt_sm (W f) ∧ mt_in (N f) (W f) ∧ mt_lst N (N f) (W f) ∧ ∀ p, bt (W f) p = true → mt_in (W p) (W f)
theorem mt_WI0 {N W : Nat → Int32} (hN : ∀ f, f < 18 → mt_sm (N f)) (h : ∀ f, f < 18 → W f = N f) : mt_WI N 0 W := by
  intro f hf
  rw [h f hf]
  exact ⟨hN f hf, fun g hg => hg, fun T hT _ g hg => hT g hg, fun p hp => absurd hp (Nat.not_lt_zero p)⟩
theorem mt_WIs {N W : Nat → Int32} {k : Nat} (hk : k < 18) (h : mt_WI N k W) : mt_WI N (k + 1) (mt_ws k W 18) := by
  intro f hf
  obtain ⟨f1, f2, f3, f4⟩ := h f hf
  obtain ⟨k1, k2, k3, k4⟩ := h k hk
  refine ⟨?_, ?_, ?_, ?_⟩
  · intro g hg
    rcases (mt_ws_bt hf).mp hg with z | ⟨_, z⟩
    · exact f1 g z
    · exact k1 g z
  · intro g hg
    exact (mt_ws_bt hf).mpr (Or.inl (f2 g hg))
  · intro T hT hc g hg
    rcases (mt_ws_bt hf).mp hg with z | ⟨zk, z⟩
    · exact f3 T hT hc g z
    · have tk : T k := f3 T hT hc k zk
      exact k3 T (hc k hk tk) hc g z
  · intro p hp hb g hg
    have hp18 : p < 18 := by omega
    rw [mt_ws_bt hp18] at hg
    rw [mt_ws_bt hf] at hb ⊢
    by_cases ep : p = k
    · subst ep
      have hk' : bt (W f) p = true := hb.elim id (fun z => z.1)
      exact Or.inr ⟨hk', hg.elim id (fun z => z.2)⟩
    · rcases hb with hb | ⟨hb1, hb2⟩
      · have q := f4 p (by omega) hb
        rcases hg with hg | ⟨hg1, hg2⟩
        · exact Or.inl (q g hg)
        · exact Or.inr ⟨q k hg1, hg2⟩
      · rcases hg with hg | ⟨hg1, hg2⟩
        · exact Or.inr ⟨hb1, k4 p (by omega) hb2 g hg⟩
        · exact Or.inr ⟨hb1, hg2⟩
theorem mt_WIe {N W : Nat → Int32} (h : mt_WI N 18 W) : mt_WS N W := by
  intro f hf
  obtain ⟨f1, f2, f3, f4⟩ := h f hf
  exact ⟨f1, f2, f3, fun p hp => f4 p (f1 p hp) hp⟩
/-! ===== the two against each other ===== -/
theorem mt_eqm {a b : Int32} (h1 : mt_in a b) (h2 : mt_in b a) : a = b := b_ext fun i _ => by
  cases e : bt a i
  · cases e2 : bt b i
    · rfl
    · rw [h2 i e2] at e; cases e
  · rw [h1 i e]
theorem mt_needs {N W : Nat → Int32} {a : Nat} {R : Int32} (ha : a < 18) (hW : mt_WS N W) (hR : mt_CS N (N a) R) : W a = R := by
  obtain ⟨a1, a2, a3, a4⟩ := hW a ha
  obtain ⟨r1, r2, r3, r4⟩ := hR
  refine mt_eqm ?_ ?_
  · exact a3 (fun g => bt R g = true) r2 (fun f _ hf g hg => r3 f hf g hg)
  · exact r4 (fun g => bt (W a) g = true) a2 (fun f hf zf g hg => a4 f zf g ((hW f hf).2.1 g hg))
theorem mt_upd_ne {N : Nat → Int32} {x : Nat} {s : Int32} {f : Nat} (h : ¬ f = x) : upd N x s f = N f := if_neg h
theorem mt_upd_eq {N : Nat → Int32} {x : Nat} {s : Int32} : upd N x s x = s := if_pos rfl
/-- flow x in the closure: the new definitions run in a circle -/
theorem mt_circ {N W : Nat → Int32} {x : Nat} {s R : Int32} (hx : x < 18) (hW : mt_WS (upd N x s) W) (hR : mt_CS N s R) (hb : bt R x = true) : ∃ f, f < 18 ∧ bt (W f) f = true := by
  by_cases c : bt (W x) x = true
  · exact ⟨x, hx, c⟩
  · exfalso
    obtain ⟨a1, a2, a3, a4⟩ := hW x hx
    rw [mt_upd_eq] at a2
    refine c (hR.2.2.2 (fun g => bt (W x) g = true) a2 ?_ x hb)
    intro f hf zf g hg
    refine a4 f zf g ((hW f hf).2.1 g ?_)
    rw [mt_upd_ne (fun e => c (by rw [e] at zf; exact zf))]
    exact hg
/-- else a new rank -/
theorem mt_rank {N : Nat → Int32} {x : Nat} {s R : Int32} {r : Nat → Nat} (hr : ∀ f, f < 18 → ∀ g, bt (N f) g = true → r g < r f) (hb : ∀ f, f < 18 → r f < 18) (hN : ∀ f, f < 18 → mt_sm (N f)) (hR : mt_CS N s R) (hx : bt R x = false) : ∃ q : Nat → Nat, ∀ f, f < 18 → ∀ g, bt (upd N x s f) g = true → q g < q f := by
  refine ⟨fun f => if bt R f = true then r f else r f + 18, ?_⟩
  obtain ⟨r1, r2, r3, _⟩ := hR
  intro f hf g hg
  show (if bt R g = true then r g else r g + 18) < (if bt R f = true then r f else r f + 18)
  by_cases e : f = x
  · subst e
    rw [mt_upd_eq] at hg
    rw [if_pos (r2 g hg), if_neg (mt_tf hx)]
    have := hb g (r1 g (r2 g hg))
    omega
  · rw [mt_upd_ne e] at hg
    have := hr f hf g hg
    by_cases c : bt R f = true
    · rw [if_pos c, if_pos (r3 f c g hg)]
      exact this
    · rw [if_neg c]
      split <;> omega
theorem mt_nocirc {N W : Nat → Int32} {q : Nat → Nat} (hq : ∀ f, f < 18 → ∀ g, bt (N f) g = true → q g < q f) (hW : mt_WS N W) : ∀ f, f < 18 → bt (W f) f = false := by
  intro f hf
  apply mt_nt
  intro c
  have := (hW f hf).2.2.1 (fun g => q g < q f) (fun g hg => hq f hf g hg) (fun h hh th g hg => Nat.lt_trans (hq h hh g hg) th) f c
  exact Nat.lt_irrefl _ this
theorem mt_same {N W : Nat → Int32} {x : Nat} {s R : Int32} (hx : x < 18) (hW : mt_WS (upd N x s) W) (hR : mt_CS N s R) (hb : bt R x = false) (hc : bt (W x) x = false) : W x = R := by
  obtain ⟨a1, a2, a3, a4⟩ := hW x hx
  obtain ⟨r1, r2, r3, r4⟩ := hR
  rw [mt_upd_eq] at a2 a3
  refine mt_eqm ?_ ?_
  · refine a3 (fun g => bt R g = true) r2 (fun f _ hf g hg => ?_)
    by_cases e : f = x
    · subst e; exact absurd hf (mt_tf hb)
    · rw [mt_upd_ne e] at hg
      exact r3 f hf g hg
  · refine r4 (fun g => bt (W x) g = true) a2 (fun f hf zf g hg => ?_)
    have e : ¬ f = x := fun e => by subst e; exact mt_tf hc zf
    refine a4 f zf g ((hW f hf).2.1 g ?_)
    rw [mt_upd_ne e]
    exact hg
end
section
/-! ===== kinds, operands ===== -/
def mt_K (k : Int32) : Prop := k = 0 ∨ k = 1 ∨ k = 2 ∨ k = 3 ∨ k = 4 ∨ k = 5 ∨ k = 6 ∨ k = 7 ∨ k = 8
theorem mt_Kof {k : Int32} (h0 : ¬ k < 0) (h8 : k ≤ 8) : mt_K k := by
  obtain ⟨j, hj, rfl⟩ := nI_of2 (M := 8) (n := 8) (by decide) h0 h8
  unfold mt_K
  rcases (by omega : j = 0 ∨ j = 1 ∨ j = 2 ∨ j = 3 ∨ j = 4 ∨ j = 5 ∨ j = 6 ∨ j = 7 ∨ j = 8) with rfl | rfl | rfl | rfl | rfl | rfl | rfl | rfl | rfl <;> decide
def mt_oa (k p : Int32) : Int32 := if k < 2 then 0 else p &&& 31
def mt_ob (k p : Int32) : Int32 := if k < 2 then 0 else if 6 < k then 0 else (p >>> ((5 : Int32) &&& 31)) &&& 31
def mt_os (k p : Int32) : Int32 := if k = 6 then (p >>> ((10 : Int32) &&& 31)) &&& 31 else if k = 8 then (p >>> ((10 : Int32) &&& 31)) &&& 31 else 0
def mt_m1 (x : Int32) : Int32 := (1 : Int32) <<< (x &&& 31)
def mt_dm (k a b s : Int32) : Int32 := if k < 2 then 0 else if k = 7 then 0 else if k = 8 then mt_m1 a ||| mt_m1 s else if k = 6 then (mt_m1 a ||| mt_m1 b) ||| mt_m1 s else mt_m1 a ||| mt_m1 b
theorem mt_oaL {k p : Int32} (h : k < 2) : mt_oa k p = 0 := if_pos h
theorem mt_oaN {k p : Int32} (h : ¬ k < 2) : mt_oa k p = p &&& 31 := if_neg h
theorem mt_obL {k p : Int32} (h : k < 2) : mt_ob k p = 0 := if_pos h
theorem mt_obH {k p : Int32} (h2 : ¬ k < 2) (h : 6 < k) : mt_ob k p = 0 := (if_neg h2).trans (if_pos h)
theorem mt_obN {k p : Int32} (h : ¬ k < 2) (h6 : ¬ 6 < k) : mt_ob k p = (p >>> ((5 : Int32) &&& 31)) &&& 31 := (if_neg h).trans (if_neg h6)
theorem mt_osN {k p : Int32} (h6 : ¬ k = 6) (h8 : ¬ k = 8) : mt_os k p = 0 := (if_neg h6).trans (if_neg h8)
theorem mt_osY {k p : Int32} (h : k = 6 ∨ k = 8) : mt_os k p = (p >>> ((10 : Int32) &&& 31)) &&& 31 := by
  rcases h with rfl | rfl
  · exact if_pos rfl
  · exact (if_neg (by decide)).trans (if_pos rfl)
theorem mt_dmL {k a b s : Int32} (h : k < 2) : mt_dm k a b s = 0 := if_pos h
theorem mt_dm7 {a b s : Int32} : mt_dm 7 a b s = 0 := (if_neg (by decide)).trans (if_pos rfl)
theorem mt_dm8 {a b s : Int32} : mt_dm 8 a b s = mt_m1 a ||| mt_m1 s := (if_neg (by decide)).trans ((if_neg (by decide)).trans (if_pos rfl))
theorem mt_dm6 {a b s : Int32} : mt_dm 6 a b s = (mt_m1 a ||| mt_m1 b) ||| mt_m1 s := (if_neg (by decide)).trans ((if_neg (by decide)).trans ((if_neg (by decide)).trans (if_pos rfl)))
theorem mt_dmM {k a b s : Int32} (h2 : ¬ k < 2) (h5 : ¬ 5 < k) : mt_dm k a b s = mt_m1 a ||| mt_m1 b := by
  unfold mt_dm
  rw [if_neg h2, if_neg (fun e => h5 (by rw [e]; decide)), if_neg (fun e => h5 (by rw [e]; decide)), if_neg (fun e => h5 (by rw [e]; decide))]
theorem mt_dmr {k p : Int32} (hk : mt_K k) : mt_dm k (mt_oa k p) (mt_ob k p) (mt_os k p) = mt_dm k (p &&& 31) ((p >>> ((5 : Int32) &&& 31)) &&& 31) ((p >>> ((10 : Int32) &&& 31)) &&& 31) := by
  rcases hk with rfl | rfl | rfl | rfl | rfl | rfl | rfl | rfl | rfl
  · rw [mt_dmL (by decide), mt_dmL (by decide)]
  · rw [mt_dmL (by decide), mt_dmL (by decide)]
  · rw [mt_dmM (by decide) (by decide), mt_dmM (by decide) (by decide), mt_oaN (by decide), mt_obN (by decide) (by decide)]
  · rw [mt_dmM (by decide) (by decide), mt_dmM (by decide) (by decide), mt_oaN (by decide), mt_obN (by decide) (by decide)]
  · rw [mt_dmM (by decide) (by decide), mt_dmM (by decide) (by decide), mt_oaN (by decide), mt_obN (by decide) (by decide)]
  · rw [mt_dmM (by decide) (by decide), mt_dmM (by decide) (by decide), mt_oaN (by decide), mt_obN (by decide) (by decide)]
  · rw [mt_dm6, mt_dm6, mt_oaN (by decide), mt_obN (by decide) (by decide), mt_osY (Or.inl rfl)]
  · rw [mt_dm7, mt_dm7]
  · rw [mt_dm8, mt_dm8, mt_oaN (by decide), mt_osY (Or.inr rfl)]
theorem mt_ix {x : Int32} (h : vp_in x 18) : x.toNatClampNeg < 18 ∧ x = nI x.toNatClampNeg := by
  obtain ⟨j, hj, rfl⟩ := vp_in_of h (by decide)
  rw [nI_clamp (by omega)]
  exact ⟨hj, rfl⟩
theorem mt_m1_bt {x : Int32} (h : vp_in x 18) (g : Nat) : bt (mt_m1 x) g = decide (g = x.toNatClampNeg) := by
  obtain ⟨j, hj, rfl⟩ := vp_in_of h (by decide)
  rw [nI_clamp (by omega)]
  exact mt_one g (by omega)
theorem mt_m1s {x : Int32} (h : vp_in x 18) : bt (mt_m1 x) x.toNatClampNeg = true := by rw [mt_m1_bt h]; exact decide_eq_true rfl
theorem mt_smm {x : Int32} (h : vp_in x 18) : mt_sm (mt_m1 x) := fun i hi => by
  rw [mt_m1_bt h] at hi
  rw [of_decide_eq_true hi]
  exact (mt_ix h).1
theorem mt_orl {a b : Int32} {g : Nat} (h : bt a g = true) : bt (a ||| b) g = true := by rw [b_or, h]; rfl
theorem mt_orr {a b : Int32} {g : Nat} (h : bt b g = true) : bt (a ||| b) g = true := by rw [b_or, h, Bool.or_true]
theorem mt_smor {a b : Int32} (ha : mt_sm a) (hb : mt_sm b) : mt_sm (a ||| b) := fun i hi => by
  rw [b_or, Bool.or_eq_true] at hi
  exact hi.elim (ha i) (hb i)
theorem mt_dm_sm {k a b s : Int32} (hA : ¬ k < 2 → vp_in a 18) (hB : ¬ k < 2 → ¬ 6 < k → vp_in b 18) (hS : k = 6 ∨ k = 8 → vp_in s 18) (hk : mt_K k) : mt_sm (mt_dm k a b s) := by
  rcases hk with rfl | rfl | rfl | rfl | rfl | rfl | rfl | rfl | rfl
  · rw [mt_dmL (by decide)]; exact mt_sm0
  · rw [mt_dmL (by decide)]; exact mt_sm0
  · rw [mt_dmM (by decide) (by decide)]; exact mt_smor (mt_smm (hA (by decide))) (mt_smm (hB (by decide) (by decide)))
  · rw [mt_dmM (by decide) (by decide)]; exact mt_smor (mt_smm (hA (by decide))) (mt_smm (hB (by decide) (by decide)))
  · rw [mt_dmM (by decide) (by decide)]; exact mt_smor (mt_smm (hA (by decide))) (mt_smm (hB (by decide) (by decide)))
  · rw [mt_dmM (by decide) (by decide)]; exact mt_smor (mt_smm (hA (by decide))) (mt_smm (hB (by decide) (by decide)))
  · rw [mt_dm6]; exact mt_smor (mt_smor (mt_smm (hA (by decide))) (mt_smm (hB (by decide) (by decide)))) (mt_smm (hS (Or.inl rfl)))
  · rw [mt_dm7]; exact mt_sm0
  · rw [mt_dm8]; exact mt_smor (mt_smm (hA (by decide))) (mt_smm (hS (Or.inr rfl)))
theorem mt_dmA {k a b s : Int32} (h2 : ¬ k < 2) (h7 : ¬ k = 7) (ha : vp_in a 18) : bt (mt_dm k a b s) a.toNatClampNeg = true := by
  unfold mt_dm
  rw [if_neg h2, if_neg h7]
  split
  · exact mt_orl (mt_m1s ha)
  · split
    · exact mt_orl (mt_orl (mt_m1s ha))
    · exact mt_orl (mt_m1s ha)
theorem mt_dmB {k a b s : Int32} (h2 : ¬ k < 2) (h6 : ¬ 6 < k) (hb : vp_in b 18) : bt (mt_dm k a b s) b.toNatClampNeg = true := by
  unfold mt_dm
  rw [if_neg h2, if_neg (fun e => h6 (by rw [e]; decide)), if_neg (fun e => h6 (by rw [e]; decide))]
  split
  · exact mt_orl (mt_orr (mt_m1s hb))
  · exact mt_orr (mt_m1s hb)
theorem mt_dmS {k a b s : Int32} (h : k = 6 ∨ k = 8) (hs : vp_in s 18) : bt (mt_dm k a b s) s.toNatClampNeg = true := by
  rcases h with rfl | rfl
  · rw [mt_dm6]; exact mt_orr (mt_m1s hs)
  · rw [mt_dm8]; exact mt_orr (mt_m1s hs)
/-! ===== the value of a flow ===== -/
def mt_ev (k c : Int32) (inp : Nat → Int32) (m a b s : Int32) : Int32 :=
  if k = 0 then inp (c &&& 3).toNatClampNeg else if k = 1 then c else if k = 2 then a + b else if k = 3 then a - b else if k = 4 then a * b else if k = 5 then (if b ≤ a then 0 else 1) else if k = 6 then (if s = 0 then b else a) else if k = 7 then m else (if s = 0 then m else a)
section
variable {c m a b s : Int32} {inp : Nat → Int32}
theorem mt_e0 : mt_ev 0 c inp m a b s = inp (c &&& 3).toNatClampNeg := if_pos rfl
theorem mt_e1 : mt_ev 1 c inp m a b s = c := by unfold mt_ev; rw [if_neg (by decide), if_pos rfl]
theorem mt_e2 : mt_ev 2 c inp m a b s = a + b := by unfold mt_ev; rw [if_neg (by decide), if_neg (by decide), if_pos rfl]
theorem mt_e3 : mt_ev 3 c inp m a b s = a - b := by unfold mt_ev; rw [if_neg (by decide), if_neg (by decide), if_neg (by decide), if_pos rfl]
theorem mt_e4 : mt_ev 4 c inp m a b s = a * b := by unfold mt_ev; rw [if_neg (by decide), if_neg (by decide), if_neg (by decide), if_neg (by decide), if_pos rfl]
theorem mt_e5 : mt_ev 5 c inp m a b s = if b ≤ a then 0 else 1 := by unfold mt_ev; rw [if_neg (by decide), if_neg (by decide), if_neg (by decide), if_neg (by decide), if_neg (by decide), if_pos rfl]
theorem mt_e6 : mt_ev 6 c inp m a b s = if s = 0 then b else a := by unfold mt_ev; rw [if_neg (by decide), if_neg (by decide), if_neg (by decide), if_neg (by decide), if_neg (by decide), if_neg (by decide), if_pos rfl]
theorem mt_e7 : mt_ev 7 c inp m a b s = m := by unfold mt_ev; rw [if_neg (by decide), if_neg (by decide), if_neg (by decide), if_neg (by decide), if_neg (by decide), if_neg (by decide), if_neg (by decide), if_pos rfl]
theorem mt_e8 : mt_ev 8 c inp m a b s = if s = 0 then m else a := by unfold mt_ev; rw [if_neg (by decide), if_neg (by decide), if_neg (by decide), if_neg (by decide), if_neg (by decide), if_neg (by decide), if_neg (by decide), if_neg (by decide)]
end
theorem mt_evc {k c c' m m' a a' b b' s s' : Int32} {inp : Nat → Int32} (hk : mt_K k) (hc : k < 2 → c = c') (hm : 6 < k → m = m') (hA : ¬ k < 2 → ¬ k = 7 → a = a') (hB : ¬ k < 2 → ¬ 6 < k → b = b') (hS : k = 6 ∨ k = 8 → s = s') : mt_ev k c inp m a b s = mt_ev k c' inp m' a' b' s' := by
  rcases hk with rfl | rfl | rfl | rfl | rfl | rfl | rfl | rfl | rfl
  · rw [mt_e0, mt_e0, hc (by decide)]
  · rw [mt_e1, mt_e1, hc (by decide)]
  · rw [mt_e2, mt_e2, hA (by decide) (by decide), hB (by decide) (by decide)]
  · rw [mt_e3, mt_e3, hA (by decide) (by decide), hB (by decide) (by decide)]
  · rw [mt_e4, mt_e4, hA (by decide) (by decide), hB (by decide) (by decide)]
  · rw [mt_e5, mt_e5, hA (by decide) (by decide), hB (by decide) (by decide)]
  · rw [mt_e6, mt_e6, hA (by decide) (by decide), hB (by decide) (by decide), hS (Or.inl rfl)]
  · rw [mt_e7, mt_e7, hm (by decide)]
  · rw [mt_e8, mt_e8, hm (by decide), hA (by decide) (by decide), hS (Or.inr rfl)]
/-- a flow's definition is sound, and d is the mask of what it needs at once -/
def mt_sx1 (k a b s d : Int32) : Prop := mt_K k ∧ vp_in a 18 ∧ vp_in b 18 ∧ vp_in s 18 ∧ d = mt_dm k a b s
def mt_sx (xk xa xb xs xd : Nat → Int32) : Prop := ∀ f, f < 18 → mt_sx1 (xk f) (xa f) (xb f) (xs f) (xd f)
def mt_sy (xk xa xb xs yp : Nat → Int32) : Prop := ∀ f, f < 18 → xa f = mt_oa (xk f) (yp f) ∧ xb f = mt_ob (xk f) (yp f) ∧ xs f = mt_os (xk f) (yp f)
def mt_evf (xk xa xb xs xc inp mv V : Nat → Int32) (f : Nat) : Int32 := mt_ev (xk f) (xc f) inp (mv f) (V (xa f).toNatClampNeg) (V (xb f).toNatClampNeg) (V (xs f).toNatClampNeg)
def mt_sol (xk xa xb xs xc inp mv V : Nat → Int32) : Prop := ∀ f, f < 18 → V f = mt_evf xk xa xb xs xc inp mv V f
theorem mt_sx_sm {xk xa xb xs xd : Nat → Int32} (h : mt_sx xk xa xb xs xd) : ∀ f, f < 18 → mt_sm (xd f) := by
  intro f hf
  obtain ⟨h1, h2, h3, h4, h5⟩ := h f hf
  rw [h5]
  exact mt_dm_sm (fun _ => h2) (fun _ _ => h3) (fun _ => h4) h1
theorem mt_evfc {xk xa xb xs xd xc inp mv V V' : Nat → Int32} {f : Nat} (h : mt_sx xk xa xb xs xd) (hf : f < 18) (hV : ∀ g, g < 18 → bt (xd f) g = true → V g = V' g) : mt_evf xk xa xb xs xc inp mv V f = mt_evf xk xa xb xs xc inp mv V' f := by
  obtain ⟨h1, h2, h3, h4, h5⟩ := h f hf
  rw [h5] at hV
  refine mt_evc h1 (fun _ => rfl) (fun _ => rfl) ?_ ?_ ?_
  · intro z z7
    exact hV _ (mt_ix h2).1 (mt_dmA z z7 h2)
  · intro z z6
    exact hV _ (mt_ix h3).1 (mt_dmB z z6 h3)
  · intro z
    exact hV _ (mt_ix h4).1 (mt_dmS z h4)
/-! ===== the first n entries copied ===== -/
def mt_cp (n : Nat) (w l : Nat → Int32) : Nat → Int32 := fun j => if j < n then w j else l j
theorem mt_cp0 {w l : Nat → Int32} : mt_cp 0 w l = l := funext fun _ => if_neg (Nat.not_lt_zero _)
theorem mt_cp_lt {n j : Nat} {w l : Nat → Int32} (h : j < n) : mt_cp n w l j = w j := if_pos h
theorem mt_cp_ge {n j : Nat} {w l : Nat → Int32} (h : ¬ j < n) : mt_cp n w l j = l j := if_neg h
theorem mt_cps {n : Nat} {w l : Nat → Int32} {x : Int32} (h : x = w n) : upd (mt_cp n w l) n x = mt_cp (n + 1) w l := by
  funext j
  unfold upd mt_cp
  by_cases e : j = n
  · subst e
    rw [if_pos rfl, if_pos (Nat.lt_succ_self j), h]
  · rw [if_neg e]
    by_cases c : j < n
    · rw [if_pos c, if_pos (show j < n + 1 by omega)]
    · rw [if_neg c, if_neg (show ¬ j < n + 1 by omega)]
theorem mt_cpk {n : Nat} {w l : Nat → Int32} (h : w n = l n) : mt_cp n w l = mt_cp (n + 1) w l := by
  funext j
  unfold mt_cp
  by_cases e : j = n
  · subst e
    rw [if_neg (Nat.lt_irrefl j), if_pos (Nat.lt_succ_self j), h]
  · by_cases c : j < n
    · rw [if_pos c, if_pos (show j < n + 1 by omega)]
    · rw [if_neg c, if_neg (show ¬ j < n + 1 by omega)]
theorem mt_cpc {n : Nat} {w w' l : Nat → Int32} (h : ∀ j, j < n → w j = w' j) : mt_cp n w l = mt_cp n w' l := by
  funext j
  unfold mt_cp
  by_cases c : j < n
  · rw [if_pos c, if_pos c, h j c]
  · rw [if_neg c, if_neg c]
theorem mt_uu {f : Nat → Int32} {k : Nat} {x y : Int32} (h : y = f k) : upd (upd f k x) k y = f := by
  funext j
  unfold upd
  by_cases e : j = k
  · rw [if_pos e, h, e]
  · rw [if_neg e, if_neg e]
theorem mt_bo1 : vp_nar .boolean 1 = 1 := rfl
theorem mt_bo0 : vp_nar .boolean 0 = 0 := rfl
/-! ===== the order ===== -/
def mt_PL (N : Nat → Int32) (i : Nat) (p : Int32) (xo : Nat → Int32) : Prop :=
  mt_sm p ∧ mt_cn (bt p) 18 = i ∧ (∀ j, j < i → ∃ g, g < 18 ∧ xo j = nI g ∧ bt p g = true) ∧ (∀ g, bt p g = true → ∃ j, j < i ∧ xo j = nI g) ∧ (∀ j j', j < i → j' < i → xo j = xo j' → j = j') ∧ (∀ j, j < i → ∀ g, bt (N (xo j).toNatClampNeg) g = true → ∃ j', j' < j ∧ xo j' = nI g)
def mt_rdy (N : Nat → Int32) (p : Int32) (f : Nat) : Prop := bt p f = false ∧ ∀ g, bt (N f) g = true → bt p g = true
theorem mt_PL0 {N xo : Nat → Int32} : mt_PL N 0 0 xo := by
  refine ⟨mt_sm0, ?_, fun j h => absurd h (Nat.not_lt_zero j), (fun g h => by rw [b_0] at h; cases h), fun j _ h => absurd h (Nat.not_lt_zero j), fun j h => absurd h (Nat.not_lt_zero j)⟩
  rw [mt_cn_eq (q := fun _ => false) 18 (fun i _ => b_0 i), mt_cn0]
theorem mt_PLs {N xo : Nat → Int32} {i f : Nat} {p : Int32} (hf : f < 18) (h : mt_PL N i p xo) (hr : mt_rdy N p f) : mt_PL N (i + 1) (p ||| ((1 : Int32) <<< (nI f &&& 31))) (upd xo i (nI f)) := by
  obtain ⟨h1, h2, h3, h4, h5, h6⟩ := h
  obtain ⟨r1, r2⟩ := hr
  have hb : ∀ g, bt (p ||| ((1 : Int32) <<< (nI f &&& 31))) g = true ↔ (bt p g = true ∨ g = f) := by
    intro g
    rw [b_or, mt_one g (by omega), Bool.or_eq_true, decide_eq_true_eq]
  have hne : ∀ j, j < i → ¬ xo j = nI f := by
    intro j hj e
    obtain ⟨g, hg, e2, hb2⟩ := h3 j hj
    rw [e, nI_eq (by omega) (by omega)] at e2
    subst e2
    rw [r1] at hb2
    cases hb2
  refine ⟨?_, ?_, ?_, ?_, ?_, ?_⟩
  · intro g hg
    rcases (hb g).mp hg with z | z
    · exact h1 g z
    · omega
  · rw [mt_cn_add (p := bt p) (j := f) r1 ((hb f).mpr (Or.inr rfl)) ?_ 18 hf, h2]
    intro g hg
    cases e : bt p g
    · apply mt_nt
      intro z
      rcases (hb g).mp z with z | z
      · rw [e] at z; cases z
      · exact hg z
    · exact (hb g).mpr (Or.inl e)
  · intro j hj
    by_cases e : j = i
    · subst e
      exact ⟨f, hf, mt_upd_eq, (hb f).mpr (Or.inr rfl)⟩
    · obtain ⟨g, hg, e2, hb2⟩ := h3 j (by omega)
      exact ⟨g, hg, (mt_upd_ne e).trans e2, (hb g).mpr (Or.inl hb2)⟩
  · intro g hg
    rcases (hb g).mp hg with z | z
    · obtain ⟨j, hj, e⟩ := h4 g z
      exact ⟨j, by omega, (mt_upd_ne (by omega)).trans e⟩
    · exact ⟨i, by omega, by rw [mt_upd_eq, z]⟩
  · intro j j' hj hj' e
    by_cases c : j = i
    · by_cases c' : j' = i
      · rw [c, c']
      · rw [c, mt_upd_eq, mt_upd_ne c'] at e
        exact absurd e.symm (hne j' (by omega))
    · by_cases c' : j' = i
      · rw [c', mt_upd_eq, mt_upd_ne c] at e
        exact absurd e (hne j (by omega))
      · rw [mt_upd_ne c, mt_upd_ne c'] at e
        exact h5 j j' (by omega) (by omega) e
  · intro j hj g hg
    by_cases c : j = i
    · subst c
      rw [mt_upd_eq, nI_clamp (by omega)] at hg
      obtain ⟨j', hj', e⟩ := h4 g (r2 g hg)
      exact ⟨j', hj', (mt_upd_ne (by omega)).trans e⟩
    · rw [mt_upd_ne c] at hg
      obtain ⟨j', hj', e⟩ := h6 j (by omega) g hg
      exact ⟨j', hj', (mt_upd_ne (by omega)).trans e⟩
theorem mt_PLx {N xo : Nat → Int32} {i : Nat} {p : Int32} (hi : i < 18) (h : mt_PL N i p xo) (hN : ∀ f, f < 18 → mt_sm (N f)) {q : Nat → Nat} (hq : ∀ f, f < 18 → ∀ g, bt (N f) g = true → q g < q f) : ∃ f, f < 18 ∧ mt_rdy N p f := by
  have key : ∀ m f, f < 18 → q f < m → bt p f = false → ∃ f, f < 18 ∧ mt_rdy N p f := by
    intro m
    induction m with
    | zero => intro f _ h; omega
    | succ m ih =>
      intro f hf hm hp
      by_cases c : ∀ g, bt (N f) g = true → bt p g = true
      · exact ⟨f, hf, hp, c⟩
      · by_cases c2 : ∃ g, bt (N f) g = true ∧ bt p g = false
        · obtain ⟨g, hg, hg2⟩ := c2
          have := hq f hf g hg
          exact ih g (hN f hf g hg) (by omega) hg2
        · exact absurd (fun g hg => by
            cases e : bt p g
            · exact absurd ⟨g, hg, e⟩ c2
            · rfl) c
  by_cases c : ∃ f, f < 18 ∧ bt p f = false
  · obtain ⟨f, hf, hp⟩ := c
    exact key (q f + 1) f hf (by omega) hp
  · exfalso
    have h2 := h.2.1
    rw [mt_cn_eq (q := fun _ => true) 18 (fun g hg => by
      cases e : bt p g
      · exact absurd ⟨g, hg, e⟩ c
      · rfl), mt_cn1] at h2
    omega
def mt_top (N : Nat → Int32) (o : Nat → Nat) : Prop := (∀ i, i < 18 → o i < 18) ∧ (∀ i j, i < 18 → j < 18 → o i = o j → i = j) ∧ (∀ f, f < 18 → ∃ i, i < 18 ∧ o i = f) ∧ (∀ i, i < 18 → ∀ g, bt (N (o i)) g = true → ∃ j, j < i ∧ o j = g)
theorem mt_PLe {N xo : Nat → Int32} {p : Int32} (h : mt_PL N 18 p xo) (hN : ∀ f, f < 18 → mt_sm (N f)) : ∃ o : Nat → Nat, (∀ i, i < 18 → xo i = nI (o i)) ∧ mt_top N o := by
  obtain ⟨h1, h2, h3, h4, h5, h6⟩ := h
  have hx : ∀ i, i < 18 → (xo i).toNatClampNeg < 18 ∧ xo i = nI (xo i).toNatClampNeg := by
    intro i hi
    obtain ⟨g, hg, e, _⟩ := h3 i hi
    rw [e, nI_clamp (by omega)]
    exact ⟨hg, rfl⟩
  refine ⟨fun i => (xo i).toNatClampNeg, fun i hi => (hx i hi).2, fun i hi => (hx i hi).1, ?_, ?_, ?_⟩
  · intro i j hi hj e
    refine h5 i j hi hj ?_
    have e' : (xo i).toNatClampNeg = (xo j).toNatClampNeg := e
    rw [(hx i hi).2, (hx j hj).2, e']
  · intro f hf
    obtain ⟨i, hi, e⟩ := h4 f (mt_cn_full 18 h2 f hf)
    refine ⟨i, hi, ?_⟩
    show (xo i).toNatClampNeg = f
    rw [e, nI_clamp (by omega)]
  · intro i hi g hg
    obtain ⟨j, hj, e⟩ := h6 i hi g hg
    refine ⟨j, hj, ?_⟩
    have g18 : g < 18 := hN _ (hx i hi).1 g hg
    show (xo j).toNatClampNeg = g
    rw [e, nI_clamp (by omega)]
theorem mt_top_rank {N : Nat → Int32} {o : Nat → Nat} (h : mt_top N o) : ∃ r : Nat → Nat, (∀ f, f < 18 → ∀ g, bt (N f) g = true → r g < r f) ∧ (∀ f, f < 18 → r f < 18) := by
  obtain ⟨h1, h2, h3, h4⟩ := h
  have hp : ∃ r : Nat → Nat, ∀ f, f < 18 → r f < 18 ∧ o (r f) = f := by
    refine ⟨fun f => if hf : f < 18 then Classical.choose (h3 f hf) else 0, fun f hf => ?_⟩
    show (dite (f < 18) (fun hf => Classical.choose (h3 f hf)) (fun _ => 0)) < 18 ∧ o (dite (f < 18) (fun hf => Classical.choose (h3 f hf)) (fun _ => 0)) = f
    rw [dif_pos hf]
    exact Classical.choose_spec (h3 f hf)
  obtain ⟨r, hr⟩ := hp
  refine ⟨r, ?_, fun f hf => (hr f hf).1⟩
  intro f hf g hg
  obtain ⟨r1, r2⟩ := hr f hf
  rw [← r2] at hg
  obtain ⟨j, hj, e⟩ := h4 _ r1 g hg
  have hg18 : g < 18 := by rw [← e]; exact h1 j (by omega)
  obtain ⟨s1, s2⟩ := hr g hg18
  have : r g = j := h2 _ _ s1 (by omega) (s2.trans e.symm)
  omega
/-! ===== the compiled form ===== -/
def mt_cmp1 (xk xa xb xs xc : Nat → Int32) (o : Nat → Nat) (xt xf xh : Nat → Int32) (j : Nat) : Prop :=
  (¬ xt (o j) = 0 → ∀ inp mv V, mt_sol xk xa xb xs xc inp mv V → V (o j) = xf (o j)) ∧ (xt (o j) = 0 → ¬ xk (o j) = 1) ∧ ∃ j', j' ≤ j ∧ xh (o j) = nI (o j') ∧ ∀ inp mv V, mt_sol xk xa xb xs xc inp mv V → V (o j') = V (o j)
def mt_cmp (xk xa xb xs xc : Nat → Int32) (o : Nat → Nat) (i : Nat) (xt xf xh : Nat → Int32) : Prop := ∀ j, j < i → mt_cmp1 xk xa xb xs xc o xt xf xh j
section
variable {xk xa xb xs xc xd xt xf xh xt' xf' xh' : Nat → Int32} {o : Nat → Nat}
theorem mt_cmp_keep {j : Nat} (h : mt_cmp1 xk xa xb xs xc o xt xf xh j) (et : xt' (o j) = xt (o j)) (ef : xf' (o j) = xf (o j)) (eh : xh' (o j) = xh (o j)) : mt_cmp1 xk xa xb xs xc o xt' xf' xh' j := by
  unfold mt_cmp1 at h ⊢
  rw [et, ef, eh]
  exact h
/-- what a fold may answer for flow f -/
def mt_fo (xk xa xb xs xc xt xf : Nat → Int32) (f : Nat) (v : Int32) : Prop := (xk f = 1 ∧ v = xc f) ∨ (¬ xk f < 2 ∧ ¬ 6 < xk f ∧ ¬ xt (xa f).toNatClampNeg = 0 ∧ ¬ xt (xb f).toNatClampNeg = 0 ∧ (xk f = 6 → ¬ xt (xs f).toNatClampNeg = 0) ∧ ∀ c inp m, v = mt_ev (xk f) c inp m (xf (xa f).toNatClampNeg) (xf (xb f).toNatClampNeg) (xf (xs f).toNatClampNeg))
theorem mt_fold_sem {i : Nat} {v : Int32} (hs : mt_sx xk xa xb xs xd) (ht : mt_top xd o) (hi : i < 18) (hc : mt_cmp xk xa xb xs xc o i xt xf xh) (h : mt_fo xk xa xb xs xc xt xf (o i) v) : ∀ inp mv V, mt_sol xk xa xb xs xc inp mv V → V (o i) = v := by
  intro inp mv V hV
  obtain ⟨h1, h2, h3, h4⟩ := ht
  have hf := h1 i hi
  obtain ⟨s1, s2, s3, s4, s5⟩ := hs (o i) hf
  rw [hV (o i) hf]
  rcases h with ⟨hk, hv⟩ | ⟨k2, k6, tA, tB, tS, hv⟩
  · unfold mt_evf
    rw [hk, mt_e1, hv]
  · rw [hv (xc (o i)) inp (mv (o i))]
    have key : ∀ g, bt (xd (o i)) g = true → ¬ xt g = 0 → V g = xf g := by
      intro g hg hz
      obtain ⟨j, hj, e⟩ := h4 i hi g hg
      subst e
      exact (hc j hj).1 hz inp mv V hV
    refine mt_evc s1 (fun _ => rfl) (fun _ => rfl) ?_ ?_ ?_
    · intro z z7
      exact key _ (by rw [s5]; exact mt_dmA z z7 s2) tA
    · intro z z6
      exact key _ (by rw [s5]; exact mt_dmB z z6 s3) tB
    · intro z
      have z6 : xk (o i) = 6 := z.elim id (fun z => absurd (by rw [z]; decide) k6)
      exact key _ (by rw [s5]; exact mt_dmS z s4) (tS z6)
/-- defined alike -/
def mt_al (xk xa xb xs xc xt xh : Nat → Int32) (g f : Nat) : Prop := xk g = xk f ∧ xt g = 0 ∧ ((xk f = 0 ∧ (xc g &&& 3) = (xc f &&& 3)) ∨ (¬ xk f = 0 ∧ xh (xa g).toNatClampNeg = xh (xa f).toNatClampNeg ∧ xh (xb g).toNatClampNeg = xh (xb f).toNatClampNeg ∧ (xk f = 6 → xh (xs g).toNatClampNeg = xh (xs f).toNatClampNeg)))
theorem mt_al_sem {i i' : Nat} (hs : mt_sx xk xa xb xs xd) (ht : mt_top xd o) (hi : i < 18) (hi' : i' < i) (hc : mt_cmp xk xa xb xs xc o i xt xf xh) (h7 : ¬ xk (o i) = 7) (h8 : ¬ xk (o i) = 8) (h1 : ¬ xk (o i) = 1) (h : mt_al xk xa xb xs xc xt xh (o i') (o i)) : ∀ inp mv V, mt_sol xk xa xb xs xc inp mv V → V (o i') = V (o i) := by
  intro inp mv V hV
  obtain ⟨t1, t2, t3, t4⟩ := ht
  have hf := t1 i hi
  have hg := t1 i' (by omega)
  obtain ⟨s1, s2, s3, s4, s5⟩ := hs (o i) hf
  obtain ⟨u1, u2, u3, u4, u5⟩ := hs (o i') hg
  obtain ⟨ek, _, h⟩ := h
  rw [hV (o i) hf, hV (o i') hg]
  rcases h with ⟨k0, ec⟩ | ⟨k0, eA, eB, eS⟩
  · unfold mt_evf
    rw [ek, k0, mt_e0, mt_e0, ec]
  · have key : ∀ g g', bt (xd (o i)) g = true → bt (xd (o i')) g' = true → xh g' = xh g → V g' = V g := by
      intro g g' b b' e
      obtain ⟨j, hj, ej⟩ := t4 i hi g b
      obtain ⟨j', hj', ej'⟩ := t4 i' (by omega) g' b'
      subst ej ej'
      obtain ⟨q, hq, eq, sq⟩ := (hc j (by omega)).2.2
      obtain ⟨q', hq', eq', sq'⟩ := (hc j' (by omega)).2.2
      have l1 := t1 q (by omega)
      have l2 := t1 q' (by omega)
      rw [eq, eq', nI_eq (by omega) (by omega)] at e
      rw [← sq inp mv V hV, ← sq' inp mv V hV, e]
    unfold mt_evf
    rw [ek]
    have lo : ¬ xk (o i) < 2 := by
      rcases s1 with z | z | z | z | z | z | z | z | z
      · exact absurd z k0
      · exact absurd z h1
      all_goals (rw [z]; decide)
    have hi6 : ¬ 6 < xk (o i) := by
      rcases s1 with z | z | z | z | z | z | z | z | z
      · rw [z]; decide
      · rw [z]; decide
      · rw [z]; decide
      · rw [z]; decide
      · rw [z]; decide
      · rw [z]; decide
      · rw [z]; decide
      · exact absurd z h7
      · exact absurd z h8
    refine mt_evc s1 (fun z => absurd z lo) (fun z => absurd z hi6) ?_ ?_ ?_
    · intro z z7
      exact key _ _ (by rw [s5]; exact mt_dmA z z7 s2) (by rw [u5, ek]; exact mt_dmA z z7 u2) eA
    · intro z z6
      exact key _ _ (by rw [s5]; exact mt_dmB z z6 s3) (by rw [u5, ek]; exact mt_dmB z z6 u3) eB
    · intro z
      exact key _ _ (by rw [s5]; exact mt_dmS z s4) (by rw [u5, ek]; exact mt_dmS z u4) (eS (z.elim id (fun z => absurd z h8)))
end
end
section
/-! ===== X's small methods ===== -/
theorem mx_offI {post : Int32 → Prop} {f : Nat} (hf : f < 18) (h : post 0) : wpX_off post (nI f) := br_f (nI_pos (by omega)) (br_t (nI_lt (b := 18) hf (by decide)) h)
theorem mx_offO {post : Int32 → Prop} {x : Int32} (hx : x < 0 ∨ nI 18 ≤ x) (h : post 1) : wpX_off post x := by
  by_cases c : x < 0
  · exact br_t c h
  · have h18 : ¬ x < 18 := fun z => by
      rcases hx with y | y
      · exact c y
      · exact Int32.lt_irrefl (Int32.lt_of_le_of_lt y z)
    exact br_f c (br_f h18 h)
theorem mx_off {post : Int32 → Prop} {x : Int32} (h0 : vp_in x 18 → post 0) (h1 : ¬ vp_in x 18 → post 1) : wpX_off post x := by
  rcases pk_ix x (n := 18) (by decide) with z | z | ⟨j, hj, rfl⟩
  · exact mx_offO (Or.inl z) (h1 (fun y => y (Or.inl z)))
  · refine mx_offO (Or.inr z) (h1 (fun y => ?_))
    obtain ⟨j, hj, rfl⟩ := vp_in_of y (by decide)
    exact nI_ge hj (by decide) z
  · exact mx_offI hj (h0 (vp_in_nI hj (by decide)))
theorem mx_nA {post : Int32 → Prop} {k : Int32} (h0 : k < 2 → post 0) (h1 : ¬ k < 2 → post 1) : wpX_namesA post k := br_c h0 h1
theorem mx_nB {post : Int32 → Prop} {k : Int32} (h0 : (k < 2 ∨ 6 < k) → post 0) (h1 : ¬ k < 2 → ¬ 6 < k → post 1) : wpX_namesB post k := br_c (fun z => h0 (Or.inl z)) (fun z => br_c (fun y => h0 (Or.inr y)) (fun y => h1 z y))
theorem mx_nS {post : Int32 → Prop} {k : Int32} (h0 : ¬ (k = 6 ∨ k = 8) → post 0) (h1 : (k = 6 ∨ k = 8) → post 1) : wpX_namesS post k := br_c (fun z => h1 (Or.inl z)) (fun z => br_c (fun y => h1 (Or.inr y)) (fun y => h0 (fun w => w.elim z y)))
/-- the operands that the kind names are flows -/
def mt_ok (k a b s : Int32) : Prop := (¬ k < 2 → vp_in a 18) ∧ (¬ k < 2 → ¬ 6 < k → vp_in b 18) ∧ (k = 6 ∨ k = 8 → vp_in s 18)
theorem mt_01 : ¬ (1 : Int32) = 0 := by decide
section
variable {xn : Int32} {xk xa xb xs xc xd xo xt xf xh xi xm xr xw xl : Nat → Int32}
variable {post : Int32 → Prop} {k a b s : Int32}
theorem mx_bad32 (h0 : (k = 6 ∨ k = 8 → vp_in s 18) → post 0) (h1 : ¬ (k = 6 ∨ k = 8 → vp_in s 18) → post 1) : wX_badOperands_32 post k s xn xk xa xb xs xc xd xo xt xf xh xi xm xr xw xl := by
  unfold wX_badOperands_32
  refine mx_nS (fun z => ?_) (fun z => ?_)
  · exact br_t rfl (h0 (fun y => absurd y z))
  · refine br_f mt_01 ?_
    refine mx_off (fun y => ?_) (fun y => ?_)
    · exact br_t rfl (h0 (fun _ => y))
    · exact br_f mt_01 (h1 (fun w => y (w z)))
theorem mx_bad16 (h0 : (¬ k < 2 → ¬ 6 < k → vp_in b 18) → (k = 6 ∨ k = 8 → vp_in s 18) → post 0) (h1 : ¬ ((¬ k < 2 → ¬ 6 < k → vp_in b 18) ∧ (k = 6 ∨ k = 8 → vp_in s 18)) → post 1) : wX_badOperands_16 post k b s xn xk xa xb xs xc xd xo xt xf xh xi xm xr xw xl := by
  unfold wX_badOperands_16
  refine mx_nB (fun z => ?_) (fun z z6 => ?_)
  · refine br_t rfl ?_
    have hb : ¬ k < 2 → ¬ 6 < k → vp_in b 18 := fun y y6 => (z.elim y y6).elim
    exact mx_bad32 (fun y => h0 hb y) (fun y => h1 (fun w => y w.2))
  · refine br_f mt_01 ?_
    refine mx_off (fun y => ?_) (fun y => ?_)
    · exact br_t rfl (mx_bad32 (fun w => h0 (fun _ _ => y) w) (fun w => h1 (fun q => w q.2)))
    · exact br_f mt_01 (h1 (fun w => y (w.1 z z6)))
theorem mx_bad (h0 : mt_ok k a b s → post 0) (h1 : ¬ mt_ok k a b s → post 1) : wpX_badOperands post (xn, xk, xa, xb, xs, xc, xd, xo, xt, xf, xh, xi, xm, xr, xw, xl) k a b s := by
  unfold wpX_badOperands
  refine mx_nA (fun z => ?_) (fun z => ?_)
  · refine br_t rfl ?_
    exact mx_bad16 (fun y w => h0 ⟨fun q => absurd z q, y, w⟩) (fun y => h1 (fun w => y w.2))
  · refine br_f mt_01 ?_
    refine mx_off (fun y => ?_) (fun y => ?_)
    · exact br_t rfl (mx_bad16 (fun w q => h0 ⟨fun _ => y, w, q⟩) (fun w => h1 (fun q => w q.2)))
    · exact br_f mt_01 (h1 (fun w => y (w.1 z)))
theorem mt_zor (x : Int32) : 0 ||| x = x := b_ext fun i _ => by rw [b_or, b_0, Bool.false_or]
theorem mx_os41 {x : Int32} (h : post (if k = 6 ∨ k = 8 then x ||| mt_m1 s else x)) : wX_operandSet_41 post k s x := by
  unfold wX_operandSet_41
  refine mx_nS (fun z => ?_) (fun z => ?_)
  · rw [if_neg z] at h
    exact br_t rfl h
  · rw [if_pos z] at h
    exact br_f mt_01 (nm_e h)
theorem mx_os (hk : mt_K k) (h : post (mt_dm k a b s)) : wpX_operandSet post k a b s := by
  rcases hk with rfl | rfl | rfl | rfl | rfl | rfl | rfl | rfl | rfl
  · rw [mt_dmL (by decide)] at h
    refine br_f (by decide) ?_
    refine mx_nA (fun z => br_t rfl ?_) (fun z => absurd (by decide) z)
    unfold wX_operandSet_26
    refine mx_nB (fun z => br_t rfl ?_) (fun z => absurd (by decide) z)
    exact mx_os41 (by rw [if_neg (by decide)]; exact h)
  · rw [mt_dmL (by decide)] at h
    refine br_f (by decide) ?_
    refine mx_nA (fun z => br_t rfl ?_) (fun z => absurd (by decide) z)
    unfold wX_operandSet_26
    refine mx_nB (fun z => br_t rfl ?_) (fun z => absurd (by decide) z)
    exact mx_os41 (by rw [if_neg (by decide)]; exact h)
  · rw [mt_dmM (by decide) (by decide)] at h
    refine br_f (by decide) ?_
    refine mx_nA (fun z => absurd z (by decide)) (fun z => br_f mt_01 (nm_r (mt_zor _) ?_))
    unfold wX_operandSet_26
    refine mx_nB (fun z => absurd z (by decide)) (fun z _ => br_f mt_01 (nm_e ?_))
    exact mx_os41 (by rw [if_neg (by decide)]; exact h)
  · rw [mt_dmM (by decide) (by decide)] at h
    refine br_f (by decide) ?_
    refine mx_nA (fun z => absurd z (by decide)) (fun z => br_f mt_01 (nm_r (mt_zor _) ?_))
    unfold wX_operandSet_26
    refine mx_nB (fun z => absurd z (by decide)) (fun z _ => br_f mt_01 (nm_e ?_))
    exact mx_os41 (by rw [if_neg (by decide)]; exact h)
  · rw [mt_dmM (by decide) (by decide)] at h
    refine br_f (by decide) ?_
    refine mx_nA (fun z => absurd z (by decide)) (fun z => br_f mt_01 (nm_r (mt_zor _) ?_))
    unfold wX_operandSet_26
    refine mx_nB (fun z => absurd z (by decide)) (fun z _ => br_f mt_01 (nm_e ?_))
    exact mx_os41 (by rw [if_neg (by decide)]; exact h)
  · rw [mt_dmM (by decide) (by decide)] at h
    refine br_f (by decide) ?_
    refine mx_nA (fun z => absurd z (by decide)) (fun z => br_f mt_01 (nm_r (mt_zor _) ?_))
    unfold wX_operandSet_26
    refine mx_nB (fun z => absurd z (by decide)) (fun z _ => br_f mt_01 (nm_e ?_))
    exact mx_os41 (by rw [if_neg (by decide)]; exact h)
  · rw [mt_dm6] at h
    refine br_f (by decide) ?_
    refine mx_nA (fun z => absurd z (by decide)) (fun z => br_f mt_01 (nm_r (mt_zor _) ?_))
    unfold wX_operandSet_26
    refine mx_nB (fun z => absurd z (by decide)) (fun z _ => br_f mt_01 (nm_e ?_))
    exact mx_os41 (by rw [if_pos (by decide)]; exact h)
  · rw [mt_dm7] at h
    exact br_t rfl h
  · rw [mt_dm8] at h
    refine br_f (by decide) ?_
    refine mx_nA (fun z => absurd z (by decide)) (fun z => br_f mt_01 (nm_r (mt_zor _) ?_))
    unfold wX_operandSet_26
    refine mx_nB (fun z => br_t rfl ?_) (fun _ z => absurd (by decide) z)
    exact mx_os41 (by rw [if_pos (by decide)]; exact h)
end
/-! ===== closure ===== -/
section
variable {xn : Int32} {xk xa xb xs xc xd xo xt xf xh xi xm xr xw xl : Nat → Int32}
variable {post : Int32 → Prop} {J7 : Int32 → Int32 → Int32 → Prop} {b s : Int32} {i : Nat}
theorem mx_cl24 (hJ : J7 (mt_cs xd b 18) b (nI (i + 1))) : ∀ d f, f + d = 18 → wX_closure_24 post J7 b (nI i) xn xk xa xb xs xc xd xo xt xf xh xi xm xr xw xl (d + 1) (mt_cs xd b f) (nI f) := by
  intro d
  induction d with
  | zero =>
    intro f h
    obtain rfl : f = 18 := by omega
    exact br_t (nI_le (a := 18) (b := 18) (Nat.le_refl _) (by decide)) (nm_r (nI_1 i) hJ)
  | succ d ih =>
    intro f h
    refine br_f (nI_ge (b := 18) (by omega) (by decide)) ?_
    by_cases hb : bt b f = true
    · refine br_t ((mt_bit b (by omega)).mpr hb) ⟨vp_in_nI (by omega) (by decide), ?_⟩
      refine nm_r (e' := mt_cs xd b (f + 1)) ?_ (nm_r (nI_1 f) (ih (f + 1) (by omega)))
      rw [nI_clamp (by omega)]
      exact (if_pos hb).symm
    · refine br_f (fun z => hb ((mt_bit b (by omega)).mp z)) ?_
      have e : mt_cs xd b f = mt_cs xd b (f + 1) := (if_neg hb).symm
      rw [e]
      exact nm_r (nI_1 f) (ih (f + 1) (by omega))
theorem mx_cl7 (hN : ∀ f, f < 18 → mt_sm (xd f)) (hp : ∀ R, mt_CS xd s R → post R) : ∀ d i all bef, i + d = 18 → mt_CH xd s i all bef → wX_closure_7 post xn xk xa xb xs xc xd xo xt xf xh xi xm xr xw xl (d + 1) all bef (nI i) := by
  intro d
  induction d with
  | zero =>
    intro i all bef h hc
    obtain rfl : i = 18 := by omega
    exact br_t (nI_le (a := 18) (b := 18) (Nat.le_refl _) (by decide)) (hp all (mt_CHe hc (Or.inr (Nat.le_refl _))))
  | succ d ih =>
    intro i all bef h hc
    refine br_f (nI_ge (b := 18) (by omega) (by decide)) ?_
    by_cases e : all = bef
    · exact br_t e (hp all (mt_CHe hc (Or.inl e)))
    · refine br_f e ⟨19, ?_⟩
      exact mx_cl24 (ih (i + 1) _ _ (by omega) (mt_CHs hN hc e)) 18 0 rfl
theorem mx_cl (hN : ∀ f, f < 18 → mt_sm (xd f)) (hs : mt_sm s) (hp : ∀ R, mt_CS xd s R → post R) : wpX_closure post (xn, xk, xa, xb, xs, xc, xd, xo, xt, xf, xh, xi, xm, xr, xw, xl) s := by
  unfold wpX_closure
  exact ⟨19, mx_cl7 hN hp 18 0 s 0 rfl (mt_CH0 hs)⟩
end
/-! ===== bits ===== -/
def mt_bs (m : Int32) : Nat → Int32
  | 0 => 0
  | n + 1 => mt_bs m n + ((m >>> (nI n &&& 31)) &&& 1)
theorem mx_bits4 {post : Int32 → Prop} {m : Int32} (hp : post (mt_bs m 18)) : ∀ d f, f + d = 18 → wX_bits_4 post m (d + 1) (mt_bs m f) (nI f) := by
  intro d
  induction d with
  | zero =>
    intro f h
    obtain rfl : f = 18 := by omega
    exact br_t (nI_le (a := 18) (b := 18) (Nat.le_refl _) (by decide)) hp
  | succ d ih =>
    intro f h
    exact br_f (nI_ge (b := 18) (by omega) (by decide)) (nm_e (nm_r (nI_1 f) (ih (f + 1) (by omega))))
theorem mx_bits {post : Int32 → Prop} {m : Int32} (hp : post (mt_bs m 18)) : wpX_bits post m := by
  unfold wpX_bits
  exact ⟨19, mx_bits4 hp 18 0 rfl⟩
/-! ===== combine ===== -/
theorem mx_comb {post : Int32 → Prop} {k a b s : Int32} (hk : mt_K k) (h2 : ¬ k < 2) (h6 : ¬ 6 < k) (c : Int32) (inp : Nat → Int32) (m : Int32) (h : post (mt_ev k c inp m a b s)) : wpX_combine post k a b s := by
  rcases hk with rfl | rfl | rfl | rfl | rfl | rfl | rfl | rfl | rfl
  · exact absurd (by decide) h2
  · exact absurd (by decide) h2
  · rw [mt_e2] at h
    exact br_f (by decide) (br_f (by decide) (br_t rfl h))
  · rw [mt_e3] at h
    exact br_f (by decide) (br_f (by decide) (br_f (by decide) (br_t rfl h)))
  · rw [mt_e4] at h
    exact br_f (by decide) (br_f (by decide) (br_f (by decide) (br_f (by decide) (br_t rfl h))))
  · rw [mt_e5] at h
    refine br_f (by decide) (br_f (by decide) (br_f (by decide) (br_f (by decide) (br_f (by decide) (br_t rfl ?_)))))
    refine br_c (fun z => ?_) (fun z => ?_)
    · rw [if_pos z] at h; exact h
    · rw [if_neg z] at h; exact h
  · rw [mt_e6] at h
    refine br_f (by decide) (br_t (by decide) ?_)
    refine br_c (fun z => ?_) (fun z => ?_)
    · rw [if_pos z] at h; exact h
    · rw [if_neg z] at h; exact h
  · exact absurd (by decide) h6
  · exact absurd (by decide) h6
/-! ===== fold ===== -/
section
variable {xn : Int32} {xk xa xb xs xc xd xo xt xf xh xi xm xr xw xl : Nat → Int32}
variable {post : SX → Prop} {f : Nat} {k : Int32}
theorem mx_f113 (hf : f < 18) (hA : vp_in (xa f) 18) (hB : vp_in (xb f) 18) (hS : vp_in (xs f) 18) (h0 : xt f = 0 → post (xn, xk, xa, xb, xs, xc, xd, xo, xt, xf, xh, xi, xm, xr, xw, xl)) (h1 : ¬ xt f = 0 → (k = 1 → post (xn, xk, xa, xb, xs, xc, xd, xo, xt, upd xf f (xc f), xh, xi, xm, xr, xw, xl)) ∧ (¬ k = 1 → wpX_combine (fun r => post (xn, xk, xa, xb, xs, xc, xd, xo, xt, upd xf f r, xh, xi, xm, xr, xw, xl)) k (xf (xa f).toNatClampNeg) (xf (xb f).toNatClampNeg) (xf (xs f).toNatClampNeg))) : wX_fold_113 post (nI f) k xn xk xa xb xs xc xd xo xt xf xh xi xm xr xw xl := by
  have e : (nI f).toNatClampNeg = f := nI_clamp (by omega)
  have hi : vp_in (nI f) 18 := vp_in_nI hf (by decide)
  unfold wX_fold_113
  rw [e]
  refine ⟨hi, br_c h0 (fun z => ⟨hi, hA, nm_e ⟨hi, hB, nm_e ⟨hi, hS, nm_e ?_⟩⟩⟩)⟩
  obtain ⟨p1, p2⟩ := h1 z
  refine br_c (fun w => ⟨hi, hi, nm_e (p1 w)⟩) (fun w => ?_)
  have q := p2 w
  have ee : (fun r => post (xn, xk, xa, xb, xs, xc, xd, xo, xt, upd xf f r, xh, xi, xm, xr, xw, xl)) = (fun r_19 => (vp_in (nI f) 18 ∧ ∀ a_folded_21 : Nat → Int32, a_folded_21 = upd xf f r_19 → post (xn, xk, xa, xb, xs, xc, xd, xo, xt, a_folded_21, xh, xi, xm, xr, xw, xl))) := by
    funext r
    exact propext ⟨fun y => ⟨hi, nm_e y⟩, fun y => y.2 _ rfl⟩
  rw [ee] at q
  exact q
theorem mx_fold (hs : mt_sx xk xa xb xs xd) (hf : f < 18) (hne : ∀ g, bt (xd f) g = true → ¬ g = f)
    (h0 : ∀ xt', (∀ j, ¬ j = f → xt' j = xt j) → xt' f = 0 → ¬ xk f = 1 → post (xn, xk, xa, xb, xs, xc, xd, xo, xt', xf, xh, xi, xm, xr, xw, xl))
    (h1 : ∀ xt' v, (∀ j, ¬ j = f → xt' j = xt j) → ¬ xt' f = 0 → mt_fo xk xa xb xs xc xt xf f v → post (xn, xk, xa, xb, xs, xc, xd, xo, xt', upd xf f v, xh, xi, xm, xr, xw, xl)) : wpX_fold post (xn, xk, xa, xb, xs, xc, xd, xo, xt, xf, xh, xi, xm, xr, xw, xl) (nI f) := by
  have e : (nI f).toNatClampNeg = f := nI_clamp (by omega)
  have hi : vp_in (nI f) 18 := vp_in_nI hf (by decide)
  obtain ⟨hk, hA, hB, hS, hd⟩ := hs f hf
  unfold wpX_fold
  rw [e]
  refine ⟨hi, nm_e ?_⟩
  by_cases k1 : xk f = 1
  · refine br_t k1 ?_
    unfold wX_fold_22
    rw [e]
    refine ⟨hi, nm_e ?_⟩
    refine br_t (by rw [k1]; decide) ?_
    refine mx_f113 hf hA hB hS (fun z => ?_) (fun _ => ?_)
    · rw [mt_upd_eq] at z
      exact absurd z (by decide)
    · refine br_t k1 ?_
      refine h1 _ _ (fun j hj => mt_upd_ne hj) ?_ (Or.inl ⟨k1, rfl⟩)
      rw [mt_upd_eq]
      decide
  · refine br_f k1 ?_
    unfold wX_fold_22
    rw [e]
    refine ⟨hi, nm_e ?_⟩
    by_cases k2 : xk f < 2
    · refine br_t k2 ?_
      refine mx_f113 hf hA hB hS (fun z => ?_) (fun z => absurd mt_upd_eq z)
      exact h0 _ (fun j hj => mt_upd_ne hj) z k1
    · refine br_f k2 ?_
      by_cases k6 : 6 < xk f
      · refine br_t k6 ?_
        refine mx_f113 hf hA hB hS (fun z => ?_) (fun z => absurd mt_upd_eq z)
        exact h0 _ (fun j hj => mt_upd_ne hj) z k1
      · refine br_f k6 ⟨hi, hA, ?_⟩
        have k7 : ¬ xk f = 7 := fun z => k6 (by rw [z]; decide)
        have nA : ¬ (xa f).toNatClampNeg = f := hne _ (by rw [hd]; exact mt_dmA k2 k7 hA)
        have nB : ¬ (xb f).toNatClampNeg = f := hne _ (by rw [hd]; exact mt_dmB k2 k6 hB)
        -- not constant
        have stop : ∀ t, (∀ j, ¬ j = f → t j = xt j) → wX_fold_71 post (nI f) (xk f) (nI f) xn xk xa xb xs xc xd xo t xf xh xi xm xr xw xl := by
          intro t ht
          unfold wX_fold_71 wX_fold_72
          rw [e]
          refine ⟨hi, nm_e ?_⟩
          have ht' : ∀ j, ¬ j = f → upd t f (vp_nar .boolean 0) j = xt j := fun j hj => (mt_upd_ne hj).trans (ht j hj)
          by_cases z6 : xk f = 6
          · refine br_t z6 ⟨hi, br_t mt_upd_eq ?_⟩
            unfold wX_fold_111 wX_fold_112
            rw [e]
            refine ⟨hi, nm_e ?_⟩
            refine mx_f113 hf hA hB hS (fun z => ?_) (fun z => absurd mt_upd_eq z)
            exact h0 _ (fun j hj => (mt_upd_ne hj).trans (ht' j hj)) z k1
          · refine br_f z6 ?_
            refine mx_f113 hf hA hB hS (fun z => ?_) (fun z => absurd mt_upd_eq z)
            exact h0 _ ht' z k1
        have h5 : ∀ j, ¬ j = f → upd xt f (vp_nar .boolean 0) j = xt j := fun j hj => mt_upd_ne hj
        by_cases tA : xt (xa f).toNatClampNeg = 0
        · exact br_t ((h5 _ nA).trans tA) (stop _ h5)
        · refine br_f (fun z => tA ((h5 _ nA).symm.trans z)) ⟨hi, hB, ?_⟩
          by_cases tB : xt (xb f).toNatClampNeg = 0
          · exact br_t ((h5 _ nB).trans tB) (stop _ h5)
          · refine br_f (fun z => tB ((h5 _ nB).symm.trans z)) ?_
            unfold wX_fold_72
            rw [e]
            refine ⟨hi, nm_e ?_⟩
            have h6 : ∀ j, ¬ j = f → upd (upd xt f (vp_nar .boolean 0)) f (vp_nar .boolean 1) j = xt j := fun j hj => (mt_upd_ne hj).trans (h5 j hj)
            have one : ∀ t : Nat → Int32, ¬ upd t f (vp_nar .boolean 1) f = 0 := fun t => by rw [mt_upd_eq]; decide
            by_cases z6 : xk f = 6
            · refine br_t z6 ⟨hi, br_f (one _) ⟨hi, hS, ?_⟩⟩
              have nS : ¬ (xs f).toNatClampNeg = f := hne _ (by rw [hd]; exact mt_dmS (Or.inl z6) hS)
              by_cases tS : xt (xs f).toNatClampNeg = 0
              · refine br_t ((h6 _ nS).trans tS) ?_
                unfold wX_fold_111 wX_fold_112
                rw [e]
                refine ⟨hi, nm_e ?_⟩
                refine mx_f113 hf hA hB hS (fun z => ?_) (fun z => absurd mt_upd_eq z)
                exact h0 _ (fun j hj => (mt_upd_ne hj).trans (h6 j hj)) z k1
              · refine br_f (fun z => tS ((h6 _ nS).symm.trans z)) ?_
                unfold wX_fold_112
                rw [e]
                refine ⟨hi, nm_e ?_⟩
                refine mx_f113 hf hA hB hS (fun z => absurd z (one _)) (fun _ => br_f k1 ?_)
                have hev : ∀ c inp m, mt_ev (xk f) 0 (fun _ => 0) 0 (xf (xa f).toNatClampNeg) (xf (xb f).toNatClampNeg) (xf (xs f).toNatClampNeg) = mt_ev (xk f) c inp m (xf (xa f).toNatClampNeg) (xf (xb f).toNatClampNeg) (xf (xs f).toNatClampNeg) := fun c inp m => by rw [z6, mt_e6, mt_e6]
                refine mx_comb hk k2 k6 0 (fun _ => 0) 0 ?_
                exact h1 _ _ (fun j hj => (mt_upd_ne hj).trans (h6 j hj)) (one _) (Or.inr ⟨k2, k6, tA, tB, fun _ => tS, hev⟩)
            · refine br_f z6 ?_
              refine mx_f113 hf hA hB hS (fun z => absurd z (one _)) (fun _ => br_f k1 ?_)
              have hev : ∀ c inp m, mt_ev (xk f) 0 (fun _ => 0) 0 (xf (xa f).toNatClampNeg) (xf (xb f).toNatClampNeg) (xf (xs f).toNatClampNeg) = mt_ev (xk f) c inp m (xf (xa f).toNatClampNeg) (xf (xb f).toNatClampNeg) (xf (xs f).toNatClampNeg) := by
                intro c inp m
                rcases hk with z | z | z | z | z | z | z | z | z
                · exact absurd (by rw [z]; decide) k2
                · exact absurd z k1
                · rw [z, mt_e2, mt_e2]
                · rw [z, mt_e3, mt_e3]
                · rw [z, mt_e4, mt_e4]
                · rw [z, mt_e5, mt_e5]
                · exact absurd z z6
                · exact absurd z k7
                · exact absurd (by rw [z]; decide) k6
              refine mx_comb hk k2 k6 0 (fun _ => 0) 0 ?_
              exact h1 _ _ h6 (one _) (Or.inr ⟨k2, k6, tA, tB, fun z => absurd z z6, hev⟩)
end
end
section
/-! ===== X: share ===== -/
section
variable {xn : Int32} {xk xa xb xs xc xd xo xt xf xh xi xm xr xw xl : Nat → Int32}
theorem mx_alike {post : Int32 → Prop} {g f : Nat} (hs : mt_sx xk xa xb xs xd) (hg : g < 18) (hf : f < 18) (h1 : mt_al xk xa xb xs xc xt xh g f → post 1) (h0 : post 0) : wpX_definedAlike post (xn, xk, xa, xb, xs, xc, xd, xo, xt, xf, xh, xi, xm, xr, xw, xl) (nI g) (nI f) := by
  have eg : (nI g).toNatClampNeg = g := nI_clamp (by omega)
  have ef : (nI f).toNatClampNeg = f := nI_clamp (by omega)
  have ig : vp_in (nI g) 18 := vp_in_nI hg (by decide)
  have jf : vp_in (nI f) 18 := vp_in_nI hf (by decide)
  obtain ⟨_, gA, gB, gS, _⟩ := hs g hg
  obtain ⟨_, fA, fB, fS, _⟩ := hs f hf
  unfold wpX_definedAlike
  rw [eg, ef]
  refine ⟨jf, nm_e ⟨ig, br_c (fun ek => ⟨ig, br_c (fun et => br_c (fun k0 => ⟨ig, jf, br_c (fun z => ?_) (fun _ => h0)⟩) (fun k0 => ⟨ig, gA, jf, fA, br_c (fun eA => ⟨ig, gB, jf, fB, br_c (fun eB => br_c (fun k6 => ⟨ig, gS, jf, fS, br_c (fun eS => ?_) (fun _ => h0)⟩) (fun k6 => ?_)) (fun _ => h0)⟩) (fun _ => h0)⟩)) (fun _ => h0)⟩) (fun _ => h0)⟩⟩
  · exact h1 ⟨ek, et, Or.inl ⟨k0, z⟩⟩
  · exact h1 ⟨ek, et, Or.inr ⟨k0, eA, eB, fun _ => eS⟩⟩
  · exact h1 ⟨ek, et, Or.inr ⟨k0, eA, eB, fun z => absurd z k6⟩⟩
theorem mx_sh50 {post : SX → Prop} {f pl : Nat} {o : Nat → Nat} (Inv : (Nat → Int32) → Prop) (hs : mt_sx xk xa xb xs xd) (hf : f < 18) (hpl : pl < 18) (ho : ∀ i, i < 18 → xo i = nI (o i)) (ho2 : ∀ i, i < 18 → o i < 18)
    (hst : ∀ i, i < pl → ∀ h', Inv h' → mt_al xk xa xb xs xc xt h' (o i) f → Inv (upd h' f (xo i))) (hp : ∀ h', Inv h' → post (xn, xk, xa, xb, xs, xc, xd, xo, xt, xf, h', xi, xm, xr, xw, xl)) : ∀ i, i ≤ pl → ∀ h', Inv h' → wX_share_50 post (nI f) xn (i + 1) (nI i - 1) xk xa xb xs xc xd xo xt xf h' xi xm xr xw xl := by
  intro i
  induction i with
  | zero =>
    intro _ h' hI
    exact br_t (by decide) (hp h' hI)
  | succ i ih =>
    intro hi h' hI
    have ei : (nI i).toNatClampNeg = i := nI_clamp (by omega)
    have ef : (nI f).toNatClampNeg = f := nI_clamp (by omega)
    rw [nI_pred, wX_share_50]
    dsimp only
    rw [ei, ef]
    refine br_f (nI_pos (by omega)) ⟨vp_in_nI (by omega) (by decide), ?_⟩
    have en : nI i + (-1) = nI i - 1 := (Int32.sub_eq_add_neg _ _).symm
    rw [ho i (by omega)]
    refine mx_alike hs (ho2 i (by omega)) hf (fun z => ?_) ?_
    · refine br_f mt_01 ⟨vp_in_nI (by omega) (by decide), vp_in_nI hf (by decide), nm_r (congrArg (upd h' f) (ho i (by omega)).symm) (nm_r en ?_)⟩
      exact ih (by omega) _ (hst i (by omega) h' hI z)
    · exact br_t rfl (nm_r en (ih (by omega) h' hI))
theorem mx_share {post : SX → Prop} {i : Nat} {o : Nat → Nat} (hs : mt_sx xk xa xb xs xd) (hi : i < 18) (ho : ∀ i, i < 18 → xo i = nI (o i)) (ht : mt_top xd o) (hc : mt_cmp xk xa xb xs xc o i xt xf xh) (hk : xt (o i) = 0 → ¬ xk (o i) = 1)
    (hp : ∀ h', (∀ j, ¬ j = o i → h' j = xh j) → (∃ j', j' ≤ i ∧ h' (o i) = nI (o j') ∧ ∀ inp mv V, mt_sol xk xa xb xs xc inp mv V → V (o j') = V (o i)) → post (xn, xk, xa, xb, xs, xc, xd, xo, xt, xf, h', xi, xm, xr, xw, xl)) : wpX_share post (xn, xk, xa, xb, xs, xc, xd, xo, xt, xf, xh, xi, xm, xr, xw, xl) (nI i) := by
  have ei : (nI i).toNatClampNeg = i := nI_clamp (by omega)
  have hf : o i < 18 := ht.1 i hi
  have ef : (nI (o i)).toNatClampNeg = o i := nI_clamp (by omega)
  have jf : vp_in (nI (o i)) 18 := vp_in_nI hf (by decide)
  unfold wpX_share
  rw [ei]
  refine ⟨vp_in_nI hi (by decide), nm_r (ho i hi) ?_⟩
  rw [ef]
  have base : (∀ j, ¬ j = o i → upd xh (o i) (nI (o i)) j = xh j) ∧ (∃ j', j' ≤ i ∧ upd xh (o i) (nI (o i)) (o i) = nI (o j') ∧ ∀ inp mv V, mt_sol xk xa xb xs xc inp mv V → V (o j') = V (o i)) := ⟨fun j hj => mt_upd_ne hj, i, Nat.le_refl i, mt_upd_eq, fun _ _ _ _ => rfl⟩
  refine ⟨jf, nm_e ⟨jf, br_c (fun _ => hp _ base.1 base.2) (fun k7 => ⟨jf, br_c (fun _ => hp _ base.1 base.2) (fun k8 => ⟨jf, br_c (fun t0 => nm_e ⟨i + 1, ?_⟩) (fun _ => hp _ base.1 base.2)⟩)⟩)⟩⟩
  refine mx_sh50 (fun h' => (∀ j, ¬ j = o i → h' j = xh j) ∧ (∃ j', j' ≤ i ∧ h' (o i) = nI (o j') ∧ ∀ inp mv V, mt_sol xk xa xb xs xc inp mv V → V (o j') = V (o i))) hs hf hi ho ht.1 ?_ (fun h' z => hp h' z.1 z.2) i (Nat.le_refl i) _ base
  intro i' hi' h' hI al
  refine ⟨fun j hj => (mt_upd_ne hj).trans (hI.1 j hj), i', by omega, mt_upd_eq.trans (ho i' (by omega)), ?_⟩
  have hc' : mt_cmp xk xa xb xs xc o i xt xf h' := by
    intro j hj
    refine mt_cmp_keep (hc j hj) rfl rfl (hI.1 _ (fun e => ?_))
    have := ht.2.1 j i (by omega) hi e
    omega
  exact mt_al_sem hs ht hi hi' hc' k7 k8 (hk t0) al
end
/-! ===== X: compile ===== -/
section
variable {xn : Int32} {xk xa xb xs xc xd xo xt xf xh xi xm xr xw xl : Nat → Int32}
variable {post : SX → Prop} {o : Nat → Nat}
theorem mx_c54 (hs : mt_sx xk xa xb xs xd) (ho : ∀ i, i < 18 → xo i = nI (o i)) (ht : mt_top xd o) (hp : ∀ t' f' h', mt_cmp xk xa xb xs xc o 18 t' f' h' → post (xn, xk, xa, xb, xs, xc, xd, xo, t', f', h', xi, xm, xr, xw, xl)) : ∀ d i t' f' h', i + d = 18 → mt_cmp xk xa xb xs xc o i t' f' h' → wX_compile_54 post (d + 1) (nI i) xn xk xa xb xs xc xd xo t' f' h' xi xm xr xw xl := by
  intro d
  induction d with
  | zero =>
    intro i t' f' h' hi hc
    obtain rfl : i = 18 := by omega
    exact br_t (nI_le (a := 18) (b := 18) (Nat.le_refl _) (by decide)) (hp t' f' h' hc)
  | succ d ih =>
    intro i t' f' h' hi hc
    have ei : (nI i).toNatClampNeg = i := nI_clamp (by omega)
    have hi18 : i < 18 := by omega
    have hne : ∀ g, bt (xd (o i)) g = true → ¬ g = o i := by
      intro g hg e
      obtain ⟨j, hj, ej⟩ := ht.2.2.2 i hi18 g hg
      have := ht.2.1 j i (by omega) hi18 (ej.trans e)
      omega
    have off : ∀ j, j < i → ¬ o j = o i := by
      intro j hj e
      have := ht.2.1 j i (by omega) hi18 e
      omega
    rw [wX_compile_54]
    dsimp only
    rw [ei, ho i hi18]
    refine br_f (nI_ge (b := 18) (by omega) (by decide)) ⟨vp_in_nI hi18 (by decide), ?_⟩
    refine mx_fold hs (ht.1 i hi18) hne (fun t2 e2 z k1 => ?_) (fun t2 v e2 z hv => ?_)
    · have hc2 : mt_cmp xk xa xb xs xc o i t2 f' h' := fun j hj => mt_cmp_keep (hc j hj) (e2 _ (off j hj)) rfl rfl
      dsimp only
      refine mx_share hs hi18 ho ht hc2 (fun _ => k1) (fun h2 e3 h3 => ?_)
      dsimp only
      refine nm_r (nI_1 i) (ih (i + 1) t2 f' h2 (by omega) ?_)
      intro j hj
      by_cases ej : j = i
      · subst ej
        exact ⟨fun y => absurd z y, fun _ => k1, h3⟩
      · exact mt_cmp_keep (hc2 j (by omega)) rfl rfl (e3 _ (off j (by omega)))
    · have hsem := mt_fold_sem hs ht hi18 hc hv
      have hc2 : mt_cmp xk xa xb xs xc o i t2 (upd f' (o i) v) h' := fun j hj => mt_cmp_keep (hc j hj) (e2 _ (off j hj)) (mt_upd_ne (off j hj)) rfl
      dsimp only
      refine mx_share hs hi18 ho ht hc2 (fun y => absurd y z) (fun h2 e3 h3 => ?_)
      dsimp only
      refine nm_r (nI_1 i) (ih (i + 1) t2 (upd f' (o i) v) h2 (by omega) ?_)
      intro j hj
      by_cases ej : j = i
      · subst ej
        refine ⟨fun _ inp mv V hV => ?_, fun y => absurd y z, h3⟩
        rw [mt_upd_eq]
        exact hsem inp mv V hV
      · exact mt_cmp_keep (hc2 j (by omega)) rfl rfl (e3 _ (off j (by omega)))
theorem mx_rdy {post : Int32 → Prop} {p : Int32} {f : Nat} (hf : f < 18) (h1 : mt_rdy xd p f → post 1) (h0 : ¬ mt_rdy xd p f → post 0) : wpX_readyToPlace post (xn, xk, xa, xb, xs, xc, xd, xo, xt, xf, xh, xi, xm, xr, xw, xl) (nI f) p := by
  have ef : (nI f).toNatClampNeg = f := nI_clamp (by omega)
  unfold wpX_readyToPlace
  rw [ef]
  refine br_c (fun z => ⟨vp_in_nI hf (by decide), br_c (fun y => ?_) (fun y => ?_)⟩) (fun z => ?_)
  · exact h1 ⟨(mt_bit0 p (by omega)).mp z, (mt_sub _ _).mp y⟩
  · exact h0 (fun w => y ((mt_sub _ _).mpr w.2))
  · exact h0 (fun w => z ((mt_bit0 p (by omega)).mpr w.1))
theorem mx_c12 {J4 : Int32 → Int32 → (Nat → Int32) → (Nat → Int32) → (Nat → Int32) → (Nat → Int32) → (Nat → Int32) → (Nat → Int32) → (Nat → Int32) → (Nat → Int32) → (Nat → Int32) → (Nat → Int32) → (Nat → Int32) → (Nat → Int32) → (Nat → Int32) → (Nat → Int32) → (Nat → Int32) → Prop} {p x2 : Int32} (hx : ∃ g, g < 18 ∧ mt_rdy xd p g) (hJ : ∀ g, g < 18 → mt_rdy xd p g → wX_compile_33 post J4 p x2 (nI g) xn xk xa xb xs xc xd xo xt xf xh xi xm xr xw xl) : ∀ d f, f + d = 17 → (∀ g, g < f → ¬ mt_rdy xd p g) → wX_compile_12 post J4 p x2 xn xk xa xb xs xc xd xo xt xf xh xi xm xr xw xl (d + 1) (nI f) := by
  intro d
  induction d with
  | zero =>
    intro f hf hn
    obtain rfl : f = 17 := by omega
    refine br_t (nI_le (a := 17) (b := 17) (Nat.le_refl _) (by decide)) ?_
    obtain ⟨g, hg, hr⟩ := hx
    have : g = 17 := by
      rcases Nat.lt_or_ge g 17 with z | z
      · exact absurd hr (hn g z)
      · omega
    subst this
    exact hJ 17 hg hr
  | succ d ih =>
    intro f hf hn
    refine br_f (nI_ge (b := 17) (by omega) (by decide)) ?_
    refine mx_rdy (by omega) (fun z => ?_) (fun z => ?_)
    · exact br_f mt_01 (hJ f (by omega) z)
    · refine br_t rfl (nm_r (nI_1 f) (ih (f + 1) (by omega) ?_))
      intro g hg
      by_cases e : g = f
      · rw [e]; exact z
      · exact hn g (by omega)
theorem mx_c4 {q : Nat → Nat} (hN : ∀ f, f < 18 → mt_sm (xd f)) (hq : ∀ f, f < 18 → ∀ g, bt (xd f) g = true → q g < q f) (hp : ∀ o', (∃ p, mt_PL xd 18 p o') → ∃ n, wX_compile_54 post n 0 xn xk xa xb xs xc xd o' xt xf xh xi xm xr xw xl) : ∀ d i p o', i + d = 18 → mt_PL xd i p o' → wX_compile_4 post xn (d + 1) p (nI i) xk xa xb xs xc xd o' xt xf xh xi xm xr xw xl := by
  intro d
  induction d with
  | zero =>
    intro i p o' hi h
    obtain rfl : i = 18 := by omega
    exact br_t (nI_le (a := 18) (b := 18) (Nat.le_refl _) (by decide)) (hp o' ⟨p, h⟩)
  | succ d ih =>
    intro i p o' hi h
    have ei : (nI i).toNatClampNeg = i := nI_clamp (by omega)
    refine br_f (nI_ge (b := 18) (by omega) (by decide)) ⟨18, ?_⟩
    refine mx_c12 (mt_PLx (by omega) h hN hq) (fun g hg hr => ?_) 17 0 rfl (fun g hg => absurd hg (Nat.not_lt_zero g))
    unfold wX_compile_33
    rw [ei]
    exact ⟨vp_in_nI (by omega) (by decide), nm_e (nm_e (nm_r (nI_1 i) (ih (i + 1) _ _ (by omega) (mt_PLs hg h hr))))⟩
/-- what compile leaves -/
def mt_com (xk xa xb xs xc xd xo xt xf xh : Nat → Int32) : Prop := ∃ o : Nat → Nat, (∀ i, i < 18 → xo i = nI (o i)) ∧ mt_top xd o ∧ mt_cmp xk xa xb xs xc o 18 xt xf xh
theorem mx_compile {q : Nat → Nat} (hs : mt_sx xk xa xb xs xd) (hq : ∀ f, f < 18 → ∀ g, bt (xd f) g = true → q g < q f) (hp : ∀ o' t' f' h', mt_com xk xa xb xs xc xd o' t' f' h' → post (xn, xk, xa, xb, xs, xc, xd, o', t', f', h', xi, xm, xr, xw, xl)) : wpX_compile post (xn, xk, xa, xb, xs, xc, xd, xo, xt, xf, xh, xi, xm, xr, xw, xl) := by
  unfold wpX_compile
  have hN := mt_sx_sm hs
  refine ⟨19, mx_c4 hN hq ?_ 18 0 0 xo rfl mt_PL0⟩
  rintro o' ⟨p, h⟩
  obtain ⟨o, ho, ht⟩ := mt_PLe h hN
  refine ⟨19, mx_c54 hs ho ht (fun t' f' h' hc => hp o' t' f' h' ⟨o, ho, ht, hc⟩) 18 0 xt xf xh rfl (fun j hj => absurd hj (Nat.not_lt_zero j))⟩
end
end
section
/-! ===== X: an instant ===== -/
section
variable {xn : Int32} {xk xa xb xs xc xd xo xt xf xh xi xm xr xw xl : Nat → Int32}
theorem mx_work {post : Int32 → Prop} {mv : Nat → Int32} {f : Nat} (hs : mt_sx xk xa xb xs xd) (hf : f < 18) (k1 : ¬ xk f = 1) (hmv : 6 < xk f → mv f = if xr f = 0 then xm f else xc f) (h : post (mt_evf xk xa xb xs xc xi mv xw f)) : wpX_work post (xn, xk, xa, xb, xs, xc, xd, xo, xt, xf, xh, xi, xm, xr, xw, xl) (nI f) := by
  have ef : (nI f).toNatClampNeg = f := nI_clamp (by omega)
  have jf : vp_in (nI f) 18 := vp_in_nI hf (by decide)
  have i3 : vp_in (xc f &&& 3) 4 := pk_andIn (xc f) (m := 3) 2 (by decide) (by decide)
  obtain ⟨hk, hA, hB, hS, hd⟩ := hs f hf
  unfold mt_evf at h
  unfold wpX_work
  rw [ef]
  rcases hk with z | z | z | z | z | z | z | z | z
  · rw [z, mt_e0] at h
    exact ⟨jf, nm_r z (br_t rfl ⟨jf, i3, h⟩)⟩
  · exact absurd z k1
  · rw [z] at h
    exact ⟨jf, nm_r z (br_f (by decide) (br_f (by decide) ⟨jf, hA, nm_e ⟨jf, hS, nm_e (br_f (by decide) ⟨jf, hB, mx_comb (by unfold mt_K; decide) (by decide) (by decide) _ _ _ h⟩)⟩⟩))⟩
  · rw [z] at h
    exact ⟨jf, nm_r z (br_f (by decide) (br_f (by decide) ⟨jf, hA, nm_e ⟨jf, hS, nm_e (br_f (by decide) ⟨jf, hB, mx_comb (by unfold mt_K; decide) (by decide) (by decide) _ _ _ h⟩)⟩⟩))⟩
  · rw [z] at h
    exact ⟨jf, nm_r z (br_f (by decide) (br_f (by decide) ⟨jf, hA, nm_e ⟨jf, hS, nm_e (br_f (by decide) ⟨jf, hB, mx_comb (by unfold mt_K; decide) (by decide) (by decide) _ _ _ h⟩)⟩⟩))⟩
  · rw [z] at h
    exact ⟨jf, nm_r z (br_f (by decide) (br_f (by decide) ⟨jf, hA, nm_e ⟨jf, hS, nm_e (br_f (by decide) ⟨jf, hB, mx_comb (by unfold mt_K; decide) (by decide) (by decide) _ _ _ h⟩)⟩⟩))⟩
  · rw [z] at h
    exact ⟨jf, nm_r z (br_f (by decide) (br_f (by decide) ⟨jf, hA, nm_e ⟨jf, hS, nm_e (br_f (by decide) ⟨jf, hB, mx_comb (by unfold mt_K; decide) (by decide) (by decide) _ _ _ h⟩)⟩⟩))⟩
  · rw [z, mt_e7, hmv (by rw [z]; decide)] at h
    refine ⟨jf, nm_r z (br_f (by decide) (br_t rfl ⟨jf, br_c (fun r0 => ⟨jf, ?_⟩) (fun r0 => ⟨jf, ?_⟩)⟩))⟩
    · rw [if_pos r0] at h; exact h
    · rw [if_neg r0] at h; exact h
  · rw [z, mt_e8, hmv (by rw [z]; decide)] at h
    refine ⟨jf, nm_r z (br_f (by decide) (br_f (by decide) ⟨jf, hA, nm_e ⟨jf, hS, nm_e (br_t rfl (br_c (fun s0 => ⟨jf, br_c (fun r0 => ⟨jf, ?_⟩) (fun r0 => ⟨jf, ?_⟩)⟩) (fun s0 => ?_)))⟩⟩))⟩
    · rw [if_pos s0, if_pos r0] at h; exact h
    · rw [if_pos s0, if_neg r0] at h; exact h
    · rw [if_neg s0] at h; exact h
theorem mx_wa2 {o : Nat → Nat} {mv V : Nat → Int32} (hs : mt_sx xk xa xb xs xd) (ho : ∀ i, i < 18 → xo i = nI (o i)) (ht : mt_top xd o) (hc : mt_cmp xk xa xb xs xc o 18 xt xf xh) (hmv : ∀ f, f < 18 → 6 < xk f → mv f = if xr f = 0 then xm f else xc f) (hV : mt_sol xk xa xb xs xc xi mv V) : ∀ d i w, i + d = 18 → (∀ j, j < i → w (o j) = V (o j)) → ∃ w', (∀ f, f < 18 → w' f = V f) ∧ ∀ post : SX → Prop, post (xn, xk, xa, xb, xs, xc, xd, xo, xt, xf, xh, xi, xm, xr, w', xl) → wX_workAll_2 post xn (d + 1) (nI i) xk xa xb xs xc xd xo xt xf xh xi xm xr w xl := by
  intro d
  induction d with
  | zero =>
    intro i w hi hw
    obtain rfl : i = 18 := by omega
    refine ⟨w, ?_, fun post hp => br_t (nI_le (a := 18) (b := 18) (Nat.le_refl _) (by decide)) hp⟩
    intro f hf
    obtain ⟨j, hj, e⟩ := ht.2.2.1 f hf
    rw [← e]
    exact hw j hj
  | succ d ih =>
    intro i w hi hw
    have hi18 : i < 18 := by omega
    have ei : (nI i).toNatClampNeg = i := nI_clamp (by omega)
    have hf : o i < 18 := ht.1 i hi18
    have ef : (nI (o i)).toNatClampNeg = o i := nI_clamp (by omega)
    have jf : vp_in (nI (o i)) 18 := vp_in_nI hf (by decide)
    have hw' : ∀ j, j < i + 1 → upd w (o i) (V (o i)) (o j) = V (o j) := by
      intro j hj
      by_cases e : o j = o i
      · rw [e, mt_upd_eq]
      · rw [mt_upd_ne e]
        refine hw j ?_
        rcases Nat.lt_or_ge j i with z | z
        · exact z
        · exact absurd (congrArg o (by omega : j = i)) e
    obtain ⟨w', h1, h2⟩ := ih (i + 1) (upd w (o i) (V (o i))) (by omega) hw'
    refine ⟨w', h1, fun post hp => ?_⟩
    have go := h2 post hp
    obtain ⟨c1, c2, j', c3, c4, c5⟩ := hc i hi18
    rw [wX_workAll_2]
    dsimp only
    rw [ei]
    refine br_f (nI_ge (b := 18) (by omega) (by decide)) ⟨vp_in_nI hi18 (by decide), nm_r (ho i hi18) ?_⟩
    rw [ef]
    refine ⟨jf, ?_⟩
    by_cases t : xt (o i) = 0
    · refine br_t t ⟨jf, ?_⟩
      by_cases s : xh (o i) = nI (o i)
      · refine br_t s (mx_work (mv := mv) hs hf (c2 t) (hmv _ hf) ⟨jf, nm_r (congrArg (upd w (o i)) ?_) (nm_r (nI_1 i) go)⟩)
        rw [hV (o i) hf]
        refine mt_evfc hs hf (fun g _ hb => ?_)
        obtain ⟨j, hj, e⟩ := ht.2.2.2 i hi18 g hb
        rw [← e]
        exact hw j hj
      · have l : o j' < 18 := ht.1 j' (by omega)
        refine br_f s ⟨jf, by rw [c4]; exact vp_in_nI l (by decide), jf, nm_r (congrArg (upd w (o i)) ?_) (nm_r (nI_1 i) go)⟩
        rw [c4, nI_clamp (by omega), ← c5 xi mv V hV]
        refine hw j' ?_
        rcases Nat.lt_or_ge j' i with z | z
        · exact z
        · exact absurd (c4.trans (congrArg (fun n => nI (o n)) (by omega : j' = i))) s
    · refine br_f t ⟨jf, jf, nm_r (congrArg (upd w (o i)) ?_) (nm_r (nI_1 i) go)⟩
      exact (c1 t xi mv V hV).symm
theorem mx_wa {mv V : Nat → Int32} (hs : mt_sx xk xa xb xs xd) (hc : mt_com xk xa xb xs xc xd xo xt xf xh) (hmv : ∀ f, f < 18 → 6 < xk f → mv f = if xr f = 0 then xm f else xc f) (hV : mt_sol xk xa xb xs xc xi mv V) : ∃ w', (∀ f, f < 18 → w' f = V f) ∧ ∀ post : SX → Prop, post (xn, xk, xa, xb, xs, xc, xd, xo, xt, xf, xh, xi, xm, xr, w', xl) → wpX_workAll post (xn, xk, xa, xb, xs, xc, xd, xo, xt, xf, xh, xi, xm, xr, xw, xl) := by
  obtain ⟨o, ho, ht, hc⟩ := hc
  obtain ⟨w', h1, h2⟩ := mx_wa2 (xn := xn) (xm := xm) (xr := xr) (xl := xl) hs ho ht hc hmv hV 18 0 xw rfl (fun j hj => absurd hj (Nat.not_lt_zero j))
  refine ⟨w', h1, fun post hp => ?_⟩
  unfold wpX_workAll
  exact ⟨19, h2 post hp⟩
end
/-! ===== X: finish ===== -/
def mt_mf (xk xa xw xm : Nat → Int32) : Nat → Int32 := fun f => if xk f = 7 then xw (xa f).toNatClampNeg else if xk f = 8 then xw f else xm f
section
variable {xn : Int32} {xk xa xb xs xc xd xo xt xf xh xi xm xr xw xl : Nat → Int32}
variable {post : SX → Prop}
theorem mx_fi59 {J2 : Int32 → (Nat → Int32) → (Nat → Int32) → (Nat → Int32) → (Nat → Int32) → (Nat → Int32) → (Nat → Int32) → (Nat → Int32) → (Nat → Int32) → (Nat → Int32) → (Nat → Int32) → (Nat → Int32) → (Nat → Int32) → (Nat → Int32) → (Nat → Int32) → (Nat → Int32) → Prop} {i : Nat} {M : Nat → Int32} (hi : i < 18) (hJ : J2 (nI (i + 1)) xk xa xb xs xc xd xo xt xf xh xi M (mt_cp (i + 1) (fun _ => 0) xr) xw (mt_cp (i + 1) xw xl)) : wX_finish_59 post J2 (nI i) xn xk xa xb xs xc xd xo xt xf xh xi M (mt_cp i (fun _ => 0) xr) xw (mt_cp i xw xl) := by
  have ei : (nI i).toNatClampNeg = i := nI_clamp (by omega)
  have ji : vp_in (nI i) 18 := vp_in_nI hi (by decide)
  unfold wX_finish_59
  rw [ei]
  exact ⟨ji, ji, nm_r (mt_cps rfl) ⟨ji, nm_r (mt_cps rfl) (nm_r (nI_1 i) hJ)⟩⟩
theorem mx_fi2 (hs : mt_sx xk xa xb xs xd) (hp : post (xn + 1, xk, xa, xb, xs, xc, xd, xo, xt, xf, xh, xi, mt_cp 18 (mt_mf xk xa xw xm) xm, mt_cp 18 (fun _ => 0) xr, xw, mt_cp 18 xw xl)) : ∀ d i, i + d = 18 → wX_finish_2 post xn (d + 1) (nI i) xk xa xb xs xc xd xo xt xf xh xi (mt_cp i (mt_mf xk xa xw xm) xm) (mt_cp i (fun _ => 0) xr) xw (mt_cp i xw xl) := by
  intro d
  induction d with
  | zero =>
    intro i hi
    obtain rfl : i = 18 := by omega
    exact br_t (nI_le (a := 18) (b := 18) (Nat.le_refl _) (by decide)) (nm_e hp)
  | succ d ih =>
    intro i hi
    have hi18 : i < 18 := by omega
    have ei : (nI i).toNatClampNeg = i := nI_clamp (by omega)
    have ji : vp_in (nI i) 18 := vp_in_nI hi18 (by decide)
    have go := ih (i + 1) (by omega)
    obtain ⟨_, hA, _, _, _⟩ := hs i hi18
    rw [wX_finish_2]
    dsimp only
    rw [ei]
    refine br_f (nI_ge (b := 18) (by omega) (by decide)) ⟨ji, ?_⟩
    by_cases k7 : xk i = 7
    · refine br_t k7 ⟨ji, hA, ji, nm_r (mt_cps (if_pos k7).symm) ?_⟩
      unfold wX_finish_36
      rw [ei]
      refine ⟨ji, br_f (by rw [k7]; decide) ?_⟩
      exact mx_fi59 hi18 go
    · refine br_f k7 ?_
      unfold wX_finish_36
      rw [ei]
      refine ⟨ji, ?_⟩
      by_cases k8 : xk i = 8
      · refine br_t k8 ⟨ji, ji, nm_r (mt_cps ((if_neg k7).trans (if_pos k8)).symm) ?_⟩
        exact mx_fi59 hi18 go
      · refine br_f k8 ?_
        rw [mt_cpk (n := i) (w := mt_mf xk xa xw xm) (l := xm) ((if_neg k7).trans (if_neg k8))]
        exact mx_fi59 hi18 go
theorem mx_fin (hs : mt_sx xk xa xb xs xd) (hp : post (xn + 1, xk, xa, xb, xs, xc, xd, xo, xt, xf, xh, xi, mt_cp 18 (mt_mf xk xa xw xm) xm, mt_cp 18 (fun _ => 0) xr, xw, mt_cp 18 xw xl)) : wpX_finish post (xn, xk, xa, xb, xs, xc, xd, xo, xt, xf, xh, xi, xm, xr, xw, xl) := by
  unfold wpX_finish
  have h := mx_fi2 hs hp 18 0 rfl
  rw [mt_cp0, mt_cp0, mt_cp0] at h
  exact ⟨19, h⟩
/-! ===== X: reset, constructor ===== -/
theorem mx_re7 (hp : post (xn, xk, xa, xb, xs, xc, xd, xo, xt, xf, xh, xi, mt_cp 18 (fun _ => 0) xm, mt_cp 18 (fun _ => 1) xr, xw, mt_cp 18 (fun _ => 0) xl)) : ∀ d i, i + d = 18 → wX_reset_7 post xn (d + 1) (nI i) xk xa xb xs xc xd xo xt xf xh xi (mt_cp i (fun _ => 0) xm) (mt_cp i (fun _ => 1) xr) xw (mt_cp i (fun _ => 0) xl) := by
  intro d
  induction d with
  | zero =>
    intro i hi
    obtain rfl : i = 18 := by omega
    exact br_t (nI_le (a := 18) (b := 18) (Nat.le_refl _) (by decide)) hp
  | succ d ih =>
    intro i hi
    have hi18 : i < 18 := by omega
    have ei : (nI i).toNatClampNeg = i := nI_clamp (by omega)
    have ji : vp_in (nI i) 18 := vp_in_nI hi18 (by decide)
    have go := ih (i + 1) (by omega)
    rw [wX_reset_7]
    dsimp only
    rw [ei]
    exact br_f (nI_ge (b := 18) (by omega) (by decide)) ⟨ji, nm_r (mt_cps rfl) ⟨ji, nm_r (mt_cps rfl) ⟨ji, nm_r (mt_cps rfl) (nm_r (nI_1 i) go)⟩⟩⟩
theorem mx_reset (hp : post (0, xk, xa, xb, xs, xc, xd, xo, xt, xf, xh, xi, mt_cp 18 (fun _ => 0) xm, mt_cp 18 (fun _ => 1) xr, xw, mt_cp 18 (fun _ => 0) xl)) : wpX_reset post (xn, xk, xa, xb, xs, xc, xd, xo, xt, xf, xh, xi, xm, xr, xw, xl) := by
  unfold wpX_reset
  have h := mx_re7 hp 18 0 rfl
  rw [mt_cp0, mt_cp0, mt_cp0] at h
  exact ⟨19, h⟩
theorem mx_in125 (hp : wpX_compile post (xn, mt_cp 18 (fun _ => 1) xk, xa, xb, xs, xc, xd, xo, xt, xf, xh, xi, xm, mt_cp 18 (fun _ => 1) xr, xw, xl)) : ∀ d i, i + d = 18 → wX_init_125 post xn (d + 1) (nI i) (mt_cp i (fun _ => 1) xk) xa xb xs xc xd xo xt xf xh xi xm (mt_cp i (fun _ => 1) xr) xw xl := by
  intro d
  induction d with
  | zero =>
    intro i hi
    obtain rfl : i = 18 := by omega
    exact br_t (nI_le (a := 18) (b := 18) (Nat.le_refl _) (by decide)) hp
  | succ d ih =>
    intro i hi
    have hi18 : i < 18 := by omega
    have ei : (nI i).toNatClampNeg = i := nI_clamp (by omega)
    have ji : vp_in (nI i) 18 := vp_in_nI hi18 (by decide)
    have go := ih (i + 1) (by omega)
    rw [wX_init_125]
    dsimp only
    rw [ei]
    exact br_f (nI_ge (b := 18) (by omega) (by decide)) ⟨ji, nm_r (mt_cps rfl) ⟨ji, nm_r (mt_cps rfl) (nm_r (nI_1 i) go)⟩⟩
end
end
section
/-! ===== Y's small methods ===== -/
section
variable {yn : Int32} {yk yp yc yr yi yl yw yh yd : Nat → Int32}
variable {post : Int32 → Prop} {k a b s x p : Int32}
theorem my_bad (h0 : vp_in x 18 → post 0) (h1 : ¬ vp_in x 18 → post 1) : wpY_bad post (yn, yk, yp, yc, yr, yi, yl, yw, yh, yd) x := by
  unfold wpY_bad
  rcases pk_ix x (n := 18) (by decide) with z | z | ⟨j, hj, rfl⟩
  · exact br_t z (h1 (fun y => y (Or.inl z)))
  · have n18 : ¬ vp_in x 18 := fun y => by
      obtain ⟨j, hj, rfl⟩ := vp_in_of y (by decide)
      exact nI_ge hj (by decide) z
    refine br_c (fun _ => h1 n18) (fun w => br_c (fun y => ?_) (fun _ => h1 n18))
    exfalso
    obtain ⟨j, hj, rfl⟩ := nI_of2 (M := 17) (n := 17) (by decide) w y
    exact nI_ge (b := 18) (by omega) (by decide) z
  · exact br_f (nI_pos (by omega)) (br_t (nI_le (b := 17) (by omega) (by decide)) (h0 (vp_in_nI hj (by decide))))
theorem my_nB (h0 : (k < 2 ∨ 6 < k) → post 0) (h1 : ¬ k < 2 → ¬ 6 < k → post 1) : wpY_namesB post (yn, yk, yp, yc, yr, yi, yl, yw, yh, yd) k := by
  unfold wpY_namesB
  exact br_c (fun z => h0 (Or.inl z)) (fun z => br_c (fun y => h0 (Or.inr y)) (fun y => h1 z y))
theorem my_nS (h0 : ¬ (k = 6 ∨ k = 8) → post 0) (h1 : (k = 6 ∨ k = 8) → post 1) : wpY_namesS post (yn, yk, yp, yc, yr, yi, yl, yw, yh, yd) k := by
  unfold wpY_namesS
  exact br_c (fun z => h1 (Or.inl z)) (fun z => br_c (fun y => h1 (Or.inr y)) (fun y => h0 (fun w => w.elim z y)))
theorem my_d39 (h : post (if k = 6 ∨ k = 8 then x ||| mt_m1 ((p >>> ((10 : Int32) &&& 31)) &&& 31) else x)) : wY_direct_39 post k p x yn yk yp yc yr yi yl yw yh yd := by
  unfold wY_direct_39
  refine my_nS (fun z => ?_) (fun z => ?_)
  · rw [if_neg z] at h
    exact br_t rfl h
  · rw [if_pos z] at h
    exact br_f mt_01 (nm_e h)
theorem my_dir (hk : mt_K k) (h : post (mt_dm k (p &&& 31) ((p >>> ((5 : Int32) &&& 31)) &&& 31) ((p >>> ((10 : Int32) &&& 31)) &&& 31))) : wpY_direct post (yn, yk, yp, yc, yr, yi, yl, yw, yh, yd) k p := by
  unfold wpY_direct
  rcases hk with rfl | rfl | rfl | rfl | rfl | rfl | rfl | rfl | rfl
  · rw [mt_dmL (by decide)] at h
    exact br_t (by decide) h
  · rw [mt_dmL (by decide)] at h
    exact br_t (by decide) h
  · rw [mt_dmM (by decide) (by decide)] at h
    refine br_f (by decide) (br_f (by decide) (nm_e ?_))
    refine my_nB (fun z => absurd z (by decide)) (fun _ _ => br_f mt_01 (nm_e ?_))
    exact my_d39 (by rw [if_neg (by decide)]; exact h)
  · rw [mt_dmM (by decide) (by decide)] at h
    refine br_f (by decide) (br_f (by decide) (nm_e ?_))
    refine my_nB (fun z => absurd z (by decide)) (fun _ _ => br_f mt_01 (nm_e ?_))
    exact my_d39 (by rw [if_neg (by decide)]; exact h)
  · rw [mt_dmM (by decide) (by decide)] at h
    refine br_f (by decide) (br_f (by decide) (nm_e ?_))
    refine my_nB (fun z => absurd z (by decide)) (fun _ _ => br_f mt_01 (nm_e ?_))
    exact my_d39 (by rw [if_neg (by decide)]; exact h)
  · rw [mt_dmM (by decide) (by decide)] at h
    refine br_f (by decide) (br_f (by decide) (nm_e ?_))
    refine my_nB (fun z => absurd z (by decide)) (fun _ _ => br_f mt_01 (nm_e ?_))
    exact my_d39 (by rw [if_neg (by decide)]; exact h)
  · rw [mt_dm6] at h
    refine br_f (by decide) (br_f (by decide) (nm_e ?_))
    refine my_nB (fun z => absurd z (by decide)) (fun _ _ => br_f mt_01 (nm_e ?_))
    exact my_d39 (by rw [if_pos (by decide)]; exact h)
  · rw [mt_dm7] at h
    exact br_f (by decide) (br_t rfl h)
  · rw [mt_dm8] at h
    refine br_f (by decide) (br_f (by decide) (nm_e ?_))
    refine my_nB (fun _ => br_t rfl ?_) (fun _ z => absurd (by decide) z)
    exact my_d39 (by rw [if_pos (by decide)]; exact h)
end
/-! ===== Y: what every flow needs ===== -/
section
variable {yn : Int32} {yk yp yc yr yi yl yw yh yd : Nat → Int32}
theorem my_an46 {post : SY → Prop} {J38 : Int32 → (Nat → Int32) → (Nat → Int32) → (Nat → Int32) → (Nat → Int32) → (Nat → Int32) → (Nat → Int32) → (Nat → Int32) → (Nat → Int32) → (Nat → Int32) → Prop} {k : Nat} {W : Nat → Int32} (hk : k < 18) (hJ : J38 (nI (k + 1)) yk yp yc yr yi yl yw yh (mt_ws k W 18)) : ∀ d f, f + d = 18 → wY_allNeeds_46 post J38 (nI k) yn (d + 1) (nI f) yk yp yc yr yi yl yw yh (mt_ws k W f) := by
  intro d
  induction d with
  | zero =>
    intro f hf
    obtain rfl : f = 18 := by omega
    exact br_t (nI_le (a := 18) (b := 18) (Nat.le_refl _) (by decide)) (nm_r (nI_1 k) hJ)
  | succ d ih =>
    intro f hf
    have ef : (nI f).toNatClampNeg = f := nI_clamp (by omega)
    have ek : (nI k).toNatClampNeg = k := nI_clamp (by omega)
    have jf : vp_in (nI f) 18 := vp_in_nI (by omega) (by decide)
    have jk : vp_in (nI k) 18 := vp_in_nI (by omega) (by decide)
    have go := ih (f + 1) (by omega)
    rw [wY_allNeeds_46]
    dsimp only
    rw [ef, ek, mt_ws_n, mt_ws_k]
    refine br_f (nI_ge (b := 18) (by omega) (by decide)) ⟨jf, ?_⟩
    by_cases hb : bt (W f) k = true
    · exact br_t ((mt_bit _ (by omega)).mpr hb) ⟨jf, jk, jf, nm_r (mt_ws_t hb) (nm_r (nI_1 f) go)⟩
    · refine br_f (fun z => hb ((mt_bit _ (by omega)).mp z)) ?_
      rw [mt_ws_f hb]
      exact nm_r (nI_1 f) go
theorem my_an38 {post : SY → Prop} {N : Nat → Int32} (hp : ∀ W, mt_WS N W → post (yn, yk, yp, yc, yr, yi, yl, yw, yh, W)) : ∀ d k W, k + d = 18 → mt_WI N k W → wY_allNeeds_38 post yn (d + 1) (nI k) yk yp yc yr yi yl yw yh W := by
  intro d
  induction d with
  | zero =>
    intro k W hk hW
    obtain rfl : k = 18 := by omega
    exact br_t (nI_le (a := 18) (b := 18) (Nat.le_refl _) (by decide)) (hp W (mt_WIe hW))
  | succ d ih =>
    intro k W hk hW
    refine br_f (nI_ge (b := 18) (by omega) (by decide)) ⟨19, ?_⟩
    have h := my_an46 (post := post) (yn := yn) (yk := yk) (yp := yp) (yc := yc) (yr := yr) (yi := yi) (yl := yl) (yw := yw) (yh := yh) (J38 := wY_allNeeds_38 post yn (d + 1)) (W := W) (k := k) (by omega) (ih (k + 1) _ (by omega) (mt_WIs (by omega) hW)) 18 0 rfl
    rw [mt_ws0] at h
    exact h
/-- Y's definitions give the masks N -/
def mt_yn (yk yp N : Nat → Int32) : Prop := ∀ f, f < 18 → mt_K (yk f) ∧ mt_dm (yk f) (yp f &&& 31) ((yp f >>> ((5 : Int32) &&& 31)) &&& 31) ((yp f >>> ((10 : Int32) &&& 31)) &&& 31) = N f ∧ mt_sm (N f)
theorem my_an2 {post : SY → Prop} {N : Nat → Int32} (hN : mt_yn yk yp N) (hp : ∀ W, mt_WS N W → post (yn, yk, yp, yc, yr, yi, yl, yw, yh, W)) : ∀ d i, i + d = 18 → wY_allNeeds_2 post yn (d + 1) (nI i) yk yp yc yr yi yl yw yh (mt_cp i N yd) := by
  intro d
  induction d with
  | zero =>
    intro i hi
    obtain rfl : i = 18 := by omega
    refine br_t (nI_le (a := 18) (b := 18) (Nat.le_refl _) (by decide)) ⟨19, ?_⟩
    exact my_an38 hp 18 0 _ rfl (mt_WI0 (fun f hf => (hN f hf).2.2) (fun f hf => mt_cp_lt hf))
  | succ d ih =>
    intro i hi
    have ei : (nI i).toNatClampNeg = i := nI_clamp (by omega)
    have ji : vp_in (nI i) 18 := vp_in_nI (by omega) (by decide)
    have go := ih (i + 1) (by omega)
    obtain ⟨n1, n2, n3⟩ := hN i (by omega)
    rw [wY_allNeeds_2]
    dsimp only
    rw [ei]
    refine br_f (nI_ge (b := 18) (by omega) (by decide)) ⟨ji, ji, ?_⟩
    refine my_dir n1 ?_
    exact ⟨ji, nm_r (mt_cps n2) (nm_r (nI_1 i) go)⟩
theorem my_an {post : SY → Prop} {N : Nat → Int32} (hN : mt_yn yk yp N) (hp : ∀ W, mt_WS N W → post (yn, yk, yp, yc, yr, yi, yl, yw, yh, W)) : wpY_allNeeds post (yn, yk, yp, yc, yr, yi, yl, yw, yh, yd) := by
  unfold wpY_allNeeds
  have h := my_an2 (yn := yn) (yd := yd) hN hp 18 0 rfl
  rw [mt_cp0] at h
  exact ⟨19, h⟩
theorem my_ci6 {post : Int32 → SY → Prop} (h1 : (∃ f, f < 18 ∧ bt (yd f) f = true) → post 1 (yn, yk, yp, yc, yr, yi, yl, yw, yh, yd)) (h0 : (∀ f, f < 18 → bt (yd f) f = false) → post 0 (yn, yk, yp, yc, yr, yi, yl, yw, yh, yd)) : ∀ d f, f + d = 18 → (∀ g, g < f → bt (yd g) g = false) → wY_circle_6 post yn yk yp yc yr yi yl yw yh yd (d + 1) (nI f) := by
  intro d
  induction d with
  | zero =>
    intro f hf hg
    obtain rfl : f = 18 := by omega
    exact br_t (nI_le (a := 18) (b := 18) (Nat.le_refl _) (by decide)) (h0 hg)
  | succ d ih =>
    intro f hf hg
    have ef : (nI f).toNatClampNeg = f := nI_clamp (by omega)
    have jf : vp_in (nI f) 18 := vp_in_nI (by omega) (by decide)
    rw [wY_circle_6]
    dsimp only
    rw [ef]
    refine br_f (nI_ge (b := 18) (by omega) (by decide)) ⟨jf, ?_⟩
    by_cases hb : bt (yd f) f = true
    · exact br_t ((mt_bit _ (by omega)).mpr hb) (h1 ⟨f, by omega, hb⟩)
    · refine br_f (fun z => hb ((mt_bit _ (by omega)).mp z)) (nm_r (nI_1 f) (ih (f + 1) (by omega) ?_))
      intro g hg'
      by_cases e : g = f
      · rw [e]; exact mt_nt hb
      · exact hg g (by omega)
theorem my_circle {post : Int32 → SY → Prop} {N : Nat → Int32} (hN : mt_yn yk yp N) (h1 : ∀ W, mt_WS N W → (∃ f, f < 18 ∧ bt (W f) f = true) → post 1 (yn, yk, yp, yc, yr, yi, yl, yw, yh, W)) (h0 : ∀ W, mt_WS N W → (∀ f, f < 18 → bt (W f) f = false) → post 0 (yn, yk, yp, yc, yr, yi, yl, yw, yh, W)) : wpY_circle post (yn, yk, yp, yc, yr, yi, yl, yw, yh, yd) := by
  unfold wpY_circle
  refine my_an hN (fun W hW => ?_)
  exact ⟨19, my_ci6 (h1 W hW) (h0 W hW) 18 0 rfl (fun g hg => absurd hg (Nat.not_lt_zero g))⟩
theorem my_191 {post : Int32 → SY → Prop} {x : Nat} (hx : x < 18) (hp : post (mt_bs (yd x) 18) (yn, yk, yp, yc, yr, yi, yl, yw, yh, yd)) : ∀ d f, f + d = 18 → wY_define_191 post (nI x) yn yk yp yc yr yi yl yw yh yd (d + 1) (mt_bs (yd x) f) (nI f) := by
  intro d
  induction d with
  | zero =>
    intro f hf
    obtain rfl : f = 18 := by omega
    exact br_t (nI_le (a := 18) (b := 18) (Nat.le_refl _) (by decide)) hp
  | succ d ih =>
    intro f hf
    have ex : (nI x).toNatClampNeg = x := nI_clamp (by omega)
    rw [wY_define_191]
    dsimp only
    rw [ex]
    exact br_f (nI_ge (b := 18) (by omega) (by decide)) ⟨vp_in_nI hx (by decide), nm_e (nm_r (nI_1 f) (ih (f + 1) (by omega)))⟩
end
/-! ===== Y: define ===== -/
section
variable {yn : Int32} {yk yp yc yr yi yl yw yh yd : Nat → Int32}
variable {post : Int32 → SY → Prop} {k p c x : Int32}
theorem my_95b {x5 x6 z0 : Int32} (h : ¬ (x5 = 0 ∧ x6 = 0 ∧ z0 = 0)) (hp : post (-1) (yn, yk, yp, yc, yr, yi, yl, yw, yh, yd)) : wY_define_95 post x k p c x5 x6 z0 yn yk yp yc yr yi yl yw yh yd := by
  unfold wY_define_95
  by_cases h5 : x5 = 0
  · refine br_t h5 ?_
    by_cases h6 : x6 = 0
    · refine br_t h6 ?_
      by_cases h7 : z0 = 0
      · exact absurd ⟨h5, h6, h7⟩ h
      · exact br_f h7 hp
    · exact br_f h6 hp
  · exact br_f h5 hp
theorem mt_31 {y : Int32} : (y &&& 31) ≤ 17 ↔ vp_in (y &&& 31) 18 := by
  obtain ⟨j, hj, e⟩ := pk_andE y (m := 31) 5 (by decide)
  rw [e]
  have h2 : j < 32 := hj
  constructor
  · intro h
    have : j ≤ 17 := (nI_leI (a := j) (b := 17) (by omega) (by omega)).mp h
    exact vp_in_nI (by omega) (by decide)
  · intro h
    obtain ⟨i, hi, e2⟩ := vp_in_of h (by decide)
    rw [e2]
    exact nI_le (b := 17) (by omega) (by decide)
theorem my_68 {x5 x6 : Int32} (h : x5 = 0 → x6 = 0 → (k = 6 ∨ k = 8 → vp_in ((p >>> ((10 : Int32) &&& 31)) &&& 31) 18) → wY_define_95 post x k p c 0 0 0 yn yk yp yc yr yi yl yw yh yd) (hb : ¬ (x5 = 0 ∧ x6 = 0 ∧ (k = 6 ∨ k = 8 → vp_in ((p >>> ((10 : Int32) &&& 31)) &&& 31) 18)) → post (-1) (yn, yk, yp, yc, yr, yi, yl, yw, yh, yd)) : wY_define_68 post x k p c x5 x6 yn yk yp yc yr yi yl yw yh yd := by
  unfold wY_define_68
  have zero : (k = 6 ∨ k = 8 → vp_in ((p >>> ((10 : Int32) &&& 31)) &&& 31) 18) → wY_define_95 post x k p c x5 x6 0 yn yk yp yc yr yi yl yw yh yd := by
    intro hs
    by_cases h5 : x5 = 0
    · by_cases h6 : x6 = 0
      · subst h5 h6
        exact h rfl rfl hs
      · exact my_95b (fun z => h6 z.2.1) (hb (fun z => h6 z.2.1))
    · exact my_95b (fun z => h5 z.1) (hb (fun z => h5 z.1))
  refine my_nS (fun z => ?_) (fun z => ?_)
  · exact br_t rfl (zero (fun w => absurd w z))
  · refine br_f mt_01 (br_c (fun y => zero (fun _ => mt_31.mp y)) (fun y => ?_))
    exact my_95b (fun w => mt_01 w.2.2) (hb (fun w => y (mt_31.mpr (w.2.2 z))))
theorem my_42 {x5 : Int32} (h : x5 = 0 → (¬ k < 2 → ¬ 6 < k → vp_in ((p >>> ((5 : Int32) &&& 31)) &&& 31) 18) → (k = 6 ∨ k = 8 → vp_in ((p >>> ((10 : Int32) &&& 31)) &&& 31) 18) → wY_define_95 post x k p c 0 0 0 yn yk yp yc yr yi yl yw yh yd) (hb : ¬ (x5 = 0 ∧ (¬ k < 2 → ¬ 6 < k → vp_in ((p >>> ((5 : Int32) &&& 31)) &&& 31) 18) ∧ (k = 6 ∨ k = 8 → vp_in ((p >>> ((10 : Int32) &&& 31)) &&& 31) 18)) → post (-1) (yn, yk, yp, yc, yr, yi, yl, yw, yh, yd)) : wY_define_42 post x k p c x5 yn yk yp yc yr yi yl yw yh yd := by
  unfold wY_define_42
  have zero : (¬ k < 2 → ¬ 6 < k → vp_in ((p >>> ((5 : Int32) &&& 31)) &&& 31) 18) → wY_define_67 post x k p c x5 yn yk yp yc yr yi yl yw yh yd := by
    intro hB
    unfold wY_define_67
    exact my_68 (fun y _ w => h y hB w) (fun y => hb (fun w => y ⟨w.1, rfl, w.2.2⟩))
  refine my_nB (fun z => ?_) (fun z z6 => ?_)
  · exact br_t rfl (zero (fun y y6 => (z.elim y y6).elim))
  · refine br_f mt_01 (br_c (fun y => zero (fun _ _ => mt_31.mp y)) (fun y => ?_))
    exact my_68 (fun _ w _ => absurd w mt_01) (fun _ => hb (fun w => y (mt_31.mpr (w.2.1 z z6))))
theorem mt_k1 (h : mt_K k) : k ≤ 1 ↔ k < 2 := by
  rcases h with rfl | rfl | rfl | rfl | rfl | rfl | rfl | rfl | rfl <;> decide
theorem my_def (hk : mt_K k) (h : mt_ok k (p &&& 31) ((p >>> ((5 : Int32) &&& 31)) &&& 31) ((p >>> ((10 : Int32) &&& 31)) &&& 31) → wY_define_95 post x k p c 0 0 0 yn yk yp yc yr yi yl yw yh yd) (hb : ¬ mt_ok k (p &&& 31) ((p >>> ((5 : Int32) &&& 31)) &&& 31) ((p >>> ((10 : Int32) &&& 31)) &&& 31) → post (-1) (yn, yk, yp, yc, yr, yi, yl, yw, yh, yd)) : ((k ≤ 1 → wY_define_41 post x k p c yn yk yp yc yr yi yl yw yh yd) ∧ (¬ k ≤ 1 → (((p &&& 31) ≤ 17 → wY_define_41 post x k p c yn yk yp yc yr yi yl yw yh yd) ∧ (¬ (p &&& 31) ≤ 17 → wY_define_42 post x k p c 1 yn yk yp yc yr yi yl yw yh yd)))) := by
  have zero : (¬ k < 2 → vp_in (p &&& 31) 18) → wY_define_41 post x k p c yn yk yp yc yr yi yl yw yh yd := by
    intro hA
    unfold wY_define_41
    exact my_42 (fun _ y w => h ⟨hA, y, w⟩) (fun y => hb (fun w => y ⟨rfl, w.2⟩))
  refine br_c (fun z => zero (fun y => absurd ((mt_k1 hk).mp z) y)) (fun z => br_c (fun y => zero (fun _ => mt_31.mp y)) (fun y => ?_))
  exact my_42 (fun w => absurd w mt_01) (fun _ => hb (fun w => y (mt_31.mpr (w.1 (fun q => z ((mt_k1 hk).mpr q))))))
theorem my_core {f : Nat} {N : Nat → Int32} (hf : f < 18) (hN : mt_yn (upd yk f k) (upd yp f p) N)
    (h0 : ∀ W, mt_WS N W → (∀ g, g < 18 → bt (W g) g = false) → post (mt_bs (W f) 18) (yn, upd yk f k, upd yp f p, upd yc f c, upd yr f 1, yi, yl, yw, yh, W))
    (h1 : ∀ W, mt_WS N W → (∃ g, g < 18 ∧ bt (W g) g = true) → post (-3) (yn, yk, yp, yc, yr, yi, yl, yw, yh, W)) : wY_define_95 post (nI f) k p c 0 0 0 yn yk yp yc yr yi yl yw yh yd := by
  have ef : (nI f).toNatClampNeg = f := nI_clamp (by omega)
  have jf : vp_in (nI f) 18 := vp_in_nI hf (by decide)
  unfold wY_define_95
  rw [ef]
  refine br_t rfl (br_t rfl (br_t rfl ⟨jf, nm_e ⟨jf, nm_e ⟨jf, nm_e ⟨jf, nm_e ?_⟩⟩⟩⟩))
  refine my_circle hN (fun W hW hc => ?_) (fun W hW hc => ?_)
  · exact br_f mt_01 ⟨jf, nm_r (mt_uu rfl) ⟨jf, nm_r (mt_uu rfl) (h1 W hW hc)⟩⟩
  · exact br_t rfl ⟨jf, nm_e ⟨jf, nm_e ⟨19, my_191 hf (h0 W hW hc) 18 0 rfl⟩⟩⟩
end
end
section
/-! ===== Y: an instant ===== -/
section
variable {yn : Int32} {yk yp yc yr yi yl yw yh yd : Nat → Int32}
variable {xa xb xs xd : Nat → Int32}
theorem my_op {post : Int32 → Prop} {f : Nat} {sh : Int32} (hf : f < 18) (h : ∀ r, (vp_in ((yp f >>> (sh &&& 31)) &&& 31) 18 → r = yw ((yp f >>> (sh &&& 31)) &&& 31).toNatClampNeg) → post r) : wpY_operand post (yn, yk, yp, yc, yr, yi, yl, yw, yh, yd) (nI f) sh := by
  have ef : (nI f).toNatClampNeg = f := nI_clamp (by omega)
  have jf : vp_in (nI f) 18 := vp_in_nI hf (by decide)
  unfold wpY_operand
  rw [ef]
  obtain ⟨j, hj, e⟩ := pk_andE (yp f >>> (sh &&& 31)) (m := 31) 5 (by decide)
  have hj' : j < 32 := hj
  refine ⟨jf, nm_e (br_c (fun z => h 0 (fun w => ?_)) (fun z => ⟨?_, h _ (fun _ => rfl)⟩))⟩
  · exfalso
    obtain ⟨i, hi, e2⟩ := vp_in_of w (by decide)
    rw [e2] at z
    exact nI_ge (b := 18) hi (by decide) z
  · rw [e] at z ⊢
    refine vp_in_nI ?_ (by decide)
    rcases Nat.lt_or_ge j 18 with w | w
    · exact w
    · exact absurd (nI_le (a := 18) w (by omega)) z
theorem my_worth {post : Int32 → Prop} {mv : Nat → Int32} {f : Nat} (hs : mt_sx yk xa xb xs xd) (hy : mt_sy yk xa xb xs yp) (hf : f < 18) (hmv : 6 < yk f → mv f = if yr f = 0 then (if yk f = 7 then yl (xa f).toNatClampNeg else yl f) else yc f) (h : post (mt_evf yk xa xb xs yc yi mv yw f)) : wpY_worth post (yn, yk, yp, yc, yr, yi, yl, yw, yh, yd) (nI f) := by
  have ef : (nI f).toNatClampNeg = f := nI_clamp (by omega)
  have jf : vp_in (nI f) 18 := vp_in_nI hf (by decide)
  have i3 : vp_in (yc f &&& 3) 4 := pk_andIn (yc f) (m := 3) 2 (by decide) (by decide)
  obtain ⟨hk, iA, iB, iS, hd⟩ := hs f hf
  obtain ⟨yA, yB, yS⟩ := hy f hf
  unfold wpY_worth
  rw [ef]
  refine ⟨jf, nm_e ?_⟩
  refine my_op hf (fun r3 h3 => ?_)
  refine my_op hf (fun r14 h14 => ?_)
  refine my_op hf (fun r25 h25 => ?_)
  have hA : ¬ yk f < 2 → r3 = yw (xa f).toNatClampNeg := by
    intro z
    rw [mt_oaN z] at yA
    rw [sb_shr0, ← yA] at h3
    exact h3 iA
  have hB : ¬ yk f < 2 → ¬ 6 < yk f → r14 = yw (xb f).toNatClampNeg := by
    intro z z6
    rw [mt_obN z z6] at yB
    rw [← yB] at h14
    exact h14 iB
  have hS : yk f = 6 ∨ yk f = 8 → r25 = yw (xs f).toNatClampNeg := by
    intro z
    rw [mt_osY z] at yS
    rw [← yS] at h25
    exact h25 iS
  clear h3 h14 h25 yB yS
  unfold mt_evf at h
  rcases hk with z | z | z | z | z | z | z | z | z
  · rw [z, mt_e0] at h
    rw [z]
    exact br_t rfl ⟨jf, i3, h⟩
  · rw [z, mt_e1] at h
    rw [z]
    exact br_f (by decide) (br_t rfl ⟨jf, h⟩)
  · rw [z] at hA hB
    rw [z, mt_e2, ← hA (by decide), ← hB (by decide) (by decide)] at h
    rw [z]
    exact br_f (by decide) (br_f (by decide) (br_t rfl h))
  · rw [z] at hA hB
    rw [z, mt_e3, ← hA (by decide), ← hB (by decide) (by decide)] at h
    rw [z]
    exact br_f (by decide) (br_f (by decide) (br_f (by decide) (br_t rfl h)))
  · rw [z] at hA hB
    rw [z, mt_e4, ← hA (by decide), ← hB (by decide) (by decide)] at h
    rw [z]
    exact br_f (by decide) (br_f (by decide) (br_f (by decide) (br_f (by decide) (br_t rfl h))))
  · rw [z] at hA hB
    rw [z, mt_e5, ← hA (by decide), ← hB (by decide) (by decide)] at h
    rw [z]
    refine br_f (by decide) (br_f (by decide) (br_f (by decide) (br_f (by decide) (br_f (by decide) (br_t rfl (br_c (fun y => ?_) (fun y => ?_)))))))
    · rw [if_pos y] at h; exact h
    · rw [if_neg y] at h; exact h
  · rw [z] at hA hB hS
    rw [z, mt_e6, ← hA (by decide), ← hB (by decide) (by decide), ← hS (Or.inl rfl)] at h
    rw [z]
    refine br_f (by decide) (br_f (by decide) (br_f (by decide) (br_f (by decide) (br_f (by decide) (br_f (by decide) (br_t rfl (br_c (fun y => ?_) (fun y => ?_))))))))
    · rw [if_pos y] at h; exact h
    · rw [if_neg y] at h; exact h
  · rw [z, mt_e7, hmv (by rw [z]; decide)] at h
    have eA : yp f &&& 31 = xa f := by rw [yA, z]; exact (mt_oaN (by decide)).symm
    rw [z, eA]
    refine br_f (by decide) (br_f (by decide) (br_f (by decide) (br_f (by decide) (br_f (by decide) (br_f (by decide) (br_f (by decide) (br_t rfl ⟨jf, br_c (fun y => ⟨jf, iA, ?_⟩) (fun y => ⟨jf, ?_⟩)⟩)))))))
    · rw [if_pos y, if_pos z] at h; exact h
    · rw [if_neg y] at h; exact h
  · rw [z, mt_e8, hmv (by rw [z]; decide)] at h
    rw [z] at hA hS
    rw [← hA (by decide), ← hS (Or.inr rfl)] at h
    rw [z]
    refine br_f (by decide) (br_f (by decide) (br_f (by decide) (br_f (by decide) (br_f (by decide) (br_f (by decide) (br_f (by decide) (br_f (by decide) (br_c (fun y => ⟨jf, br_c (fun w => ⟨jf, ?_⟩) (fun w => ⟨jf, ?_⟩)⟩) (fun y => ?_)))))))))
    · rw [if_pos y, if_pos w, if_neg (by rw [z]; decide)] at h; exact h
    · rw [if_pos y, if_neg w] at h; exact h
    · rw [if_neg y] at h; exact h
theorem my_rd19 {post : Int32 → Prop} {m : Int32} (h1 : (∀ g, g < 18 → bt m g = true → ¬ yh g = 0) → post 1) (h0 : ¬ (∀ g, g < 18 → bt m g = true → ¬ yh g = 0) → post 0) : ∀ d g, g + d = 18 → (∀ g', g' < g → bt m g' = true → ¬ yh g' = 0) → wY_ready_19 post m yn yk yp yc yr yi yl yw yh yd (d + 1) (nI g) := by
  intro d
  induction d with
  | zero =>
    intro g hg hh
    obtain rfl : g = 18 := by omega
    exact br_t (nI_le (a := 18) (b := 18) (Nat.le_refl _) (by decide)) (h1 hh)
  | succ d ih =>
    intro g hg hh
    have eg : (nI g).toNatClampNeg = g := nI_clamp (by omega)
    have jg : vp_in (nI g) 18 := vp_in_nI (by omega) (by decide)
    rw [wY_ready_19]
    dsimp only
    rw [eg]
    refine br_f (nI_ge (b := 18) (by omega) (by decide)) ?_
    by_cases hb : bt m g = true
    · refine br_t ((mt_bit _ (by omega)).mpr hb) ⟨jg, ?_⟩
      by_cases z : yh g = 0
      · exact br_t z (h0 (fun w => w g (by omega) hb z))
      · refine br_f z (nm_r (nI_1 g) (ih (g + 1) (by omega) ?_))
        intro g' hg' hb'
        by_cases e : g' = g
        · rw [e]; exact z
        · exact hh g' (by omega) hb'
    · refine br_f (fun z => hb ((mt_bit _ (by omega)).mp z)) (nm_r (nI_1 g) (ih (g + 1) (by omega) ?_))
      intro g' hg' hb'
      by_cases e : g' = g
      · subst e; exact absurd hb' hb
      · exact hh g' (by omega) hb'
theorem mt_ynof (hs : mt_sx yk xa xb xs xd) (hy : mt_sy yk xa xb xs yp) : mt_yn yk yp xd := by
  intro f hf
  obtain ⟨hk, iA, iB, iS, hd⟩ := hs f hf
  obtain ⟨yA, yB, yS⟩ := hy f hf
  refine ⟨hk, ?_, mt_sx_sm hs f hf⟩
  rw [hd, yA, yB, yS]
  exact (mt_dmr hk).symm
theorem my_ready {post : Int32 → Prop} {f : Nat} (hN : mt_yn yk yp xd) (hf : f < 18) (h1 : (∀ g, g < 18 → bt (xd f) g = true → ¬ yh g = 0) → post 1) (h0 : ¬ (∀ g, g < 18 → bt (xd f) g = true → ¬ yh g = 0) → post 0) : wpY_ready post (yn, yk, yp, yc, yr, yi, yl, yw, yh, yd) (nI f) := by
  have ef : (nI f).toNatClampNeg = f := nI_clamp (by omega)
  have jf : vp_in (nI f) 18 := vp_in_nI hf (by decide)
  obtain ⟨n1, n2, n3⟩ := hN f hf
  unfold wpY_ready
  rw [ef]
  refine ⟨jf, jf, my_dir n1 ⟨19, ?_⟩⟩
  rw [n2]
  exact my_rd19 h1 h0 18 0 rfl (fun g hg => absurd hg (Nat.not_lt_zero g))
/-- the flows that have their value -/
def mt_ii (xk xa xb xs xd xc inp mv w h : Nat → Int32) : Prop := ∀ f, f < 18 → ¬ h f = 0 → w f = mt_evf xk xa xb xs xc inp mv w f ∧ ∀ g, bt (xd f) g = true → ¬ h g = 0
theorem mt_iis {xk xc inp mv w h : Nat → Int32} {f : Nat} (hs : mt_sx xk xa xb xs xd) (hf : f < 18) (hi : mt_ii xk xa xb xs xd xc inp mv w h) (z : h f = 0) (hr : ∀ g, g < 18 → bt (xd f) g = true → ¬ h g = 0) : mt_ii xk xa xb xs xd xc inp mv (upd w f (mt_evf xk xa xb xs xc inp mv w f)) (upd h f 1) := by
  have one : ∀ g, ¬ h g = 0 → ¬ upd h f 1 g = 0 := by
    intro g hg
    by_cases e : g = f
    · rw [e, mt_upd_eq]; decide
    · rw [mt_upd_ne e]; exact hg
  have keep : ∀ v g, ¬ h g = 0 → w g = upd w f v g := by
    intro v g hg
    exact (mt_upd_ne (fun e => hg (by rw [e]; exact z))).symm
  intro f' hf' hh
  by_cases e : f' = f
  · subst e
    refine ⟨?_, fun g hg => one g (hr g (mt_sx_sm hs f' hf' g hg) hg)⟩
    rw [mt_upd_eq]
    exact mt_evfc hs hf' (fun g hg hb => keep _ g (hr g hg hb))
  · rw [mt_upd_ne e] at hh
    obtain ⟨a, b⟩ := hi f' hf' hh
    refine ⟨?_, fun g hg => one g (b g hg)⟩
    rw [mt_upd_ne e]
    exact a.trans (mt_evfc hs hf' (fun g hg hb => keep _ g (b g hb)))
variable {mv : Nat → Int32} {o : Nat → Nat}
theorem my_in31 {k : Nat} (hs : mt_sx yk xa xb xs xd) (hy : mt_sy yk xa xb xs yp) (ht : mt_top xd o) (hk : k < 18) (hmv : ∀ f, f < 18 → 6 < yk f → mv f = if yr f = 0 then (if yk f = 7 then yl (xa f).toNatClampNeg else yl f) else yc f) : ∀ d f w h, f + d = 18 → mt_ii yk xa xb xs xd yc yi mv w h → (∀ j, j < k → ¬ h (o j) = 0) → (o k < f → ¬ h (o k) = 0) → ∃ w' h', mt_ii yk xa xb xs xd yc yi mv w' h' ∧ (∀ j, j < k + 1 → ¬ h' (o j) = 0) ∧ ∀ (post : SY → Prop) (J23 : Int32 → (Nat → Int32) → (Nat → Int32) → (Nat → Int32) → (Nat → Int32) → (Nat → Int32) → (Nat → Int32) → (Nat → Int32) → (Nat → Int32) → (Nat → Int32) → Prop), J23 (nI (k + 1)) yk yp yc yr yi yl w' h' yd → wY_instant_31 post J23 (nI k) yn (d + 1) (nI f) yk yp yc yr yi yl w h yd := by
  intro d
  induction d with
  | zero =>
    intro f w h hf hi hj ho
    obtain rfl : f = 18 := by omega
    refine ⟨w, h, hi, ?_, fun post J hJ => br_t (nI_le (a := 18) (b := 18) (Nat.le_refl _) (by decide)) (nm_r (nI_1 k) hJ)⟩
    intro j hj'
    by_cases e : j = k
    · rw [e]; exact ho (ht.1 k hk)
    · exact hj j (by omega)
  | succ d ih =>
    intro f w h hf hi hj ho
    have hf18 : f < 18 := by omega
    have ef : (nI f).toNatClampNeg = f := nI_clamp (by omega)
    have jf : vp_in (nI f) 18 := vp_in_nI hf18 (by decide)
    by_cases z : h f = 0
    · by_cases rd : ∀ g, g < 18 → bt (xd f) g = true → ¬ h g = 0
      · have one : ∀ g, ¬ h g = 0 → ¬ upd h f 1 g = 0 := by
          intro g hg
          by_cases e : g = f
          · rw [e, mt_upd_eq]; decide
          · rw [mt_upd_ne e]; exact hg
        obtain ⟨w', h', a, b, c⟩ := ih (f + 1) (upd w f (mt_evf yk xa xb xs yc yi mv w f)) (upd h f 1) (by omega) (mt_iis hs hf18 hi z rd) (fun j hj' => one _ (hj j hj')) (fun l => by
          by_cases e : o k = f
          · rw [e, mt_upd_eq]; decide
          · exact one _ (ho (by omega)))
        refine ⟨w', h', a, b, fun post J hJ => ?_⟩
        have go := c post J hJ
        rw [wY_instant_31]
        dsimp only
        rw [ef]
        refine br_f (nI_ge (b := 18) (by omega) (by decide)) ⟨jf, br_t z ?_⟩
        refine my_ready (mt_ynof hs hy) hf18 (fun _ => ?_) (fun y => absurd rd y)
        refine br_f mt_01 ?_
        refine my_worth (mv := mv) hs hy hf18 (hmv f hf18) ?_
        exact ⟨jf, nm_e ⟨jf, nm_e (nm_r (nI_1 f) go)⟩⟩
      · obtain ⟨w', h', a, b, c⟩ := ih (f + 1) w h (by omega) hi hj (fun l => by
          by_cases e : o k = f
          · exfalso
            apply rd
            intro g hg hb
            rw [← e] at hb
            obtain ⟨j, hj', ej⟩ := ht.2.2.2 k hk g hb
            rw [← ej]
            exact hj j hj'
          · exact ho (by omega))
        refine ⟨w', h', a, b, fun post J hJ => ?_⟩
        have go := c post J hJ
        rw [wY_instant_31]
        dsimp only
        rw [ef]
        refine br_f (nI_ge (b := 18) (by omega) (by decide)) ⟨jf, br_t z ?_⟩
        refine my_ready (mt_ynof hs hy) hf18 (fun y => absurd y rd) (fun _ => ?_)
        exact br_t rfl (nm_r (nI_1 f) go)
    · obtain ⟨w', h', a, b, c⟩ := ih (f + 1) w h (by omega) hi hj (fun l => by
        by_cases e : o k = f
        · rw [e]; exact z
        · exact ho (by omega))
      refine ⟨w', h', a, b, fun post J hJ => ?_⟩
      have go := c post J hJ
      rw [wY_instant_31]
      dsimp only
      rw [ef]
      exact br_f (nI_ge (b := 18) (by omega) (by decide)) ⟨jf, br_f z (nm_r (nI_1 f) go)⟩
theorem my_in23 (hs : mt_sx yk xa xb xs xd) (hy : mt_sy yk xa xb xs yp) (ht : mt_top xd o) (hmv : ∀ f, f < 18 → 6 < yk f → mv f = if yr f = 0 then (if yk f = 7 then yl (xa f).toNatClampNeg else yl f) else yc f) : ∀ d k w h, k + d = 18 → mt_ii yk xa xb xs xd yc yi mv w h → (∀ j, j < k → ¬ h (o j) = 0) → ∃ w' h', mt_sol yk xa xb xs yc yi mv w' ∧ ∀ post : SY → Prop, post (yn, yk, yp, yc, yr, yi, yl, w', h', yd) → wY_instant_23 post yn (d + 1) (nI k) yk yp yc yr yi yl w h yd := by
  intro d
  induction d with
  | zero =>
    intro k w h hk hi hj
    obtain rfl : k = 18 := by omega
    refine ⟨w, h, ?_, fun post hp => br_t (nI_le (a := 18) (b := 18) (Nat.le_refl _) (by decide)) hp⟩
    intro f hf
    obtain ⟨j, hj', e⟩ := ht.2.2.1 f hf
    refine (hi f hf ?_).1
    rw [← e]
    exact hj j hj'
  | succ d ih =>
    intro k w h hk hi hj
    obtain ⟨w1, h1, a, b, c⟩ := my_in31 (yn := yn) (yd := yd) hs hy ht (k := k) (by omega) hmv 18 0 w h rfl hi hj (fun l => absurd l (Nat.not_lt_zero _))
    obtain ⟨w', h', a', b'⟩ := ih (k + 1) w1 h1 (by omega) a b
    refine ⟨w', h', a', fun post hp => ?_⟩
    exact br_f (nI_ge (b := 18) (by omega) (by decide)) ⟨19, c post _ (b' post hp)⟩
theorem my_in2 {post : SY → Prop} (hp : ∃ n, wY_instant_23 post yn n 0 yk yp yc yr yi yl yw (mt_cp 18 (fun _ => 0) yh) yd) : ∀ d i, i + d = 18 → wY_instant_2 post yn (d + 1) (nI i) yk yp yc yr yi yl yw (mt_cp i (fun _ => 0) yh) yd := by
  intro d
  induction d with
  | zero =>
    intro i hi
    obtain rfl : i = 18 := by omega
    exact br_t (nI_le (a := 18) (b := 18) (Nat.le_refl _) (by decide)) hp
  | succ d ih =>
    intro i hi
    have ei : (nI i).toNatClampNeg = i := nI_clamp (by omega)
    have ji : vp_in (nI i) 18 := vp_in_nI (by omega) (by decide)
    have go := ih (i + 1) (by omega)
    rw [wY_instant_2]
    dsimp only
    rw [ei]
    exact br_f (nI_ge (b := 18) (by omega) (by decide)) ⟨ji, nm_r (mt_cps rfl) (nm_r (nI_1 i) go)⟩
theorem my_inst (hs : mt_sx yk xa xb xs xd) (hy : mt_sy yk xa xb xs yp) (ht : mt_top xd o) (hmv : ∀ f, f < 18 → 6 < yk f → mv f = if yr f = 0 then (if yk f = 7 then yl (xa f).toNatClampNeg else yl f) else yc f) : ∃ w' h', mt_sol yk xa xb xs yc yi mv w' ∧ ∀ post : SY → Prop, post (yn, yk, yp, yc, yr, yi, yl, w', h', yd) → wpY_instant post (yn, yk, yp, yc, yr, yi, yl, yw, yh, yd) := by
  obtain ⟨w', h', a, b⟩ := my_in23 (yn := yn) (yd := yd) (yi := yi) hs hy ht hmv 18 0 yw (mt_cp 18 (fun _ => 0) yh) rfl (fun f hf z => absurd (mt_cp_lt hf) z) (fun j hj => absurd hj (Nat.not_lt_zero j))
  refine ⟨w', h', a, fun post hp => ?_⟩
  unfold wpY_instant
  have h := my_in2 ⟨19, b post hp⟩ 18 0 rfl
  rw [mt_cp0] at h
  exact ⟨19, h⟩
end
end
section
/-! ===== the relation ===== -/
def mt_inv (xk xa xb xs xc xd xo xt xf xh xm xr xl yp : Nat → Int32) : Prop :=
  mt_sx xk xa xb xs xd ∧ mt_sy xk xa xb xs yp ∧ mt_com xk xa xb xs xc xd xo xt xf xh ∧ ∀ f, f < 18 → xr f = 0 → (xk f = 7 → xm f = xl (xa f).toNatClampNeg) ∧ (xk f = 8 → xm f = xl f)
/-- both hold the same kinds, numbers, inputs, first instants, last values and count; X's operands, needs and compiled form fit Y's definitions -/
def i_Rel (k : Nat) (u : SX) (v : SY) : Prop := match u, v with
  | (xn, xk, xa, xb, xs, xc, xd, xo, xt, xf, xh, xi, xm, xr, xw, xl), (yn, yk, yp, yc, yr, yi, yl, yw, yh, yd) => (∃ c : Nat, c ≤ 20 * k ∧ xn = nI c ∧ (c = 0 → ∀ f, f < 18 → xl f = 0)) ∧ yn = xn ∧ yk = xk ∧ yc = xc ∧ yr = xr ∧ yi = xi ∧ yl = xl ∧ mt_inv xk xa xb xs xc xd xo xt xf xh xm xr xl yp
section
variable {xn : Int32} {xk xa xb xs xc xd xo xt xf xh xi xm xr xw xl : Nat → Int32}
variable {yp yw yh yd : Nat → Int32} {k c : Nat}
theorem mt_mk (hc : c ≤ 20 * k) (h0 : c = 0 → ∀ f, f < 18 → xl f = 0) (hI : mt_inv xk xa xb xs xc xd xo xt xf xh xm xr xl yp) : i_Rel k (nI c, xk, xa, xb, xs, xc, xd, xo, xt, xf, xh, xi, xm, xr, xw, xl) (nI c, xk, yp, xc, xr, xi, xl, yw, yh, yd) := ⟨⟨c, hc, rfl, h0⟩, rfl, rfl, rfl, rfl, rfl, rfl, hI⟩
end
theorem mt_el {P : SX → SY → Prop} {k : Nat} (h : ∀ (c : Nat) (xk xa xb xs xc xd xo xt xf xh xi xm xr xw xl yp yw yh yd : Nat → Int32), c ≤ 20 * k → (c = 0 → ∀ f, f < 18 → xl f = 0) → mt_inv xk xa xb xs xc xd xo xt xf xh xm xr xl yp → P (nI c, xk, xa, xb, xs, xc, xd, xo, xt, xf, xh, xi, xm, xr, xw, xl) (nI c, xk, yp, xc, xr, xi, xl, yw, yh, yd)) : ∀ u v, i_Rel k u v → P u v := by
  rintro ⟨xn, xk, xa, xb, xs, xc, xd, xo, xt, xf, xh, xi, xm, xr, xw, xl⟩ ⟨yn, yk, yp, yc, yr, yi, yl, yw, yh, yd⟩ ⟨⟨c, hc, e, h0⟩, e1, e2, e3, e4, e5, e6, hI⟩
  subst e
  subst e1
  subst e2
  subst e3
  subst e4
  subst e5
  subst e6
  exact h _ _ _ _ _ _ _ _ _ _ _ _ _ _ _ _ _ _ _ _ hc h0 hI
theorem i_up {k : Nat} {u : SX} {v : SY} (h : i_Rel k u v) : i_Rel (k + 5) u v := by
  refine mt_el (P := fun u v => i_Rel (k + 5) u v) ?_ u v h
  intro c xk xa xb xs xc xd xo xt xf xh xi xm xr xw xl yp yw yh yd hc h0 hI
  exact mt_mk (by omega) h0 hI
/-! ===== one instant on both sides ===== -/
section
variable {xn : Int32} {xk xa xb xs xc xd xo xt xf xh xi xm xr xw xl : Nat → Int32}
variable {yp yw yh yd : Nat → Int32}
theorem mt_st1 (hI : mt_inv xk xa xb xs xc xd xo xt xf xh xm xr xl yp) : ∃ w' nw h' : Nat → Int32, (∀ f, f < 18 → w' f = nw f) ∧ (∀ post : SX → Prop, post (xn, xk, xa, xb, xs, xc, xd, xo, xt, xf, xh, xi, xm, xr, w', xl) → wpX_workAll post (xn, xk, xa, xb, xs, xc, xd, xo, xt, xf, xh, xi, xm, xr, xw, xl)) ∧ (∀ post : SY → Prop, post (xn, xk, yp, xc, xr, xi, xl, nw, h', yd) → wpY_instant post (xn, xk, yp, xc, xr, xi, xl, yw, yh, yd)) := by
  obtain ⟨hs, hy, hc, hm⟩ := hI
  have hc' := hc
  obtain ⟨o, ho, ht, _⟩ := hc'
  obtain ⟨nw, h', a, b⟩ := my_inst (yn := xn) (yi := xi) (yw := yw) (yh := yh) (yd := yd) (yr := xr) (yl := xl) (yc := xc) (mv := fun f => if xr f = 0 then (if xk f = 7 then xl (xa f).toNatClampNeg else xl f) else xc f) hs hy ht (fun f _ _ => rfl)
  obtain ⟨w', e, d⟩ := mx_wa (xn := xn) (xm := xm) (xr := xr) (xw := xw) (xl := xl) hs hc (mv := fun f => if xr f = 0 then (if xk f = 7 then xl (xa f).toNatClampNeg else xl f) else xc f) (fun f hf k6 => by
    show (if xr f = 0 then (if xk f = 7 then xl (xa f).toNatClampNeg else xl f) else xc f) = if xr f = 0 then xm f else xc f
    by_cases z : xr f = 0
    · rw [if_pos z, if_pos z]
      obtain ⟨m7, m8⟩ := hm f hf z
      by_cases k7 : xk f = 7
      · rw [if_pos k7, m7 k7]
      · rw [if_neg k7]
        obtain ⟨hk, _⟩ := hs f hf
        rcases hk with y | y | y | y | y | y | y | y | y
        · rw [y] at k6; exact absurd k6 (by decide)
        · rw [y] at k6; exact absurd k6 (by decide)
        · rw [y] at k6; exact absurd k6 (by decide)
        · rw [y] at k6; exact absurd k6 (by decide)
        · rw [y] at k6; exact absurd k6 (by decide)
        · rw [y] at k6; exact absurd k6 (by decide)
        · rw [y] at k6; exact absurd k6 (by decide)
        · exact absurd y k7
        · exact (m8 y).symm
    · rw [if_neg z, if_neg z]) a
  exact ⟨w', nw, h', e, d, b⟩
theorem mt_invs {w' : Nat → Int32} (hI : mt_inv xk xa xb xs xc xd xo xt xf xh xm xr xl yp) : mt_inv xk xa xb xs xc xd xo xt xf xh (mt_cp 18 (mt_mf xk xa w' xm) xm) (mt_cp 18 (fun _ => 0) xr) (mt_cp 18 w' xl) yp := by
  obtain ⟨hs, hy, hc, hm⟩ := hI
  refine ⟨hs, hy, hc, fun f hf _ => ⟨fun k7 => ?_, fun k8 => ?_⟩⟩
  · rw [mt_cp_lt hf, mt_cp_lt (mt_ix (hs f hf).2.1).1]
    exact if_pos k7
  · rw [mt_cp_lt hf, mt_cp_lt hf]
    exact (if_neg (by rw [k8]; decide)).trans (if_pos k8)
end
/-! ===== step ===== -/
section
variable {yn : Int32} {yk yp yc yr yi yl yw yh yd : Nat → Int32}
theorem my_skip {post : Int32 → SY → Prop} {x1 : Int32} {m : Nat} (hY : ∀ i, i < 100 → (x1 ≤ nI i ↔ m ≤ i)) (hp : post yn (yn, yk, yp, yc, yr, yi, yl, yw, yh, yd)) : ∀ e i, i + e = 100 → m ≤ i → wY_step_2 post x1 (e + 1) (nI i) yn yk yp yc yr yi yl yw yh yd := by
  intro e
  induction e with
  | zero =>
    intro i hi _
    obtain rfl : i = 100 := by omega
    exact br_t (nI_le (a := 100) (b := 100) (Nat.le_refl _) (by decide)) hp
  | succ e ih =>
    intro i hi hm
    exact br_f (nI_ge (b := 100) (by omega) (by decide)) (br_t ((hY i (by omega)).mpr hm) (nm_r (nI_1 i) (ih (i + 1) (by omega) (by omega))))
theorem my_s19 {post : Int32 → SY → Prop} {J2 : Int32 → Int32 → (Nat → Int32) → (Nat → Int32) → (Nat → Int32) → (Nat → Int32) → (Nat → Int32) → (Nat → Int32) → (Nat → Int32) → (Nat → Int32) → (Nat → Int32) → Prop} {x1 : Int32} {i : Nat} (hJ : J2 (nI (i + 1)) (yn + 1) yk yp yc (mt_cp 18 (fun _ => 0) yr) yi (mt_cp 18 yw yl) yw yh yd) : ∀ d j, j + d = 18 → wY_step_19 post J2 x1 (nI i) yn (d + 1) (nI j) yk yp yc (mt_cp j (fun _ => 0) yr) yi (mt_cp j yw yl) yw yh yd := by
  intro d
  induction d with
  | zero =>
    intro j hj
    obtain rfl : j = 18 := by omega
    exact br_t (nI_le (a := 18) (b := 18) (Nat.le_refl _) (by decide)) (nm_e (nm_r (nI_1 i) hJ))
  | succ d ih =>
    intro j hj
    have ej : (nI j).toNatClampNeg = j := nI_clamp (by omega)
    have jj : vp_in (nI j) 18 := vp_in_nI (by omega) (by decide)
    have go := ih (j + 1) (by omega)
    rw [wY_step_19]
    dsimp only
    rw [ej]
    exact br_f (nI_ge (b := 18) (by omega) (by decide)) ⟨jj, jj, nm_r (mt_cps rfl) ⟨jj, nm_r (mt_cps rfl) (nm_r (nI_1 j) go)⟩⟩
end
section
variable {xn : Int32} {xk xa xb xs xc xd xo xt xf xh xi xm xr xw xl : Nat → Int32}
variable {yp yw yh yd : Nat → Int32}
theorem mt_sts {m : Nat} {x1 x2 : Int32} (hm : m ≤ 100) (hX : ∀ i, i ≤ m → (x2 ≤ nI i ↔ m ≤ i)) (hY : ∀ i, i < 100 → (x1 ≤ nI i ↔ m ≤ i)) : ∀ (d i c : Nat) (xm xr xw xl yw yh : Nat → Int32), i + d = m → mt_inv xk xa xb xs xc xd xo xt xf xh xm xr xl yp → (c = 0 → ∀ f, f < 18 → xl f = 0) → ∃ xm' xr' xw' xl' yw' yh' : Nat → Int32, mt_inv xk xa xb xs xc xd xo xt xf xh xm' xr' xl' yp ∧ (c + d = 0 → ∀ f, f < 18 → xl' f = 0) ∧ (∀ post : Int32 → SX → Prop, post (nI (c + d)) (nI (c + d), xk, xa, xb, xs, xc, xd, xo, xt, xf, xh, xi, xm', xr', xw', xl') → wX_step_15 post x2 (d + 1) (nI i) (nI c) xk xa xb xs xc xd xo xt xf xh xi xm xr xw xl) ∧ (∀ e, i + e = 100 → ∀ post : Int32 → SY → Prop, post (nI (c + d)) (nI (c + d), xk, yp, xc, xr', xi, xl', yw', yh', yd) → wY_step_2 post x1 (e + 1) (nI i) (nI c) xk yp xc xr xi xl yw yh yd) := by
  intro d
  induction d with
  | zero =>
    intro i c xm xr xw xl yw yh hi hI h0
    refine ⟨xm, xr, xw, xl, yw, yh, hI, h0, fun post hp => ?_, fun e he post hp => ?_⟩
    · exact br_t ((hX i (by omega)).mpr (by omega)) hp
    · exact my_skip hY hp e i he (by omega)
  | succ d ih =>
    intro i c xm xr xw xl yw yh hi hI h0
    obtain ⟨w', nw, h', ew, stX, stY⟩ := mt_st1 (xn := nI c) (xi := xi) (xw := xw) (yw := yw) (yh := yh) (yd := yd) hI
    obtain ⟨xm', xr', xw', xl', yw', yh', a, b, gX, gY⟩ := ih (i + 1) (c + 1) (mt_cp 18 (mt_mf xk xa w' xm) xm) (mt_cp 18 (fun _ => 0) xr) w' (mt_cp 18 w' xl) nw h' (by omega) (mt_invs hI) (fun z => absurd z (by omega))
    have ec : c + 1 + d = c + (d + 1) := by omega
    rw [ec] at b gX gY
    refine ⟨xm', xr', xw', xl', yw', yh', a, b, fun post hp => ?_, fun e he post hp => ?_⟩
    · have go := gX post hp
      refine br_f (fun z => absurd ((hX i (by omega)).mp z) (by omega)) ?_
      refine stX _ ?_
      refine mx_fin hI.1 ?_
      refine nm_r (nI_1 i) ?_
      rw [nI_1 c]
      exact go
    · obtain ⟨e', rfl⟩ : ∃ e', e = e' + 1 := ⟨e - 1, by omega⟩
      have go := gY e' (by omega) post hp
      refine br_f (nI_ge (b := 100) (by omega) (by decide)) (br_f (fun z => absurd ((hY i (by omega)).mp z) (by omega)) ?_)
      refine stY _ ⟨19, ?_⟩
      have h := my_s19 (post := post) (J2 := wY_step_2 post x1 (e' + 1)) (x1 := x1) (i := i) (yn := nI c) (yk := xk) (yp := yp) (yc := xc) (yr := xr) (yi := xi) (yl := xl) (yw := nw) (yh := h') (yd := yd) (by rw [nI_1 c, ← mt_cpc (n := 18) (w := w') (w' := nw) (l := xl) ew]; exact go) 18 0 rfl
      rw [mt_cp0, mt_cp0] at h
      exact h
end
end
section
/-! ===== X: the tail of define ===== -/
section
variable {xn : Int32} {xk xa xb xs xc xd xo xt xf xh xi xm xr xw xl : Nat → Int32}
variable {post : Int32 → SX → Prop} {f : Nat} {k p c set all z0 : Int32}
theorem mx_d161 {q : Nat → Nat} (hf : f < 18) (hs : mt_sx xk xa xb (upd xs f z0) (upd xd f set)) (hq : ∀ g, g < 18 → ∀ h, bt (upd xd f set g) h = true → q h < q g) (hp : ∀ o' t' f' h', mt_com xk xa xb (upd xs f z0) (upd xc f c) (upd xd f set) o' t' f' h' → post (mt_bs all 18) (xn, xk, xa, xb, upd xs f z0, upd xc f c, upd xd f set, o', t', f', h', xi, xm, upd xr f 1, xw, xl)) : wX_define_161 post (nI f) c set all z0 (nI f) xn xk xa xb xs xc xd xo xt xf xh xi xm xr xw xl := by
  have ef : (nI f).toNatClampNeg = f := nI_clamp (by omega)
  have jf : vp_in (nI f) 18 := vp_in_nI hf (by decide)
  unfold wX_define_161
  rw [ef]
  refine ⟨jf, nm_e ⟨jf, nm_e ⟨jf, nm_e ⟨jf, nm_e ?_⟩⟩⟩⟩
  refine mx_compile hs hq (fun o' t' f' h' hc => ?_)
  exact mx_bits (hp o' t' f' h' hc)
theorem mx_d142 (hf : f < 18) (H : wX_define_161 post (nI f) c set all (mt_os k p) (nI f) xn xk xa (upd xb f z0) xs xc xd xo xt xf xh xi xm xr xw xl) : wX_define_142 post (nI f) k c ((p >>> ((10 : Int32) &&& 31)) &&& 31) set all z0 (nI f) xn xk xa xb xs xc xd xo xt xf xh xi xm xr xw xl := by
  have ef : (nI f).toNatClampNeg = f := nI_clamp (by omega)
  have jf : vp_in (nI f) 18 := vp_in_nI hf (by decide)
  unfold wX_define_142
  rw [ef]
  refine ⟨jf, nm_e ?_⟩
  refine mx_nS (fun z => br_t rfl ?_) (fun z => br_f mt_01 ?_)
  · rw [mt_osN (fun y => z (Or.inl y)) (fun y => z (Or.inr y))] at H
    exact H
  · rw [mt_osY z] at H
    exact H
theorem mx_d123 (hf : f < 18) (H : wX_define_142 post (nI f) k c ((p >>> ((10 : Int32) &&& 31)) &&& 31) set all (mt_ob k p) (nI f) xn xk (upd xa f z0) xb xs xc xd xo xt xf xh xi xm xr xw xl) : wX_define_123 post (nI f) k c ((p >>> ((5 : Int32) &&& 31)) &&& 31) ((p >>> ((10 : Int32) &&& 31)) &&& 31) set all z0 (nI f) xn xk xa xb xs xc xd xo xt xf xh xi xm xr xw xl := by
  have ef : (nI f).toNatClampNeg = f := nI_clamp (by omega)
  have jf : vp_in (nI f) 18 := vp_in_nI hf (by decide)
  unfold wX_define_123
  rw [ef]
  refine ⟨jf, nm_e ?_⟩
  refine mx_nB (fun z => br_t rfl ?_) (fun z z6 => br_f mt_01 ?_)
  · by_cases z2 : k < 2
    · rw [mt_obL z2] at H
      exact H
    · rw [mt_obH z2 (z.elim (fun y => absurd y z2) id)] at H
      exact H
  · rw [mt_obN z z6] at H
    exact H
end
/-! ===== a new definition ===== -/
theorem mt_in0 : vp_in 0 18 := vp_in_nI (n := 0) (by decide) (by decide)
section
variable {xk xa xb xs xd yp : Nat → Int32} {f : Nat} {k p : Int32}
theorem mt_sxu (hs : mt_sx xk xa xb xs xd) (hk : mt_K k) (ok : mt_ok k (p &&& 31) ((p >>> ((5 : Int32) &&& 31)) &&& 31) ((p >>> ((10 : Int32) &&& 31)) &&& 31)) : mt_sx (upd xk f k) (upd xa f (mt_oa k p)) (upd xb f (mt_ob k p)) (upd xs f (mt_os k p)) (upd xd f (mt_dm k (p &&& 31) ((p >>> ((5 : Int32) &&& 31)) &&& 31) ((p >>> ((10 : Int32) &&& 31)) &&& 31))) := by
  intro g hg
  by_cases e : g = f
  · subst e
    rw [mt_upd_eq, mt_upd_eq, mt_upd_eq, mt_upd_eq, mt_upd_eq]
    refine ⟨hk, ?_, ?_, ?_, (mt_dmr hk).symm⟩
    · by_cases z : k < 2
      · rw [mt_oaL z]; exact mt_in0
      · rw [mt_oaN z]; exact ok.1 z
    · by_cases z : k < 2
      · rw [mt_obL z]; exact mt_in0
      · by_cases z6 : 6 < k
        · rw [mt_obH z z6]; exact mt_in0
        · rw [mt_obN z z6]; exact ok.2.1 z z6
    · by_cases z : k = 6 ∨ k = 8
      · rw [mt_osY z]; exact ok.2.2 z
      · rw [mt_osN (fun y => z (Or.inl y)) (fun y => z (Or.inr y))]; exact mt_in0
  · rw [mt_upd_ne e, mt_upd_ne e, mt_upd_ne e, mt_upd_ne e, mt_upd_ne e]
    exact hs g hg
theorem mt_syu (hy : mt_sy xk xa xb xs yp) : mt_sy (upd xk f k) (upd xa f (mt_oa k p)) (upd xb f (mt_ob k p)) (upd xs f (mt_os k p)) (upd yp f p) := by
  intro g hg
  by_cases e : g = f
  · subst e
    rw [mt_upd_eq, mt_upd_eq, mt_upd_eq, mt_upd_eq, mt_upd_eq]
    exact ⟨rfl, rfl, rfl⟩
  · rw [mt_upd_ne e, mt_upd_ne e, mt_upd_ne e, mt_upd_ne e, mt_upd_ne e]
    exact hy g hg
end
section
variable {yn : Int32} {yk yp yc yr yi yl yw yh yd : Nat → Int32}
theorem my_in77 {post : SY → Prop} (hp : post (yn, mt_cp 18 (fun _ => 1) yk, yp, yc, mt_cp 18 (fun _ => 1) yr, yi, yl, yw, yh, yd)) : ∀ d i, i + d = 18 → wY_init_77 post yn (d + 1) (nI i) (mt_cp i (fun _ => 1) yk) yp yc (mt_cp i (fun _ => 1) yr) yi yl yw yh yd := by
  intro d
  induction d with
  | zero =>
    intro i hi
    obtain rfl : i = 18 := by omega
    exact br_t (nI_le (a := 18) (b := 18) (Nat.le_refl _) (by decide)) hp
  | succ d ih =>
    intro i hi
    have ei : (nI i).toNatClampNeg = i := nI_clamp (by omega)
    have ji : vp_in (nI i) 18 := vp_in_nI (by omega) (by decide)
    have go := ih (i + 1) (by omega)
    rw [wY_init_77]
    dsimp only
    rw [ei]
    exact br_f (nI_ge (b := 18) (by omega) (by decide)) ⟨ji, nm_r (mt_cps rfl) ⟨ji, nm_r (mt_cps rfl) (nm_r (nI_1 i) go)⟩⟩
theorem my_re7 {post : SY → Prop} (hp : post (yn, yk, yp, yc, mt_cp 18 (fun _ => 1) yr, yi, mt_cp 18 (fun _ => 0) yl, yw, yh, yd)) : ∀ d i, i + d = 18 → wY_reset_7 post yn (d + 1) (nI i) yk yp yc (mt_cp i (fun _ => 1) yr) yi (mt_cp i (fun _ => 0) yl) yw yh yd := by
  intro d
  induction d with
  | zero =>
    intro i hi
    obtain rfl : i = 18 := by omega
    exact br_t (nI_le (a := 18) (b := 18) (Nat.le_refl _) (by decide)) hp
  | succ d ih =>
    intro i hi
    have ei : (nI i).toNatClampNeg = i := nI_clamp (by omega)
    have ji : vp_in (nI i) 18 := vp_in_nI (by omega) (by decide)
    have go := ih (i + 1) (by omega)
    rw [wY_reset_7]
    dsimp only
    rw [ei]
    exact br_f (nI_ge (b := 18) (by omega) (by decide)) ⟨ji, nm_r (mt_cps rfl) ⟨ji, nm_r (mt_cps rfl) (nm_r (nI_1 i) go)⟩⟩
theorem my_reset {post : SY → Prop} (hp : post (0, yk, yp, yc, mt_cp 18 (fun _ => 1) yr, yi, mt_cp 18 (fun _ => 0) yl, yw, yh, yd)) : wpY_reset post (yn, yk, yp, yc, yr, yi, yl, yw, yh, yd) := by
  unfold wpY_reset
  have h := my_re7 hp 18 0 rfl
  rw [mt_cp0, mt_cp0] at h
  exact ⟨19, h⟩
end
end
section
/-! ===== what is owed ===== -/
theorem i_vc0 : wpX_init (fun u => wpY_init (fun v => i_Rel 0 u v)) := by
  unfold wpX_init
  have h := mx_in125 (post := fun u => wpY_init (fun v => i_Rel 0 u v)) (xn := 0) (xk := fun _ => 0) (xa := fun _ => 0) (xb := fun _ => 0) (xs := fun _ => 0) (xc := fun _ => 0) (xd := fun _ => 0) (xo := fun _ => 0) (xt := fun _ => 0) (xf := fun _ => 0) (xh := fun _ => 0) (xi := fun _ => 0) (xm := fun _ => 0) (xr := fun _ => 0) (xw := fun _ => 0) (xl := fun _ => 0) ?_ 18 0 rfl
  · rw [mt_cp0] at h
    exact ⟨19, h⟩
  · have hs : mt_sx (mt_cp 18 (fun _ => 1) (fun _ => 0)) (fun _ => 0) (fun _ => 0) (fun _ => 0) (fun _ => 0) := by
      intro f hf
      rw [mt_cp_lt hf]
      exact ⟨Or.inr (Or.inl rfl), mt_in0, mt_in0, mt_in0, (mt_dmL (by decide)).symm⟩
    refine mx_compile (q := fun _ => 0) hs (fun f _ g hg => ?_) (fun o' t' f' h' hc => ?_)
    · exfalso
      have hg' : bt 0 g = true := hg
      rw [b_0] at hg'
      cases hg'
    · unfold wpY_init
      have hy := my_in77 (post := fun v => i_Rel 0 (0, mt_cp 18 (fun _ => 1) (fun _ => 0), fun _ => 0, fun _ => 0, fun _ => 0, fun _ => 0, fun _ => 0, o', t', f', h', fun _ => 0, fun _ => 0, mt_cp 18 (fun _ => 1) (fun _ => 0), fun _ => 0, fun _ => 0) v) (yn := 0) (yk := fun _ => 0) (yp := fun _ => 0) (yc := fun _ => 0) (yr := fun _ => 0) (yi := fun _ => 0) (yl := fun _ => 0) (yw := fun _ => 0) (yh := fun _ => 0) (yd := fun _ => 0) ?_ 18 0 rfl
      · rw [mt_cp0] at hy
        exact ⟨19, hy⟩
      · refine mt_mk (c := 0) (Nat.zero_le _) (fun _ _ _ => rfl) ⟨hs, ?_, hc, ?_⟩
        · intro f hf
          rw [mt_cp_lt hf]
          exact ⟨(mt_oaL (by decide)).symm, (mt_obL (by decide)).symm, (mt_osN (by decide) (by decide)).symm⟩
        · intro f hf z
          rw [mt_cp_lt hf] at z
          exact absurd z (by decide)
theorem i_vc_define {k : Nat} {u : SX} {v : SY} (I : i_Rel k u v) (hk : k + 5 ≤ 2560) (v1 : Int32) (v2 : Int32) (v3 : Int32) (v4 : Int32) : wpX_define (fun r u' => wpY_define (fun r' v' => r' = r ∧ i_Rel (k + 5) u' v') v v1 v2 v3 v4) u v1 v2 v3 v4 := by
  refine mt_el (P := fun u v => wpX_define (fun r u' => wpY_define (fun r' v' => r' = r ∧ i_Rel (k + 5) u' v') v v1 v2 v3 v4) u v1 v2 v3 v4) ?_ u v I
  intro c xk xa xb xs xc xd xo xt xf xh xi xm xr xw xl yp yw yh yd hc h0 hI
  have rel : ∀ yd, i_Rel (k + 5) (nI c, xk, xa, xb, xs, xc, xd, xo, xt, xf, xh, xi, xm, xr, xw, xl) (nI c, xk, yp, xc, xr, xi, xl, yw, yh, yd) := fun yd => mt_mk (by omega) h0 hI
  show wpX_define _ _ v1 v2 v3 v4
  unfold wpX_define
  refine mx_off (fun hin => ?_) (fun hout => ?_)
  · obtain ⟨f, hf, rfl⟩ := vp_in_of hin (by decide)
    have ef : (nI f).toNatClampNeg = f := nI_clamp (by omega)
    refine br_t rfl ?_
    by_cases k0 : v2 < 0
    · refine br_t k0 ?_
      unfold wpY_define
      refine my_bad (fun _ => ?_) (fun z => absurd hin z)
      exact br_t rfl (br_t k0 ⟨rfl, rel yd⟩)
    · refine br_f k0 ?_
      by_cases k8 : v2 ≤ 8
      · have hK : mt_K v2 := mt_Kof k0 k8
        obtain ⟨hs, hy, hcom, hm⟩ := hI
        refine br_t k8 (nm_e (nm_e (nm_e ?_)))
        refine mx_bad (fun ok => ?_) (fun nok => ?_)
        · refine br_t rfl ?_
          refine mx_os hK ?_
          have hsu := mt_sxu (f := f) (p := v3) hs hK ok
          have hyu := mt_syu (f := f) (k := v2) (p := v3) hy
          have hN := mt_ynof hsu hyu
          have hset := (hN f hf).2.2
          rw [mt_upd_eq] at hset
          refine mx_cl (mt_sx_sm hs) hset (fun R hR => ?_)
          by_cases circ : bt R f = true
          · refine br_t ((mt_bit R (by omega)).mpr circ) ?_
            unfold wpY_define
            refine my_bad (fun _ => ?_) (fun z => absurd hin z)
            refine br_t rfl (br_f k0 (br_t k8 ?_))
            refine my_def hK (fun _ => ?_) (fun z => absurd ok z)
            refine my_core hf hN (fun W hW hn => ?_) (fun W hW _ => ⟨rfl, rel W⟩)
            exfalso
            obtain ⟨g, hg, hb⟩ := mt_circ hf hW hR circ
            rw [hn g hg] at hb
            cases hb
          · have circ' := mt_nt circ
            obtain ⟨o, ho, ht, _⟩ := hcom
            obtain ⟨r, r1, r2⟩ := mt_top_rank ht
            obtain ⟨q, hq⟩ := mt_rank r1 r2 (mt_sx_sm hs) hR circ'
            refine br_f (fun z => circ ((mt_bit R (by omega)).mp z)) ⟨hin, nm_e ?_⟩
            rw [ef]
            have H : wX_define_123 (fun r u' => wpY_define (fun r' v' => r' = r ∧ i_Rel (k + 5) u' v') (nI c, xk, yp, xc, xr, xi, xl, yw, yh, yd) (nI f) v2 v3 v4) (nI f) v2 v4 ((v3 >>> ((5 : Int32) &&& 31)) &&& 31) ((v3 >>> ((10 : Int32) &&& 31)) &&& 31) (mt_dm v2 (v3 &&& 31) ((v3 >>> ((5 : Int32) &&& 31)) &&& 31) ((v3 >>> ((10 : Int32) &&& 31)) &&& 31)) R (mt_oa v2 v3) (nI f) (nI c) (upd xk f v2) xa xb xs xc xd xo xt xf xh xi xm xr xw xl := by
              refine mx_d123 hf (mx_d142 hf (mx_d161 (q := q) hf hsu hq (fun o' t' f' h' hcm => ?_)))
              unfold wpY_define
              refine my_bad (fun _ => ?_) (fun z => absurd hin z)
              refine br_t rfl (br_f k0 (br_t k8 ?_))
              refine my_def hK (fun _ => ?_) (fun z => absurd ok z)
              refine my_core hf hN (fun W hW hn => ?_) (fun W hW hw => ?_)
              · refine ⟨by rw [mt_same hf hW hR circ' (hn f hf)], mt_mk (by omega) h0 ⟨hsu, hyu, hcm, ?_⟩⟩
                intro g hg z
                by_cases e : g = f
                · rw [e, mt_upd_eq] at z
                  exact absurd z (by decide)
                · rw [mt_upd_ne e] at z
                  rw [mt_upd_ne e, mt_upd_ne e]
                  exact hm g hg z
              · exfalso
                obtain ⟨g, hg, hb⟩ := hw
                rw [mt_nocirc hq hW g hg] at hb
                cases hb
            refine mx_nA (fun z => br_t rfl ?_) (fun z => br_f mt_01 ?_)
            · rw [mt_oaL z] at H
              exact H
            · rw [mt_oaN z] at H
              exact H
        · refine br_f mt_01 ?_
          unfold wpY_define
          refine my_bad (fun _ => ?_) (fun z => absurd hin z)
          refine br_t rfl (br_f k0 (br_t k8 ?_))
          exact my_def hK (fun z => absurd z nok) (fun _ => ⟨rfl, rel yd⟩)
      · refine br_f k8 ?_
        unfold wpY_define
        refine my_bad (fun _ => ?_) (fun z => absurd hin z)
        exact br_t rfl (br_f k0 (br_f k8 ⟨rfl, rel yd⟩))
  · refine br_f mt_01 ?_
    unfold wpY_define
    refine my_bad (fun z => absurd z hout) (fun _ => ?_)
    exact br_f mt_01 ⟨rfl, rel yd⟩
theorem i_vc_input {k : Nat} {u : SX} {v : SY} (I : i_Rel k u v) (hk : k + 5 ≤ 2560) (v1 : Int32) (v2 : Int32) : wpX_input (fun r u' => wpY_input (fun r' v' => r' = r ∧ i_Rel (k + 5) u' v') v v1 v2) u v1 v2 := by
  refine mt_el (P := fun u v => wpX_input (fun r u' => wpY_input (fun r' v' => r' = r ∧ i_Rel (k + 5) u' v') v v1 v2) u v1 v2) ?_ u v I
  intro c xk xa xb xs xc xd xo xt xf xh xi xm xr xw xl yp yw yh yd hc h0 hI
  have i3 : vp_in (v1 &&& 3) 4 := pk_andIn v1 (m := 3) 2 (by decide) (by decide)
  show wpX_input _ _ v1 v2
  unfold wpX_input wpY_input
  exact ⟨i3, nm_e ⟨i3, nm_e ⟨i3, nm_e ⟨i3, nm_e ⟨rfl, mt_mk (by omega) h0 hI⟩⟩⟩⟩⟩
theorem i_vc_step {k : Nat} {u : SX} {v : SY} (I : i_Rel k u v) (hk : k + 5 ≤ 2560) (v1 : Int32) : wpX_step (fun r u' => wpY_step (fun r' v' => r' = r ∧ i_Rel (k + 5) u' v') v v1) u v1 := by
  refine mt_el (P := fun u v => wpX_step (fun r u' => wpY_step (fun r' v' => r' = r ∧ i_Rel (k + 5) u' v') v v1) u v1) ?_ u v I
  intro c xk xa xb xs xc xd xo xt xf xh xi xm xr xw xl yp yw yh yd hc h0 hI
  have go : ∀ (m : Nat) (x2 : Int32), m ≤ 100 → (∀ i, i ≤ m → (x2 ≤ nI i ↔ m ≤ i)) → (∀ i, i < 100 → (v1 ≤ nI i ↔ m ≤ i)) → ∃ n, wX_step_15 (fun r u' => wpY_step (fun r' v' => r' = r ∧ i_Rel (k + 5) u' v') (nI c, xk, yp, xc, xr, xi, xl, yw, yh, yd) v1) x2 n 0 (nI c) xk xa xb xs xc xd xo xt xf xh xi xm xr xw xl := by
    intro m x2 hm hX hY
    obtain ⟨xm', xr', xw', xl', yw', yh', a, b, gX, gY⟩ := mt_sts (xi := xi) (yd := yd) hm hX hY m 0 c xm xr xw xl yw yh (by omega) hI h0
    refine ⟨m + 1, gX _ ?_⟩
    unfold wpY_step
    exact ⟨101, gY 100 rfl _ ⟨rfl, mt_mk (by omega) b a⟩⟩
  show wpX_step _ _ v1
  unfold wpX_step
  by_cases n0 : v1 < 0
  · have le : ∀ i, i < 101 → v1 ≤ nI i := fun i hi => Int32.le_trans (Int32.le_of_lt n0) (nI_pos' (by omega))
    refine br_t (le 100 (by omega)) (go 0 v1 (by omega) (fun i hi => ⟨fun _ => Nat.zero_le i, fun _ => le i (by omega)⟩) (fun i hi => ⟨fun _ => Nat.zero_le i, fun _ => le i (by omega)⟩))
  · obtain ⟨j, hj, rfl⟩ := nI_of n0
    by_cases j100 : j ≤ 100
    · exact br_t (nI_le (b := 100) j100 (by decide)) (go j (nI j) j100 (fun i hi => nI_leI hj (by omega)) (fun i hi => nI_leI hj (by omega)))
    · refine br_f (nI_ge (a := 100) (by omega) hj) (go 100 100 (by omega) (fun i hi => nI_leI (a := 100) (by omega) (by omega)) (fun i hi => ⟨fun z => ?_, fun z => ?_⟩))
      · exact absurd z (nI_ge (by omega) hj)
      · omega
theorem i_vc_reset {k : Nat} {u : SX} {v : SY} (I : i_Rel k u v) (hk : k + 5 ≤ 2560) : wpX_reset (fun u' => wpY_reset (fun v' => i_Rel (k + 5) u' v') v) u := by
  refine mt_el (P := fun u v => wpX_reset (fun u' => wpY_reset (fun v' => i_Rel (k + 5) u' v') v) u) ?_ u v I
  intro c xk xa xb xs xc xd xo xt xf xh xi xm xr xw xl yp yw yh yd hc h0 hI
  obtain ⟨hs, hy, hcom, hm⟩ := hI
  refine mx_reset ?_
  refine my_reset ?_
  refine mt_mk (c := 0) (Nat.zero_le _) (fun _ f hf => mt_cp_lt hf) ⟨hs, hy, hcom, ?_⟩
  intro f hf z
  rw [mt_cp_lt hf] at z
  exact absurd z (by decide)
theorem i_vc_value {k : Nat} {u : SX} {v : SY} (I : i_Rel k u v) (hk : k + 5 ≤ 2560) (v1 : Int32) : wpX_value (fun r => wpY_value (fun r' => r' = r ∧ i_Rel (k + 5) u v) v v1) u v1 := by
  refine mt_el (P := fun u v => wpX_value (fun r => wpY_value (fun r' => r' = r ∧ i_Rel (k + 5) u v) v v1) u v1) ?_ u v I
  intro c xk xa xb xs xc xd xo xt xf xh xi xm xr xw xl yp yw yh yd hc h0 hI
  have rel : i_Rel (k + 5) (nI c, xk, xa, xb, xs, xc, xd, xo, xt, xf, xh, xi, xm, xr, xw, xl) (nI c, xk, yp, xc, xr, xi, xl, yw, yh, yd) := mt_mk (by omega) h0 hI
  show wpX_value _ _ v1
  unfold wpX_value wpY_value
  refine mx_off (fun hin => ?_) (fun hout => ?_)
  · refine br_t rfl ⟨hin, ?_⟩
    refine my_bad (fun _ => ?_) (fun z => absurd hin z)
    refine br_t rfl (br_c (fun z => ⟨?_, rel⟩) (fun _ => ⟨hin, rfl, rel⟩))
    have c0 : c = 0 := (nI_eq (a := c) (b := 0) (by omega) (by omega)).mp z
    exact (h0 c0 _ (mt_ix hin).1).symm
  · refine br_f mt_01 ?_
    refine my_bad (fun z => absurd z hout) (fun _ => ?_)
    exact br_f mt_01 ⟨rfl, rel⟩
theorem i_vc_kind {k : Nat} {u : SX} {v : SY} (I : i_Rel k u v) (hk : k + 5 ≤ 2560) (v1 : Int32) : wpX_kind (fun r => wpY_kind (fun r' => r' = r ∧ i_Rel (k + 5) u v) v v1) u v1 := by
  refine mt_el (P := fun u v => wpX_kind (fun r => wpY_kind (fun r' => r' = r ∧ i_Rel (k + 5) u v) v v1) u v1) ?_ u v I
  intro c xk xa xb xs xc xd xo xt xf xh xi xm xr xw xl yp yw yh yd hc h0 hI
  have rel : i_Rel (k + 5) (nI c, xk, xa, xb, xs, xc, xd, xo, xt, xf, xh, xi, xm, xr, xw, xl) (nI c, xk, yp, xc, xr, xi, xl, yw, yh, yd) := mt_mk (by omega) h0 hI
  show wpX_kind _ _ v1
  unfold wpX_kind wpY_kind
  refine mx_off (fun hin => ?_) (fun hout => ?_)
  · refine br_t rfl ⟨hin, ?_⟩
    refine my_bad (fun _ => ?_) (fun z => absurd hin z)
    exact br_t rfl ⟨hin, rfl, rel⟩
  · refine br_f mt_01 ?_
    refine my_bad (fun z => absurd z hout) (fun _ => ?_)
    exact br_f mt_01 ⟨rfl, rel⟩
theorem i_vc_needs {k : Nat} {u : SX} {v : SY} (I : i_Rel k u v) (hk : k + 5 ≤ 2560) (v1 : Int32) (v2 : Int32) : wpX_needs (fun r => wpY_needs (fun r' v' => r' = r ∧ i_Rel (k + 5) u v') v v1 v2) u v1 v2 := by
  refine mt_el (P := fun u v => wpX_needs (fun r => wpY_needs (fun r' v' => r' = r ∧ i_Rel (k + 5) u v') v v1 v2) u v1 v2) ?_ u v I
  intro c xk xa xb xs xc xd xo xt xf xh xi xm xr xw xl yp yw yh yd hc h0 hI
  have rel : ∀ yd, i_Rel (k + 5) (nI c, xk, xa, xb, xs, xc, xd, xo, xt, xf, xh, xi, xm, xr, xw, xl) (nI c, xk, yp, xc, xr, xi, xl, yw, yh, yd) := fun yd => mt_mk (by omega) h0 hI
  obtain ⟨hs, hy, hcom, hm⟩ := hI
  show wpX_needs _ _ v1 v2
  unfold wpX_needs wpY_needs
  refine mx_off (fun hin => ?_) (fun hout => ?_)
  · refine br_t rfl ?_
    refine mx_off (fun hin2 => ?_) (fun hout2 => ?_)
    · obtain ⟨a, ha, rfl⟩ := vp_in_of hin (by decide)
      obtain ⟨b, hb, rfl⟩ := vp_in_of hin2 (by decide)
      have ea : (nI a).toNatClampNeg = a := nI_clamp (by omega)
      rw [ea]
      refine br_t rfl ⟨hin, ?_⟩
      refine mx_cl (mt_sx_sm hs) (mt_sx_sm hs a ha) (fun R hR => ?_)
      by_cases hbit : bt R b = true
      · refine br_t ((mt_bit R (by omega)).mpr hbit) ?_
        refine my_bad (fun _ => ?_) (fun z => absurd hin z)
        refine br_t rfl ?_
        refine my_bad (fun _ => ?_) (fun z => absurd hin2 z)
        refine br_t rfl ?_
        refine my_an (mt_ynof hs hy) (fun W hW => ?_)
        refine ⟨hin, br_t ?_ ⟨rfl, rel W⟩⟩
        rw [mt_needs ha hW hR]
        exact (mt_bit R (by omega)).mpr hbit
      · refine br_f (fun z => hbit ((mt_bit R (by omega)).mp z)) ?_
        refine my_bad (fun _ => ?_) (fun z => absurd hin z)
        refine br_t rfl ?_
        refine my_bad (fun _ => ?_) (fun z => absurd hin2 z)
        refine br_t rfl ?_
        refine my_an (mt_ynof hs hy) (fun W hW => ?_)
        refine ⟨hin, br_f ?_ ⟨rfl, rel W⟩⟩
        rw [mt_needs ha hW hR]
        exact fun z => hbit ((mt_bit R (by omega)).mp z)
    · refine br_f mt_01 ?_
      refine my_bad (fun _ => ?_) (fun z => absurd hin z)
      refine br_t rfl ?_
      refine my_bad (fun z => absurd z hout2) (fun _ => ?_)
      exact br_f mt_01 ⟨rfl, rel yd⟩
  · refine br_f mt_01 ?_
    refine my_bad (fun z => absurd z hout) (fun _ => ?_)
    exact br_f mt_01 ⟨rfl, rel yd⟩
theorem i_vc_instants {k : Nat} {u : SX} {v : SY} (I : i_Rel k u v) (hk : k + 5 ≤ 2560) : wpX_instants (fun r => wpY_instants (fun r' => r' = r ∧ i_Rel (k + 5) u v) v) u := by
  refine mt_el (P := fun u v => wpX_instants (fun r => wpY_instants (fun r' => r' = r ∧ i_Rel (k + 5) u v) v) u) ?_ u v I
  intro c xk xa xb xs xc xd xo xt xf xh xi xm xr xw xl yp yw yh yd hc h0 hI
  exact And.intro rfl (mt_mk (by omega) h0 hI)
theorem i_vc_next {k : Nat} {u : SX} {v : SY} (I : i_Rel k u v) (hk : k + 5 ≤ 2560) (v1 : Int32) : wpX_next (fun r u' => wpY_next (fun r' v' => r' = r ∧ i_Rel (k + 5) u' v') v v1) u v1 := by
  refine mt_el (P := fun u v => wpX_next (fun r u' => wpY_next (fun r' v' => r' = r ∧ i_Rel (k + 5) u' v') v v1) u v1) ?_ u v I
  intro c xk xa xb xs xc xd xo xt xf xh xi xm xr xw xl yp yw yh yd hc h0 hI
  show wpX_next _ _ v1
  unfold wpX_next wpY_next
  refine mx_off (fun hin => ?_) (fun hout => ?_)
  · refine br_t rfl ?_
    obtain ⟨w', nw, h', ew, stX, stY⟩ := mt_st1 (xn := nI c) (xi := xi) (xw := xw) (yw := yw) (yh := yh) (yd := yd) hI
    refine stX _ ⟨hin, ?_⟩
    refine my_bad (fun _ => ?_) (fun z => absurd hin z)
    refine br_t rfl ?_
    refine stY _ ⟨hin, ?_⟩
    exact ⟨(ew _ (mt_ix hin).1).symm, mt_mk (by omega) h0 hI⟩
  · refine br_f mt_01 ?_
    refine my_bad (fun z => absurd z hout) (fun _ => ?_)
    exact br_f mt_01 ⟨rfl, mt_mk (by omega) h0 hI⟩
end
