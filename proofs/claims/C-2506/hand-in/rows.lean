section
/-! STARTING TEXT: rows of the kit (pk_us .. pk_shrN), pasted -/
theorem pk_us {f : Nat → Int32} {k : Nat} {x : Int32} : upd f k x k = x := if_pos rfl
theorem pk_un {f : Nat → Int32} {k j : Nat} {x : Int32} (h : j ≠ k) : upd f k x j = f j := if_neg h
theorem pk_sub {a b : Nat} (h : b ≤ a) : nI a - nI b = nI (a - b) := by
  obtain ⟨c, rfl⟩ : ∃ c, a = c + b := ⟨a - b, by omega⟩
  rw [← nI_add, Int32.add_sub_cancel, Nat.add_sub_cancel]
theorem pk_m1 (n : Nat) : nI (n + 1) + (-1) = nI n := by
  rw [← nI_1, Int32.add_assoc, show (1 : Int32) + (-1) = 0 from rfl, Int32.add_zero]
theorem pk_mul (a b : Nat) : nI a * nI b = nI (a * b) := (Int32.ofNat_mul a b).symm
theorem pk_div {a d : Nat} (ha : a < 2 ^ 31) (h0 : 0 < d) (hd : d < 2 ^ 31) : nI a / nI d = nI (a / d) := by
  apply Int32.toInt_inj.mp
  rw [lg_idiv_nonneg (by rw [nI_toInt ha]; omega) (by rw [nI_toInt hd]; omega), nI_toInt ha, nI_toInt hd, nI_toInt (Nat.lt_of_le_of_lt (Nat.div_le_self a d) ha)]
  first | rfl | exact (Int.natCast_ediv _ _).symm
theorem pk_rem {a d : Nat} (ha : a < 2 ^ 31) (h0 : 0 < d) (hd : d < 2 ^ 31) : nI a - nI a / nI d * nI d = nI (a % d) := by
  rw [pk_div ha h0 hd, pk_mul, pk_sub (Nat.div_mul_le_self a d)]
  exact congrArg nI (by have := Nat.div_add_mod' a d; omega)
theorem pk_sub_toInt {a b : Nat} (ha : a < 2 ^ 30) (hb : b < 2 ^ 30) : (nI a - nI b).toInt = (a : Int) - b := by
  rw [Int32.toInt_sub, nI_toInt (by omega), nI_toInt (by omega)]
  exact Int.bmod_eq_of_le (by omega) (by omega)
theorem pk_sneg {a b : Nat} (hb : b < 2 ^ 30) (h : a < b) : nI a - nI b < 0 := by
  rw [Int32.lt_iff_toInt_lt, pk_sub_toInt (by omega) hb, show (0 : Int32).toInt = 0 from by decide]
  omega
theorem pk_ix (x : Int32) {n : Nat} (hn : n < 2 ^ 31) : x < 0 ∨ nI n ≤ x ∨ ∃ j : Nat, j < n ∧ x = nI j := by
  by_cases h : x < 0
  · exact Or.inl h
  · obtain ⟨j, hj, rfl⟩ := nI_of h
    by_cases h2 : j < n
    · exact Or.inr (Or.inr ⟨j, h2, rfl⟩)
    · exact Or.inr (Or.inl (nI_le (by omega) hj))
theorem pk_le {x y : Int32} {A B : Prop} (a b : Nat) (f : a ≤ b → A) (g : b < a → B) (hx : x = nI a := by rfl) (hy : y = nI b := by rfl) (ha : a < 2 ^ 31 := by omega) (hb : b < 2 ^ 31 := by omega) : (x ≤ y → A) ∧ (¬ x ≤ y → B) := by
  subst hx hy
  rw [nI_leI ha hb]
  exact ⟨f, fun z => g (by omega)⟩
theorem pk_lt {x y : Int32} {A B : Prop} (a b : Nat) (f : a < b → A) (g : b ≤ a → B) (hx : x = nI a := by rfl) (hy : y = nI b := by rfl) (ha : a < 2 ^ 31 := by omega) (hb : b < 2 ^ 31 := by omega) : (x < y → A) ∧ (¬ x < y → B) := by
  subst hx hy
  rw [nI_ltI ha hb]
  exact ⟨f, fun z => g (by omega)⟩
theorem pk_eq {x y : Int32} {A B : Prop} (a b : Nat) (f : a = b → A) (g : a ≠ b → B) (hx : x = nI a := by rfl) (hy : y = nI b := by rfl) (ha : a < 2 ^ 31 := by omega) (hb : b < 2 ^ 31 := by omega) : (x = y → A) ∧ (¬ x = y → B) := by
  subst hx hy
  rw [nI_eq ha hb]
  exact ⟨f, g⟩
theorem pk_in {x : Int32} (n N : Nat) (h : n < N) (hx : x = nI n := by rfl) (hN : N < 2 ^ 31 := by omega) : vp_in x N := by
  subst hx
  exact vp_in_nI h hN
theorem pk_cl {x : Int32} (n : Nat) (hx : x = nI n := by rfl) (h : n < 2 ^ 31 := by omega) : x.toNatClampNeg = n := by
  subst hx
  exact nI_clamp h
theorem pk_tn {n : Nat} (h : n < 2 ^ 32) : (nI n).toBitVec.toNat = n := Nat.mod_eq_of_lt h
theorem pk_and (x : Int32) {m : Int32} (k : Nat) (hm : m.toBitVec.toNat = 2 ^ k - 1) : x &&& m = nI (x.toBitVec.toNat % 2 ^ k) := by
  apply Int32.toBitVec_inj.mp
  apply BitVec.eq_of_toNat_eq
  rw [Int32.toBitVec_and, BitVec.toNat_and, hm, Nat.and_two_pow_sub_one_eq_mod]
  show _ = (BitVec.ofNat 32 _).toNat
  rw [BitVec.toNat_ofNat]
  exact (Nat.mod_eq_of_lt (Nat.lt_of_le_of_lt (Nat.mod_le _ _) x.toBitVec.isLt)).symm
theorem pk_andN {n : Nat} (h : n < 2 ^ 32) {m : Int32} (k : Nat) (hm : m.toBitVec.toNat = 2 ^ k - 1) : nI n &&& m = nI (n % 2 ^ k) := by
  rw [pk_and _ k hm, pk_tn h]
theorem pk_andE (x : Int32) {m : Int32} (k : Nat) (hm : m.toBitVec.toNat = 2 ^ k - 1) : ∃ j : Nat, j < 2 ^ k ∧ x &&& m = nI j := ⟨_, Nat.mod_lt _ (Nat.two_pow_pos k), pk_and x k hm⟩
theorem pk_andIn (x : Int32) {m : Int32} (k : Nat) (hm : m.toBitVec.toNat = 2 ^ k - 1) (hk : k ≤ 30) : vp_in (x &&& m) (2 ^ k) := by
  obtain ⟨j, hj, e⟩ := pk_andE x k hm
  rw [e]
  exact vp_in_nI hj (Nat.lt_of_le_of_lt (Nat.pow_le_pow_right (by decide) hk) (by decide))
theorem pk_shl (a s : Int32) (k : Nat) (hs : (s.toBitVec.smod 32).toNat = k) : (a <<< s).toBitVec.toNat = a.toBitVec.toNat * 2 ^ k % 2 ^ 32 := by
  show (a.toBitVec <<< (s.toBitVec.smod 32).toNat).toNat = _
  rw [hs, BitVec.toNat_shiftLeft, Nat.shiftLeft_eq]
theorem pk_shlN {n : Nat} (s : Int32) (k : Nat) (hs : (s.toBitVec.smod 32).toNat = k) (h : n * 2 ^ k < 2 ^ 32) : nI n <<< s = nI (n * 2 ^ k) := by
  apply Int32.toBitVec_inj.mp
  apply BitVec.eq_of_toNat_eq
  have hn : n < 2 ^ 32 := Nat.lt_of_le_of_lt (Nat.le_mul_of_pos_right n (Nat.two_pow_pos k)) h
  rw [pk_shl _ _ k hs, pk_tn hn, pk_tn h, Nat.mod_eq_of_lt h]
theorem pk_shr (a s : Int32) (k : Nat) (hs : (s.toBitVec.smod 32).toNat = k) : (a >>> s).toInt = a.toInt >>> k := by
  show (a.toBitVec.sshiftRight (s.toBitVec.smod 32).toNat).toInt = _
  rw [hs, BitVec.toInt_sshiftRight]
  rfl
theorem pk_shrN {n : Nat} (h : n < 2 ^ 31) (s : Int32) (k : Nat) (hs : (s.toBitVec.smod 32).toNat = k) : nI n >>> s = nI (n / 2 ^ k) := by
  apply Int32.toInt_inj.mp
  have h2 : n / 2 ^ k ≤ n := Nat.div_le_self _ _
  rw [pk_shr _ _ k hs, nI_toInt h, nI_toInt (by omega), Int.shiftRight_eq_div_pow]
  rfl
end
section
/-! part 02: zero-one values of propositions, finite sums, staircase lists -/
noncomputable def fw_b (P : Prop) : Nat := @ite Nat P (Classical.propDecidable P) 1 0
theorem fw_b1 {P : Prop} (h : P) : fw_b P = 1 := @if_pos P (Classical.propDecidable P) h Nat 1 0
theorem fw_b0 {P : Prop} (h : ¬ P) : fw_b P = 0 := @if_neg P (Classical.propDecidable P) h Nat 1 0
theorem fw_b_le (P : Prop) : fw_b P ≤ 1 := by
  rcases Classical.em P with h | h
  · rw [fw_b1 h]; exact Nat.le_refl 1
  · rw [fw_b0 h]; exact Nat.zero_le 1
theorem fw_b_pos {P : Prop} : 0 < fw_b P ↔ P := by
  rcases Classical.em P with h | h
  · rw [fw_b1 h]; exact ⟨fun _ => h, fun _ => Nat.one_pos⟩
  · rw [fw_b0 h]; exact ⟨fun z => absurd z (Nat.lt_irrefl 0), fun z => absurd z h⟩
theorem fw_b_iff {P Q : Prop} (h : P ↔ Q) : fw_b P = fw_b Q := by rw [propext h]

def fw_s (f : Nat → Nat) : Nat → Nat
  | 0 => 0
  | n + 1 => fw_s f n + f n
theorem fw_s_congr {f g : Nat → Nat} : ∀ n, (∀ i, i < n → f i = g i) → fw_s f n = fw_s g n := by
  intro n
  induction n with
  | zero => intro _; rfl
  | succ n ih =>
    intro h
    show fw_s f n + f n = fw_s g n + g n
    rw [ih (fun i hi => h i (by omega)), h n (by omega)]
theorem fw_s_pos {f : Nat → Nat} : ∀ n, 0 < fw_s f n ↔ ∃ i, i < n ∧ 0 < f i := by
  intro n
  induction n with
  | zero => exact ⟨fun h => absurd h (Nat.lt_irrefl 0), fun ⟨i, h, _⟩ => absurd h (Nat.not_lt_zero i)⟩
  | succ n ih =>
    show 0 < fw_s f n + f n ↔ _
    constructor
    · intro h
      rcases Nat.eq_zero_or_pos (f n) with z | z
      · obtain ⟨i, hi, hp⟩ := ih.mp (by omega)
        exact ⟨i, by omega, hp⟩
      · exact ⟨n, by omega, z⟩
    · intro ⟨i, hi, hp⟩
      by_cases e : i = n
      · subst e; omega
      · have := ih.mpr ⟨i, by omega, hp⟩
        omega
theorem fw_s_le {f : Nat → Nat} {c : Nat} : ∀ n, (∀ i, i < n → f i ≤ c) → fw_s f n ≤ n * c := by
  intro n
  induction n with
  | zero => intro _; exact Nat.zero_le _
  | succ n ih =>
    intro h
    have h1 := ih (fun i hi => h i (by omega))
    have h2 := h n (by omega)
    show fw_s f n + f n ≤ (n + 1) * c
    rw [Nat.succ_mul]
    omega
theorem fw_s_upd {f g : Nat → Nat} {k x : Nat} : ∀ n, k < n → g k = x → (∀ i, i ≠ k → g i = f i) → fw_s g n + f k = fw_s f n + x := by
  intro n
  induction n with
  | zero => intro h; exact absurd h (Nat.not_lt_zero k)
  | succ n ih =>
    intro hk hx hg
    show fw_s g n + g n + f k = fw_s f n + f n + x
    by_cases e : k = n
    · subst e
      rw [fw_s_congr (f := g) (g := f) k (fun i hi => hg i (by omega)), hx]
      omega
    · have := ih (by omega) hx hg
      rw [hg n (by omega)]
      omega
theorem fw_s_zero {f : Nat → Nat} : ∀ n, (∀ i, i < n → f i = 0) → fw_s f n = 0 := by
  intro n h
  have := fw_s_le (f := f) (c := 0) n (fun i hi => by rw [h i hi]; exact Nat.le_refl 0)
  omega
/-- the sum over n + m: first n, then m -/
theorem fw_s_add {f : Nat → Nat} (n : Nat) : ∀ m, fw_s f (n + m) = fw_s f n + fw_s (fun i => f (n + i)) m := by
  intro m
  induction m with
  | zero => rfl
  | succ m ih =>
    show fw_s f (n + m) + f (n + m) = fw_s f n + (fw_s (fun i => f (n + i)) m + f (n + m))
    rw [ih]
    omega
theorem fw_s_plus {f g : Nat → Nat} : ∀ n, fw_s (fun i => f i + g i) n = fw_s f n + fw_s g n := by
  intro n
  induction n with
  | zero => rfl
  | succ n ih =>
    show fw_s (fun i => f i + g i) n + (f n + g n) = fw_s f n + f n + (fw_s g n + g n)
    rw [ih]
    omega
/-- only one index counts -/
theorem fw_s_one {f : Nat → Nat} {k x : Nat} (n : Nat) (hk : k < n) (hx : f k = x) (h : ∀ i, i < n → i ≠ k → f i = 0) : fw_s f n = x := by
  have h1 := fw_s_upd (f := fun i => if i = k then 0 else f i) (g := f) (k := k) (x := x) n hk hx (fun i hi => (if_neg hi).symm)
  have h2 : fw_s (fun i => if i = k then 0 else f i) n = 0 := fw_s_zero n (fun i hi => by
    by_cases e : i = k
    · exact if_pos e
    · show (if i = k then 0 else f i) = 0
      rw [if_neg e]
      exact h i hi e)
  rw [h2] at h1
  change fw_s f n + (if k = k then 0 else f k) = 0 + x at h1
  rw [if_pos rfl] at h1
  omega

/-! lists of pairs: sorted in the first number, falling in the second -/
def fw_Sd (R : List (Nat × Nat)) : Prop := R.Pairwise (fun a b => a.1 < b.1 ∧ b.2 < a.2)
def fw_Cov (R : List (Nat × Nat)) (t : Nat × Nat) : Prop := ∃ v, v ∈ R ∧ v.1 ≤ t.1 ∧ v.2 ≤ t.2
/-- what the code gathers from the rest of a row; none: the sum isn't wanted -/
def fw_ga (s : Nat × Nat) : Bool → List (Nat × Nat) → Option (List (Nat × Nat))
  | pl, [] => some (if pl = true then [] else [s])
  | pl, v :: R => if v.1 ≤ s.1 ∧ v.2 ≤ s.2 then none else
      (fw_ga s (pl || decide (s.1 < v.1)) R).map (fun X => (if s.1 < v.1 ∧ pl = false then [s] else []) ++ ((if s.1 ≤ v.1 ∧ s.2 ≤ v.2 then [] else [v]) ++ X))
def fw_ins (R : List (Nat × Nat)) (s : Nat × Nat) : List (Nat × Nat) := (fw_ga s false R).getD R
theorem fw_ga_none {s : Nat × Nat} : ∀ (R : List (Nat × Nat)) (pl : Bool), fw_Cov R s → fw_ga s pl R = none := by
  intro R
  induction R with
  | nil => intro pl ⟨v, hv, _⟩; exact absurd hv List.not_mem_nil
  | cons w R ih =>
    intro pl ⟨v, hv, hd⟩
    rw [fw_ga]
    by_cases hw : w.1 ≤ s.1 ∧ w.2 ≤ s.2
    · rw [if_pos hw]
    · rw [if_neg hw]
      rcases List.mem_cons.mp hv with e | e
      · subst e; exact absurd hd hw
      · rw [ih _ ⟨v, e, hd⟩]; rfl
theorem fw_ga_true {s : Nat × Nat} : ∀ (R : List (Nat × Nat)), (∀ v, v ∈ R → s.1 < v.1) → fw_ga s true R = some (R.filter (fun v => decide (v.2 < s.2))) := by
  intro R
  induction R with
  | nil => intro _; rfl
  | cons w R ih =>
    intro h
    have hw := h w List.mem_cons_self
    rw [fw_ga, if_neg (by omega), Bool.true_or, ih (fun v hv => h v (List.mem_cons_of_mem w hv)), if_neg (by intro z; exact absurd z.2 (by decide))]
    by_cases c : w.2 < s.2
    · rw [if_neg (by omega), List.filter_cons_of_pos (by simpa using c)]; rfl
    · rw [if_pos (by omega), List.filter_cons_of_neg (by simpa using c)]; rfl
theorem fw_ga_false {s : Nat × Nat} : ∀ (R : List (Nat × Nat)), fw_Sd R → ¬ fw_Cov R s →
    fw_ga s false R = some (R.filter (fun v => decide (v.1 < s.1)) ++ s :: R.filter (fun v => decide (s.1 < v.1 ∧ v.2 < s.2))) := by
  intro R
  induction R with
  | nil => intro _ _; rfl
  | cons w R ih =>
    intro hS hC
    have hS' : fw_Sd R := (List.pairwise_cons.mp hS).2
    have hw := (List.pairwise_cons.mp hS).1
    have hC' : ¬ fw_Cov R s := fun ⟨v, hv, hd⟩ => hC ⟨v, List.mem_cons_of_mem w hv, hd⟩
    have hd : ¬ (w.1 ≤ s.1 ∧ w.2 ≤ s.2) := fun z => hC ⟨w, List.mem_cons_self, z⟩
    rw [fw_ga, if_neg hd]
    by_cases c : s.1 < w.1
    · have e1 : R.filter (fun v => decide (v.1 < s.1)) = [] := List.filter_eq_nil_iff.mpr (fun v hv => by
        have := (hw v hv).1
        simp only [decide_eq_true_eq]; omega)
      have e2 : R.filter (fun v => decide (s.1 < v.1 ∧ v.2 < s.2)) = R.filter (fun v => decide (v.2 < s.2)) := List.filter_congr (fun v hv => by
        have := (hw v hv).1
        exact decide_eq_decide.mpr ⟨fun z => z.2, fun z => ⟨by omega, z⟩⟩)
      rw [decide_eq_true c, Bool.false_or, fw_ga_true R (fun v hv => by have := (hw v hv).1; omega), if_pos ⟨c, rfl⟩,
        List.filter_cons_of_neg (by simp only [decide_eq_true_eq]; omega), e1]
      by_cases b : w.2 < s.2
      · rw [if_neg (by omega), List.filter_cons_of_pos (by simp only [decide_eq_true_eq]; omega), e2]; rfl
      · rw [if_pos (by omega), List.filter_cons_of_neg (by simp only [decide_eq_true_eq]; omega), e2]; rfl
    · rw [decide_eq_false c, Bool.false_or, ih hS' hC', if_neg (fun z => c z.1)]
      have e2 : (w :: R).filter (fun v => decide (s.1 < v.1 ∧ v.2 < s.2)) = R.filter (fun v => decide (s.1 < v.1 ∧ v.2 < s.2)) :=
        List.filter_cons_of_neg (by simp only [decide_eq_true_eq]; omega)
      rw [e2]
      by_cases b : w.1 < s.1
      · rw [if_neg (by omega), List.filter_cons_of_pos (by simp only [decide_eq_true_eq]; omega)]; rfl
      · rw [if_pos (by omega), List.filter_cons_of_neg (by simp only [decide_eq_true_eq]; omega)]; rfl
theorem fw_ins_old {R : List (Nat × Nat)} {s : Nat × Nat} (h : fw_Cov R s) : fw_ins R s = R := by
  unfold fw_ins
  rw [fw_ga_none R false h]
  rfl
theorem fw_ins_new {R : List (Nat × Nat)} {s : Nat × Nat} (hS : fw_Sd R) (h : ¬ fw_Cov R s) :
    fw_ins R s = R.filter (fun v => decide (v.1 < s.1)) ++ s :: R.filter (fun v => decide (s.1 < v.1 ∧ v.2 < s.2)) := by
  unfold fw_ins
  rw [fw_ga_false R hS h]
  rfl
theorem fw_ins_sd {R : List (Nat × Nat)} {s : Nat × Nat} (hS : fw_Sd R) : fw_Sd (fw_ins R s) := by
  by_cases h : fw_Cov R s
  · rw [fw_ins_old h]; exact hS
  · rw [fw_ins_new hS h]
    unfold fw_Sd
    rw [List.pairwise_append, List.pairwise_cons]
    have hnd : ∀ v, v ∈ R → v.1 < s.1 → s.2 < v.2 := fun v hv hl => by
      rcases Nat.lt_or_ge s.2 v.2 with z | z
      · exact z
      · exact absurd ⟨v, hv, by omega, z⟩ h
    refine ⟨List.Pairwise.filter _ hS, ⟨?_, List.Pairwise.filter _ hS⟩, ?_⟩
    · intro v hv
      have := (List.mem_filter.mp hv).2
      simpa only [decide_eq_true_eq] using this
    · intro a ha b hb
      have h1 := List.mem_filter.mp ha
      have h1' : a.1 < s.1 := by simpa only [decide_eq_true_eq] using h1.2
      have h2 := hnd a h1.1 h1'
      rcases List.mem_cons.mp hb with e | e
      · subst e; exact ⟨h1', h2⟩
      · have h3 : s.1 < b.1 ∧ b.2 < s.2 := by simpa only [decide_eq_true_eq] using (List.mem_filter.mp e).2
        omega
theorem fw_ins_mem {R : List (Nat × Nat)} {s e : Nat × Nat} (hS : fw_Sd R) (h : e ∈ fw_ins R s) : e ∈ R ∨ (e = s ∧ ¬ fw_Cov R s) := by
  by_cases c : fw_Cov R s
  · rw [fw_ins_old c] at h; exact Or.inl h
  · rw [fw_ins_new hS c] at h
    rcases List.mem_append.mp h with z | z
    · exact Or.inl (List.mem_filter.mp z).1
    · rcases List.mem_cons.mp z with y | y
      · exact Or.inr ⟨y, c⟩
      · exact Or.inl (List.mem_filter.mp y).1
theorem fw_ins_cov {R : List (Nat × Nat)} {s t : Nat × Nat} (hS : fw_Sd R) : fw_Cov (fw_ins R s) t ↔ fw_Cov R t ∨ (s.1 ≤ t.1 ∧ s.2 ≤ t.2) := by
  by_cases c : fw_Cov R s
  · rw [fw_ins_old c]
    constructor
    · exact Or.inl
    · intro h
      rcases h with h | h
      · exact h
      · obtain ⟨v, hv, h1, h2⟩ := c
        exact ⟨v, hv, by omega, by omega⟩
  · constructor
    · intro ⟨v, hv, h1, h2⟩
      rcases fw_ins_mem hS hv with z | z
      · exact Or.inl ⟨v, z, h1, h2⟩
      · rw [z.1] at h1 h2; exact Or.inr ⟨h1, h2⟩
    · rw [fw_ins_new hS c]
      have hs : s ∈ R.filter (fun v => decide (v.1 < s.1)) ++ s :: R.filter (fun v => decide (s.1 < v.1 ∧ v.2 < s.2)) :=
        List.mem_append.mpr (Or.inr List.mem_cons_self)
      intro h
      rcases h with ⟨v, hv, h1, h2⟩ | h
      · by_cases d : s.1 ≤ v.1 ∧ s.2 ≤ v.2
        · exact ⟨s, hs, by omega, by omega⟩
        · refine ⟨v, ?_, h1, h2⟩
          have hd : ¬ (v.1 ≤ s.1 ∧ v.2 ≤ s.2) := fun z => c ⟨v, hv, z⟩
          rcases Nat.lt_or_ge v.1 s.1 with z | z
          · exact List.mem_append.mpr (Or.inl (List.mem_filter.mpr ⟨hv, by simp only [decide_eq_true_eq]; omega⟩))
          · exact List.mem_append.mpr (Or.inr (List.mem_cons_of_mem s (List.mem_filter.mpr ⟨hv, by simp only [decide_eq_true_eq]; omega⟩)))
      · exact ⟨s, hs, h.1, h.2⟩
theorem fw_sd_len {c : Nat} : ∀ (R : List (Nat × Nat)) (a : Nat), fw_Sd R → a ≤ c + 1 → (∀ e, e ∈ R → a ≤ e.1 ∧ e.1 ≤ c) → R.length + a ≤ c + 1 := by
  intro R
  induction R with
  | nil => intro a _ ha _; simpa using ha
  | cons w R ih =>
    intro a hS _ h
    have h0 := h w List.mem_cons_self
    have := ih (w.1 + 1) (List.pairwise_cons.mp hS).2 (by omega) (fun e he => ⟨((List.pairwise_cons.mp hS).1 e he).1, (h e (List.mem_cons_of_mem w he)).2⟩)
    rw [List.length_cons]
    omega
theorem fw_nd_len : ∀ (n : Nat) (U : List Nat), U.Nodup → (∀ v, v ∈ U → v < n) → U.length ≤ n := by
  intro n
  induction n with
  | zero =>
    intro U _ h
    cases U with
    | nil => exact Nat.le_refl 0
    | cons w U => exact absurd (h w List.mem_cons_self) (Nat.not_lt_zero w)
  | succ n ih =>
    intro U hn h
    have h1 := ih (U.erase n) (hn.erase n) (fun v hv => by
      have h2 := hn.mem_erase_iff.mp hv
      have := h v h2.2
      omega)
    have h3 : U.length - 1 ≤ (U.erase n).length := by
      rw [List.length_erase]
      split
      · exact Nat.le_refl _
      · omega
    omega
/-- a sorted list holds no pair above another -/
theorem fw_sd_anti {R : List (Nat × Nat)} (hS : fw_Sd R) {a b : Nat × Nat} (ha : a ∈ R) (hb : b ∈ R) (h : a.1 ≤ b.1 ∧ a.2 ≤ b.2) : a = b := by
  induction R with
  | nil => exact absurd ha List.not_mem_nil
  | cons w R ih =>
    have h1 := List.pairwise_cons.mp hS
    rcases List.mem_cons.mp ha with e | e
    · rcases List.mem_cons.mp hb with f | f
      · rw [e, f]
      · have := h1.1 b f
        rw [e] at h
        omega
    · rcases List.mem_cons.mp hb with f | f
      · have := h1.1 a e
        rw [f] at h
        omega
      · exact ih h1.2 e f
end
section
/-! part 03: the sets D k l m of pairs at or above some way from l to m over places below k; witnesses; rows -/
def fw_D (n : Nat) (fr to pa pb : Nat → Nat) : Nat → Nat → Nat → Nat × Nat → Prop
  | 0 => fun l m s => l = m ∨ ∃ i, i < n ∧ fr i = l ∧ to i = m ∧ pa i ≤ s.1 ∧ pb i ≤ s.2
  | k + 1 => fun l m s => fw_D n fr to pa pb k l m s ∨ ∃ x y : Nat × Nat, fw_D n fr to pa pb k l k x ∧ fw_D n fr to pa pb k k m y ∧ x.1 + y.1 ≤ s.1 ∧ x.2 + y.2 ≤ s.2
section
variable {n : Nat} {fr to pa pb : Nat → Nat}
theorem fw_D_up : ∀ (k l m : Nat) (s t : Nat × Nat), fw_D n fr to pa pb k l m s → s.1 ≤ t.1 → s.2 ≤ t.2 → fw_D n fr to pa pb k l m t := by
  intro k
  induction k with
  | zero =>
    intro l m s t h h1 h2
    rcases h with h | ⟨i, hi, a, b, c, d⟩
    · exact Or.inl h
    · exact Or.inr ⟨i, hi, a, b, by omega, by omega⟩
  | succ k ih =>
    intro l m s t h h1 h2
    rcases h with h | ⟨x, y, a, b, c, d⟩
    · exact Or.inl (ih l m s t h h1 h2)
    · exact Or.inr ⟨x, y, a, b, by omega, by omega⟩
theorem fw_D_refl : ∀ (k l : Nat) (s : Nat × Nat), fw_D n fr to pa pb k l l s := by
  intro k
  induction k with
  | zero => intro l s; exact Or.inl rfl
  | succ k ih => intro l s; exact Or.inl (ih l s)
theorem fw_D_suc {k l m : Nat} {s : Nat × Nat} (h : fw_D n fr to pa pb k l m s) : fw_D n fr to pa pb (k + 1) l m s := Or.inl h
theorem fw_D_line : ∀ (k i : Nat), i < n → fw_D n fr to pa pb k (fr i) (to i) (pa i, pb i) := by
  intro k
  induction k with
  | zero => intro i hi; exact Or.inr ⟨i, hi, rfl, rfl, Nat.le_refl _, Nat.le_refl _⟩
  | succ k ih => intro i hi; exact Or.inl (ih i hi)
/-- a way to k and one from k: their sum, one stage on -/
theorem fw_D_over {k l m : Nat} {x y : Nat × Nat} (hx : fw_D n fr to pa pb k l k x) (hy : fw_D n fr to pa pb k k m y) : fw_D n fr to pa pb (k + 1) l m (x.1 + y.1, x.2 + y.2) :=
  Or.inr ⟨x, y, hx, hy, Nat.le_refl _, Nat.le_refl _⟩
theorem fw_D_comp : ∀ (k l v m : Nat) (x y : Nat × Nat), v < k → fw_D n fr to pa pb k l v x → fw_D n fr to pa pb k v m y → fw_D n fr to pa pb k l m (x.1 + y.1, x.2 + y.2) := by
  intro k
  induction k with
  | zero => intro l v m x y h; exact absurd h (Nat.not_lt_zero v)
  | succ k ih =>
    intro l v m x y hv hx hy
    by_cases e : v = k
    · subst e
      have h1 : ∃ x', fw_D n fr to pa pb v l v x' ∧ x'.1 ≤ x.1 ∧ x'.2 ≤ x.2 := by
        rcases hx with h | ⟨a, b, ha, hb, c, d⟩
        · exact ⟨x, h, Nat.le_refl _, Nat.le_refl _⟩
        · exact ⟨a, ha, by omega, by omega⟩
      have h2 : ∃ y', fw_D n fr to pa pb v v m y' ∧ y'.1 ≤ y.1 ∧ y'.2 ≤ y.2 := by
        rcases hy with h | ⟨a, b, ha, hb, c, d⟩
        · exact ⟨y, h, Nat.le_refl _, Nat.le_refl _⟩
        · exact ⟨b, hb, by omega, by omega⟩
      obtain ⟨x', hx', p1, p2⟩ := h1
      obtain ⟨y', hy', q1, q2⟩ := h2
      exact Or.inr ⟨x', y', hx', hy', by show _ ≤ x.1 + y.1; omega, by show _ ≤ x.2 + y.2; omega⟩
    · have hv' : v < k := by omega
      rcases hx with hx | ⟨a, b, ha, hb, c, d⟩
      · rcases hy with hy | ⟨a', b', ha', hb', c', d'⟩
        · exact Or.inl (ih l v m x y hv' hx hy)
        · exact Or.inr ⟨(x.1 + a'.1, x.2 + a'.2), b', ih l v k x a' hv' hx ha', hb', by show x.1 + a'.1 + b'.1 ≤ x.1 + y.1; omega, by show x.2 + a'.2 + b'.2 ≤ x.2 + y.2; omega⟩
      · rcases hy with hy | ⟨a', b', ha', hb', c', d'⟩
        · exact Or.inr ⟨a, (b.1 + y.1, b.2 + y.2), ha, ih k v m b y hv' hb hy, by show a.1 + (b.1 + y.1) ≤ x.1 + y.1; omega, by show a.2 + (b.2 + y.2) ≤ x.2 + y.2; omega⟩
        · exact Or.inr ⟨a, b', ha, hb', by show a.1 + b'.1 ≤ x.1 + y.1; omega, by show a.2 + b'.2 ≤ x.2 + y.2; omega⟩
/-- a stage over an end of the way changes nothing -/
theorem fw_D_skip {k l m : Nat} {s : Nat × Nat} (h : l = k ∨ m = k ∨ l = m) : fw_D n fr to pa pb (k + 1) l m s ↔ fw_D n fr to pa pb k l m s := by
  constructor
  · intro z
    rcases z with z | ⟨x, y, hx, hy, c, d⟩
    · exact z
    · rcases h with h | h | h
      · subst h; exact fw_D_up _ _ _ y s hy (by omega) (by omega)
      · subst h; exact fw_D_up _ _ _ x s hx (by omega) (by omega)
      · subst h; exact fw_D_refl _ _ _
  · exact Or.inl
end
/-- why a least sum is small: it goes over different places -/
def fw_W (n : Nat) (fr to pa pb : Nat → Nat) (k l m : Nat) (e : Nat × Nat) : Prop :=
  (l = m ∧ e = (0, 0)) ∨ (l ≠ m ∧ ∃ U : List Nat, U.Nodup ∧ (∀ v, v ∈ U → v < k ∧ v ≠ l ∧ v ≠ m) ∧ e.1 ≤ 3 * (U.length + 1) ∧ e.2 ≤ 3 * (U.length + 1) ∧
    ∀ v, v ∈ U → ∃ a b : Nat × Nat, a.1 + b.1 = e.1 ∧ a.2 + b.2 = e.2 ∧ fw_D n fr to pa pb k l v a ∧ fw_D n fr to pa pb k v m b)
section
variable {n : Nat} {fr to pa pb : Nat → Nat}
theorem fw_W_suc {k l m : Nat} {e : Nat × Nat} (h : fw_W n fr to pa pb k l m e) : fw_W n fr to pa pb (k + 1) l m e := by
  rcases h with h | ⟨hl, U, h1, h2, h3, h4, h5⟩
  · exact Or.inl h
  · refine Or.inr ⟨hl, U, h1, fun v hv => ⟨Nat.lt_succ_of_lt (h2 v hv).1, (h2 v hv).2⟩, h3, h4, fun v hv => ?_⟩
    obtain ⟨a, b, p, q, r, t⟩ := h5 v hv
    exact ⟨a, b, p, q, Or.inl r, Or.inl t⟩
theorem fw_W_small {l m : Nat} {e : Nat × Nat} (hl : l < 7) (hm : m < 7) {k : Nat} (hk : k ≤ 7) (h : fw_W n fr to pa pb k l m e) : e.1 ≤ 18 ∧ e.2 ≤ 18 := by
  rcases h with h | ⟨hlm, U, h1, h2, h3, h4, _⟩
  · rw [h.2]; exact ⟨Nat.zero_le _, Nat.zero_le _⟩
  · have h6 : (l :: m :: U).length ≤ 7 := fw_nd_len 7 _ (by
      rw [List.nodup_cons, List.nodup_cons]
      refine ⟨fun z => ?_, fun z => (h2 m z).2.2 rfl, h1⟩
      rcases List.mem_cons.mp z with z | z
      · exact hlm z
      · exact (h2 l z).2.1 rfl) (fun v hv => by
      rcases List.mem_cons.mp hv with z | z
      · omega
      · rcases List.mem_cons.mp z with y | y
        · omega
        · have := (h2 v y).1; omega)
    rw [List.length_cons, List.length_cons] at h6
    omega
theorem fw_W_join {k l m : Nat} {a b : Nat × Nat} (hlm : l ≠ m) (hlk : l ≠ k) (hmk : m ≠ k) (ha : fw_W n fr to pa pb k l k a) (hb : fw_W n fr to pa pb k k m b)
    (Da : fw_D n fr to pa pb k l k a) (Db : fw_D n fr to pa pb k k m b)
    (hn : ¬ fw_D n fr to pa pb k l m (a.1 + b.1, a.2 + b.2)) : fw_W n fr to pa pb (k + 1) l m (a.1 + b.1, a.2 + b.2) := by
  rcases ha with ha | ⟨_, U, u1, u2, u3, u4, u5⟩
  · exact absurd ha.1 hlk
  rcases hb with hb | ⟨_, V, v1, v2, v3, v4, v5⟩
  · exact absurd hb.1.symm hmk
  have hmU : ∀ v, v ∈ U → v ≠ m := by
    intro v hv e
    subst e
    obtain ⟨x, y, p, q, dx, _⟩ := u5 v hv
    exact hn (fw_D_up _ _ _ x _ dx (by show x.1 ≤ a.1 + b.1; omega) (by show x.2 ≤ a.2 + b.2; omega))
  have hlV : ∀ v, v ∈ V → v ≠ l := by
    intro v hv e
    subst e
    obtain ⟨x, y, p, q, _, dy⟩ := v5 v hv
    exact hn (fw_D_up _ _ _ y _ dy (by show y.1 ≤ a.1 + b.1; omega) (by show y.2 ≤ a.2 + b.2; omega))
  have hUV : ∀ v, v ∈ U → v ∉ V := by
    intro v hv hw
    obtain ⟨x, y, p, q, dx, _⟩ := u5 v hv
    obtain ⟨x', y', p', q', _, dy⟩ := v5 v hw
    have h := fw_D_comp k l v m x y' (u2 v hv).1 dx dy
    exact hn (fw_D_up _ _ _ _ _ h (by show x.1 + y'.1 ≤ a.1 + b.1; omega) (by show x.2 + y'.2 ≤ a.2 + b.2; omega))
  refine Or.inr ⟨hlm, U ++ k :: V, ?_, ?_, ?_, ?_, ?_⟩
  · rw [List.nodup_append, List.nodup_cons]
    refine ⟨u1, ⟨fun z => Nat.lt_irrefl k (v2 k z).1, v1⟩, ?_⟩
    intro x hx y hy e
    subst e
    rcases List.mem_cons.mp hy with z | z
    · have := (u2 x hx).1; omega
    · exact hUV x hx z
  · intro v hv
    rcases List.mem_append.mp hv with z | z
    · exact ⟨by have := (u2 v z).1; omega, (u2 v z).2.1, hmU v z⟩
    · rcases List.mem_cons.mp z with y | y
      · subst y; exact ⟨Nat.lt_succ_self v, fun e => hlk e.symm, fun e => hmk e.symm⟩
      · exact ⟨by have := (v2 v y).1; omega, hlV v y, (v2 v y).2.2⟩
  · rw [List.length_append, List.length_cons]; show a.1 + b.1 ≤ _; omega
  · rw [List.length_append, List.length_cons]; show a.2 + b.2 ≤ _; omega
  · intro v hv
    rcases List.mem_append.mp hv with z | z
    · obtain ⟨x, y, p, q, dx, dy⟩ := u5 v z
      exact ⟨x, (y.1 + b.1, y.2 + b.2), by show x.1 + (y.1 + b.1) = a.1 + b.1; omega, by show x.2 + (y.2 + b.2) = a.2 + b.2; omega, Or.inl dx, fw_D_over dy Db⟩
    · rcases List.mem_cons.mp z with y | y
      · subst y; exact ⟨a, b, rfl, rfl, Or.inl Da, Or.inl Db⟩
      · obtain ⟨x, y', p, q, dx, dy⟩ := v5 v y
        exact ⟨(a.1 + x.1, a.2 + x.2), y', by show a.1 + x.1 + y'.1 = a.1 + b.1; omega, by show a.2 + x.2 + y'.2 = a.2 + b.2; omega, fw_D_over Da dx, Or.inl dy⟩
end
/-- a row at a stage -/
def fw_RI (n : Nat) (fr to pa pb : Nat → Nat) (k r : Nat) (R : List (Nat × Nat)) : Prop :=
  fw_Sd R ∧ (∀ s, fw_Cov R s ↔ fw_D n fr to pa pb k (r / 7) (r % 7) s) ∧ ∀ e, e ∈ R → fw_W n fr to pa pb k (r / 7) (r % 7) e
/-- a row that is being joined over k, at the pair i, j of the two rows A and B -/
def fw_JI (n : Nat) (fr to pa pb : Nat → Nat) (k r : Nat) (A B : List (Nat × Nat)) (i j : Nat) (R : List (Nat × Nat)) : Prop :=
  fw_Sd R ∧ (∀ s : Nat × Nat, fw_Cov R s ↔ fw_D n fr to pa pb k (r / 7) (r % 7) s ∨ ∃ i' j', ((i' < i ∧ j' < B.length) ∨ (i' = i ∧ j' < j)) ∧ i' < A.length ∧
    (A.getD i' (0, 0)).1 + (B.getD j' (0, 0)).1 ≤ s.1 ∧ (A.getD i' (0, 0)).2 + (B.getD j' (0, 0)).2 ≤ s.2) ∧ ∀ e, e ∈ R → fw_W n fr to pa pb (k + 1) (r / 7) (r % 7) e
theorem fw_getD_mem {R : List (Nat × Nat)} {i : Nat} (h : i < R.length) : R.getD i (0, 0) ∈ R := by
  rw [List.getD_eq_getElem?_getD, List.getElem?_eq_getElem h]
  exact List.getElem_mem h
theorem fw_mem_getD {R : List (Nat × Nat)} {e : Nat × Nat} (h : e ∈ R) : ∃ i, i < R.length ∧ R.getD i (0, 0) = e := by
  obtain ⟨i, hi, he⟩ := List.mem_iff_getElem.mp h
  exact ⟨i, hi, by rw [List.getD_eq_getElem?_getD, List.getElem?_eq_getElem hi]; exact he⟩
section
variable {n : Nat} {fr to pa pb : Nat → Nat}
theorem fw_RI_small {k r : Nat} {R : List (Nat × Nat)} (hk : k ≤ 7) (hr : r < 49) (h : fw_RI n fr to pa pb k r R) : ∀ e, e ∈ R → e.1 ≤ 18 ∧ e.2 ≤ 18 :=
  fun e he => fw_W_small (by omega) (by omega) hk (h.2.2 e he)
theorem fw_RI_len {k r : Nat} {R : List (Nat × Nat)} (hk : k ≤ 7) (hr : r < 49) (h : fw_RI n fr to pa pb k r R) : R.length ≤ 19 := by
  have := fw_sd_len (c := 18) R 0 h.1 (by omega) (fun e he => ⟨Nat.zero_le _, (fw_RI_small hk hr h e he).1⟩)
  omega
theorem fw_JI_small {k r i j : Nat} {A B R : List (Nat × Nat)} (hk : k < 7) (hr : r < 49) (h : fw_JI n fr to pa pb k r A B i j R) : ∀ e, e ∈ R → e.1 ≤ 18 ∧ e.2 ≤ 18 :=
  fun e he => fw_W_small (by omega) (by omega) (k := k + 1) (by omega) (h.2.2 e he)
theorem fw_JI_len {k r i j : Nat} {A B R : List (Nat × Nat)} (hk : k < 7) (hr : r < 49) (h : fw_JI n fr to pa pb k r A B i j R) : R.length ≤ 19 := by
  have := fw_sd_len (c := 18) R 0 h.1 (by omega) (fun e he => ⟨Nat.zero_le _, (fw_JI_small hk hr h e he).1⟩)
  omega
theorem fw_JI_0 {k r : Nat} {A B R : List (Nat × Nat)} (h : fw_RI n fr to pa pb k r R) : fw_JI n fr to pa pb k r A B 0 0 R := by
  refine ⟨h.1, fun s => ?_, fun e he => fw_W_suc (h.2.2 e he)⟩
  rw [h.2.1 s]
  constructor
  · exact Or.inl
  · intro z
    rcases z with z | ⟨i', j', z, _⟩
    · exact z
    · omega
theorem fw_JI_row {k r i : Nat} {A B R : List (Nat × Nat)} (h : fw_JI n fr to pa pb k r A B i B.length R) : fw_JI n fr to pa pb k r A B (i + 1) 0 R := by
  refine ⟨h.1, fun s => ?_, h.2.2⟩
  rw [h.2.1 s]
  constructor
  · intro z
    rcases z with z | ⟨i', j', z, y⟩
    · exact Or.inl z
    · exact Or.inr ⟨i', j', by omega, y⟩
  · intro z
    rcases z with z | ⟨i', j', z, y⟩
    · exact Or.inl z
    · exact Or.inr ⟨i', j', by omega, y⟩
theorem fw_JI_step {k r i j : Nat} {A B R : List (Nat × Nat)} (ha : fw_RI n fr to pa pb k (7 * (r / 7) + k) A) (hb : fw_RI n fr to pa pb k (7 * k + r % 7) B)
    (hk : k < 7) (h1 : r / 7 ≠ k) (h2 : r % 7 ≠ k) (h3 : r / 7 ≠ r % 7) (hi : i < A.length) (hj : j < B.length)
    (h : fw_JI n fr to pa pb k r A B i j R) : fw_JI n fr to pa pb k r A B i (j + 1) (fw_ins R ((A.getD i (0, 0)).1 + (B.getD j (0, 0)).1, (A.getD i (0, 0)).2 + (B.getD j (0, 0)).2)) := by
  have eA1 : (7 * (r / 7) + k) / 7 = r / 7 := by omega
  have eA2 : (7 * (r / 7) + k) % 7 = k := by omega
  have eB1 : (7 * k + r % 7) / 7 = k := by omega
  have eB2 : (7 * k + r % 7) % 7 = r % 7 := by omega
  obtain ⟨_, a2, a3⟩ := ha
  obtain ⟨_, b2, b3⟩ := hb
  rw [eA1, eA2] at a2 a3
  rw [eB1, eB2] at b2 b3
  have mA := fw_getD_mem hi
  have mB := fw_getD_mem hj
  refine ⟨fw_ins_sd h.1, fun s => ?_, fun e he => ?_⟩
  · rw [fw_ins_cov h.1, h.2.1 s]
    constructor
    · intro z
      rcases z with (z | ⟨i', j', z, y⟩) | z
      · exact Or.inl z
      · exact Or.inr ⟨i', j', by omega, y⟩
      · exact Or.inr ⟨i, j, by omega, hi, z⟩
    · intro z
      rcases z with z | ⟨i', j', z, y⟩
      · exact Or.inl (Or.inl z)
      · by_cases e : i' = i ∧ j' = j
        · obtain ⟨rfl, rfl⟩ := e
          exact Or.inr y.2
        · exact Or.inl (Or.inr ⟨i', j', by omega, y⟩)
  · rcases fw_ins_mem h.1 he with z | ⟨z, hc⟩
    · exact h.2.2 e z
    · subst z
      refine fw_W_join h3 h1 h2 (a3 _ mA) (b3 _ mB) ((a2 _).mp ⟨_, mA, Nat.le_refl _, Nat.le_refl _⟩) ((b2 _).mp ⟨_, mB, Nat.le_refl _, Nat.le_refl _⟩) ?_
      intro hd
      exact hc ((h.2.1 _).mpr (Or.inl hd))
theorem fw_JI_end {k r : Nat} {A B R : List (Nat × Nat)} (ha : fw_RI n fr to pa pb k (7 * (r / 7) + k) A) (hb : fw_RI n fr to pa pb k (7 * k + r % 7) B)
    (hk : k < 7) (h : fw_JI n fr to pa pb k r A B A.length 0 R) : fw_RI n fr to pa pb (k + 1) r R := by
  have eA1 : (7 * (r / 7) + k) / 7 = r / 7 := by omega
  have eA2 : (7 * (r / 7) + k) % 7 = k := by omega
  have eB1 : (7 * k + r % 7) / 7 = k := by omega
  have eB2 : (7 * k + r % 7) % 7 = r % 7 := by omega
  obtain ⟨_, a2, a3⟩ := ha
  obtain ⟨_, b2, b3⟩ := hb
  rw [eA1, eA2] at a2 a3
  rw [eB1, eB2] at b2 b3
  refine ⟨h.1, fun s => ?_, h.2.2⟩
  rw [h.2.1 s]
  constructor
  · intro z
    rcases z with z | ⟨i', j', z, y1, y2, y3⟩
    · exact Or.inl z
    · have hj : j' < B.length := by omega
      exact Or.inr ⟨_, _, (a2 _).mp ⟨_, fw_getD_mem y1, Nat.le_refl _, Nat.le_refl _⟩, (b2 _).mp ⟨_, fw_getD_mem hj, Nat.le_refl _, Nat.le_refl _⟩, y2, y3⟩
  · intro z
    rcases z with z | ⟨x, y, hx, hy, c, d⟩
    · exact Or.inl z
    · obtain ⟨v, hv, v1, v2⟩ := (a2 x).mpr hx
      obtain ⟨w, hw, w1, w2⟩ := (b2 y).mpr hy
      obtain ⟨i', hi, rfl⟩ := fw_mem_getD hv
      obtain ⟨j', hj, rfl⟩ := fw_mem_getD hw
      exact Or.inr ⟨i', j', by omega, hi, by omega, by omega⟩
/-- a row that isn't joined over k -/
theorem fw_RI_skip {k r : Nat} {R : List (Nat × Nat)} (hs : r / 7 = k ∨ r % 7 = k ∨ r / 7 = r % 7) (h : fw_RI n fr to pa pb k r R) : fw_RI n fr to pa pb (k + 1) r R :=
  ⟨h.1, fun s => (h.2.1 s).trans (fw_D_skip hs).symm, fun e he => fw_W_suc (h.2.2 e he)⟩
/-- no lines -/
theorem fw_RI_init {r : Nat} (hr : r < 49) : fw_RI 0 fr to pa pb 0 r (if r % 8 = 0 then [(0, 0)] else []) := by
  by_cases c : r % 8 = 0
  · rw [if_pos c]
    have e : r / 7 = r % 7 := by omega
    refine ⟨List.pairwise_singleton _ _, fun s => ⟨fun _ => Or.inl e, fun _ => ⟨(0, 0), List.mem_cons_self, Nat.zero_le _, Nat.zero_le _⟩⟩, fun x hx => Or.inl ⟨e, ?_⟩⟩
    exact List.mem_singleton.mp hx
  · rw [if_neg c]
    have e : r / 7 ≠ r % 7 := by omega
    refine ⟨List.Pairwise.nil, fun s => ⟨fun ⟨v, hv, _⟩ => absurd hv List.not_mem_nil, fun z => ?_⟩, fun x hx => absurd hx List.not_mem_nil⟩
    rcases z with z | ⟨i, hi, _⟩
    · exact absurd z e
    · exact absurd hi (Nat.not_lt_zero i)
theorem fw_W0 {N : Nat} {l m : Nat} {e : Nat × Nat} (h : fw_W n fr to pa pb 0 l m e) : fw_W N fr to pa pb 0 l m e := by
  rcases h with h | ⟨hl, U, h1, h2, h3, h4, _⟩
  · exact Or.inl h
  · exact Or.inr ⟨hl, U, h1, h2, h3, h4, fun v hv => absurd (h2 v hv).1 (Nat.not_lt_zero v)⟩
/-- a line more that a row doesn't see -/
theorem fw_RI_line0 {r : Nat} {R : List (Nat × Nat)} (hf : fr n = to n ∨ r ≠ 7 * fr n + to n) (ht : to n < 7) (h : fw_RI n fr to pa pb 0 r R) : fw_RI (n + 1) fr to pa pb 0 r R := by
  refine ⟨h.1, fun s => (h.2.1 s).trans ⟨fun z => ?_, fun z => ?_⟩, fun e he => fw_W0 (h.2.2 e he)⟩
  · rcases z with z | ⟨i, hi, y⟩
    · exact Or.inl z
    · exact Or.inr ⟨i, by omega, y⟩
  · rcases z with z | ⟨i, hi, y1, y2, y3⟩
    · exact Or.inl z
    · by_cases e : i = n
      · subst e
        rcases hf with hf | hf
        · exact Or.inl (by omega)
        · exact absurd (by omega) hf
      · exact Or.inr ⟨i, by omega, y1, y2, y3⟩
/-- .. and the row of the line -/
theorem fw_RI_line1 {r : Nat} {R : List (Nat × Nat)} (hf : fr n ≠ to n) (hr : r = 7 * fr n + to n) (ht : to n < 7) (hp : pa n ≤ 3) (hq : pb n ≤ 3)
    (h : fw_RI n fr to pa pb 0 r R) : fw_RI (n + 1) fr to pa pb 0 r (fw_ins R (pa n, pb n)) := by
  have e1 : r / 7 = fr n := by omega
  have e2 : r % 7 = to n := by omega
  refine ⟨fw_ins_sd h.1, fun s => ?_, fun e he => ?_⟩
  · rw [fw_ins_cov h.1, h.2.1 s]
    constructor
    · intro z
      rcases z with (z | ⟨i, hi, y⟩) | z
      · exact Or.inl z
      · exact Or.inr ⟨i, by omega, y⟩
      · exact Or.inr ⟨n, by omega, e1.symm, e2.symm, z.1, z.2⟩
    · intro z
      rcases z with z | ⟨i, hi, y1, y2, y3⟩
      · exact Or.inl (Or.inl z)
      · by_cases e : i = n
        · subst e; exact Or.inr y3
        · exact Or.inl (Or.inr ⟨i, by omega, y1, y2, y3⟩)
  · rcases fw_ins_mem h.1 he with z | ⟨z, _⟩
    · exact fw_W0 (h.2.2 e z)
    · subst z
      exact Or.inr ⟨by omega, [], List.nodup_nil, fun v hv => absurd hv List.not_mem_nil, hp, hq, fun v hv => absurd hv List.not_mem_nil⟩
end
end
section
/-! part 04: what turns up at a place (fw_Q), by the reference's spreading and by the component's marks; staircases; counts -/
/-- some start (m0, a0, b0) of Z reaches m at most at (a, b) -/
def fw_Q (n : Nat) (fr to pa pb : Nat → Nat) (Z : Nat → Nat → Nat → Prop) (m a b : Nat) : Prop :=
  ∃ m0 a0 b0, Z m0 a0 b0 ∧ a0 ≤ a ∧ b0 ≤ b ∧ fw_D n fr to pa pb 7 m0 m (a - a0, b - b0)
section
variable {n : Nat} {fr to pa pb : Nat → Nat} {Z : Nat → Nat → Nat → Prop}
theorem fw_Q_up {m a b a' b' : Nat} (h : fw_Q n fr to pa pb Z m a b) (ha : a ≤ a') (hb : b ≤ b') : fw_Q n fr to pa pb Z m a' b' := by
  obtain ⟨m0, a0, b0, hz, h1, h2, hd⟩ := h
  exact ⟨m0, a0, b0, hz, by omega, by omega, fw_D_up _ _ _ _ _ hd (by show a - a0 ≤ a' - a0; omega) (by show b - b0 ≤ b' - b0; omega)⟩
theorem fw_Q_line {i a b : Nat} (hi : i < n) (hf : fr i < 7) (h : fw_Q n fr to pa pb Z (fr i) a b) : fw_Q n fr to pa pb Z (to i) (a + pa i) (b + pb i) := by
  obtain ⟨m0, a0, b0, hz, h1, h2, hd⟩ := h
  exact ⟨m0, a0, b0, hz, by omega, by omega, fw_D_up _ _ _ _ _ (fw_D_comp 7 m0 (fr i) (to i) _ _ hf hd (fw_D_line 7 i hi))
    (by show a - a0 + pa i ≤ a + pa i - a0; omega) (by show b - b0 + pb i ≤ b + pb i - b0; omega)⟩
theorem fw_Q_seed {m a b : Nat} (h : Z m a b) : fw_Q n fr to pa pb Z m a b := ⟨m, a, b, h, Nat.le_refl _, Nat.le_refl _, fw_D_refl _ _ _⟩
/-- a set that is closed under the lines (numbers below 19) covers what is reached from its members -/
theorem fw_clos {on : Nat → Nat → Nat → Prop} (hcl : ∀ i a b, i < n → a < 19 → b < 19 → on (fr i) a b → a + pa i < 19 → b + pb i < 19 → on (to i) (a + pa i) (b + pb i)) :
    ∀ (k l m : Nat) (s : Nat × Nat) (x y : Nat), on l x y → fw_D n fr to pa pb k l m s → x + s.1 < 19 → y + s.2 < 19 → ∃ x' y', x' ≤ x + s.1 ∧ y' ≤ y + s.2 ∧ on m x' y' := by
  intro k
  induction k with
  | zero =>
    intro l m s x y ho hd hx hy
    rcases hd with hd | ⟨i, hi, h1, h2, h3, h4⟩
    · subst hd; exact ⟨x, y, by omega, by omega, ho⟩
    · subst h1 h2
      exact ⟨x + pa i, y + pb i, by omega, by omega, hcl i x y hi (by omega) (by omega) ho (by omega) (by omega)⟩
  | succ k ih =>
    intro l m s x y ho hd hx hy
    rcases hd with hd | ⟨p, q, hp, hq, h1, h2⟩
    · exact ih l m s x y ho hd hx hy
    · obtain ⟨x1, y1, e1, e2, o1⟩ := ih l k p x y ho hp (by omega) (by omega)
      obtain ⟨x2, y2, e3, e4, o2⟩ := ih k m q x1 y1 o1 hq (by omega) (by omega)
      exact ⟨x2, y2, by omega, by omega, o2⟩
theorem fw_up_there {on : Nat → Nat → Nat → Prop} (hcl : ∀ i a b, i < n → a < 19 → b < 19 → on (fr i) a b → a + pa i < 19 → b + pb i < 19 → on (to i) (a + pa i) (b + pb i))
    (hs : ∀ m a b, m < 7 → a < 19 → b < 19 → on m a b → fw_Q n fr to pa pb Z m a b) (hz : ∀ m a b, Z m a b → on m a b)
    {m a b : Nat} (hm : m < 7) (ha : a < 19) (hb : b < 19) : (∃ x y, x ≤ a ∧ y ≤ b ∧ on m x y) ↔ fw_Q n fr to pa pb Z m a b := by
  constructor
  · intro ⟨x, y, h1, h2, h3⟩
    exact fw_Q_up (hs m x y hm (by omega) (by omega) h3) h1 h2
  · intro ⟨m0, a0, b0, h1, h2, h3, hd⟩
    obtain ⟨x, y, e1, e2, o⟩ := fw_clos hcl 7 m0 m _ a0 b0 (hz m0 a0 b0 h1) hd (by show a0 + (a - a0) < 19; omega) (by show b0 + (b - b0) < 19; omega)
    exact ⟨x, y, by have : x ≤ a0 + (a - a0) := e1; omega, by have : y ≤ b0 + (b - b0) := e2; omega, o⟩
end
/-- the starts: the tokens -/
def fw_Z (T : Nat) (pl ta tb : Nat → Nat) (m a b : Nat) : Prop := ∃ t, t < T ∧ pl t = m ∧ ta t = a ∧ tb t = b
/-- the component's marks: token t makes the time (a, b) at m -/
def fw_M (tab : Nat → List (Nat × Nat)) (T : Nat) (pl ta tb : Nat → Nat) (m a b : Nat) : Prop :=
  ∃ t, t < T ∧ ∃ e, e ∈ tab (7 * pl t + m) ∧ ta t + e.1 = a ∧ tb t + e.2 = b
section
variable {n : Nat} {fr to pa pb : Nat → Nat} {tab : Nat → List (Nat × Nat)} {T : Nat} {pl ta tb : Nat → Nat}
theorem fw_up_marks (ht : ∀ r, r < 49 → fw_RI n fr to pa pb 7 r (tab r)) (hp : ∀ t, t < T → pl t < 7) {m a b : Nat} (hm : m < 7) :
    (∃ x y, x ≤ a ∧ y ≤ b ∧ fw_M tab T pl ta tb m x y) ↔ fw_Q n fr to pa pb (fw_Z T pl ta tb) m a b := by
  constructor
  · intro ⟨x, y, h1, h2, t, h3, e, h4, h5, h6⟩
    have hpt := hp t h3
    have hr := ht (7 * pl t + m) (by omega)
    have hd := (hr.2.1 e).mp ⟨e, h4, Nat.le_refl _, Nat.le_refl _⟩
    rw [show (7 * pl t + m) / 7 = pl t from by omega, show (7 * pl t + m) % 7 = m from by omega] at hd
    exact ⟨pl t, ta t, tb t, ⟨t, h3, rfl, rfl, rfl⟩, by omega, by omega, fw_D_up _ _ _ _ _ hd (by show e.1 ≤ a - ta t; omega) (by show e.2 ≤ b - tb t; omega)⟩
  · intro ⟨m0, a0, b0, ⟨t, h3, h4, h5, h6⟩, h1, h2, hd⟩
    subst h4 h5 h6
    have hpt := hp t h3
    have hr := ht (7 * pl t + m) (by omega)
    have hc := (hr.2.1 (a - ta t, b - tb t)).mpr (by
      rw [show (7 * pl t + m) / 7 = pl t from by omega, show (7 * pl t + m) % 7 = m from by omega]; exact hd)
    obtain ⟨e, he, e1, e2⟩ := hc
    have e1' : e.1 ≤ a - ta t := e1
    have e2' : e.2 ≤ b - tb t := e2
    exact ⟨ta t + e.1, tb t + e.2, by omega, by omega, t, h3, e, he, rfl, rfl⟩
end
/-! staircases -/
/-- minimal in U -/
def fw_F (U : Nat → Nat → Prop) (a b : Nat) : Prop := U a b ∧ ∀ x y, x ≤ a → y ≤ b → ¬ (x = a ∧ y = b) → ¬ U x y
/-- β: the least number of U in the row ahead of a, or 16 -/
def fw_B (U : Nat → Nat → Prop) (a β : Nat) : Prop := β ≤ 16 ∧ ∀ b, b < 16 → ((0 < a ∧ U (a - 1) b) ↔ β ≤ b)
theorem fw_B0 (U : Nat → Nat → Prop) : fw_B U 0 16 := ⟨Nat.le_refl _, fun b hb => ⟨fun z => absurd z.1 (Nat.lt_irrefl 0), fun z => by omega⟩⟩
theorem fw_B_next {U mk : Nat → Nat → Prop} (hU : ∀ a b, a < 16 → b < 16 → (U a b ↔ ∃ x y, x ≤ a ∧ y ≤ b ∧ mk x y)) {a β r : Nat} (ha : a < 16) (h : fw_B U a β) (hr : r ≤ β)
    (h1 : r < β → mk a r) (h2 : ∀ b, b < r → ¬ mk a b) : fw_B U (a + 1) r := by
  refine ⟨Nat.le_trans hr h.1, fun b hb => ?_⟩
  rw [Nat.add_sub_cancel]
  constructor
  · intro ⟨_, hu⟩
    obtain ⟨x, y, hx, hy, hm⟩ := (hU a b ha hb).mp hu
    by_cases e : x = a
    · subst e
      rcases Nat.lt_or_ge y r with z | z
      · exact absurd hm (h2 y z)
      · omega
    · have := (h.2 b hb).mp ⟨by omega, (hU (a - 1) b (by omega) hb).mpr ⟨x, y, by omega, hy, hm⟩⟩
      omega
  · intro hb2
    refine ⟨Nat.succ_pos a, (hU a b ha hb).mpr ?_⟩
    rcases Nat.lt_or_ge r β with z | z
    · exact ⟨a, r, Nat.le_refl _, hb2, h1 z⟩
    · obtain ⟨h0, hu⟩ := (h.2 b hb).mpr (by omega)
      obtain ⟨x, y, hx, hy, hm⟩ := (hU (a - 1) b (by omega) hb).mp hu
      exact ⟨x, y, by omega, hy, hm⟩
theorem fw_F_iff {U : Nat → Nat → Prop} (hup : ∀ a b a' b', U a b → a ≤ a' → b ≤ b' → U a' b') {a β r : Nat} (h : fw_B U a β) (h' : fw_B U (a + 1) r) {b : Nat} (hb : b < 16) :
    fw_F U a b ↔ (b = r ∧ r < β) := by
  have g := h'.2
  rw [Nat.add_sub_cancel] at g
  constructor
  · intro ⟨hu, hm⟩
    have h1 := (g b hb).mp ⟨Nat.succ_pos a, hu⟩
    have h2 : b = r := by
      rcases Nat.lt_or_ge r b with z | z
      · exact absurd ((g r (by omega)).mpr (Nat.le_refl r)).2 (hm a r (Nat.le_refl _) (by omega) (by omega))
      · omega
    refine ⟨h2, ?_⟩
    rcases Nat.lt_or_ge r β with z | z
    · exact z
    · obtain ⟨h0, h3⟩ := (h.2 b hb).mpr (by omega)
      exact absurd h3 (hm (a - 1) b (by omega) (Nat.le_refl _) (by omega))
  · intro ⟨e, hl⟩
    subst e
    refine ⟨((g b hb).mpr (Nat.le_refl b)).2, fun x y hx hy hne hu => ?_⟩
    by_cases c : x = a
    · subst c
      have := (g y (by omega)).mp ⟨Nat.succ_pos x, hu⟩
      omega
    · have := (h.2 b hb).mp ⟨by omega, hup x y (a - 1) b hu (by omega) hy⟩
      omega
/-- minimal in a set and in what lies above it -/
theorem fw_F_on {on : Nat → Nat → Prop} {U : Nat → Nat → Prop} {N : Nat} (hU : ∀ a b, a < N → b < N → (U a b ↔ ∃ x y, x ≤ a ∧ y ≤ b ∧ on x y)) {a b : Nat} (ha : a < N) (hb : b < N) :
    (on a b ∧ ¬ ∃ x y, x ≤ a ∧ y ≤ b ∧ on x y ∧ ¬ (x = a ∧ y = b)) ↔ fw_F U a b := by
  constructor
  · intro ⟨ho, hn⟩
    refine ⟨(hU a b ha hb).mpr ⟨a, b, Nat.le_refl _, Nat.le_refl _, ho⟩, fun x y hx hy hne hu => ?_⟩
    obtain ⟨x', y', h1, h2, h3⟩ := (hU x y (by omega) (by omega)).mp hu
    exact hn ⟨x', y', by omega, by omega, h3, by omega⟩
  · intro ⟨hu, hm⟩
    constructor
    · obtain ⟨x, y, h1, h2, h3⟩ := (hU a b ha hb).mp hu
      by_cases c : x = a ∧ y = b
      · rw [← c.1, ← c.2]; exact h3
      · exact absurd ((hU x y (by omega) (by omega)).mpr ⟨x, y, Nat.le_refl _, Nat.le_refl _, h3⟩) (hm x y h1 h2 c)
    · intro ⟨x, y, h1, h2, h3, h4⟩
      exact hm x y h1 h2 h4 ((hU x y (by omega) (by omega)).mpr ⟨x, y, Nat.le_refl _, Nat.le_refl _, h3⟩)
/-- the pairs of a list, counted by their codes -/
theorem fw_cnt_list {c N : Nat} : ∀ (R : List (Nat × Nat)), R.Nodup → (∀ e, e ∈ R → e.2 < c ∧ c * e.1 + e.2 < N) → fw_s (fun t => fw_b ((t / c, t % c) ∈ R)) N = R.length := by
  intro R
  induction R with
  | nil =>
    intro _ _
    exact fw_s_zero N (fun i _ => fw_b0 List.not_mem_nil)
  | cons w R ih =>
    intro hn h
    have h1 := List.nodup_cons.mp hn
    have hw := h w List.mem_cons_self
    have hc : 0 < c := by omega
    have e1 : (c * w.1 + w.2) / c = w.1 := by rw [Nat.mul_add_div hc, Nat.div_eq_of_lt hw.1, Nat.add_zero]
    have e2 : (c * w.1 + w.2) % c = w.2 := by rw [Nat.mul_add_mod, Nat.mod_eq_of_lt hw.1]
    have h2 := fw_s_plus (f := fun t => fw_b (t = c * w.1 + w.2)) (g := fun t => fw_b ((t / c, t % c) ∈ R)) N
    rw [ih h1.2 (fun e he => h e (List.mem_cons_of_mem w he)), fw_s_one (k := c * w.1 + w.2) (x := 1) N hw.2 (fw_b1 rfl) (fun i _ hi => fw_b0 hi)] at h2
    rw [List.length_cons, Nat.add_comm, ← h2]
    refine fw_s_congr N (fun t _ => ?_)
    show fw_b ((t / c, t % c) ∈ w :: R) = fw_b (t = c * w.1 + w.2) + fw_b ((t / c, t % c) ∈ R)
    by_cases e : t = c * w.1 + w.2
    · subst e
      rw [e1, e2, fw_b1 List.mem_cons_self, fw_b1 rfl, fw_b0 h1.1]
    · rw [fw_b0 e, Nat.zero_add]
      refine fw_b_iff ⟨fun z => ?_, fun z => List.mem_cons_of_mem w z⟩
      rcases List.mem_cons.mp z with y | y
      · refine absurd ?_ e
        rw [← y]
        exact (Nat.div_add_mod t c).symm
      · exact y
theorem fw_sd_nodup {R : List (Nat × Nat)} (h : fw_Sd R) : R.Nodup := by
  refine List.Pairwise.imp ?_ h
  intro a b hab e
  subst e
  omega
/-- the members of a row are the minimal pairs -/
theorem fw_F_row {R : List (Nat × Nat)} {U : Nat → Nat → Prop} {N : Nat} (hS : fw_Sd R) (hU : ∀ a b, a < N → b < N → (U a b ↔ fw_Cov R (a, b))) {a b : Nat} (ha : a < N) (hb : b < N) :
    fw_F U a b ↔ (a, b) ∈ R := by
  constructor
  · intro ⟨hu, hm⟩
    obtain ⟨v, hv, h1, h2⟩ := (hU a b ha hb).mp hu
    have h1' : v.1 ≤ a := h1
    have h2' : v.2 ≤ b := h2
    by_cases c : v.1 = a ∧ v.2 = b
    · rw [← c.1, ← c.2]; exact hv
    · exact absurd ((hU v.1 v.2 (by omega) (by omega)).mpr ⟨v, hv, Nat.le_refl _, Nat.le_refl _⟩) (hm v.1 v.2 h1' h2' c)
  · intro h
    refine ⟨(hU a b ha hb).mpr ⟨(a, b), h, Nat.le_refl _, Nat.le_refl _⟩, fun x y hx hy hne hu => ?_⟩
    obtain ⟨v, hv, h1, h2⟩ := (hU x y (by omega) (by omega)).mp hu
    have h1' : v.1 ≤ x := h1
    have h2' : v.2 ≤ y := h2
    have e := fw_sd_anti hS hv h ⟨by show v.1 ≤ a; omega, by show v.2 ≤ b; omega⟩
    rw [e] at h1' h2'
    have h3 : a ≤ x := h1'
    have h4 : b ≤ y := h2'
    omega
end
section
/-! part 05: addSum walks as fw_ga says -/
def fw_e (v : Nat × Nat) : Nat := 64 * v.1 + v.2
def fw_A (f : Nat → Nat) : Nat → Int32 := fun i => nI (f i)
theorem fx_p {v : Nat × Nat} (h1 : v.1 < 64) (h2 : v.2 < 64) : nI (fw_e v) >>> ((6 : Int32) &&& 31) = nI v.1 := by
  rw [pk_shrN (by unfold fw_e; omega) _ 6 (by decide)]
  exact congrArg nI (by unfold fw_e; omega)
theorem fx_q {v : Nat × Nat} (h1 : v.1 < 64) (h2 : v.2 < 64) : nI (fw_e v) &&& 63 = nI v.2 := by
  rw [pk_andN (by unfold fw_e; omega) 6 (by decide)]
  exact congrArg nI (by unfold fw_e; omega)
theorem fx_th {a b : Nat} (h1 : a < 64) (h2 : b < 16) : nI (16 * a + b) >>> ((4 : Int32) &&& 31) = nI a := by
  rw [pk_shrN (by omega) _ 4 (by decide)]
  exact congrArg nI (by omega)
theorem fx_tl {a b : Nat} (h1 : a < 64) (h2 : b < 16) : nI (16 * a + b) &&& 15 = nI b := by
  rw [pk_andN (by omega) 4 (by decide)]
  exact congrArg nI (by omega)
theorem fx_m (c a : Nat) : nI c * nI a = nI (c * a) := pk_mul c a
theorem fx_getD_l {O X : List (Nat × Nat)} {j : Nat} (h : j < O.length) : (O ++ X).getD j (0, 0) = O.getD j (0, 0) := by
  rw [List.getD_eq_getElem?_getD, List.getD_eq_getElem?_getD, List.getElem?_append_left h]
theorem fx_getD_at {O : List (Nat × Nat)} {w : Nat × Nat} : (O ++ [w]).getD O.length (0, 0) = w := by
  rw [List.getD_eq_getElem?_getD, List.getElem?_append_right (Nat.le_refl _), Nat.sub_self]
  rfl
theorem fx_ext {O : List (Nat × Nat)} {w : Nat × Nat} {GA : Nat → Int32} (h : ∀ j, j < O.length → GA j = nI (fw_e (O.getD j (0, 0)))) :
    ∀ j, j < (O ++ [w]).length → upd GA O.length (nI (fw_e w)) j = nI (fw_e ((O ++ [w]).getD j (0, 0))) := by
  intro j hj
  rw [List.length_append, List.length_singleton] at hj
  by_cases e : j = O.length
  · subst e
    rw [pk_us, fx_getD_at]
  · rw [pk_un e, fx_getD_l (by omega)]
    exact h j (by omega)
section
variable {post : SX → Prop} {fl ft : Int32} {aF aT aA aB aP aM MK : Nat → Int32}
theorem fx_add215 {r : Nat} {X : List (Nat × Nat)} {SC GA S0 : Nat → Int32} (hr : r < 49) (hX : X.length ≤ 19)
    (hG : ∀ j, j < X.length → GA j = nI (fw_e (X.getD j (0, 0))))
    (H : ∀ S', (∀ j, j < X.length → S' (19 * r + j) = nI (fw_e (X.getD j (0, 0)))) → (∀ j, (j < 19 * r ∨ 19 * r + 19 ≤ j) → S' j = S0 j) →
      post (fl, ft, nI X.length, aF, aT, aA, aB, aP, aM, upd SC r (nI X.length), S', GA, MK)) :
    ∀ (n i : Nat) (S : Nat → Int32), X.length - i < n → i ≤ X.length → (∀ j, j < i → S (19 * r + j) = nI (fw_e (X.getD j (0, 0)))) → (∀ j, (j < 19 * r ∨ 19 * r + 19 ≤ j) → S j = S0 j) →
      wX_addSum_215 post (nI r) (nI (19 * r)) fl ft (nI X.length) n (nI i) aF aT aA aB aP aM SC S GA MK := by
  intro n
  induction n with
  | zero => intro i S h; omega
  | succ n ih =>
    intro i S hn hi hS1 hS2
    rw [wX_addSum_215]
    dsimp only
    refine pk_le X.length i (fun c => ?_) (fun c => ?_)
    · have e : i = X.length := by omega
      subst e
      exact ⟨vp_in_nI hr (by omega), nm_r (e' := upd SC r (nI X.length)) (by rw [nI_clamp (by omega)]) (H S hS1 hS2)⟩
    · have e1 : nI (19 * r) + nI i = nI (19 * r + i) := nI_add _ _
      rw [e1, nI_clamp (show 19 * r + i < 2 ^ 31 by omega), nI_clamp (show i < 2 ^ 31 by omega), hG i c]
      refine ⟨vp_in_nI (by omega) (by omega), vp_in_nI (by omega) (by omega), nm_e (nm_r (nI_1 i) (ih (i + 1) _ (by omega) (by omega) ?_ ?_))⟩
      · intro j hj
        by_cases e : j = i
        · subst e; exact pk_us
        · rw [pk_un (by omega)]; exact hS1 j (by omega)
      · intro j hj
        rw [pk_un (by omega)]
        exact hS2 j hj
theorem fx_add148 {J : Int32 → Int32 → Int32 → (Nat → Int32) → (Nat → Int32) → (Nat → Int32) → (Nat → Int32) → (Nat → Int32) → (Nat → Int32) → (Nat → Int32) → (Nat → Int32) → (Nat → Int32) → (Nat → Int32) → Prop}
    {x1 x2 x3 x4 : Int32} {k o : Nat} {e : Int32} {SC S GA : Nat → Int32} (hk : k < 931) (ho : o < 40) (hS : S k = e)
    (h : J x4 (nI (k + 1)) (nI (o + 1)) aF aT aA aB aP aM SC S (upd GA o e) MK) : wX_addSum_148 post J x1 x2 x3 x4 (nI k) 0 fl ft (nI o) aF aT aA aB aP aM SC S GA MK := by
  unfold wX_addSum_148
  refine br_t rfl ⟨vp_in_nI hk (by omega), vp_in_nI ho (by omega), ?_⟩
  rw [nI_clamp (show k < 2 ^ 31 by omega), nI_clamp (show o < 2 ^ 31 by omega), hS]
  exact nm_e (nm_r (nI_1 o) (nm_r (nI_1 k) h))
theorem fx_add109 {J : Int32 → Int32 → Int32 → (Nat → Int32) → (Nat → Int32) → (Nat → Int32) → (Nat → Int32) → (Nat → Int32) → (Nat → Int32) → (Nat → Int32) → (Nat → Int32) → (Nat → Int32) → (Nat → Int32) → Prop}
    {x1 x3 x4 : Int32} {k o : Nat} {s v : Nat × Nat} {SC S GA : Nat → Int32} (hk : k < 931) (ho : o < 40) (hS : S k = nI (fw_e v)) (hs1 : s.1 < 64) (hs2 : s.2 < 64) (hv1 : v.1 < 64) (hv2 : v.2 < 64)
    (hb : s.1 ≤ v.1 ∧ s.2 ≤ v.2 → J x4 (nI (k + 1)) (nI o) aF aT aA aB aP aM SC S GA MK)
    (hnb : ¬ (s.1 ≤ v.1 ∧ s.2 ≤ v.2) → J x4 (nI (k + 1)) (nI (o + 1)) aF aT aA aB aP aM SC S (upd GA o (nI (fw_e v))) MK) :
    wX_addSum_109 post J x1 (nI (fw_e s)) x3 x4 (nI k) fl ft (nI o) aF aT aA aB aP aM SC S GA MK := by
  have hi : vp_in (nI k) 931 := vp_in_nI hk (by omega)
  have hx : S (nI k).toNatClampNeg = nI (fw_e v) := by rw [nI_clamp (by omega)]; exact hS
  unfold wX_addSum_109
  rw [hx, fx_p hv1 hv2, fx_p hs1 hs2, fx_q hv1 hv2, fx_q hs1 hs2]
  refine ⟨hi, pk_lt v.1 s.1 (fun c => ?_) (fun c => ⟨hi, pk_lt v.2 s.2 (fun d => ?_) (fun d => ?_)⟩)⟩
  · exact fx_add148 hk ho hS (hnb (by omega))
  · exact fx_add148 hk ho hS (hnb (by omega))
  · unfold wX_addSum_148
    exact br_f (by decide) (nm_r (nI_1 k) (hb (by omega)))
theorem fx_add16 {r : Nat} {s : Nat × Nat} {SC S : Nat → Int32} (hr : r < 49) (hs1 : s.1 < 64) (hs2 : s.2 < 64) :
    ∀ (R : List (Nat × Nat)) (i n : Nat) (pl : Bool) (O : List (Nat × Nat)) (GA : Nat → Int32),
      R.length < n → SC r = nI (i + R.length) → i + R.length ≤ 19 →
      (∀ j, j < R.length → S (19 * r + i + j) = nI (fw_e (R.getD j (0, 0)))) → (∀ v, v ∈ R → v.1 < 64 ∧ v.2 < 64) →
      (∀ j, j < O.length → GA j = nI (fw_e (O.getD j (0, 0)))) → O.length ≤ i + (if pl = true then 1 else 0) →
      (fw_ga s pl R = none → ∀ g' G', post (fl, ft, g', aF, aT, aA, aB, aP, aM, SC, S, G', MK)) →
      (∀ X, fw_ga s pl R = some X → (O ++ X).length ≤ 19 ∧ ∀ g' G' S', (∀ j, j < (O ++ X).length → S' (19 * r + j) = nI (fw_e ((O ++ X).getD j (0, 0)))) →
        (∀ j, (j < 19 * r ∨ 19 * r + 19 ≤ j) → S' j = S j) → post (fl, ft, g', aF, aT, aA, aB, aP, aM, upd SC r (nI (O ++ X).length), S', G', MK)) →
      wX_addSum_16 post (nI r) (nI (fw_e s)) (nI (19 * r)) fl ft n (if pl = true then 1 else 0) (nI (19 * r + i)) (nI O.length) aF aT aA aB aP aM SC S GA MK := by
  intro R
  induction R with
  | nil =>
    intro i n pl O GA hn hc hl hS hv hG hO hN hY
    obtain ⟨n, rfl⟩ : ∃ n', n = n' + 1 := ⟨n - 1, by rw [List.length_nil] at hn; omega⟩
    rw [List.length_nil, Nat.add_zero] at hc hl
    have e0 : nI (19 * r) + SC (nI r).toNatClampNeg = nI (19 * r + i) := by
      rw [nI_clamp (show r < 2 ^ 31 by omega), hc, nI_add]
    rw [wX_addSum_16]
    dsimp only
    rw [e0]
    refine ⟨vp_in_nI hr (by omega), pk_le (19 * r + i) (19 * r + i) (fun _ => ?_) (fun c => by omega)⟩
    cases pl with
    | false =>
      have hO' : O.length ≤ i := hO
      have hY' := hY [s] rfl
      refine br_t rfl ⟨vp_in_nI (by omega) (by omega), ?_⟩
      rw [nI_clamp (show O.length < 2 ^ 31 by omega)]
      refine nm_e (nm_r (e' := nI (O ++ [s]).length) (by rw [nI_1, List.length_append]; rfl) ⟨(O ++ [s]).length + 1, ?_⟩)
      exact fx_add215 hr hY'.1 (fx_ext hG) (fun S' h1 h2 => hY'.2 _ _ S' h1 h2) _ 0 S (by omega) (Nat.zero_le _) (fun j hj => absurd hj (Nat.not_lt_zero j)) (fun j _ => rfl)
    | true =>
      have hY' := hY [] rfl
      rw [List.append_nil] at hY'
      refine br_f (by decide) ⟨O.length + 1, ?_⟩
      exact fx_add215 hr hY'.1 hG (fun S' h1 h2 => hY'.2 _ _ S' h1 h2) _ 0 S (by omega) (Nat.zero_le _) (fun j hj => absurd hj (Nat.not_lt_zero j)) (fun j _ => rfl)
  | cons v R ih =>
    intro i n pl O GA hn hc hl hS hv hG hO hN hY
    obtain ⟨n, rfl⟩ : ∃ n', n = n' + 1 := ⟨n - 1, by rw [List.length_cons] at hn; omega⟩
    rw [List.length_cons] at hn hc hl
    have hb1 : (if pl = true then 1 else 0) ≤ 1 := by cases pl <;> decide
    have e0 : nI (19 * r) + SC (nI r).toNatClampNeg = nI (19 * r + (i + (R.length + 1))) := by
      rw [nI_clamp (show r < 2 ^ 31 by omega), hc, nI_add]
    have hSv : S (19 * r + i) = nI (fw_e v) := hS 0 (by rw [List.length_cons]; omega)
    have hv0 := hv v List.mem_cons_self
    have hx : S (nI (19 * r + i)).toNatClampNeg = nI (fw_e v) := by rw [nI_clamp (by omega)]; exact hSv
    have hk : 19 * r + i < 931 := by omega
    have hi : vp_in (nI (19 * r + i)) 931 := vp_in_nI hk (by omega)
    have ihv : ∀ w, w ∈ R → w.1 < 64 ∧ w.2 < 64 := fun w hw => hv w (List.mem_cons_of_mem v hw)
    have ihS : ∀ j, j < R.length → S (19 * r + (i + 1) + j) = nI (fw_e (R.getD j (0, 0))) := fun j hj => by
      have := hS (j + 1) (by rw [List.length_cons]; omega)
      rw [List.getD_cons_succ] at this
      rw [← this]
      exact congrArg S (by omega)
    have ihc : SC r = nI (i + 1 + R.length) := hc.trans (congrArg nI (by omega))
    rw [wX_addSum_16]
    dsimp only
    rw [e0, hx, fx_p hv0.1 hv0.2, fx_p hs1 hs2]
    refine ⟨vp_in_nI hr (by omega), pk_le (19 * r + (i + (R.length + 1))) (19 * r + i) (fun c => by omega) (fun _ => ⟨hi, pk_lt s.1 v.1 (fun c => ?_) (fun c => ?_)⟩)⟩
    · have hnd : ¬ (v.1 ≤ s.1 ∧ v.2 ≤ s.2) := by omega
      unfold wX_addSum_51
      refine br_t rfl ?_
      unfold wX_addSum_76
      refine br_t rfl ?_
      cases pl with
      | false =>
        have hO' : O.length ≤ i := hO
        have eg : fw_ga s false (v :: R) = (fw_ga s true R).map (fun X => [s] ++ ((if s.1 ≤ v.1 ∧ s.2 ≤ v.2 then [] else [v]) ++ X)) := by
          rw [fw_ga, if_neg hnd, Bool.false_or, decide_eq_true c, if_pos ⟨c, rfl⟩]
        rw [eg] at hN hY
        refine br_t rfl ⟨vp_in_nI (by omega) (by omega), ?_⟩
        rw [nI_clamp (show O.length < 2 ^ 31 by omega)]
        refine nm_e (nm_r (nI_1 O.length) ?_)
        refine fx_add109 hk (by omega) hSv hs1 hs2 hv0.1 hv0.2 (fun hb => ?_) (fun hb => ?_)
        · have z := ih (i + 1) n true (O ++ [s]) _ (by omega) ihc (by omega) ihS ihv (fx_ext hG) (by rw [List.length_append, List.length_singleton]; show _ ≤ i + 1 + 1; omega)
            (fun h => hN (by rw [h]; rfl)) (fun X h => by
              have := hY (s :: X) (by rw [h, if_pos hb]; rfl)
              rw [List.append_assoc]; exact this)
          rw [List.length_append, List.length_singleton] at z
          exact z
        · have z := ih (i + 1) n true (O ++ [s] ++ [v]) _ (by omega) ihc (by omega) ihS ihv (fx_ext (fx_ext hG)) (by rw [List.length_append, List.length_append, List.length_singleton, List.length_singleton]; show _ ≤ i + 1 + 1; omega)
            (fun h => hN (by rw [h]; rfl)) (fun X h => by
              have := hY (s :: v :: X) (by rw [h, if_neg hb]; rfl)
              rw [List.append_assoc, List.append_assoc]; exact this)
          rw [List.length_append, List.length_append, List.length_singleton, List.length_singleton] at z
          exact z
      | true =>
        have hO' : O.length ≤ i + 1 := hO
        have eg : fw_ga s true (v :: R) = (fw_ga s true R).map (fun X => [] ++ ((if s.1 ≤ v.1 ∧ s.2 ≤ v.2 then [] else [v]) ++ X)) := by
          rw [fw_ga, if_neg hnd, Bool.true_or, if_neg (by intro z; exact absurd z.2 (by decide))]
        rw [eg] at hN hY
        refine br_f (by decide) ?_
        refine fx_add109 hk (by omega) hSv hs1 hs2 hv0.1 hv0.2 (fun hb => ?_) (fun hb => ?_)
        · exact ih (i + 1) n true O _ (by omega) ihc (by omega) ihS ihv hG (by show _ ≤ i + 1 + 1; omega)
            (fun h => hN (by rw [h]; rfl)) (fun X h => hY X (by rw [h, if_pos hb]; rfl))
        · have z := ih (i + 1) n true (O ++ [v]) _ (by omega) ihc (by omega) ihS ihv (fx_ext hG) (by rw [List.length_append, List.length_singleton]; show _ ≤ i + 1 + 1; omega)
            (fun h => hN (by rw [h]; rfl)) (fun X h => by
              have := hY (v :: X) (by rw [h, if_neg hb]; rfl)
              rw [List.append_assoc]; exact this)
          rw [List.length_append, List.length_singleton] at z
          exact z
    · have c' : ¬ s.1 < v.1 := by omega
      unfold wX_addSum_51
      rw [hx, fx_q hv0.1 hv0.2, fx_q hs1 hs2]
      refine br_f (by decide) ⟨hi, pk_lt s.2 v.2 (fun d => ?_) (fun d => ?_)⟩
      · have hnd : ¬ (v.1 ≤ s.1 ∧ v.2 ≤ s.2) := by omega
        have eg : fw_ga s pl (v :: R) = (fw_ga s pl R).map (fun X => [] ++ ((if s.1 ≤ v.1 ∧ s.2 ≤ v.2 then [] else [v]) ++ X)) := by
          rw [fw_ga, if_neg hnd, decide_eq_false c', Bool.or_false, if_neg (fun z => c' z.1)]
        rw [eg] at hN hY
        unfold wX_addSum_76
        refine br_f (by decide) ?_
        refine fx_add109 hk (by omega) hSv hs1 hs2 hv0.1 hv0.2 (fun hb => ?_) (fun hb => ?_)
        · exact ih (i + 1) n pl O _ (by omega) ihc (by omega) ihS ihv hG (by omega)
            (fun h => hN (by rw [h]; rfl)) (fun X h => hY X (by rw [h, if_pos hb]; rfl))
        · have z := ih (i + 1) n pl (O ++ [v]) _ (by omega) ihc (by omega) ihS ihv (fx_ext hG) (by rw [List.length_append, List.length_singleton]; omega)
            (fun h => hN (by rw [h]; rfl)) (fun X h => by
              have := hY (v :: X) (by rw [h, if_neg hb]; rfl)
              rw [List.append_assoc]; exact this)
          rw [List.length_append, List.length_singleton] at z
          exact z
      · exact hN (by rw [fw_ga, if_pos ⟨by omega, by omega⟩]) _ _
end
/-- the rows of the two arrays -/
def fw_Rp (tab : Nat → List (Nat × Nat)) (SC S : Nat → Int32) : Prop :=
  ∀ r, r < 49 → SC r = nI (tab r).length ∧ ∀ j, j < (tab r).length → S (19 * r + j) = nI (fw_e ((tab r).getD j (0, 0)))
def fw_set (tab : Nat → List (Nat × Nat)) (r : Nat) (R : List (Nat × Nat)) : Nat → List (Nat × Nat) := fun q => if q = r then R else tab q
theorem fw_set_at {tab : Nat → List (Nat × Nat)} {r : Nat} {R : List (Nat × Nat)} : fw_set tab r R r = R := if_pos rfl
theorem fw_set_ne {tab : Nat → List (Nat × Nat)} {r q : Nat} {R : List (Nat × Nat)} (h : q ≠ r) : fw_set tab r R q = tab q := if_neg h
theorem fw_set_self {tab : Nat → List (Nat × Nat)} {r : Nat} : fw_set tab r (tab r) = tab := by
  funext q
  by_cases h : q = r
  · subst h; exact fw_set_at
  · exact fw_set_ne h
theorem fx_addSum {post : SX → Prop} {fl ft g : Int32} {aF aT aA aB aP aM SC S GA MK : Nat → Int32} {tab : Nat → List (Nat × Nat)} {r : Nat} {s : Nat × Nat}
    (hr : r < 49) (hs1 : s.1 < 64) (hs2 : s.2 < 64) (hp : fw_Rp tab SC S) (hl : ∀ q, q < 49 → (tab q).length ≤ 19) (hv : ∀ v, v ∈ tab r → v.1 < 64 ∧ v.2 < 64)
    (hl2 : (fw_ins (tab r) s).length ≤ 19)
    (H : ∀ g' G' SC' S', fw_Rp (fw_set tab r (fw_ins (tab r) s)) SC' S' → post (fl, ft, g', aF, aT, aA, aB, aP, aM, SC', S', G', MK)) :
    wpX_addSum post (fl, ft, g, aF, aT, aA, aB, aP, aM, SC, S, GA, MK) (nI r) (nI (fw_e s)) := by
  unfold wpX_addSum
  refine nm_r (e' := nI (19 * r)) (pk_mul 19 r) ⟨(tab r).length + 1, ?_⟩
  have h := fx_add16 (post := post) (fl := fl) (ft := ft) (aF := aF) (aT := aT) (aA := aA) (aB := aB) (aP := aP) (aM := aM) (MK := MK) (r := r) (s := s) (SC := SC) (S := S) hr hs1 hs2 (tab r) 0 ((tab r).length + 1) false [] GA (Nat.lt_succ_self _) (by rw [Nat.zero_add]; exact (hp r hr).1) (by rw [Nat.zero_add]; exact hl r hr)
    (fun j hj => (hp r hr).2 j hj) hv (fun j hj => absurd hj (Nat.not_lt_zero j)) (Nat.zero_le _) ?_ ?_
  · exact h
  · intro e g' G'
    refine H g' G' SC S ?_
    have : fw_ins (tab r) s = tab r := by unfold fw_ins; rw [e]; rfl
    rw [this, fw_set_self]
    exact hp
  · intro X e
    have eX : fw_ins (tab r) s = X := by unfold fw_ins; rw [e]; rfl
    rw [List.nil_append]
    rw [eX] at hl2 H
    refine ⟨hl2, fun g' G' S' h1 h2 => H g' G' _ S' ?_⟩
    intro q hq
    by_cases c : q = r
    · subst c
      rw [fw_set_at]
      exact ⟨pk_us, h1⟩
    · rw [fw_set_ne c]
      refine ⟨(pk_un c).trans (hp q hq).1, fun j hj => ?_⟩
      have := hl q hq
      rw [h2 (19 * q + j) (by omega)]
      exact (hp q hq).2 j hj
end
section
/-! part 06: joinOver -/
theorem fx_19 (a b : Nat) : (19 : Int32) * nI a + nI b = nI (19 * a + b) := by
  show nI 19 * nI a + nI b = _
  rw [pk_mul, nI_add]
theorem fx_19m (a : Nat) : (19 : Int32) * nI a = nI (19 * a) := pk_mul 19 a
theorem fx_7 (a b : Nat) : (7 : Int32) * nI a + nI b = nI (7 * a + b) := by
  show nI 7 * nI a + nI b = _
  rw [pk_mul, nI_add]
theorem fx_16 (a b : Nat) : (16 : Int32) * nI a + nI b = nI (16 * a + b) := by
  show nI 16 * nI a + nI b = _
  rw [pk_mul, nI_add]
theorem fx_64 (a b : Nat) : (64 : Int32) * nI a + nI b = nI (64 * a + b) := by
  show nI 64 * nI a + nI b = _
  rw [pk_mul, nI_add]
theorem fx_256 (m a b : Nat) : (256 : Int32) * nI m + (16 : Int32) * nI a + nI b = nI (256 * m + 16 * a + b) := by
  show nI 256 * nI m + nI 16 * nI a + nI b = _
  rw [pk_mul, pk_mul, nI_add, nI_add]
theorem fx_361 (m a b : Nat) : (361 : Int32) * nI m + (19 : Int32) * nI a + nI b = nI (361 * m + 19 * a + b) := by
  show nI 361 * nI m + nI 19 * nI a + nI b = _
  rw [pk_mul, pk_mul, nI_add, nI_add]
theorem fx_d7 {r : Nat} (h : r < 1000) : nI r / 7 = nI (r / 7) := pk_div (d := 7) (by omega) (by decide) (by decide)
theorem fx_r7 {r : Nat} (h : r < 1000) : nI r - nI (r / 7) * 7 = nI (r % 7) := by
  rw [← fx_d7 h]
  exact pk_rem (d := 7) (by omega) (by decide) (by decide)
theorem fx_r8 {r : Nat} (h : r < 1000) : nI r - nI r / 8 * 8 = nI (r % 8) := pk_rem (d := 8) (by omega) (by decide) (by decide)
theorem fx_esum {v w : Nat × Nat} : nI (fw_e v) + nI (fw_e w) = nI (fw_e (v.1 + w.1, v.2 + w.2)) := by
  rw [nI_add]
  exact congrArg nI (by unfold fw_e; show _ = 64 * (v.1 + w.1) + (v.2 + w.2); omega)
theorem fw_set_set {tab : Nat → List (Nat × Nat)} {r : Nat} {R X : List (Nat × Nat)} : fw_set (fw_set tab r R) r X = fw_set tab r X := by
  funext q
  by_cases h : q = r
  · subst h; rw [fw_set_at, fw_set_at]
  · rw [fw_set_ne h, fw_set_ne h, fw_set_ne h]
section
variable {post : SX → Prop} {fl ft : Int32} {aF aT aA aB aP aM MK : Nat → Int32} {n : Nat} {fr to pa pb : Nat → Nat} {tab : Nat → List (Nat × Nat)} {k r : Nat}
theorem fx_join62 (hk : k < 7) (hr : r < 49) (h1 : r / 7 ≠ k) (h2 : r % 7 ≠ k) (h3 : r / 7 ≠ r % 7) (hl : ∀ q, q < 49 → (tab q).length ≤ 19)
    (ha : fw_RI n fr to pa pb k (7 * (r / 7) + k) (tab (7 * (r / 7) + k))) (hb : fw_RI n fr to pa pb k (7 * k + r % 7) (tab (7 * k + r % 7)))
    {i : Nat} (hi : i < (tab (7 * (r / 7) + k)).length)
    {J : Int32 → Int32 → Int32 → Int32 → (Nat → Int32) → (Nat → Int32) → (Nat → Int32) → (Nat → Int32) → (Nat → Int32) → (Nat → Int32) → (Nat → Int32) → (Nat → Int32) → (Nat → Int32) → (Nat → Int32) → Prop}
    (HJ : ∀ (R : List (Nat × Nat)) (g : Int32) (G SC S : Nat → Int32), fw_JI n fr to pa pb k r (tab (7 * (r / 7) + k)) (tab (7 * k + r % 7)) i (tab (7 * k + r % 7)).length R →
      fw_Rp (fw_set tab r R) SC S → J (nI (i + 1)) fl ft g aF aT aA aB aP aM SC S G MK) :
    ∀ (f j : Nat) (R : List (Nat × Nat)) (g : Int32) (G SC S : Nat → Int32), (tab (7 * k + r % 7)).length - j < f → j ≤ (tab (7 * k + r % 7)).length →
      fw_JI n fr to pa pb k r (tab (7 * (r / 7) + k)) (tab (7 * k + r % 7)) i j R → fw_Rp (fw_set tab r R) SC S →
      wX_joinOver_62 post J (nI r) (nI (7 * (r / 7) + k)) (nI (7 * k + r % 7)) (nI i) f (nI j) fl ft g aF aT aA aB aP aM SC S G MK := by
  intro f
  induction f with
  | zero => intro j R g G SC S h; omega
  | succ f ih =>
    intro j R g G SC S hf hj hJ hp
    have hla := hl (7 * (r / 7) + k) (by omega)
    have hlb := hl (7 * k + r % 7) (by omega)
    have pA := hp (7 * (r / 7) + k) (by omega)
    have pB := hp (7 * k + r % 7) (by omega)
    rw [fw_set_ne (by omega)] at pA pB
    have eB : SC (nI (7 * k + r % 7)).toNatClampNeg = nI (tab (7 * k + r % 7)).length := by rw [nI_clamp (by omega)]; exact pB.1
    rw [wX_joinOver_62]
    dsimp only
    rw [eB]
    refine ⟨vp_in_nI (by omega) (by omega), pk_le _ j (fun c => ?_) (fun c => ?_)⟩
    · have e : j = (tab (7 * k + r % 7)).length := by omega
      subst e
      exact nm_r (nI_1 i) (HJ R g G SC S hJ hp)
    · have eA1 : S ((19 : Int32) * nI (7 * (r / 7) + k) + nI i).toNatClampNeg = nI (fw_e ((tab (7 * (r / 7) + k)).getD i (0, 0))) := by
        rw [fx_19, nI_clamp (by omega)]; exact pA.2 i hi
      have eB1 : S ((19 : Int32) * nI (7 * k + r % 7) + nI j).toNatClampNeg = nI (fw_e ((tab (7 * k + r % 7)).getD j (0, 0))) := by
        rw [fx_19, nI_clamp (by omega)]; exact pB.2 j c
      rw [eA1, eB1, fx_esum, fx_19, fx_19]
      refine ⟨vp_in_nI (by omega) (by omega), vp_in_nI (by omega) (by omega), ?_⟩
      have sA := fw_RI_small (by omega) (by omega) ha _ (fw_getD_mem hi)
      have sB := fw_RI_small (by omega) (by omega) hb _ (fw_getD_mem c)
      have hJ' := fw_JI_step ha hb hk h1 h2 h3 hi c hJ
      refine fx_addSum (tab := fw_set tab r R) hr (by show _ + _ < 64; omega) (by show _ + _ < 64; omega) hp ?_ ?_ ?_ ?_
      · intro q hq
        by_cases e : q = r
        · subst e; rw [fw_set_at]; exact fw_JI_len hk hr hJ
        · rw [fw_set_ne e]; exact hl q hq
      · rw [fw_set_at]
        intro v hv
        have := fw_JI_small hk hr hJ v hv
        omega
      · rw [fw_set_at]
        exact fw_JI_len hk hr hJ'
      · intro g' G' SC' S' hp'
        rw [fw_set_at, fw_set_set] at hp'
        exact nm_r (nI_1 j) (ih (j + 1) _ g' G' SC' S' (by omega) (by omega) hJ' hp')
theorem fx_join48 (hk : k < 7) (hr : r < 49) (h1 : r / 7 ≠ k) (h2 : r % 7 ≠ k) (h3 : r / 7 ≠ r % 7) (hl : ∀ q, q < 49 → (tab q).length ≤ 19)
    (ha : fw_RI n fr to pa pb k (7 * (r / 7) + k) (tab (7 * (r / 7) + k))) (hb : fw_RI n fr to pa pb k (7 * k + r % 7) (tab (7 * k + r % 7)))
    (H : ∀ (R : List (Nat × Nat)) (g : Int32) (G SC S : Nat → Int32), fw_RI n fr to pa pb (k + 1) r R →
      fw_Rp (fw_set tab r R) SC S → post (fl, ft, g, aF, aT, aA, aB, aP, aM, SC, S, G, MK)) :
    ∀ (f i : Nat) (R : List (Nat × Nat)) (g : Int32) (G SC S : Nat → Int32), (tab (7 * (r / 7) + k)).length - i < f → i ≤ (tab (7 * (r / 7) + k)).length →
      fw_JI n fr to pa pb k r (tab (7 * (r / 7) + k)) (tab (7 * k + r % 7)) i 0 R → fw_Rp (fw_set tab r R) SC S →
      wX_joinOver_48 post (nI r) (nI (7 * (r / 7) + k)) (nI (7 * k + r % 7)) f (nI i) fl ft g aF aT aA aB aP aM SC S G MK := by
  intro f
  induction f with
  | zero => intro i R g G SC S h; omega
  | succ f ih =>
    intro i R g G SC S hf hi hJ hp
    have hla := hl (7 * (r / 7) + k) (by omega)
    have pA := hp (7 * (r / 7) + k) (by omega)
    rw [fw_set_ne (by omega)] at pA
    have eA : SC (nI (7 * (r / 7) + k)).toNatClampNeg = nI (tab (7 * (r / 7) + k)).length := by rw [nI_clamp (by omega)]; exact pA.1
    rw [wX_joinOver_48]
    dsimp only
    rw [eA]
    refine ⟨vp_in_nI (by omega) (by omega), pk_le _ i (fun c => ?_) (fun c => ?_)⟩
    · have e : i = (tab (7 * (r / 7) + k)).length := by omega
      subst e
      exact H R g G SC S (fw_JI_end ha hb hk hJ) hp
    · refine ⟨(tab (7 * k + r % 7)).length + 1, fx_join62 hk hr h1 h2 h3 hl ha hb c (fun R' g' G' SC' S' hJ' hp' => ?_) _ 0 R g G SC S (by omega) (Nat.zero_le _) hJ hp⟩
      exact ih (i + 1) R' g' G' SC' S' (by omega) (by omega) (fw_JI_row hJ') hp'
theorem fx_join {g : Int32} {G SC S : Nat → Int32} (hk : k < 7) (hr : r < 49) (hl : ∀ q, q < 49 → (tab q).length ≤ 19)
    (ha : fw_RI n fr to pa pb k (7 * (r / 7) + k) (tab (7 * (r / 7) + k))) (hb : fw_RI n fr to pa pb k (7 * k + r % 7) (tab (7 * k + r % 7)))
    (h0 : fw_RI n fr to pa pb k r (tab r)) (hp : fw_Rp tab SC S)
    (H : ∀ (R : List (Nat × Nat)) (g : Int32) (G SC S : Nat → Int32), ((r / 7 = k ∨ r % 7 = k ∨ r / 7 = r % 7) → R = tab r) → fw_RI n fr to pa pb (k + 1) r R →
      fw_Rp (fw_set tab r R) SC S → post (fl, ft, g, aF, aT, aA, aB, aP, aM, SC, S, G, MK)) :
    wpX_joinOver post (fl, ft, g, aF, aT, aA, aB, aP, aM, SC, S, G, MK) (nI r) (nI k) := by
  have Hs : (r / 7 = k ∨ r % 7 = k ∨ r / 7 = r % 7) → post (fl, ft, g, aF, aT, aA, aB, aP, aM, SC, S, G, MK) := fun hs =>
    H (tab r) g G SC S (fun _ => rfl) (fw_RI_skip hs h0) (by rw [fw_set_self]; exact hp)
  unfold wpX_joinOver
  dsimp only
  rw [fx_r8 (by omega), fx_d7 (by omega), fx_r7 (by omega), fx_7, fx_7]
  refine ⟨by decide, nm_e ⟨by decide, nm_e ⟨by decide, pk_eq (r / 7) k (fun c => Hs (Or.inl c)) (fun c1 => ⟨by decide, pk_eq (r % 7) k (fun c => Hs (Or.inr (Or.inl c))) (fun c2 => ⟨by decide, pk_eq (r % 8) 0 (fun c => Hs (Or.inr (Or.inr (by omega)))) (fun c3 => ?_)⟩)⟩)⟩⟩⟩
  refine ⟨(tab (7 * (r / 7) + k)).length + 1, fx_join48 hk hr c1 c2 (by omega) hl ha hb (fun R g' G' SC' S' hR hp' => H R g' G' SC' S' (fun z => absurd z (by omega)) hR hp') _ 0 (tab r) g G SC S (by omega) (Nat.zero_le _) (fw_JI_0 h0) (by rw [fw_set_self]; exact hp)⟩
end
end
section
/-! part 07: count -/
/-- the sum j of the row makes the time at idx -/
def fw_hit (R : List (Nat × Nat)) (a b m : Nat) (j idx : Nat) : Prop :=
  a + (R.getD j (0, 0)).1 ≤ 15 ∧ b + (R.getD j (0, 0)).2 ≤ 15 ∧ idx = 256 * m + 16 * (a + (R.getD j (0, 0)).1) + (b + (R.getD j (0, 0)).2)
noncomputable def fw_hr (R : List (Nat × Nat)) (a b m idx c : Nat) : Nat := fw_s (fun j => fw_b (fw_hit R a b m j idx)) c
noncomputable def fw_H (tab : Nat → List (Nat × Nat)) (l a b idx c : Nat) : Nat := fw_s (fun m => fw_hr (tab (7 * l + m)) a b m idx (tab (7 * l + m)).length) c
theorem fx_by0 {x y z : Int32} {s : Nat} (h : x = y + z * nI s) : x = y + z * nI (s + 0) := h
theorem fx_by1 {x y z : Int32} {s : Nat} (h : x = y + z * nI s) : x + z = y + z * nI (s + 1) := by
  rw [h, ← nI_1, Int32.mul_add, Int32.mul_one, Int32.add_assoc]
section
variable {post : SX → Prop} {fl ft g y : Int32} {aF aT aA aB aP aM SC S G : Nat → Int32} {tab : Nat → List (Nat × Nat)} {l a b : Nat}
theorem fx_count26 {M0 : Nat → Int32} {m : Nat} (hl : l < 7) (hm : m < 7) (ha : a ≤ 15) (hb : b ≤ 15) (hp : fw_Rp tab SC S) (hn : (tab (7 * l + m)).length ≤ 19)
    (hv : ∀ v, v ∈ tab (7 * l + m) → v.1 ≤ 18 ∧ v.2 ≤ 18)
    {J : Int32 → (Nat → Int32) → (Nat → Int32) → (Nat → Int32) → (Nat → Int32) → (Nat → Int32) → (Nat → Int32) → (Nat → Int32) → (Nat → Int32) → (Nat → Int32) → (Nat → Int32) → Prop}
    (HJ : ∀ M : Nat → Int32, (∀ idx, M idx = M0 idx + y * nI (fw_hr (tab (7 * l + m)) a b m idx (tab (7 * l + m)).length)) → J (nI (m + 1)) aF aT aA aB aP aM SC S G M) :
    ∀ (f j : Nat) (M : Nat → Int32), (tab (7 * l + m)).length - j < f → j ≤ (tab (7 * l + m)).length → (∀ idx, M idx = M0 idx + y * nI (fw_hr (tab (7 * l + m)) a b m idx j)) →
      wX_count_26 post J (nI l) (nI (16 * a + b)) y (nI m) (nI (7 * l + m)) fl ft g f (nI (19 * (7 * l + m) + j)) aF aT aA aB aP aM SC S G M := by
  intro f
  induction f with
  | zero => intro j M h; omega
  | succ f ih =>
    intro j M hf hj hM
    have pA := hp (7 * l + m) (by omega)
    have e0 : (19 : Int32) * nI (7 * l + m) + SC (nI (7 * l + m)).toNatClampNeg = nI (19 * (7 * l + m) + (tab (7 * l + m)).length) := by
      rw [nI_clamp (by omega), pA.1, fx_19]
    rw [wX_count_26]
    dsimp only
    rw [e0]
    refine ⟨vp_in_nI (by omega) (by omega), pk_le (19 * (7 * l + m) + (tab (7 * l + m)).length) (19 * (7 * l + m) + j) (fun c => ?_) (fun c => ?_)⟩
    · have e : j = (tab (7 * l + m)).length := by omega
      subst e
      exact nm_r (nI_1 m) (HJ M hM)
    · have hj' : j < (tab (7 * l + m)).length := by omega
      have hs := hv _ (fw_getD_mem hj')
      have e1 : S (nI (19 * (7 * l + m) + j)).toNatClampNeg = nI (fw_e ((tab (7 * l + m)).getD j (0, 0))) := by
        rw [nI_clamp (by omega)]; exact pA.2 j hj'
      have hin : vp_in (nI (19 * (7 * l + m) + j)) 931 := vp_in_nI (by omega) (by omega)
      rw [e1, fx_p (by omega) (by omega), fx_q (by omega) (by omega), fx_th (by omega) (by omega), fx_tl (by omega) (by omega)]
      have hskip : (∀ idx, ¬ fw_hit (tab (7 * l + m)) a b m j idx) → wX_count_26 post J (nI l) (nI (16 * a + b)) y (nI m) (nI (7 * l + m)) fl ft g f (nI (19 * (7 * l + m) + j + 1)) aF aT aA aB aP aM SC S G M := fun h =>
        ih (j + 1) M (by omega) (by omega) (fun idx => by
          show M idx = M0 idx + y * nI (fw_hr _ a b m idx j + fw_b _)
          rw [fw_b0 (h idx)]
          exact fx_by0 (hM idx))
      refine ⟨hin, nm_r (nI_add a _) ⟨hin, nm_r (nI_add b _) (pk_lt 15 (a + ((tab (7 * l + m)).getD j (0, 0)).1) (fun d => nm_r (nI_1 _) (hskip ?_)) (fun d => pk_lt 15 (b + ((tab (7 * l + m)).getD j (0, 0)).2) (fun d2 => nm_r (nI_1 _) (hskip ?_)) (fun d2 => ?_)))⟩⟩
      · intro idx z; have := z.1; omega
      · intro idx z; have := z.2.1; omega
      · rw [fx_256, nI_clamp (by omega)]
        refine ⟨vp_in_nI (by omega) (by omega), vp_in_nI (by omega) (by omega), nm_e (nm_r (nI_1 _) (ih (j + 1) _ (by omega) (by omega) (fun idx => ?_)))⟩
        show upd M _ _ idx = M0 idx + y * nI (fw_hr _ a b m idx j + fw_b _)
        by_cases e : idx = 256 * m + 16 * (a + ((tab (7 * l + m)).getD j (0, 0)).1) + (b + ((tab (7 * l + m)).getD j (0, 0)).2)
        · subst e
          rw [pk_us, fw_b1 ⟨d, d2, rfl⟩]
          exact fx_by1 (hM _)
        · rw [pk_un e, fw_b0 (fun z => e z.2.2)]
          exact fx_by0 (hM idx)
theorem fx_count3 {M0 : Nat → Int32} (hl : l < 7) (ha : a ≤ 15) (hb : b ≤ 15) (hp : fw_Rp tab SC S) (hn : ∀ q, q < 49 → (tab q).length ≤ 19)
    (hv : ∀ q, q < 49 → ∀ v, v ∈ tab q → v.1 ≤ 18 ∧ v.2 ≤ 18)
    (H : ∀ M : Nat → Int32, (∀ idx, M idx = M0 idx + y * nI (fw_H tab l a b idx 7)) → post (fl, ft, g, aF, aT, aA, aB, aP, aM, SC, S, G, M)) :
    ∀ (f m : Nat) (M : Nat → Int32), 7 - m < f → m ≤ 7 → (∀ idx, M idx = M0 idx + y * nI (fw_H tab l a b idx m)) →
      wX_count_3 post (nI l) (nI (16 * a + b)) y fl ft g f (nI m) aF aT aA aB aP aM SC S G M := by
  intro f
  induction f with
  | zero => intro m M h; omega
  | succ f ih =>
    intro m M hf hm hM
    rw [wX_count_3]
    dsimp only
    refine pk_le 7 m (fun c => ?_) (fun c => ?_)
    · have e : m = 7 := by omega
      subst e
      exact H M hM
    · refine nm_r (fx_7 l m) (nm_r (fx_19m _) ⟨(tab (7 * l + m)).length + 1, ?_⟩)
      refine fx_count26 (M0 := M) hl c ha hb hp (hn _ (by omega)) (hv _ (by omega)) (fun M' hM' => ih (m + 1) M' (by omega) (by omega) (fun idx => ?_)) _ 0 M (by omega) (Nat.zero_le _) (fun idx => ?_)
      · rw [hM' idx, hM idx]
        show _ = M0 idx + y * nI (fw_H tab l a b idx m + fw_hr (tab (7 * l + m)) a b m idx (tab (7 * l + m)).length)
        rw [← nI_add, Int32.mul_add, Int32.add_assoc]
      · show M idx = M idx + y * nI 0
        rw [nI_0, Int32.mul_zero, Int32.add_zero]
theorem fx_count {M0 : Nat → Int32} (hl : l < 7) (ha : a ≤ 15) (hb : b ≤ 15) (hp : fw_Rp tab SC S) (hn : ∀ q, q < 49 → (tab q).length ≤ 19)
    (hv : ∀ q, q < 49 → ∀ v, v ∈ tab q → v.1 ≤ 18 ∧ v.2 ≤ 18)
    (H : ∀ M : Nat → Int32, (∀ idx, M idx = M0 idx + y * nI (fw_H tab l a b idx 7)) → post (fl, ft, g, aF, aT, aA, aB, aP, aM, SC, S, G, M)) :
    wpX_count post (fl, ft, g, aF, aT, aA, aB, aP, aM, SC, S, G, M0) (nI l) (nI (16 * a + b)) y := by
  unfold wpX_count
  exact ⟨8, fx_count3 hl ha hb hp hn hv H 8 0 M0 (by omega) (by omega) (fun idx => by
    show M0 idx = M0 idx + y * nI 0
    rw [nI_0, Int32.mul_zero, Int32.add_zero])⟩
end
end
section
/-! part 08: rebuild -/
def fw_act (k q : Nat) : Prop := q / 7 ≠ k ∧ q % 7 ≠ k ∧ q / 7 ≠ q % 7
def fw_PI (n : Nat) (fr to pa pb : Nat → Nat) (k p : Nat) (tab : Nat → List (Nat × Nat)) : Prop :=
  ∀ q, q < 49 → ((q < p ∧ fw_act k q) → fw_RI n fr to pa pb (k + 1) q (tab q)) ∧ (¬ (q < p ∧ fw_act k q) → fw_RI n fr to pa pb k q (tab q))
def fw_AR (n : Nat) (fr to pa pb : Nat → Nat) (k : Nat) (tab : Nat → List (Nat × Nat)) : Prop := ∀ q, q < 49 → fw_RI n fr to pa pb k q (tab q)
section
variable {n : Nat} {fr to pa pb : Nat → Nat} {tab : Nat → List (Nat × Nat)} {k p : Nat}
theorem fw_AR_len (hk : k ≤ 7) (h : fw_AR n fr to pa pb k tab) : ∀ q, q < 49 → (tab q).length ≤ 19 := fun q hq => fw_RI_len hk hq (h q hq)
theorem fw_AR_small (hk : k ≤ 7) (h : fw_AR n fr to pa pb k tab) : ∀ q, q < 49 → ∀ v, v ∈ tab q → v.1 ≤ 18 ∧ v.2 ≤ 18 := fun q hq => fw_RI_small hk hq (h q hq)
theorem fw_PI_0 (h : fw_AR n fr to pa pb k tab) : fw_PI n fr to pa pb k 0 tab := fun q hq => ⟨fun z => absurd z.1 (Nat.not_lt_zero q), fun _ => h q hq⟩
theorem fw_PI_end (h : fw_PI n fr to pa pb k 49 tab) : fw_AR n fr to pa pb (k + 1) tab := by
  intro q hq
  rcases Classical.em (fw_act k q) with z | z
  · exact (h q hq).1 ⟨hq, z⟩
  · refine fw_RI_skip ?_ ((h q hq).2 (fun y => z y.2))
    unfold fw_act at z
    omega
theorem fw_PI_len (hk : k < 7) (h : fw_PI n fr to pa pb k p tab) : ∀ q, q < 49 → (tab q).length ≤ 19 := by
  intro q hq
  rcases Classical.em (q < p ∧ fw_act k q) with z | z
  · exact fw_RI_len (by omega) hq ((h q hq).1 z)
  · exact fw_RI_len (by omega) hq ((h q hq).2 z)
theorem fw_PI_a (hk : k < 7) (hp : p < 49) (h : fw_PI n fr to pa pb k p tab) : fw_RI n fr to pa pb k (7 * (p / 7) + k) (tab (7 * (p / 7) + k)) :=
  (h _ (by omega)).2 (fun z => z.2.2.1 (by omega))
theorem fw_PI_b (hk : k < 7) (hp : p < 49) (h : fw_PI n fr to pa pb k p tab) : fw_RI n fr to pa pb k (7 * k + p % 7) (tab (7 * k + p % 7)) :=
  (h _ (by omega)).2 (fun z => z.2.1 (by omega))
theorem fw_PI_p (hp : p < 49) (h : fw_PI n fr to pa pb k p tab) : fw_RI n fr to pa pb k p (tab p) := (h p hp).2 (fun z => Nat.lt_irrefl p z.1)
theorem fw_PI_next {R : List (Nat × Nat)} (hp : p < 49) (h : fw_PI n fr to pa pb k p tab) (h1 : (p / 7 = k ∨ p % 7 = k ∨ p / 7 = p % 7) → R = tab p)
    (h2 : fw_RI n fr to pa pb (k + 1) p R) : fw_PI n fr to pa pb k (p + 1) (fw_set tab p R) := by
  intro q hq
  by_cases e : q = p
  · subst e
    rw [fw_set_at]
    refine ⟨fun _ => h2, fun z => ?_⟩
    rw [h1 (by
      rcases Classical.em (fw_act k q) with y | y
      · exact absurd ⟨Nat.lt_succ_self q, y⟩ z
      · unfold fw_act at y; omega)]
    exact fw_PI_p hp h
  · rw [fw_set_ne e]
    exact ⟨fun z => (h q hq).1 ⟨by omega, z.2⟩, fun z => (h q hq).2 (fun y => z ⟨by omega, y.2⟩)⟩
end
def fw_T0 (q : Nat) : List (Nat × Nat) := if q % 8 = 0 then [(0, 0)] else []
noncomputable def fw_mk (tab : Nat → List (Nat × Nat)) (pl ta tb : Nat → Nat) (T idx : Nat) : Nat := fw_s (fun t => fw_H tab (pl t) (ta t) (tb t) idx 7) T
def fw_tm (ta tb : Nat → Nat) : Nat → Nat := fun t => 16 * ta t + tb t
section
variable {post : SX → Prop} {L T : Nat} {fr to pa pb pl ta tb : Nat → Nat}
theorem fx_reb167 {fl g : Int32} {aF aT aA aB SC S G : Nat → Int32} {tab : Nat → List (Nat × Nat)} (hT : T ≤ 20) (hpl : ∀ t, pl t < 7) (hta : ∀ t, ta t ≤ 15) (htb : ∀ t, tb t ≤ 15)
    (hp : fw_Rp tab SC S) (hn : ∀ q, q < 49 → (tab q).length ≤ 19) (hv : ∀ q, q < 49 → ∀ v, v ∈ tab q → v.1 ≤ 18 ∧ v.2 ≤ 18)
    (H : ∀ M : Nat → Int32, (∀ idx, idx < 1792 → M idx = nI (fw_mk tab pl ta tb T idx)) → post (fl, nI T, g, aF, aT, aA, aB, fw_A pl, fw_A (fw_tm ta tb), SC, S, G, M)) :
    ∀ (f t : Nat) (M : Nat → Int32), T - t < f → t ≤ T → (∀ idx, idx < 1792 → M idx = nI (fw_mk tab pl ta tb t idx)) →
      wX_rebuild_167 post f (nI t) fl (nI T) g aF aT aA aB (fw_A pl) (fw_A (fw_tm ta tb)) SC S G M := by
  intro f
  induction f with
  | zero => intro t M h; omega
  | succ f ih =>
    intro t M hf ht hM
    rw [wX_rebuild_167]
    dsimp only
    refine pk_le T t (fun c => ?_) (fun c => ?_)
    · have e : t = T := by omega
      subst e
      exact H M hM
    · rw [nI_clamp (show t < 2 ^ 31 by omega)]
      refine ⟨vp_in_nI (by omega) (by omega), vp_in_nI (by omega) (by omega), ?_⟩
      refine fx_count (tab := tab) (l := pl t) (a := ta t) (b := tb t) (hpl t) (hta t) (htb t) hp hn hv (fun M' hM' => ?_)
      refine nm_r (nI_1 t) (ih (t + 1) M' (by omega) (by omega) (fun idx hi => ?_))
      rw [hM' idx, hM idx hi, Int32.one_mul, nI_add]
      rfl
theorem fx_reb145 {fl ft g : Int32} {aF aT aA aB aP aM SC S G : Nat → Int32}
    (H : ∀ M : Nat → Int32, (∀ idx, idx < 1792 → M idx = 0) → ∃ n167 : Nat, wX_rebuild_167 post n167 0 fl ft g aF aT aA aB aP aM SC S G M) :
    ∀ (f i : Nat) (M : Nat → Int32), 1792 - i < f → i ≤ 1792 → (∀ idx, idx < i → M idx = 0) → wX_rebuild_145 post fl ft g f (nI i) aF aT aA aB aP aM SC S G M := by
  intro f
  induction f with
  | zero => intro i M h; omega
  | succ f ih =>
    intro i M hf hi hM
    rw [wX_rebuild_145]
    dsimp only
    refine pk_le 1792 i (fun c => ?_) (fun c => ?_)
    · exact H M (fun idx h => hM idx (by omega))
    · rw [nI_clamp (show i < 2 ^ 31 by omega)]
      refine ⟨vp_in_nI c (by omega), nm_e (nm_r (nI_1 i) (ih (i + 1) _ (by omega) (by omega) (fun idx h => ?_)))⟩
      by_cases e : idx = i
      · subst e; exact pk_us
      · rw [pk_un e]; exact hM idx (by omega)
theorem fx_reb119 {fl ft : Int32} {aF aT aA aB aP aM MK : Nat → Int32} {k : Nat} (hk : k < 7)
    {J : Int32 → Int32 → Int32 → Int32 → (Nat → Int32) → (Nat → Int32) → (Nat → Int32) → (Nat → Int32) → (Nat → Int32) → (Nat → Int32) → (Nat → Int32) → (Nat → Int32) → (Nat → Int32) → (Nat → Int32) → Prop}
    (HJ : ∀ (tab : Nat → List (Nat × Nat)) (g : Int32) (G SC S : Nat → Int32), fw_AR L fr to pa pb (k + 1) tab → fw_Rp tab SC S → J (nI (k + 1)) fl ft g aF aT aA aB aP aM SC S G MK) :
    ∀ (f p : Nat) (tab : Nat → List (Nat × Nat)) (g : Int32) (G SC S : Nat → Int32), 49 - p < f → p ≤ 49 → fw_PI L fr to pa pb k p tab → fw_Rp tab SC S →
      wX_rebuild_119 post J (nI k) f (nI p) fl ft g aF aT aA aB aP aM SC S G MK := by
  intro f
  induction f with
  | zero => intro p tab g G SC S h; omega
  | succ f ih =>
    intro p tab g G SC S hf hp hP hR
    rw [wX_rebuild_119]
    dsimp only
    refine pk_le 49 p (fun c => ?_) (fun c => ?_)
    · have e : p = 49 := by omega
      subst e
      exact nm_r (nI_1 k) (HJ tab g G SC S (fw_PI_end hP) hR)
    · refine fx_join hk c (fw_PI_len hk hP) (fw_PI_a hk c hP) (fw_PI_b hk c hP) (fw_PI_p c hP) hR (fun R g' G' SC' S' h1 h2 h3 => ?_)
      exact nm_r (nI_1 p) (ih (p + 1) _ g' G' SC' S' (by omega) (by omega) (fw_PI_next c hP h1 h2) h3)
theorem fx_reb111 {fl ft : Int32} {aF aT aA aB aP aM MK : Nat → Int32}
    (H : ∀ (tab : Nat → List (Nat × Nat)) (g : Int32) (G SC S : Nat → Int32), fw_AR L fr to pa pb 7 tab → fw_Rp tab SC S →
      ∃ n145 : Nat, wX_rebuild_145 post fl ft g n145 0 aF aT aA aB aP aM SC S G MK) :
    ∀ (f k : Nat) (tab : Nat → List (Nat × Nat)) (g : Int32) (G SC S : Nat → Int32), 7 - k < f → k ≤ 7 → fw_AR L fr to pa pb k tab → fw_Rp tab SC S →
      wX_rebuild_111 post f (nI k) fl ft g aF aT aA aB aP aM SC S G MK := by
  intro f
  induction f with
  | zero => intro p tab g G SC S h; omega
  | succ f ih =>
    intro k tab g G SC S hf hk hA hR
    rw [wX_rebuild_111]
    dsimp only
    refine pk_le 7 k (fun c => ?_) (fun c => ?_)
    · have e : k = 7 := by omega
      subst e
      exact H tab g G SC S hA hR
    · refine ⟨50, fx_reb119 c (fun tab' g' G' SC' S' hA' hR' => ?_) 50 0 tab g G SC S (by omega) (by omega) (fw_PI_0 hA) hR⟩
      exact ih (k + 1) tab' g' G' SC' S' (by omega) (by omega) hA' hR'
theorem fx_reb44 {ft : Int32} {aP aM MK : Nat → Int32} (hL : L ≤ 12) (hfr : ∀ i, fr i < 7) (hto : ∀ i, to i < 7) (hpa : ∀ i, pa i ≤ 3) (hpb : ∀ i, pb i ≤ 3)
    (H : ∀ (tab : Nat → List (Nat × Nat)) (g : Int32) (G SC S : Nat → Int32), fw_AR L fr to pa pb 0 tab → fw_Rp tab SC S →
      ∃ n111 : Nat, wX_rebuild_111 post n111 0 (nI L) ft g (fw_A fr) (fw_A to) (fw_A pa) (fw_A pb) aP aM SC S G MK) :
    ∀ (f i : Nat) (tab : Nat → List (Nat × Nat)) (g : Int32) (G SC S : Nat → Int32), L - i < f → i ≤ L → fw_AR i fr to pa pb 0 tab → fw_Rp tab SC S →
      wX_rebuild_44 post f (nI i) (nI L) ft g (fw_A fr) (fw_A to) (fw_A pa) (fw_A pb) aP aM SC S G MK := by
  intro f
  induction f with
  | zero => intro i tab g G SC S h; omega
  | succ f ih =>
    intro i tab g G SC S hf hi hA hR
    have h1 := hfr i
    have h2 := hto i
    have h3 := hpa i
    have h4 := hpb i
    rw [wX_rebuild_44]
    dsimp only
    refine pk_le L i (fun c => ?_) (fun c => ?_)
    · have e : i = L := by omega
      subst e
      exact H tab g G SC S hA hR
    · have hin : vp_in (nI i) 12 := vp_in_nI (by omega) (by omega)
      rw [nI_clamp (show i < 2 ^ 31 by omega)]
      refine ⟨hin, hin, pk_eq (fr i) (to i) (fun d => ?_) (fun d => ⟨hin, hin, hin, hin, ?_⟩)⟩
      · exact nm_r (nI_1 i) (ih (i + 1) tab g G SC S (by omega) (by omega) (fun q hq => fw_RI_line0 (Or.inl d) h2 (hA q hq)) hR)
      · have e1 : (7 : Int32) * fw_A fr i + fw_A to i = nI (7 * fr i + to i) := fx_7 _ _
        have e2 : (64 : Int32) * fw_A pa i + fw_A pb i = nI (fw_e (pa i, pb i)) := fx_64 _ _
        rw [e1, e2]
        have hr : 7 * fr i + to i < 49 := by omega
        have hR1 := fw_RI_line1 d rfl h2 h3 h4 (hA _ hr)
        refine fx_addSum hr (by show pa i < 64; omega) (by show pb i < 64; omega) hR (fw_AR_len (by omega) hA) (fun v hv => by have := fw_AR_small (by omega) hA _ hr v hv; omega) (fw_RI_len (by omega) hr hR1) (fun g' G' SC' S' hp' => ?_)
        refine nm_r (nI_1 i) (ih (i + 1) _ g' G' SC' S' (by omega) (by omega) (fun q hq => ?_) hp')
        by_cases e : q = 7 * fr i + to i
        · subst e; rw [fw_set_at]; exact hR1
        · rw [fw_set_ne e]; exact fw_RI_line0 (Or.inr e) h2 (hA q hq)
theorem fx_reb25 {fl ft g : Int32} {aF aT aA aB aP aM G MK SC S : Nat → Int32} {p : Nat} {z : Int32} (hp : p < 49)
    {J : Int32 → (Nat → Int32) → (Nat → Int32) → (Nat → Int32) → (Nat → Int32) → (Nat → Int32) → (Nat → Int32) → (Nat → Int32) → (Nat → Int32) → (Nat → Int32) → (Nat → Int32) → Prop}
    (h : J (nI (p + 1)) aF aT aA aB aP aM (upd SC p z) (upd S (19 * p) 0) G MK) : wX_rebuild_25 post J (nI p) z (nI p) fl ft g aF aT aA aB aP aM SC S G MK := by
  unfold wX_rebuild_25
  rw [fx_19m, nI_clamp (show p < 2 ^ 31 by omega), nI_clamp (show 19 * p < 2 ^ 31 by omega)]
  exact ⟨vp_in_nI hp (by omega), nm_e ⟨vp_in_nI (by omega) (by omega), nm_e (nm_r (nI_1 p) h)⟩⟩
theorem fx_reb2 {fl ft g : Int32} {aF aT aA aB aP aM G MK : Nat → Int32}
    (H : ∀ (SC S : Nat → Int32), fw_Rp fw_T0 SC S → ∃ n44 : Nat, wX_rebuild_44 post n44 0 fl ft g aF aT aA aB aP aM SC S G MK) :
    ∀ (f p : Nat) (SC S : Nat → Int32), 49 - p < f → p ≤ 49 → (∀ q, q < p → SC q = nI (fw_T0 q).length ∧ S (19 * q) = 0) →
      wX_rebuild_2 post fl ft g f (nI p) aF aT aA aB aP aM SC S G MK := by
  intro f
  induction f with
  | zero => intro p SC S h; omega
  | succ f ih =>
    intro p SC S hf hp hI
    have hI' : ∀ (z : Int32), z = nI (fw_T0 p).length → ∀ q, q < p + 1 → upd SC p z q = nI (fw_T0 q).length ∧ upd S (19 * p) 0 (19 * q) = 0 := by
      intro z hz q hq
      by_cases e : q = p
      · subst e; rw [pk_us, pk_us]; exact ⟨hz, rfl⟩
      · rw [pk_un e, pk_un (by omega)]; exact hI q (by omega)
    rw [wX_rebuild_2]
    dsimp only
    refine pk_le 49 p (fun c => ?_) (fun c => ?_)
    · refine H SC S (fun q hq => ⟨(hI q (by omega)).1, fun j hj => ?_⟩)
      have h1 : (fw_T0 q).length ≤ 1 := by
        unfold fw_T0
        by_cases e : q % 8 = 0
        · rw [if_pos e]; exact Nat.le_refl 1
        · rw [if_neg e]; exact Nat.zero_le 1
      have h2 : j = 0 := by omega
      subst h2
      have h3 : (fw_T0 q).getD 0 (0, 0) = (0, 0) := by
        unfold fw_T0
        by_cases e : q % 8 = 0
        · rw [if_pos e]; rfl
        · rw [if_neg e]; rfl
      rw [h3]
      exact (hI q (by omega)).2
    · rw [fx_r8 (by omega)]
      refine ⟨by decide, pk_eq (p % 8) 0 (fun d => ?_) (fun d => ?_)⟩
      · exact fx_reb25 c (ih (p + 1) _ _ (by omega) (by omega) (hI' 1 (by unfold fw_T0; rw [if_pos d]; rfl)))
      · exact fx_reb25 c (ih (p + 1) _ _ (by omega) (by omega) (hI' 0 (by unfold fw_T0; rw [if_neg d]; rfl)))
theorem fx_rebuild {g0 : Int32} {SC0 S0 G0 M0 : Nat → Int32} (hL : L ≤ 12) (hT : T ≤ 20) (hfr : ∀ i, fr i < 7) (hto : ∀ i, to i < 7) (hpa : ∀ i, pa i ≤ 3) (hpb : ∀ i, pb i ≤ 3)
    (hpl : ∀ t, pl t < 7) (hta : ∀ t, ta t ≤ 15) (htb : ∀ t, tb t ≤ 15)
    (H : ∀ (tab : Nat → List (Nat × Nat)) (g : Int32) (SC S G M : Nat → Int32), fw_AR L fr to pa pb 7 tab → fw_Rp tab SC S → (∀ idx, idx < 1792 → M idx = nI (fw_mk tab pl ta tb T idx)) →
      post (nI L, nI T, g, fw_A fr, fw_A to, fw_A pa, fw_A pb, fw_A pl, fw_A (fw_tm ta tb), SC, S, G, M)) :
    wpX_rebuild post (nI L, nI T, g0, fw_A fr, fw_A to, fw_A pa, fw_A pb, fw_A pl, fw_A (fw_tm ta tb), SC0, S0, G0, M0) := by
  unfold wpX_rebuild
  refine ⟨50, fx_reb2 (fun SC S hp => ⟨L + 1, ?_⟩) 50 0 SC0 S0 (by omega) (by omega) (fun q hq => absurd hq (Nat.not_lt_zero q))⟩
  refine fx_reb44 hL hfr hto hpa hpb (fun tab g G SC S hA hR => ⟨8, ?_⟩) (L + 1) 0 fw_T0 _ _ SC S (by omega) (by omega) (fun q hq => fw_RI_init hq) hp
  refine fx_reb111 (L := L) (fr := fr) (to := to) (pa := pa) (pb := pb) (fun tab g G SC S hA hR => ⟨1793, ?_⟩) 8 0 tab g G SC S (by omega) (by omega) hA hR
  refine fx_reb145 (fun M hM => ⟨T + 1, ?_⟩) 1793 0 M0 (by omega) (by omega) (fun q hq => absurd hq (Nat.not_lt_zero q))
  exact fx_reb167 hT hpl hta htb hR (fw_AR_len (by omega) hA) (fw_AR_small (by omega) hA) (fun M' hM' => H tab g SC S G M' hA hR hM') (T + 1) 0 M (by omega) (by omega) (fun idx hi => hM idx hi)
end
end
section
/-! part 09: the reference's empty, set, spread -/
theorem fw_A_at (f : Nat → Nat) (i : Nat) : fw_A f i = nI (f i) := rfl
theorem fy_d361 {x : Nat} (h : x < 5000) : nI x / 361 = nI (x / 361) := pk_div (d := 361) (by omega) (by decide) (by decide)
theorem fy_a19 {x : Nat} (h : x < 5000) : nI x / 19 - nI x / 19 / 19 * 19 = nI (x / 19 % 19) := by
  have e : nI x / 19 = nI (x / 19) := pk_div (d := 19) (by omega) (by decide) (by decide)
  rw [e]
  exact pk_rem (d := 19) (by omega) (by decide) (by decide)
theorem fy_b19 {x : Nat} (h : x < 5000) : nI x - nI x / 19 * 19 = nI (x % 19) := pk_rem (d := 19) (by omega) (by decide) (by decide)
theorem fy_d19 {x : Nat} (h : x < 5000) : nI x / 19 = nI (x / 19) := pk_div (d := 19) (by omega) (by decide) (by decide)
theorem fy_d16 {x : Nat} (h : x < 5000) : nI x / 16 = nI (x / 16) := pk_div (d := 16) (by omega) (by decide) (by decide)
theorem fy_r16 {x : Nat} (h : x < 5000) : nI x - nI x / 16 * 16 = nI (x % 16) := pk_rem (d := 16) (by omega) (by decide) (by decide)
theorem fy_next (m a p b q : Nat) : (361 : Int32) * nI m + (19 : Int32) * (nI a + nI p) + nI b + nI q = nI (361 * m + 19 * (a + p) + (b + q)) := by
  rw [nI_add, fx_361, nI_add]
  exact congrArg nI (by omega)
theorem fy_n0 : vp_nar .boolean 0 = 0 := rfl
theorem fy_n1 : vp_nar .boolean 1 = 1 := rfl
theorem fw_s_mono {f g : Nat → Nat} : ∀ n, (∀ i, i < n → f i ≤ g i) → fw_s f n ≤ fw_s g n := by
  intro n
  induction n with
  | zero => intro _; exact Nat.le_refl _
  | succ n ih =>
    intro h
    have h1 := ih (fun i hi => h i (by omega))
    have h2 := h n (by omega)
    show fw_s f n + f n ≤ fw_s g n + g n
    omega
/-- how many times aren't there -/
noncomputable def fw_zc (Th : Nat → Int32) : Nat := fw_s (fun j => fw_b (Th j = 0)) 2527
def fw_sub (A B : Nat → Int32) : Prop := ∀ j, A j ≠ 0 → B j ≠ 0
theorem fw_zc_le {A B : Nat → Int32} (h : fw_sub A B) : fw_zc B ≤ fw_zc A := by
  refine fw_s_mono _ (fun j _ => ?_)
  by_cases e : B j = 0
  · have e' : A j = 0 := Decidable.byContradiction (fun z => h j z e)
    rw [fw_b1 e']
    exact fw_b_le _
  · rw [fw_b0 e]; exact Nat.zero_le _
theorem fw_zc_lt {A : Nat → Int32} {k : Nat} (hk : k < 2527) (h : A k = 0) : fw_zc (upd A k 1) < fw_zc A := by
  have := fw_s_upd (f := fun j => fw_b (A j = 0)) (g := fun j => fw_b (upd A k 1 j = 0)) (k := k) (x := 0) 2527 hk (fw_b0 (by rw [pk_us]; decide)) (fun i hi => fw_b_iff (by rw [pk_un hi]))
  have e : fw_b (A k = 0) = 1 := fw_b1 h
  unfold fw_zc
  simp only [e] at this
  omega
theorem fw_sub_upd (A : Nat → Int32) (k : Nat) : fw_sub A (upd A k 1) := by
  intro j hj
  by_cases e : j = k
  · subst e; rw [pk_us]; decide
  · rw [pk_un e]; exact hj
theorem fw_sub_upd' {A : Nat → Int32} {k : Nat} (h : A k ≠ 0) : fw_sub (upd A k 1) A := by
  intro j hj
  by_cases e : j = k
  · subst e; exact h
  · rw [pk_un e] at hj; exact hj
theorem fw_sub_trans {A B C : Nat → Int32} (h : fw_sub A B) (h' : fw_sub B C) : fw_sub A C := fun j hj => h' j (h j hj)
def fw_snd (Q : Nat → Nat → Nat → Prop) (Th : Nat → Int32) : Prop := ∀ m a b, m < 7 → a < 19 → b < 19 → Th (361 * m + 19 * a + b) ≠ 0 → Q m a b
def fw_clo (L : Nat) (fr to pa pb : Nat → Nat) (Th : Nat → Int32) (x : Nat) : Prop :=
  x / 361 < L → Th (361 * fr (x / 361) + 19 * (x / 19 % 19) + x % 19) ≠ 0 → x / 19 % 19 + pa (x / 361) < 19 → x % 19 + pb (x / 361) < 19 →
    Th (361 * to (x / 361) + 19 * (x / 19 % 19 + pa (x / 361)) + (x % 19 + pb (x / 361))) ≠ 0
/-- a pass over all lines and times, at x, that began with T0; c: changed -/
def fw_SI (L : Nat) (fr to pa pb : Nat → Nat) (Q : Nat → Nat → Nat → Prop) (T0 : Nat → Int32) (x c : Nat) (Th : Nat → Int32) : Prop :=
  fw_snd Q Th ∧ fw_sub T0 Th ∧ ((c = 0 ∧ fw_sub Th T0 ∧ ∀ x', x' < x → fw_clo L fr to pa pb T0 x') ∨ (c = 1 ∧ fw_zc Th < fw_zc T0))
section
variable {L : Nat} {fr to pa pb : Nat → Nat} {Q : Nat → Nat → Nat → Prop} {T0 : Nat → Int32}
theorem fw_SI_skip {x c : Nat} {Th : Nat → Int32} (h : fw_SI L fr to pa pb Q T0 x c Th) (hc : fw_clo L fr to pa pb Th x) : fw_SI L fr to pa pb Q T0 (x + 1) c Th := by
  obtain ⟨h1, h2, h3⟩ := h
  refine ⟨h1, h2, ?_⟩
  rcases h3 with ⟨e, h4, h5⟩ | h3
  · refine Or.inl ⟨e, h4, fun x' hx => ?_⟩
    by_cases d : x' = x
    · subst d
      exact fun a b p q => h4 _ (hc a (h2 _ b) p q)
    · exact h5 x' (by omega)
  · exact Or.inr h3
theorem fw_snd_upd {Th : Nat → Int32} {l a b : Nat} (hQ : ∀ i a b, i < L → a < 19 → b < 19 → Q (fr i) a b → Q (to i) (a + pa i) (b + pb i)) (hl : l < L) (hf : fr l < 7) (ht : to l < 7) (ha : a < 19) (hb : b < 19)
    (h : fw_snd Q Th) (ho : Th (361 * fr l + 19 * a + b) ≠ 0) (h1 : a + pa l < 19) (h2 : b + pb l < 19) : fw_snd Q (upd Th (361 * to l + 19 * (a + pa l) + (b + pb l)) 1) := by
  intro m x y hm hx hy hn
  by_cases e : 361 * m + 19 * x + y = 361 * to l + 19 * (a + pa l) + (b + pb l)
  · have e1 : m = to l := by omega
    have e2 : x = a + pa l := by omega
    have e3 : y = b + pb l := by omega
    subst e1 e2 e3
    exact hQ l a b hl ha hb (h _ _ _ hf ha hb ho)
  · rw [pk_un e] at hn
    exact h m x y hm hx hy hn
end
section
variable {post : SY → Prop} {ft : Int32} {aP aS aU : Nat → Int32} {L : Nat} {fr to pa pb : Nat → Nat} {Q : Nat → Nat → Nat → Prop}
theorem fy_sp10 {T0 : Nat → Int32} (hL : L ≤ 12) (hfr : ∀ i, fr i < 7) (hto : ∀ i, to i < 7) (hpa : ∀ i, pa i ≤ 3) (hpb : ∀ i, pb i ≤ 3)
    (hQ : ∀ i a b, i < L → a < 19 → b < 19 → Q (fr i) a b → Q (to i) (a + pa i) (b + pb i))
    {J : Int32 → (Nat → Int32) → (Nat → Int32) → (Nat → Int32) → (Nat → Int32) → (Nat → Int32) → (Nat → Int32) → (Nat → Int32) → (Nat → Int32) → Prop}
    (HJ : ∀ (c : Nat) (Th : Nat → Int32), fw_SI L fr to pa pb Q T0 4332 c Th → J (nI c) (fw_A fr) (fw_A to) (fw_A pa) (fw_A pb) aP aS aU Th) :
    ∀ (f x c : Nat) (Th : Nat → Int32), 4332 - x < f → x ≤ 4332 → fw_SI L fr to pa pb Q T0 x c Th →
      wY_spread_10 post J (nI L) ft f (nI c) (nI x) (fw_A fr) (fw_A to) (fw_A pa) (fw_A pb) aP aS aU Th := by
  intro f
  induction f with
  | zero => intro x c Th h; omega
  | succ f ih =>
    intro x c Th hf hx hI
    rw [wY_spread_10]
    dsimp only
    refine pk_le 4332 x (fun d => ?_) (fun d => ?_)
    · have e : x = 4332 := by omega
      subst e
      exact HJ c Th hI
    · have hskip : fw_clo L fr to pa pb Th x → wY_spread_10 post J (nI L) ft f (nI c) (nI (x + 1)) (fw_A fr) (fw_A to) (fw_A pa) (fw_A pb) aP aS aU Th := fun h =>
        ih (x + 1) c Th (by omega) (by omega) (fw_SI_skip hI h)
      have hc01 : c = 0 ∨ c = 1 := by
        rcases hI.2.2 with z | z
        · exact Or.inl z.1
        · exact Or.inr z.1
      refine ⟨by decide, nm_r (fy_d361 (by omega)) ⟨by decide, by decide, nm_r (fy_a19 (by omega)) ⟨by decide, nm_r (fy_b19 (by omega)) ?_⟩⟩⟩
      have hl12 : x / 361 < 12 := by omega
      have ha : x / 19 % 19 < 19 := Nat.mod_lt _ (by decide)
      have hb : x % 19 < 19 := Nat.mod_lt _ (by decide)
      have hf7 := hfr (x / 361)
      have ht7 := hto (x / 361)
      have hp3 := hpa (x / 361)
      have hq3 := hpb (x / 361)
      have hin : vp_in (nI (x / 361)) 12 := vp_in_nI hl12 (by omega)
      rw [nI_clamp (show x / 361 < 2 ^ 31 by omega), fw_A_at, fw_A_at, fw_A_at, fw_A_at, fy_next, fx_361, nI_add, nI_add, nI_clamp (show 361 * fr (x / 361) + 19 * (x / 19 % 19) + x % 19 < 2 ^ 31 by omega)]
      refine pk_le L (x / 361) (fun h1 => nm_r (nI_1 x) (hskip (fun z => by omega))) (fun h1 => ?_)
      refine ⟨hin, vp_in_nI (by omega) (by omega), ?_⟩
      refine br_c (fun h2 => nm_r (nI_1 x) (hskip (fun _ z => absurd h2 z))) (fun h2 => ?_)
      refine ⟨hin, pk_le 19 (x / 19 % 19 + pa (x / 361)) (fun h3 => nm_r (nI_1 x) (hskip (fun _ _ z => by omega))) (fun h3 => ?_)⟩
      refine ⟨hin, pk_le 19 (x % 19 + pb (x / 361)) (fun h4 => nm_r (nI_1 x) (hskip (fun _ _ _ z => by omega))) (fun h4 => ?_)⟩
      refine ⟨hin, hin, hin, nm_e ?_⟩
      have hn : 361 * to (x / 361) + 19 * (x / 19 % 19 + pa (x / 361)) + (x % 19 + pb (x / 361)) < 2527 := by omega
      have hsnd := fw_snd_upd hQ h1 hf7 ht7 ha hb hI.1 h2 h3 h4
      have hni := vp_in_nI hn (by omega)
      have hgo : ∀ c' : Nat, fw_SI L fr to pa pb Q T0 (x + 1) c' (upd Th (361 * to (x / 361) + 19 * (x / 19 % 19 + pa (x / 361)) + (x % 19 + pb (x / 361))) 1) →
          wY_spread_155 post J (wY_spread_10 post J (nI L) ft f) (nI x) (nI (361 * to (x / 361) + 19 * (x / 19 % 19 + pa (x / 361)) + (x % 19 + pb (x / 361)))) (nI c') (nI L) ft (fw_A fr) (fw_A to) (fw_A pa) (fw_A pb) aP aS aU Th := by
        intro c' hI'
        unfold wY_spread_155
        rw [nI_clamp (by omega), fy_n1]
        exact ⟨hni, nm_e (nm_r (nI_1 x) (ih (x + 1) c' _ (by omega) (by omega) hI'))⟩
      generalize hgen : 361 * to (x / 361) + 19 * (x / 19 % 19 + pa (x / 361)) + (x % 19 + pb (x / 361)) = nx at hn hsnd hni hgo ⊢
      refine pk_eq c 0 (fun h5 => ⟨hni, ?_⟩) (fun h5 => ?_) rfl rfl (by omega) (by omega)
      · rw [nI_clamp (show nx < 2 ^ 31 by omega)]
        refine br_c (fun h6 => ?_) (fun h6 => ?_)
        · unfold wY_spread_150
          refine hgo 1 ⟨hsnd, fw_sub_trans hI.2.1 (fw_sub_upd _ _), Or.inr ⟨rfl, ?_⟩⟩
          have := fw_zc_lt hn h6
          have := fw_zc_le hI.2.1
          omega
        · have h7 : fw_clo L fr to pa pb Th x := fun _ _ _ _ => by rw [hgen]; exact h6
          refine hgo 0 ⟨hsnd, fw_sub_trans hI.2.1 (fw_sub_upd _ _), Or.inl ⟨rfl, ?_⟩⟩
          have h8 := (fw_SI_skip hI h7).2.2
          rcases h8 with h8 | h8
          · exact ⟨fw_sub_trans (fw_sub_upd' h6) h8.2.1, h8.2.2⟩
          · omega
      · unfold wY_spread_150
        have h6 : c = 1 := by omega
        refine hgo 1 ⟨hsnd, fw_sub_trans hI.2.1 (fw_sub_upd _ _), Or.inr ⟨rfl, ?_⟩⟩
        rcases hI.2.2 with z | z
        · omega
        · have := fw_zc_le (fw_sub_upd Th nx)
          omega
theorem fy_sp2 {T1 : Nat → Int32} (hL : L ≤ 12) (hfr : ∀ i, fr i < 7) (hto : ∀ i, to i < 7) (hpa : ∀ i, pa i ≤ 3) (hpb : ∀ i, pb i ≤ 3)
    (hQ : ∀ i a b, i < L → a < 19 → b < 19 → Q (fr i) a b → Q (to i) (a + pa i) (b + pb i))
    (H : ∀ Th : Nat → Int32, fw_snd Q Th → fw_sub T1 Th → (∀ i a b, i < L → a < 19 → b < 19 → Th (361 * fr i + 19 * a + b) ≠ 0 → a + pa i < 19 → b + pb i < 19 → Th (361 * to i + 19 * (a + pa i) + (b + pb i)) ≠ 0) →
      post (nI L, ft, fw_A fr, fw_A to, fw_A pa, fw_A pb, aP, aS, aU, Th)) :
    ∀ (f : Nat) (T0 : Nat → Int32), fw_zc T0 + 1 < f → fw_snd Q T0 → fw_sub T1 T0 → wY_spread_2 post (nI L) ft f 1 (fw_A fr) (fw_A to) (fw_A pa) (fw_A pb) aP aS aU T0 := by
  intro f
  induction f with
  | zero => intro T0 h; omega
  | succ f ih =>
    intro T0 hf h1 h2
    rw [wY_spread_2]
    dsimp only
    refine br_f (by decide) ⟨4333, ?_⟩
    refine fy_sp10 (T0 := T0) hL hfr hto hpa hpb hQ (fun c Th hI => ?_) 4333 0 0 T0 (by omega) (by omega) ⟨h1, fun j hj => hj, Or.inl ⟨rfl, fun j hj => hj, fun x hx => absurd hx (Nat.not_lt_zero x)⟩⟩
    obtain ⟨g1, g2, g3⟩ := hI
    rcases g3 with ⟨e, g4, g5⟩ | ⟨e, g4⟩
    · subst e
      obtain ⟨f, rfl⟩ : ∃ f', f = f' + 1 := ⟨f - 1, by omega⟩
      rw [wY_spread_2]
      dsimp only
      refine br_t rfl (H Th g1 (fw_sub_trans h2 g2) (fun i a b hi ha hb ho hpi hqi => ?_))
      have hx := g5 (361 * i + 19 * a + b) (by omega)
      unfold fw_clo at hx
      rw [show (361 * i + 19 * a + b) / 361 = i from by omega, show (361 * i + 19 * a + b) / 19 % 19 = a from by omega, show (361 * i + 19 * a + b) % 19 = b from by omega] at hx
      exact g2 _ (hx hi (g4 _ ho) hpi hqi)
    · subst e
      exact ih Th (by omega) g1 (fw_sub_trans h2 g2)
theorem fy_spread {T1 : Nat → Int32} (hL : L ≤ 12) (hfr : ∀ i, fr i < 7) (hto : ∀ i, to i < 7) (hpa : ∀ i, pa i ≤ 3) (hpb : ∀ i, pb i ≤ 3)
    (hQ : ∀ i a b, i < L → a < 19 → b < 19 → Q (fr i) a b → Q (to i) (a + pa i) (b + pb i)) (hs : fw_snd Q T1)
    (H : ∀ Th : Nat → Int32, fw_snd Q Th → fw_sub T1 Th → (∀ i a b, i < L → a < 19 → b < 19 → Th (361 * fr i + 19 * a + b) ≠ 0 → a + pa i < 19 → b + pb i < 19 → Th (361 * to i + 19 * (a + pa i) + (b + pb i)) ≠ 0) →
      post (nI L, ft, fw_A fr, fw_A to, fw_A pa, fw_A pb, aP, aS, aU, Th)) :
    wpY_spread post (nI L, ft, fw_A fr, fw_A to, fw_A pa, fw_A pb, aP, aS, aU, T1) := by
  unfold wpY_spread
  exact ⟨fw_zc T1 + 2, fy_sp2 hL hfr hto hpa hpb hQ H _ T1 (by omega) hs (fun j hj => hj)⟩
theorem fy_empty2 {fl : Int32} {aF aT aA aB : Nat → Int32} (H : ∀ Th : Nat → Int32, (∀ j, j < 2527 → Th j = 0) → post (fl, ft, aF, aT, aA, aB, aP, aS, aU, Th)) :
    ∀ (f i : Nat) (Th : Nat → Int32), 2527 - i < f → i ≤ 2527 → (∀ j, j < i → Th j = 0) → wY_empty_2 post fl ft f (nI i) aF aT aA aB aP aS aU Th := by
  intro f
  induction f with
  | zero => intro i Th h; omega
  | succ f ih =>
    intro i Th hf hi hT
    rw [wY_empty_2]
    dsimp only
    refine pk_le 2527 i (fun c => H Th (fun j hj => hT j (by omega))) (fun c => ?_)
    rw [nI_clamp (show i < 2 ^ 31 by omega), fy_n0]
    refine ⟨vp_in_nI c (by omega), nm_e (nm_r (nI_1 i) (ih (i + 1) _ (by omega) (by omega) (fun j hj => ?_)))⟩
    by_cases e : j = i
    · subst e; exact pk_us
    · rw [pk_un e]; exact hT j (by omega)
theorem fy_empty {fl : Int32} {aF aT aA aB Th0 : Nat → Int32} (H : ∀ Th : Nat → Int32, (∀ j, j < 2527 → Th j = 0) → post (fl, ft, aF, aT, aA, aB, aP, aS, aU, Th)) :
    wpY_empty post (fl, ft, aF, aT, aA, aB, aP, aS, aU, Th0) := by
  unfold wpY_empty
  exact ⟨2528, fy_empty2 H 2528 0 Th0 (by omega) (by omega) (fun j hj => absurd hj (Nat.not_lt_zero j))⟩
theorem fy_set {fl : Int32} {aF aT aA aB Th : Nat → Int32} {m a b : Nat} (hm : m < 7) (ha : a < 19) (hb : b < 19)
    (h : post (fl, ft, aF, aT, aA, aB, aP, aS, aU, upd Th (361 * m + 19 * a + b) 1)) : wpY_set post (fl, ft, aF, aT, aA, aB, aP, aS, aU, Th) (nI m) (nI a) (nI b) := by
  unfold wpY_set
  dsimp only
  rw [fx_361, nI_clamp (show 361 * m + 19 * a + b < 2 ^ 31 by omega), fy_n1]
  exact ⟨vp_in_nI (by omega) (by omega), nm_e h⟩
end
/-- the table holds just the starts of Z -/
def fw_st (Z : Nat → Nat → Nat → Prop) (Th : Nat → Int32) : Prop := ∀ m a b, m < 7 → a < 19 → b < 19 → (Th (361 * m + 19 * a + b) ≠ 0 ↔ Z m a b)
theorem fw_st_0 {Z : Nat → Nat → Nat → Prop} {Th : Nat → Int32} (h : ∀ j, j < 2527 → Th j = 0) (hz : ∀ m a b, ¬ Z m a b) : fw_st Z Th :=
  fun m a b hm ha hb => ⟨fun z => absurd (h _ (by omega)) z, fun z => absurd z (hz m a b)⟩
theorem fw_st_set {Z Z' : Nat → Nat → Nat → Prop} {Th : Nat → Int32} {m0 a0 b0 : Nat} (hm : m0 < 7) (ha : a0 < 19) (hb : b0 < 19) (h : fw_st Z Th)
    (hz : ∀ m a b, Z' m a b ↔ Z m a b ∨ (m = m0 ∧ a = a0 ∧ b = b0)) : fw_st Z' (upd Th (361 * m0 + 19 * a0 + b0) 1) := by
  intro m a b h1 h2 h3
  rw [hz m a b]
  by_cases e : 361 * m + 19 * a + b = 361 * m0 + 19 * a0 + b0
  · rw [e, pk_us]
    exact ⟨fun _ => Or.inr (by omega), fun _ => by decide⟩
  · rw [pk_un e, h m a b h1 h2 h3]
    constructor
    · exact Or.inl
    · intro z
      rcases z with z | ⟨e1, e2, e3⟩
      · exact z
      · subst e1 e2 e3; exact absurd rfl e
end
section
/-! part 10: the reference: spreadTokens, below, inFront, find -/
/-- what the table says at or below (a, b) -/
def fw_up (L : Nat) (fr to pa pb : Nat → Nat) (Z : Nat → Nat → Nat → Prop) (Th : Nat → Int32) : Prop :=
  ∀ m a b, m < 7 → a < 19 → b < 19 → (fw_Q L fr to pa pb Z m a b ↔ ∃ x y, x ≤ a ∧ y ≤ b ∧ Th (361 * m + 19 * x + y) ≠ 0)
section
variable {L T : Nat} {fr to pa pb pl ta tb : Nat → Nat}
theorem fy_spreadZ {post : SY → Prop} {ft : Int32} {aP aS aU : Nat → Int32} {Z : Nat → Nat → Nat → Prop} {T1 : Nat → Int32} (hL : L ≤ 12) (hfr : ∀ i, fr i < 7) (hto : ∀ i, to i < 7) (hpa : ∀ i, pa i ≤ 3) (hpb : ∀ i, pb i ≤ 3)
    (hst : fw_st Z T1) (hz : ∀ m a b, Z m a b → m < 7 ∧ a < 19 ∧ b < 19)
    (H : ∀ Th : Nat → Int32, fw_up L fr to pa pb Z Th → post (nI L, ft, fw_A fr, fw_A to, fw_A pa, fw_A pb, aP, aS, aU, Th)) :
    wpY_spread post (nI L, ft, fw_A fr, fw_A to, fw_A pa, fw_A pb, aP, aS, aU, T1) := by
  refine fy_spread (Q := fw_Q L fr to pa pb Z) hL hfr hto hpa hpb (fun i a b hi _ _ h => fw_Q_line hi (hfr i) h) (fun m a b hm ha hb h => fw_Q_seed ((hst m a b hm ha hb).mp h)) (fun Th h1 h2 h3 => H Th ?_)
  intro m a b hm ha hb
  refine (fw_up_there (on := fun m a b => Th (361 * m + 19 * a + b) ≠ 0) h3 h1 (fun m a b h => ?_) hm ha hb).symm
  obtain ⟨g1, g2, g3⟩ := hz m a b h
  exact h2 _ ((hst m a b g1 g2 g3).mpr h)
theorem fy_tok6 {post : SY → Prop} (hL : L ≤ 12) (hfr : ∀ i, fr i < 7) (hto : ∀ i, to i < 7) (hpa : ∀ i, pa i ≤ 3) (hpb : ∀ i, pb i ≤ 3) (hT : T ≤ 20) (hpl : ∀ t, pl t < 7) (hta : ∀ t, ta t ≤ 15) (htb : ∀ t, tb t ≤ 15)
    (H : ∀ Th : Nat → Int32, fw_up L fr to pa pb (fw_Z T pl ta tb) Th → post (nI L, nI T, fw_A fr, fw_A to, fw_A pa, fw_A pb, fw_A pl, fw_A ta, fw_A tb, Th)) :
    ∀ (f t : Nat) (Th : Nat → Int32), T - t < f → t ≤ T → fw_st (fw_Z t pl ta tb) Th →
      wY_spreadTokens_6 post f (nI t) (nI L) (nI T) (fw_A fr) (fw_A to) (fw_A pa) (fw_A pb) (fw_A pl) (fw_A ta) (fw_A tb) Th := by
  intro f
  induction f with
  | zero => intro t Th h; omega
  | succ f ih =>
    intro t Th hf ht hS
    have g1 := hpl t
    have g2 := hta t
    have g3 := htb t
    rw [wY_spreadTokens_6]
    dsimp only
    refine pk_le T t (fun c => ?_) (fun c => ?_)
    · have e : t = T := by omega
      subst e
      refine fy_spreadZ hL hfr hto hpa hpb hS (fun m a b h => ?_) (fun Th' h' => H Th' h')
      obtain ⟨t', _, e1, e2, e3⟩ := h
      have := hpl t'
      have := hta t'
      have := htb t'
      omega
    · have hin : vp_in (nI t) 20 := vp_in_nI (by omega) (by omega)
      rw [nI_clamp (show t < 2 ^ 31 by omega), fw_A_at, fw_A_at, fw_A_at]
      refine ⟨hin, hin, hin, fy_set g1 (by omega) (by omega) (nm_r (nI_1 t) (ih (t + 1) _ (by omega) (by omega) (fw_st_set g1 (by omega) (by omega) hS (fun m a b => ?_))))⟩
      constructor
      · intro ⟨t', h1, h2, h3, h4⟩
        by_cases e : t' = t
        · subst e; exact Or.inr ⟨h2.symm, h3.symm, h4.symm⟩
        · exact Or.inl ⟨t', by omega, h2, h3, h4⟩
      · intro h
        rcases h with ⟨t', h1, h2⟩ | ⟨h1, h2, h3⟩
        · exact ⟨t', by omega, h2⟩
        · exact ⟨t, by omega, h1.symm, h2.symm, h3.symm⟩
theorem fy_spreadTokens {post : SY → Prop} {Th0 : Nat → Int32} (hL : L ≤ 12) (hfr : ∀ i, fr i < 7) (hto : ∀ i, to i < 7) (hpa : ∀ i, pa i ≤ 3) (hpb : ∀ i, pb i ≤ 3) (hT : T ≤ 20) (hpl : ∀ t, pl t < 7) (hta : ∀ t, ta t ≤ 15) (htb : ∀ t, tb t ≤ 15)
    (H : ∀ Th : Nat → Int32, fw_up L fr to pa pb (fw_Z T pl ta tb) Th → post (nI L, nI T, fw_A fr, fw_A to, fw_A pa, fw_A pb, fw_A pl, fw_A ta, fw_A tb, Th)) :
    wpY_spreadTokens post (nI L, nI T, fw_A fr, fw_A to, fw_A pa, fw_A pb, fw_A pl, fw_A ta, fw_A tb, Th0) := by
  unfold wpY_spreadTokens
  refine fy_empty (fun Th h => ⟨T + 1, ?_⟩)
  exact fy_tok6 hL hfr hto hpa hpb hT hpl hta htb H (T + 1) 0 Th (by omega) (by omega) (fw_st_0 h (fun m a b ⟨t, h1, _⟩ => absurd h1 (Nat.not_lt_zero t)))
end
section
variable {post : Int32 → Prop} {fl ft : Int32} {aF aT aA aB aP aS aU Th : Nat → Int32} {m a b : Nat} {o : Int32}
theorem fy_below12 (hm : m < 7) (ha : a < 19) (hb : b < 19) {x : Nat} (hx : x ≤ a) {J : Int32 → Prop}
    (h1 : ∀ y, y ≤ b → Th (361 * m + 19 * x + y) ≠ 0 → ¬ (¬ o = 0 ∧ x = a ∧ y = b) → post 1)
    (hJ : (∀ y, y ≤ b → ¬ (Th (361 * m + 19 * x + y) ≠ 0 ∧ ¬ (¬ o = 0 ∧ x = a ∧ y = b))) → J (nI (x + 1))) :
    ∀ (f y : Nat), b + 1 - y < f → y ≤ b + 1 → (∀ y', y' < y → ¬ (Th (361 * m + 19 * x + y') ≠ 0 ∧ ¬ (¬ o = 0 ∧ x = a ∧ y' = b))) →
      wY_below_12 post J (nI m) (nI a) (nI b) o (nI x) fl ft aF aT aA aB aP aS aU Th f (nI y) := by
  intro f
  induction f with
  | zero => intro y h; omega
  | succ f ih =>
    intro y hf hy hI
    rw [wY_below_12]
    dsimp only
    refine pk_lt b y (fun c => ?_) (fun c => ?_)
    · exact nm_r (nI_1 x) (hJ (fun y' h' => hI y' (by omega)))
    · have hgo : ¬ (Th (361 * m + 19 * x + y) ≠ 0 ∧ ¬ (¬ o = 0 ∧ x = a ∧ y = b)) → wY_below_12 post J (nI m) (nI a) (nI b) o (nI x) fl ft aF aT aA aB aP aS aU Th f (nI (y + 1)) := fun h =>
        ih (y + 1) (by omega) (by omega) (fun y' h' => by
          by_cases e : y' = y
          · subst e; exact h
          · exact hI y' (by omega))
      rw [fx_361, nI_clamp (show 361 * m + 19 * x + y < 2 ^ 31 by omega)]
      refine ⟨vp_in_nI (by omega) (by omega), br_c (fun d => nm_r (nI_1 y) (hgo (fun z => z.1 d))) (fun d => ?_)⟩
      refine br_c (fun e => h1 y c d (fun z => z.1 e)) (fun e => ?_)
      refine pk_eq x a (fun e1 => pk_eq y b (fun e2 => nm_r (nI_1 y) (hgo (fun z => z.2 ⟨e, e1, e2⟩))) (fun e2 => h1 y c d (fun z => e2 z.2.2))) (fun e1 => h1 y c d (fun z => e1 z.2.1))
theorem fy_below3 (hm : m < 7) (ha : a < 19) (hb : b < 19)
    (h1 : (∃ x y, x ≤ a ∧ y ≤ b ∧ Th (361 * m + 19 * x + y) ≠ 0 ∧ ¬ (¬ o = 0 ∧ x = a ∧ y = b)) → post 1)
    (h0 : (¬ ∃ x y, x ≤ a ∧ y ≤ b ∧ Th (361 * m + 19 * x + y) ≠ 0 ∧ ¬ (¬ o = 0 ∧ x = a ∧ y = b)) → post 0) :
    ∀ (f x : Nat), a + 1 - x < f → x ≤ a + 1 → (∀ x' y', x' < x → y' ≤ b → ¬ (Th (361 * m + 19 * x' + y') ≠ 0 ∧ ¬ (¬ o = 0 ∧ x' = a ∧ y' = b))) →
      wY_below_3 post (nI m) (nI a) (nI b) o fl ft aF aT aA aB aP aS aU Th f (nI x) := by
  intro f
  induction f with
  | zero => intro x h; omega
  | succ f ih =>
    intro x hf hx hI
    rw [wY_below_3]
    dsimp only
    refine pk_lt a x (fun c => ?_) (fun c => ?_)
    · exact h0 (fun ⟨x', y', g1, g2, g3⟩ => hI x' y' (by omega) g2 g3)
    · refine ⟨b + 2, fy_below12 hm ha hb c (fun y g1 g2 g3 => h1 ⟨x, y, c, g1, g2, g3⟩) (fun h => ?_) (b + 2) 0 (by omega) (by omega) (fun y' h' => absurd h' (Nat.not_lt_zero y'))⟩
      refine ih (x + 1) (by omega) (by omega) (fun x' y' g1 g2 => ?_)
      by_cases e : x' = x
      · subst e; exact h y' g2
      · exact hI x' y' (by omega) g2
theorem fy_below (hm : m < 7) (ha : a < 19) (hb : b < 19)
    (h1 : (∃ x y, x ≤ a ∧ y ≤ b ∧ Th (361 * m + 19 * x + y) ≠ 0 ∧ ¬ (¬ o = 0 ∧ x = a ∧ y = b)) → post 1)
    (h0 : (¬ ∃ x y, x ≤ a ∧ y ≤ b ∧ Th (361 * m + 19 * x + y) ≠ 0 ∧ ¬ (¬ o = 0 ∧ x = a ∧ y = b)) → post 0) :
    wpY_below post (fl, ft, aF, aT, aA, aB, aP, aS, aU, Th) (nI m) (nI a) (nI b) o := by
  unfold wpY_below
  exact ⟨a + 2, fy_below3 hm ha hb h1 h0 (a + 2) 0 (by omega) (by omega) (fun x' y' h' => absurd h' (Nat.not_lt_zero x'))⟩
theorem fy_inFront {U : Nat → Nat → Prop} (hm : m < 7) (ha : a < 19) (hb : b < 19) (hU : ∀ a b, a < 19 → b < 19 → (U a b ↔ ∃ x y, x ≤ a ∧ y ≤ b ∧ Th (361 * m + 19 * x + y) ≠ 0))
    (h1 : fw_F U a b → post 1) (h0 : ¬ fw_F U a b → post 0) : wpY_inFront post (fl, ft, aF, aT, aA, aB, aP, aS, aU, Th) (nI m) (nI a) (nI b) := by
  have hF := fw_F_on (on := fun x y => Th (361 * m + 19 * x + y) ≠ 0) hU ha hb
  unfold wpY_inFront
  dsimp only
  rw [fx_361, nI_clamp (show 361 * m + 19 * a + b < 2 ^ 31 by omega)]
  refine ⟨vp_in_nI (by omega) (by omega), br_c (fun d => h0 (fun z => (hF.mpr z).1 d)) (fun d => ?_)⟩
  refine fy_below hm ha hb (fun ⟨x, y, g1, g2, g3, g4⟩ => ?_) (fun h => ?_)
  · exact br_f (by decide) (h0 (fun z => (hF.mpr z).2 ⟨x, y, g1, g2, g3, fun e => g4 ⟨by decide, e⟩⟩))
  · exact br_t rfl (h1 (hF.mp ⟨d, fun ⟨x, y, g1, g2, g3, g4⟩ => h ⟨x, y, g1, g2, g3, fun e => g4 e.2⟩⟩))
end
/-- the first of a kind, or none -/
theorem fw_first (P : Nat → Prop) : ∀ n, (∃ k, k < n ∧ P k ∧ ∀ t, t < k → ¬ P t) ∨ (∀ t, t < n → ¬ P t) := by
  intro n
  induction n with
  | zero => exact Or.inr (fun t h => absurd h (Nat.not_lt_zero t))
  | succ n ih =>
    rcases ih with ⟨k, h1, h2⟩ | h
    · exact Or.inl ⟨k, by omega, h2⟩
    · rcases Classical.em (P n) with z | z
      · exact Or.inl ⟨n, by omega, z, h⟩
      · refine Or.inr (fun t ht => ?_)
        by_cases e : t = n
        · subst e; exact z
        · exact h t (by omega)
section
variable {post : Int32 → Prop} {fl : Int32} {aF aT aA aB Th : Nat → Int32} {T : Nat} {pl ta tb : Nat → Nat} {p0 p1 p2 : Int32}
theorem fy_find3 (hT : T ≤ 20) {k : Nat} {r : Int32} (hk : k ≤ T) (hr : post r) (hn : ∀ t, t < k → ¬ (nI (pl t) = p0 ∧ nI (ta t) = p1 ∧ nI (tb t) = p2))
    (he : (k = T ∧ r = -1) ∨ (k < T ∧ r = nI k ∧ nI (pl k) = p0 ∧ nI (ta k) = p1 ∧ nI (tb k) = p2)) :
    ∀ (f t : Nat), k - t < f → t ≤ k → wY_find_3 post p0 p1 p2 fl (nI T) aF aT aA aB (fw_A pl) (fw_A ta) (fw_A tb) Th f (nI t) := by
  intro f
  induction f with
  | zero => intro t h; omega
  | succ f ih =>
    intro t hf ht
    rw [wY_find_3]
    dsimp only
    refine pk_le T t (fun c => ?_) (fun c => ?_)
    · rcases he with he | he
      · rw [← he.2]; exact hr
      · omega
    · rw [nI_clamp (show t < 2 ^ 31 by omega), fw_A_at, fw_A_at, fw_A_at]
      have hin : vp_in (nI t) 20 := vp_in_nI (by omega) (by omega)
      have hgo : ¬ (nI (pl t) = p0 ∧ nI (ta t) = p1 ∧ nI (tb t) = p2) → wY_find_3 post p0 p1 p2 fl (nI T) aF aT aA aB (fw_A pl) (fw_A ta) (fw_A tb) Th f (nI (t + 1)) := fun h => by
        have h2 : t ≠ k := fun e => by
          subst e
          rcases he with he | he
          · omega
          · exact h he.2.2
        exact ih (t + 1) (by omega) (by omega)
      refine ⟨hin, br_c (fun d1 => ⟨hin, br_c (fun d2 => ⟨hin, br_c (fun d3 => ?_) (fun d3 => nm_r (nI_1 t) (hgo (fun z => d3 z.2.2)))⟩) (fun d2 => nm_r (nI_1 t) (hgo (fun z => d2 z.2.1)))⟩) (fun d1 => nm_r (nI_1 t) (hgo (fun z => d1 z.1)))⟩
      have e : t = k := by
        rcases Nat.lt_or_ge t k with z | z
        · exact absurd ⟨d1, d2, d3⟩ (hn t z)
        · omega
      subst e
      rcases he with he | he
      · omega
      · rw [← he.2.1]; exact hr
theorem fy_find_some (hT : T ≤ 20) {k : Nat} (hk : k < T) (hP : nI (pl k) = p0 ∧ nI (ta k) = p1 ∧ nI (tb k) = p2) (hn : ∀ t, t < k → ¬ (nI (pl t) = p0 ∧ nI (ta t) = p1 ∧ nI (tb t) = p2)) (h : post (nI k)) :
    wpY_find post (fl, nI T, aF, aT, aA, aB, fw_A pl, fw_A ta, fw_A tb, Th) p0 p1 p2 := by
  unfold wpY_find
  exact ⟨k + 1, fy_find3 hT (by omega) h hn (Or.inr ⟨hk, rfl, hP⟩) (k + 1) 0 (by omega) (by omega)⟩
theorem fy_find_none (hT : T ≤ 20) (hn : ∀ t, t < T → ¬ (nI (pl t) = p0 ∧ nI (ta t) = p1 ∧ nI (tb t) = p2)) (h : post (-1)) :
    wpY_find post (fl, nI T, aF, aT, aA, aB, fw_A pl, fw_A ta, fw_A tb, Th) p0 p1 p2 := by
  unfold wpY_find
  exact ⟨T + 1, fy_find3 hT (Nat.le_refl T) h hn (Or.inl ⟨rfl, rfl⟩) (T + 1) 0 (by omega) (by omega)⟩
end
end
section
/-! part 11: the component: tokenAt, marks, possible, firstMark, reaches, ready -/
theorem fx_subLt {a b c : Nat} (ha : a < 2 ^ 30) (hb : b < 2 ^ 30) (hc : c < 2 ^ 30) : nI a - nI b < nI c ↔ a < b + c := by
  rw [Int32.lt_iff_toInt_lt, pk_sub_toInt ha hb, nI_toInt (by omega)]
  omega
theorem fx_le0 {c : Nat} (h : c < 2 ^ 31) : nI c ≤ 0 ↔ c = 0 := by
  rw [← nI_0, nI_leI h (by decide)]
  omega
section
variable {tab : Nat → List (Nat × Nat)} {T : Nat} {pl ta tb : Nat → Nat}
theorem fw_mk_le (hn : ∀ q, q < 49 → (tab q).length ≤ 19) (hpl : ∀ t, pl t < 7) (hT : T ≤ 20) (idx : Nat) : fw_mk tab pl ta tb T idx ≤ 2660 := by
  have h1 : ∀ t, fw_H tab (pl t) (ta t) (tb t) idx 7 ≤ 7 * 19 := fun t => fw_s_le 7 (fun m hm => by
    have h2 := fw_s_le (f := fun j => fw_b (fw_hit (tab (7 * pl t + m)) (ta t) (tb t) m j idx)) (c := 1) (tab (7 * pl t + m)).length (fun j _ => fw_b_le _)
    have h3 := hpl t
    have h4 := hn (7 * pl t + m) (by omega)
    show fw_s _ _ ≤ 19
    omega)
  have h2 := fw_s_le (f := fun t => fw_H tab (pl t) (ta t) (tb t) idx 7) (c := 7 * 19) T (fun t _ => h1 t)
  unfold fw_mk
  have h3 : T * (7 * 19) ≤ 20 * (7 * 19) := Nat.mul_le_mul_right _ hT
  omega
theorem fw_mk_pos {m x y : Nat} (hm : m < 7) (hx : x < 16) (hy : y < 16) : 0 < fw_mk tab pl ta tb T (256 * m + 16 * x + y) ↔ fw_M tab T pl ta tb m x y := by
  unfold fw_mk
  rw [fw_s_pos]
  constructor
  · intro ⟨t, ht, h⟩
    unfold fw_H at h
    obtain ⟨m', hm', h⟩ := (fw_s_pos 7).mp h
    unfold fw_hr at h
    obtain ⟨j, hj, h⟩ := (fw_s_pos _).mp h
    obtain ⟨h1, h2, h3⟩ := fw_b_pos.mp h
    have e1 : m' = m := by omega
    subst e1
    have e2 : ta t + ((tab (7 * pl t + m')).getD j (0, 0)).1 = x := by omega
    have e3 : tb t + ((tab (7 * pl t + m')).getD j (0, 0)).2 = y := by omega
    exact ⟨t, ht, _, fw_getD_mem hj, e2, e3⟩
  · intro ⟨t, ht, e, he, h1, h2⟩
    obtain ⟨j, hj, rfl⟩ := fw_mem_getD he
    refine ⟨t, ht, (fw_s_pos 7).mpr ⟨m, hm, (fw_s_pos _).mpr ⟨j, hj, fw_b_pos.mpr ⟨by omega, by omega, by omega⟩⟩⟩⟩
theorem fx_mark {M : Nat → Int32} (hn : ∀ q, q < 49 → (tab q).length ≤ 19) (hpl : ∀ t, pl t < 7) (hT : T ≤ 20) (hM : ∀ idx, idx < 1792 → M idx = nI (fw_mk tab pl ta tb T idx))
    {m x y : Nat} (hm : m < 7) (hx : x < 16) (hy : y < 16) : M (256 * m + 16 * x + y) ≤ 0 ↔ ¬ fw_M tab T pl ta tb m x y := by
  have h1 := fw_mk_le (ta := ta) (tb := tb) hn hpl hT (256 * m + 16 * x + y)
  rw [hM _ (by omega), fx_le0 (by omega), ← fw_mk_pos hm hx hy]
  omega
end
section
variable {post : Int32 → Prop} {fl g : Int32} {aF aT aA aB SC S G M : Nat → Int32} {T : Nat} {pl ta tb : Nat → Nat} {l a b : Nat}
theorem fx_tok2 (hT : T ≤ 20) (hpl : ∀ t, pl t < 7) (hta : ∀ t, ta t ≤ 15) (htb : ∀ t, tb t ≤ 15) (hl : l < 7) (ha : a ≤ 15) (hb : b ≤ 15) {k : Nat} {r : Int32} (hk : k ≤ T) (hr : post r)
    (hn : ∀ t, t < k → ¬ (pl t = l ∧ ta t = a ∧ tb t = b))
    (he : (k = T ∧ r = -1) ∨ (k < T ∧ r = nI k ∧ pl k = l ∧ ta k = a ∧ tb k = b)) :
    ∀ (f t : Nat), k - t < f → t ≤ k → wX_tokenAt_2 post (nI l) (nI (16 * a + b)) fl (nI T) g aF aT aA aB (fw_A pl) (fw_A (fw_tm ta tb)) SC S G M f (nI t) := by
  intro f
  induction f with
  | zero => intro t h; omega
  | succ f ih =>
    intro t hf ht
    have g1 := hpl t
    have g2 := hta t
    have g3 := htb t
    rw [wX_tokenAt_2]
    dsimp only
    refine pk_le T t (fun c => ?_) (fun c => ?_)
    · rcases he with he | he
      · rw [← he.2]; exact hr
      · omega
    · rw [nI_clamp (show t < 2 ^ 31 by omega), fw_A_at, fw_A_at]
      have hin : vp_in (nI t) 20 := vp_in_nI (by omega) (by omega)
      have hgo : ¬ (pl t = l ∧ ta t = a ∧ tb t = b) → wX_tokenAt_2 post (nI l) (nI (16 * a + b)) fl (nI T) g aF aT aA aB (fw_A pl) (fw_A (fw_tm ta tb)) SC S G M f (nI (t + 1)) := fun h => by
        have h2 : t ≠ k := fun e => by
          subst e
          rcases he with he | he
          · omega
          · exact h he.2.2
        exact ih (t + 1) (by omega) (by omega)
      have etm : fw_tm ta tb t = 16 * ta t + tb t := rfl
      refine ⟨hin, pk_eq (pl t) l (fun d1 => ⟨hin, pk_eq (fw_tm ta tb t) (16 * a + b) (fun d2 => ?_) (fun d2 => nm_r (nI_1 t) (hgo (fun z => by omega)))⟩) (fun d1 => nm_r (nI_1 t) (hgo (fun z => d1 z.1)))⟩
      have e : t = k := by
        rcases Nat.lt_or_ge t k with z | z
        · exact absurd ⟨d1, by omega, by omega⟩ (hn t z)
        · omega
      subst e
      rcases he with he | he
      · omega
      · rw [← he.2.1]; exact hr
theorem fx_tok_some (hT : T ≤ 20) (hpl : ∀ t, pl t < 7) (hta : ∀ t, ta t ≤ 15) (htb : ∀ t, tb t ≤ 15) (hl : l < 7) (ha : a ≤ 15) (hb : b ≤ 15) {k : Nat} (hk : k < T) (hP : pl k = l ∧ ta k = a ∧ tb k = b)
    (hn : ∀ t, t < k → ¬ (pl t = l ∧ ta t = a ∧ tb t = b)) (h : post (nI k)) :
    wpX_tokenAt post (fl, nI T, g, aF, aT, aA, aB, fw_A pl, fw_A (fw_tm ta tb), SC, S, G, M) (nI l) (nI (16 * a + b)) := by
  unfold wpX_tokenAt
  exact ⟨k + 1, fx_tok2 hT hpl hta htb hl ha hb (by omega) h hn (Or.inr ⟨hk, rfl, hP⟩) (k + 1) 0 (by omega) (by omega)⟩
theorem fx_tok_none (hT : T ≤ 20) (hpl : ∀ t, pl t < 7) (hta : ∀ t, ta t ≤ 15) (htb : ∀ t, tb t ≤ 15) (hl : l < 7) (ha : a ≤ 15) (hb : b ≤ 15)
    (hn : ∀ t, t < T → ¬ (pl t = l ∧ ta t = a ∧ tb t = b)) (h : post (-1)) :
    wpX_tokenAt post (fl, nI T, g, aF, aT, aA, aB, fw_A pl, fw_A (fw_tm ta tb), SC, S, G, M) (nI l) (nI (16 * a + b)) := by
  unfold wpX_tokenAt
  exact ⟨T + 1, fx_tok2 hT hpl hta htb hl ha hb (Nat.le_refl T) h hn (Or.inl ⟨rfl, rfl⟩) (T + 1) 0 (by omega) (by omega)⟩
end
section
variable {post : Int32 → Prop} {fl ft g : Int32} {aF aT aA aB aP aM SC S G M : Nat → Int32} {m : Nat} {mk : Nat → Nat → Prop}
theorem fx_pos29 (hm : m < 7) (hM : ∀ x y, x < 16 → y < 16 → (M (256 * m + 16 * x + y) ≤ 0 ↔ ¬ mk x y)) {a b x : Nat} (ha : a ≤ 15) (hb : b ≤ 15) (hx : x ≤ a) {J : Int32 → Prop}
    (h1 : ∀ y, y ≤ b → mk x y → post 1) (hJ : (∀ y, y ≤ b → ¬ mk x y) → J (nI (x + 1))) :
    ∀ (f y : Nat), b + 1 - y < f → y ≤ b + 1 → (∀ y', y' < y → ¬ mk x y') →
      wX_possible_29 post J (nI m) (nI a) (nI b) (nI x) fl ft g aF aT aA aB aP aM SC S G M f (nI y) := by
  intro f
  induction f with
  | zero => intro y h; omega
  | succ f ih =>
    intro y hf hy hI
    rw [wX_possible_29]
    dsimp only
    refine pk_lt b y (fun c => nm_r (nI_1 x) (hJ (fun y' h' => hI y' (by omega)))) (fun c => ?_)
    rw [fx_256, nI_clamp (show 256 * m + 16 * x + y < 2 ^ 31 by omega), hM x y (by omega) (by omega)]
    refine ⟨vp_in_nI (by omega) (by omega), br_c (fun d => nm_r (nI_1 y) (ih (y + 1) (by omega) (by omega) (fun y' h' => ?_))) (fun d => h1 y c (Classical.not_not.mp d))⟩
    by_cases e : y' = y
    · subst e; exact d
    · exact hI y' (by omega)
theorem fx_pos20 (hm : m < 7) (hM : ∀ x y, x < 16 → y < 16 → (M (256 * m + 16 * x + y) ≤ 0 ↔ ¬ mk x y)) {a b : Nat} (ha : a ≤ 15) (hb : b ≤ 15)
    (h1 : (∃ x y, x ≤ a ∧ y ≤ b ∧ mk x y) → post 1) (h0 : (¬ ∃ x y, x ≤ a ∧ y ≤ b ∧ mk x y) → post 0) :
    ∀ (f x : Nat), a + 1 - x < f → x ≤ a + 1 → (∀ x' y', x' < x → y' ≤ b → ¬ mk x' y') →
      wX_possible_20 post (nI m) (nI a) (nI b) fl ft g aF aT aA aB aP aM SC S G M f (nI x) := by
  intro f
  induction f with
  | zero => intro x h; omega
  | succ f ih =>
    intro x hf hx hI
    rw [wX_possible_20]
    dsimp only
    refine pk_lt a x (fun c => h0 (fun ⟨x', y', g1, g2, g3⟩ => hI x' y' (by omega) g2 g3)) (fun c => ?_)
    refine ⟨b + 2, fx_pos29 hm hM ha hb c (fun y g1 g2 => h1 ⟨x, y, c, g1, g2⟩) (fun h => ?_) (b + 2) 0 (by omega) (by omega) (fun y' h' => absurd h' (Nat.not_lt_zero y'))⟩
    refine ih (x + 1) (by omega) (by omega) (fun x' y' g1 g2 => ?_)
    by_cases e : x' = x
    · subst e; exact h y' g2
    · exact hI x' y' (by omega) g2
/-- the first mark of a row below β, or β -/
theorem fw_fm (P : Nat → Prop) : ∀ β, ∃ r, r ≤ β ∧ (r < β → P r) ∧ ∀ b, b < r → ¬ P b := by
  intro β
  rcases fw_first P β with ⟨k, h1, h2, h3⟩ | h
  · exact ⟨k, by omega, fun _ => h2, h3⟩
  · exact ⟨β, Nat.le_refl _, fun z => absurd z (Nat.lt_irrefl _), h⟩
theorem fx_fm3 (hm : m < 7) (hM : ∀ x y, x < 16 → y < 16 → (M (256 * m + 16 * x + y) ≤ 0 ↔ ¬ mk x y)) {a β r : Nat} (ha : a < 16) (hβ : β ≤ 16) (h1 : r ≤ β) (h2 : r < β → mk a r) (h3 : ∀ b, b < r → ¬ mk a b) (h : post (nI r)) :
    ∀ (f y : Nat), r - y < f → y ≤ r → wX_firstMark_3 post (nI m) (nI a) (nI β) fl ft g aF aT aA aB aP aM SC S G M f (nI y) := by
  intro f
  induction f with
  | zero => intro y h; omega
  | succ f ih =>
    intro y hf hy
    rw [wX_firstMark_3]
    dsimp only
    refine pk_le β y (fun c => ?_) (fun c => ?_)
    · have e : β = r := by omega
      rw [e]; exact h
    · rw [fx_256, nI_clamp (show 256 * m + 16 * a + y < 2 ^ 31 by omega), hM a y ha (by omega)]
      refine ⟨vp_in_nI (by omega) (by omega), br_c (fun d => ?_) (fun d => ?_)⟩
      · have hyr : y < r := by
          rcases Nat.lt_or_ge y r with z | z
          · exact z
          · have e : y = r := by omega
            subst e
            exact absurd (h2 c) d
        exact nm_r (nI_1 y) (ih (y + 1) (by omega) (by omega))
      · have e : y = r := by
          rcases Nat.lt_or_ge y r with z | z
          · exact absurd (h3 y z) d
          · omega
        rw [e]; exact h
theorem fx_fm (hm : m < 7) (hM : ∀ x y, x < 16 → y < 16 → (M (256 * m + 16 * x + y) ≤ 0 ↔ ¬ mk x y)) {a β r : Nat} (ha : a < 16) (hβ : β ≤ 16) (h1 : r ≤ β) (h2 : r < β → mk a r) (h3 : ∀ b, b < r → ¬ mk a b) (h : post (nI r)) :
    wpX_firstMark post (fl, ft, g, aF, aT, aA, aB, aP, aM, SC, S, G, M) (nI m) (nI a) (nI β) := by
  unfold wpX_firstMark
  exact ⟨r + 1, fx_fm3 hm hM ha hβ h1 h2 h3 h (r + 1) 0 (by omega) (by omega)⟩
end
section
variable {post : Int32 → Prop} {fl ft g : Int32} {aF aT aA aB SC S G M : Nat → Int32} {tab : Nat → List (Nat × Nat)} {T m a b : Nat} {pl ta tb : Nat → Nat}
theorem fx_rea46 {aP aM : Nat → Int32} {q x y : Nat} (hq : q < 49) (hp : fw_Rp tab SC S) (hn : ∀ q, q < 49 → (tab q).length ≤ 19) (hv : ∀ q, q < 49 → ∀ v, v ∈ tab q → v.1 ≤ 18 ∧ v.2 ≤ 18)
    (ha : a ≤ 15) (hb : b ≤ 15) (hx : x ≤ 15) (hy : y ≤ 15)
    (h1 : (∃ e, e ∈ tab q ∧ x + e.1 ≤ a ∧ y + e.2 ≤ b) → post 1) (h0 : (¬ ∃ e, e ∈ tab q ∧ x + e.1 ≤ a ∧ y + e.2 ≤ b) → post 0) :
    ∀ (f j : Nat), (tab q).length - j < f → j ≤ (tab q).length → (∀ j', j' < j → ¬ (x + ((tab q).getD j' (0, 0)).1 ≤ a ∧ y + ((tab q).getD j' (0, 0)).2 ≤ b)) →
      wX_reaches_46 post (nI q) (nI a - nI x) (nI b - nI y) fl ft g aF aT aA aB aP aM SC S G M f (nI (19 * q + j)) := by
  intro f
  induction f with
  | zero => intro j h; omega
  | succ f ih =>
    intro j hf hj hI
    have pA := hp q hq
    have hl := hn q hq
    have e0 : (19 : Int32) * nI q + SC (nI q).toNatClampNeg = nI (19 * q + (tab q).length) := by
      rw [nI_clamp (by omega), pA.1, fx_19]
    rw [wX_reaches_46]
    dsimp only
    rw [e0]
    refine ⟨vp_in_nI hq (by omega), pk_le (19 * q + (tab q).length) (19 * q + j) (fun c => h0 ?_) (fun c => ?_)⟩
    · intro ⟨e, he, g1, g2⟩
      obtain ⟨j', hj', rfl⟩ := fw_mem_getD he
      exact hI j' (by omega) ⟨g1, g2⟩
    · have hj' : j < (tab q).length := by omega
      have hs := hv q hq _ (fw_getD_mem hj')
      have e1 : S (nI (19 * q + j)).toNatClampNeg = nI (fw_e ((tab q).getD j (0, 0))) := by
        rw [nI_clamp (by omega)]; exact pA.2 j hj'
      have hin : vp_in (nI (19 * q + j)) 931 := vp_in_nI (by omega) (by omega)
      have hgo : ¬ (x + ((tab q).getD j (0, 0)).1 ≤ a ∧ y + ((tab q).getD j (0, 0)).2 ≤ b) → wX_reaches_46 post (nI q) (nI a - nI x) (nI b - nI y) fl ft g aF aT aA aB aP aM SC S G M f (nI (19 * q + j + 1)) := fun h =>
        ih (j + 1) (by omega) (by omega) (fun j' h' => by
          by_cases e : j' = j
          · subst e; exact h
          · exact hI j' (by omega))
      rw [e1, fx_p (by omega) (by omega), fx_q (by omega) (by omega), fx_subLt (by omega) (by omega) (by omega), fx_subLt (by omega) (by omega) (by omega)]
      refine ⟨hin, br_c (fun d => nm_r (nI_1 _) (hgo (fun z => by omega))) (fun d => ⟨hin, br_c (fun d2 => nm_r (nI_1 _) (hgo (fun z => by omega))) (fun d2 => h1 ⟨_, fw_getD_mem hj', by omega, by omega⟩)⟩)⟩
theorem fx_reaches (hp : fw_Rp tab SC S) (hn : ∀ q, q < 49 → (tab q).length ≤ 19) (hv : ∀ q, q < 49 → ∀ v, v ∈ tab q → v.1 ≤ 18 ∧ v.2 ≤ 18)
    (hpl : ∀ t, pl t < 7) (hta : ∀ t, ta t ≤ 15) (htb : ∀ t, tb t ≤ 15) (hm : m < 7) (ha : a ≤ 15) (hb : b ≤ 15) {t : Nat} (ht : t < 20)
    (h1 : (∃ e, e ∈ tab (7 * pl t + m) ∧ ta t + e.1 ≤ a ∧ tb t + e.2 ≤ b) → post 1) (h0 : (¬ ∃ e, e ∈ tab (7 * pl t + m) ∧ ta t + e.1 ≤ a ∧ tb t + e.2 ≤ b) → post 0) :
    wpX_reaches post (fl, ft, g, aF, aT, aA, aB, fw_A pl, fw_A (fw_tm ta tb), SC, S, G, M) (nI t) (nI m) (nI a) (nI b) := by
  have g1 := hpl t
  have g2 := hta t
  have g3 := htb t
  have hin : vp_in (nI t) 20 := vp_in_nI ht (by omega)
  have etm : fw_A (fw_tm ta tb) t = nI (16 * ta t + tb t) := rfl
  unfold wpX_reaches
  dsimp only
  rw [nI_clamp (show t < 2 ^ 31 by omega), fw_A_at pl, etm, fx_th (by omega) (by omega), fx_tl (by omega) (by omega), fx_7]
  refine ⟨hin, nm_e ⟨hin, nm_e ⟨hin, nm_e (nm_r (fx_19m _) ⟨(tab (7 * pl t + m)).length + 1, ?_⟩)⟩⟩⟩
  exact fx_rea46 (by omega) hp hn hv ha hb g2 g3 h1 h0 _ 0 (by omega) (Nat.zero_le _) (fun j' h' => absurd h' (Nat.not_lt_zero j'))
/-- whether token t is at the place and time asked for -/
def fw_here (pl ta tb : Nat → Nat) (m a b t : Nat) : Prop := pl t = m ∧ ta t = a ∧ tb t = b
def fw_rch (tab : Nat → List (Nat × Nat)) (pl ta tb : Nat → Nat) (m a b t : Nat) : Prop := ∃ e, e ∈ tab (7 * pl t + m) ∧ ta t + e.1 ≤ a ∧ tb t + e.2 ≤ b
theorem fx_ready23 (hT : T ≤ 20) (hp : fw_Rp tab SC S) (hn : ∀ q, q < 49 → (tab q).length ≤ 19) (hv : ∀ q, q < 49 → ∀ v, v ∈ tab q → v.1 ≤ 18 ∧ v.2 ≤ 18)
    (hpl : ∀ t, pl t < 7) (hta : ∀ t, ta t ≤ 15) (htb : ∀ t, tb t ≤ 15) (hm : m < 7) (ha : a ≤ 15) (hb : b ≤ 15)
    (h0 : (∃ t, t < T ∧ ¬ fw_here pl ta tb m a b t ∧ fw_rch tab pl ta tb m a b t) → post 0)
    (h0' : (¬ ∃ t, t < T ∧ fw_here pl ta tb m a b t) → post 0)
    (h1 : (∃ t, t < T ∧ fw_here pl ta tb m a b t) → (¬ ∃ t, t < T ∧ ¬ fw_here pl ta tb m a b t ∧ fw_rch tab pl ta tb m a b t) → post 1) :
    ∀ (f t c : Nat), T - t < f → t ≤ T → c ≤ t → (0 < c ↔ ∃ t', t' < t ∧ fw_here pl ta tb m a b t') → (∀ t', t' < t → ¬ (¬ fw_here pl ta tb m a b t' ∧ fw_rch tab pl ta tb m a b t')) →
      wX_ready_23 post (nI m) (nI a) (nI b) fl (nI T) g aF aT aA aB (fw_A pl) (fw_A (fw_tm ta tb)) SC S G M f (nI c) (nI t) := by
  intro f
  induction f with
  | zero => intro t c h; omega
  | succ f ih =>
    intro t c hf ht hct hc hI
    have g1 := hpl t
    have g2 := hta t
    have g3 := htb t
    rw [wX_ready_23]
    dsimp only
    refine pk_le T t (fun d => ?_) (fun d => ?_)
    · have e : t = T := by omega
      subst e
      refine pk_le c 0 (fun z => h0' (fun w => by have := hc.mpr w; omega)) (fun z => h1 (hc.mp z) (fun ⟨t', w1, w2⟩ => hI t' w1 w2))
    · have hin : vp_in (nI t) 20 := vp_in_nI (by omega) (by omega)
      have etm : fw_A (fw_tm ta tb) t = nI (16 * ta t + tb t) := rfl
      have hno : ¬ fw_here pl ta tb m a b t → wX_ready_63 post (wX_ready_23 post (nI m) (nI a) (nI b) fl (nI T) g aF aT aA aB (fw_A pl) (fw_A (fw_tm ta tb)) SC S G M f) (nI m) (nI a) (nI b) (nI c) (nI t) fl (nI T) g aF aT aA aB (fw_A pl) (fw_A (fw_tm ta tb)) SC S G M := by
        intro hh
        unfold wX_ready_63 wX_ready_64
        refine br_t rfl ?_
        unfold wX_ready_78
        refine nm_r (e' := nI c) (Int32.add_zero _) (br_t rfl ?_)
        refine fx_reaches hp hn hv hpl hta htb hm ha hb (by omega) (fun w => br_f (by decide) (h0 ⟨t, d, hh, w⟩)) (fun w => br_t rfl (nm_r (nI_1 t) (ih (t + 1) c (by omega) (by omega) (by omega) ?_ ?_)))
        · rw [hc]
          constructor
          · intro ⟨t', w1, w2⟩; exact ⟨t', by omega, w2⟩
          · intro ⟨t', w1, w2⟩
            by_cases e : t' = t
            · subst e; exact absurd w2 hh
            · exact ⟨t', by omega, w2⟩
        · intro t' w1
          by_cases e : t' = t
          · subst e; exact fun z => w z.2
          · exact hI t' (by omega)
      rw [nI_clamp (show t < 2 ^ 31 by omega), fw_A_at pl, etm, fx_16]
      refine ⟨hin, pk_eq (pl t) m (fun e1 => ⟨hin, pk_eq (16 * ta t + tb t) (16 * a + b) (fun e2 => ?_) (fun e2 => hno (fun z => e2 (by have := z.2; omega)))⟩) (fun e1 => hno (fun z => e1 z.1))⟩
      have hh : fw_here pl ta tb m a b t := ⟨e1, by omega, by omega⟩
      unfold wX_ready_64
      refine br_f (by decide) ?_
      unfold wX_ready_78
      refine nm_r (e' := nI (c + 1)) (nI_1 c) (br_f (by decide) (nm_r (nI_1 t) (ih (t + 1) (c + 1) (by omega) (by omega) (by omega) ⟨fun _ => ⟨t, by omega, hh⟩, fun _ => by omega⟩ ?_)))
      intro t' w1
      by_cases e : t' = t
      · subst e; exact fun z => z.1 hh
      · exact hI t' (by omega)
end
end
section
/-! part 12: the relation; places and times; stores -/
def fw_Ok (L T : Nat) (fr to pa pb pl ta tb : Nat → Nat) : Prop :=
  L ≤ 12 ∧ T ≤ 20 ∧ (∀ i, fr i < 7) ∧ (∀ i, to i < 7) ∧ (∀ i, pa i ≤ 3) ∧ (∀ i, pb i ≤ 3) ∧ (∀ t, pl t < 7) ∧ (∀ t, ta t ≤ 15) ∧ (∀ t, tb t ≤ 15)
def fw_In (L T : Nat) (fr to pa pb pl ta tb : Nat → Nat) (tab : Nat → List (Nat × Nat)) (SC S M : Nat → Int32) : Prop :=
  fw_Ok L T fr to pa pb pl ta tb ∧ fw_AR L fr to pa pb 7 tab ∧ fw_Rp tab SC S ∧ ∀ idx, idx < 1792 → M idx = nI (fw_mk tab pl ta tb T idx)
/-- lines and places are the same; times 16 a + b; the rows of sums are the least sums; the marks are counted -/
def i_Rel (_ : Nat) (u : SX) (v : SY) : Prop := ∃ (L T : Nat) (fr to pa pb pl ta tb : Nat → Nat) (tab : Nat → List (Nat × Nat)) (g : Int32) (SC S G M Th : Nat → Int32),
  u = (nI L, nI T, g, fw_A fr, fw_A to, fw_A pa, fw_A pb, fw_A pl, fw_A (fw_tm ta tb), SC, S, G, M) ∧ v = (nI L, nI T, fw_A fr, fw_A to, fw_A pa, fw_A pb, fw_A pl, fw_A ta, fw_A tb, Th) ∧
  fw_In L T fr to pa pb pl ta tb tab SC S M
theorem fr_mk {k L T : Nat} {fr to pa pb pl ta tb : Nat → Nat} {tab : Nat → List (Nat × Nat)} {g : Int32} {SC S G M Th : Nat → Int32} (h : fw_In L T fr to pa pb pl ta tb tab SC S M) :
    i_Rel k (nI L, nI T, g, fw_A fr, fw_A to, fw_A pa, fw_A pb, fw_A pl, fw_A (fw_tm ta tb), SC, S, G, M) (nI L, nI T, fw_A fr, fw_A to, fw_A pa, fw_A pb, fw_A pl, fw_A ta, fw_A tb, Th) :=
  ⟨L, T, fr, to, pa, pb, pl, ta, tb, tab, g, SC, S, G, M, Th, rfl, rfl, h⟩
theorem fr_el {P : SX → SY → Prop} (h : ∀ (L T : Nat) (fr to pa pb pl ta tb : Nat → Nat) (tab : Nat → List (Nat × Nat)) (g : Int32) (SC S G M Th : Nat → Int32), fw_In L T fr to pa pb pl ta tb tab SC S M →
      P (nI L, nI T, g, fw_A fr, fw_A to, fw_A pa, fw_A pb, fw_A pl, fw_A (fw_tm ta tb), SC, S, G, M) (nI L, nI T, fw_A fr, fw_A to, fw_A pa, fw_A pb, fw_A pl, fw_A ta, fw_A tb, Th))
    {k : Nat} {u : SX} {v : SY} (I : i_Rel k u v) : P u v := by
  obtain ⟨L, T, fr, to, pa, pb, pl, ta, tb, tab, g, SC, S, G, M, Th, e1, e2, h'⟩ := I
  rw [e1, e2]
  exact h L T fr to pa pb pl ta tb tab g SC S G M Th h'
/-! numbers in a range -/
theorem fr_rng (v : Int32) (c : Nat) (hc : c < 1000) : v < 0 ∨ nI c < v ∨ ∃ n, n ≤ c ∧ v = nI n := by
  rcases pk_ix v (n := c + 1) (by omega) with h | h | ⟨j, h1, h2⟩
  · exact Or.inl h
  · refine Or.inr (Or.inl ?_)
    rw [Int32.lt_iff_toInt_lt, nI_toInt (by omega)]
    rw [Int32.le_iff_toInt_le, nI_toInt (by omega)] at h
    omega
  · exact Or.inr (Or.inr ⟨j, by omega, h2⟩)
theorem fr_nlt {v w : Int32} (h : w < v) : ¬ v ≤ w := by
  rw [Int32.le_iff_toInt_le]
  rw [Int32.lt_iff_toInt_lt] at h
  omega
theorem fr_hi {c : Nat} (hc : c < 1000) {v : Int32} (h : nI c < v) : ¬ v < 0 := by
  rw [Int32.lt_iff_toInt_lt, nI_toInt (by omega)] at h
  rw [Int32.lt_iff_toInt_lt, show (0 : Int32).toInt = 0 from by decide]
  omega
theorem fr_ok0 {n : Nat} (h : n < 2 ^ 31) : ¬ nI n < 0 := nI_pos h
theorem fr_okc {n c : Nat} (h : n ≤ c) (hc : c < 1000) : ¬ nI c < nI n := nI_nlt h (by omega)
theorem fr_pX {post : Int32 → Prop} {n : Nat} (hn : n < 7) (h : post 1) : wpX_isPlace post (nI n) :=
  br_f (fr_ok0 (by omega)) (br_f (fr_okc (c := 6) (by omega) (by omega)) h)
theorem fr_pY {post : Int32 → Prop} {n : Nat} (hn : n < 7) (h : post 0) : wpY_badPlace post (nI n) :=
  br_f (fr_ok0 (by omega)) (br_t (nI_le (b := 6) (by omega) (by omega)) h)
theorem fr_place (v : Int32) : (∃ n, n < 7 ∧ v = nI n) ∨ ((∀ post : Int32 → Prop, post 0 → wpX_isPlace post v) ∧ (∀ post : Int32 → Prop, post 1 → wpY_badPlace post v) ∧ ∀ n, n < 7 → nI n ≠ v) := by
  rcases fr_rng v 6 (by omega) with h | h | ⟨n, h1, h2⟩
  · refine Or.inr ⟨fun post hp => br_t h hp, fun post hp => br_t h hp, fun n hn e => ?_⟩
    subst e
    exact fr_ok0 (by omega) h
  · have h0 := fr_hi (by omega) h
    refine Or.inr ⟨fun post hp => br_f h0 (br_t h hp), fun post hp => br_f h0 (br_f (fr_nlt h) hp), fun n hn e => ?_⟩
    subst e
    exact fr_okc (c := 6) (by omega) (by omega) h
  · exact Or.inl ⟨n, by omega, h2⟩
theorem fr_tX {post : Int32 → Prop} {a b : Nat} (ha : a ≤ 15) (hb : b ≤ 15) (h : post 1) : wpX_isTime post (nI a) (nI b) :=
  br_f (fr_ok0 (by omega)) (br_f (fr_okc (c := 15) (by omega) (by omega)) (br_f (fr_ok0 (by omega)) (br_f (fr_okc (c := 15) (by omega) (by omega)) h)))
theorem fr_tY {post : Int32 → Prop} {a b : Nat} (ha : a ≤ 15) (hb : b ≤ 15) (h : post 0) : wpY_badTime post (nI a) (nI b) :=
  br_f (fr_ok0 (by omega)) (br_f (fr_okc (c := 15) (by omega) (by omega)) (br_f (fr_ok0 (by omega)) (br_t (nI_le (b := 15) (by omega) (by omega)) h)))
theorem fr_tYb {post : Int32 → Prop} {a b : Nat} (ha : a < 1000) (hb : b < 1000) (hn : ¬ (a ≤ 15 ∧ b ≤ 15)) (h : post 1) : wpY_badTime post (nI a) (nI b) := by
  refine br_f (fr_ok0 (by omega)) ?_
  by_cases c : a ≤ 15
  · exact br_f (fr_okc (c := 15) (by omega) (by omega)) (br_f (fr_ok0 (by omega)) (br_f (nI_ge (a := 15) (by omega) (by omega)) h))
  · exact br_t (nI_lt (a := 15) (by omega) (by omega)) h
theorem fr_time (v w : Int32) : (∃ a b, a ≤ 15 ∧ b ≤ 15 ∧ v = nI a ∧ w = nI b) ∨ ((∀ post : Int32 → Prop, post 0 → wpX_isTime post v w) ∧ (∀ post : Int32 → Prop, post 1 → wpY_badTime post v w) ∧ ∀ a b, a ≤ 15 → b ≤ 15 → ¬ (nI a = v ∧ nI b = w)) := by
  rcases fr_rng v 15 (by omega) with h | h | ⟨a, h1, rfl⟩
  · refine Or.inr ⟨fun post hp => br_t h hp, fun post hp => br_t h hp, fun a b ha hb e => ?_⟩
    rw [← e.1] at h
    exact fr_ok0 (by omega) h
  · have h0 := fr_hi (by omega) h
    refine Or.inr ⟨fun post hp => br_f h0 (br_t h hp), fun post hp => br_f h0 (br_t h hp), fun a b ha hb e => ?_⟩
    rw [← e.1] at h
    exact fr_okc (c := 15) (by omega) (by omega) h
  · have a0 := fr_ok0 (n := a) (by omega)
    have a1 := fr_okc (n := a) (c := 15) (by omega) (by omega)
    rcases fr_rng w 15 (by omega) with h | h | ⟨b, h2, rfl⟩
    · refine Or.inr ⟨fun post hp => br_f a0 (br_f a1 (br_t h hp)), fun post hp => br_f a0 (br_f a1 (br_t h hp)), fun a b ha hb e => ?_⟩
      rw [← e.2] at h
      exact fr_ok0 (by omega) h
    · have h0 := fr_hi (by omega) h
      refine Or.inr ⟨fun post hp => br_f a0 (br_f a1 (br_f h0 (br_t h hp))), fun post hp => br_f a0 (br_f a1 (br_f h0 (br_f (fr_nlt h) hp))), fun a b ha hb e => ?_⟩
      rw [← e.2] at h
      exact fr_okc (c := 15) (by omega) (by omega) h
    · exact Or.inl ⟨a, b, h1, h2, rfl, rfl⟩
/-! stores by naturals -/
def fw_u (f : Nat → Nat) (k x : Nat) : Nat → Nat := fun j => if j = k then x else f j
theorem fw_u_at {f : Nat → Nat} {k x : Nat} : fw_u f k x k = x := if_pos rfl
theorem fw_u_ne {f : Nat → Nat} {k x j : Nat} (h : j ≠ k) : fw_u f k x j = f j := if_neg h
theorem fw_u_le {f : Nat → Nat} {k x c : Nat} (h : ∀ i, f i ≤ c) (hx : x ≤ c) : ∀ i, fw_u f k x i ≤ c := by
  intro i
  by_cases e : i = k
  · subst e; rw [fw_u_at]; exact hx
  · rw [fw_u_ne e]; exact h i
theorem fw_u_lt {f : Nat → Nat} {k x c : Nat} (h : ∀ i, f i < c) (hx : x < c) : ∀ i, fw_u f k x i < c := by
  intro i
  by_cases e : i = k
  · subst e; rw [fw_u_at]; exact hx
  · rw [fw_u_ne e]; exact h i
theorem fw_A_u (f : Nat → Nat) (k x : Nat) : upd (fw_A f) k (nI x) = fw_A (fw_u f k x) := by
  funext j
  by_cases e : j = k
  · subst e; rw [pk_us, fw_A_at, fw_u_at]
  · rw [pk_un e, fw_A_at, fw_A_at, fw_u_ne e]
theorem fw_tm_u (ta tb : Nat → Nat) (k a b : Nat) : fw_u (fw_tm ta tb) k (16 * a + b) = fw_tm (fw_u ta k a) (fw_u tb k b) := by
  funext j
  by_cases e : j = k
  · subst e
    rw [fw_u_at]
    show _ = 16 * fw_u ta j a j + fw_u tb j b j
    rw [fw_u_at, fw_u_at]
  · rw [fw_u_ne e]
    show 16 * ta j + tb j = 16 * fw_u ta k a j + fw_u tb k b j
    rw [fw_u_ne e, fw_u_ne e]
end
section
/-! part 13: link, unlink, put, take, pass -/
theorem fr_c12 {L : Nat} (h : L ≤ 12) (c : ¬ L < 12) : nI L = (12 : Int32) := by
  have e : L = 12 := by omega
  subst e
  rfl
theorem i_vc_link {k : Nat} {u : SX} {v : SY} (I : i_Rel k u v) (hk : k + 5 ≤ 2560) (v1 : Int32) (v2 : Int32) (v3 : Int32) (v4 : Int32) : wpX_link (fun r u' => wpY_link (fun r' v' => r' = r ∧ i_Rel (k + 5) u' v') v v1 v2 v3 v4) u v1 v2 v3 v4 := by
  refine fr_el (P := fun u v => wpX_link (fun r u' => wpY_link (fun r' v' => r' = r ∧ i_Rel (k + 5) u' v') v v1 v2 v3 v4) u v1 v2 v3 v4) ?_ I
  intro L T fr to pa pb pl ta tb tab g SC S G M Th hI
  have hI' := hI
  obtain ⟨⟨hL, hT, hfr, hto, hpa, hpb, hpl, hta, htb⟩, hA, hR, hM⟩ := hI'
  unfold wpX_link
  rcases fr_place v1 with ⟨f, hf, rfl⟩ | ⟨bx, hy, _⟩
  rotate_left
  · refine bx _ (br_t rfl ?_)
    unfold wpY_link
    exact hy _ (br_f (by decide) ⟨rfl, fr_mk hI⟩)
  refine fr_pX hf (br_f (by decide) ?_)
  rcases fr_place v2 with ⟨t, ht, rfl⟩ | ⟨bx, hy, _⟩
  rotate_left
  · refine bx _ (br_t rfl ?_)
    unfold wpY_link
    exact fr_pY hf (br_t rfl (hy _ (br_f (by decide) ⟨rfl, fr_mk hI⟩)))
  refine fr_pX ht (br_f (by decide) ?_)
  rcases fr_rng v3 3 (by omega) with h | h | ⟨p, hp, rfl⟩
  · refine br_t h ?_
    unfold wpY_link
    exact fr_pY hf (br_t rfl (fr_pY ht (br_t rfl (br_t h ⟨rfl, fr_mk hI⟩))))
  · have h0 := fr_hi (by omega) h
    refine br_f h0 (br_t h ?_)
    unfold wpY_link
    exact fr_pY hf (br_t rfl (fr_pY ht (br_t rfl (br_f h0 (br_t h ⟨rfl, fr_mk hI⟩)))))
  have p0 := fr_ok0 (n := p) (by omega)
  have p1 := fr_okc (n := p) (c := 3) hp (by omega)
  refine br_f p0 (br_f p1 ?_)
  rcases fr_rng v4 3 (by omega) with h | h | ⟨q, hq, rfl⟩
  · refine br_t h ?_
    unfold wpY_link
    exact fr_pY hf (br_t rfl (fr_pY ht (br_t rfl (br_f p0 (br_f p1 (br_t h ⟨rfl, fr_mk hI⟩))))))
  · have h0 := fr_hi (by omega) h
    refine br_f h0 (br_t h ?_)
    unfold wpY_link
    exact fr_pY hf (br_t rfl (fr_pY ht (br_t rfl (br_f p0 (br_f p1 (br_f h0 (br_t h ⟨rfl, fr_mk hI⟩)))))))
  have q0 := fr_ok0 (n := q) (by omega)
  have q1 := fr_okc (n := q) (c := 3) hq (by omega)
  refine br_f q0 (br_f q1 ?_)
  by_cases c : L < 12
  · have hin : vp_in (nI L) 12 := vp_in_nI c (by omega)
    refine br_t (nI_lt (b := 12) c (by omega)) ?_
    rw [nI_clamp (show L < 2 ^ 31 by omega), fw_A_u, fw_A_u, fw_A_u, fw_A_u]
    refine ⟨hin, nm_e ⟨hin, nm_e ⟨hin, nm_e ⟨hin, nm_e (nm_r (nI_1 L) ?_)⟩⟩⟩⟩
    have ok : fw_Ok (L + 1) T (fw_u fr L f) (fw_u to L t) (fw_u pa L p) (fw_u pb L q) pl ta tb :=
      ⟨by omega, hT, fw_u_lt hfr hf, fw_u_lt hto ht, fw_u_le hpa hp, fw_u_le hpb hq, hpl, hta, htb⟩
    refine fx_rebuild (by omega) hT ok.2.2.1 ok.2.2.2.1 ok.2.2.2.2.1 ok.2.2.2.2.2.1 hpl hta htb (fun tab' g' SC' S' G' M' h1 h2 h3 => ?_)
    unfold wpY_link
    refine fr_pY hf (br_t rfl (fr_pY ht (br_t rfl (br_f p0 (br_f p1 (br_f q0 (br_f q1 (br_f ?_ ?_))))))))
    · rw [show (12 : Int32) = nI 12 from rfl, nI_eq (by omega) (by omega)]; omega
    · rw [nI_clamp (show L < 2 ^ 31 by omega), fw_A_u, fw_A_u, fw_A_u, fw_A_u]
      exact ⟨hin, nm_e ⟨hin, nm_e ⟨hin, nm_e ⟨hin, nm_e (nm_r (nI_1 L) ⟨rfl, fr_mk ⟨ok, h1, h2, h3⟩⟩)⟩⟩⟩⟩
  · refine br_f (nI_nlt (b := 12) (by omega) (by omega)) ?_
    unfold wpY_link
    exact fr_pY hf (br_t rfl (fr_pY ht (br_t rfl (br_f p0 (br_f p1 (br_f q0 (br_f q1 (br_t (fr_c12 hL c) ⟨rfl, fr_mk hI⟩))))))))
/-! unlink -/
def fw_sh (f : Nat → Nat) (l n : Nat) : Nat → Nat := fun j => if l ≤ j ∧ j < n then f (j + 1) else f j
theorem fw_sh_0 (f : Nat → Nat) (l : Nat) : fw_sh f l l = f := by
  funext j
  exact if_neg (by omega)
theorem fw_sh_step (f : Nat → Nat) {l n : Nat} (h : l ≤ n) : upd (fw_A (fw_sh f l n)) n (fw_A (fw_sh f l n) (n + 1)) = fw_A (fw_sh f l (n + 1)) := by
  rw [fw_A_at, fw_A_u]
  congr 1
  funext j
  by_cases e : j = n
  · subst e
    rw [fw_u_at]
    show (if l ≤ j + 1 ∧ j + 1 < j then f (j + 1 + 1) else f (j + 1)) = (if l ≤ j ∧ j < j + 1 then f (j + 1) else f j)
    rw [if_neg (by omega), if_pos (by omega)]
  · rw [fw_u_ne e]
    show (if l ≤ j ∧ j < n then f (j + 1) else f j) = (if l ≤ j ∧ j < n + 1 then f (j + 1) else f j)
    by_cases d : l ≤ j ∧ j < n
    · rw [if_pos d, if_pos (by omega)]
    · rw [if_neg d, if_neg (by omega)]
theorem fw_sh_lt {f : Nat → Nat} {l n c : Nat} (h : ∀ i, f i < c) : ∀ i, fw_sh f l n i < c := by
  intro i
  unfold fw_sh
  by_cases d : l ≤ i ∧ i < n
  · rw [if_pos d]; exact h _
  · rw [if_neg d]; exact h _
theorem fw_sh_le {f : Nat → Nat} {l n c : Nat} (h : ∀ i, f i ≤ c) : ∀ i, fw_sh f l n i ≤ c := by
  intro i
  unfold fw_sh
  by_cases d : l ≤ i ∧ i < n
  · rw [if_pos d]; exact h _
  · rw [if_neg d]; exact h _
section
variable {fr to pa pb : Nat → Nat} {l N : Nat}
theorem fr_unX {post : Int32 → SX → Prop} {ft g : Int32} {aP aM SC S G M : Nat → Int32} (hN : N < 12)
    (H : wpX_rebuild (fun u => match u with | (fl, ft, g, aF, aT, aA, aB, aP, aM, SC, S, G, M) => post fl (fl, ft, g, aF, aT, aA, aB, aP, aM, SC, S, G, M)) (nI N, ft, g, fw_A (fw_sh fr l N), fw_A (fw_sh to l N), fw_A (fw_sh pa l N), fw_A (fw_sh pb l N), aP, aM, SC, S, G, M)) :
    ∀ (f x : Nat), N - x < f → x ≤ N → l ≤ x → wX_unlink_26 post (nI N) ft g f (nI x) (fw_A (fw_sh fr l x)) (fw_A (fw_sh to l x)) (fw_A (fw_sh pa l x)) (fw_A (fw_sh pb l x)) aP aM SC S G M := by
  intro f
  induction f with
  | zero => intro x h; omega
  | succ f ih =>
    intro x hf hx hl
    rw [wX_unlink_26]
    dsimp only
    refine pk_le N x (fun c => ?_) (fun c => ?_)
    · have e : x = N := by omega
      subst e
      exact H
    · have h1 : vp_in (nI x) 12 := vp_in_nI (by omega) (by omega)
      have h2 : vp_in (nI (x + 1)) 12 := vp_in_nI (by omega) (by omega)
      rw [nI_1 x, nI_clamp (show x < 2 ^ 31 by omega), nI_clamp (show x + 1 < 2 ^ 31 by omega), fw_sh_step fr hl, fw_sh_step to hl, fw_sh_step pa hl, fw_sh_step pb hl]
      exact ⟨h2, h1, nm_e ⟨h2, h1, nm_e ⟨h2, h1, nm_e ⟨h2, h1, nm_e (nm_e (ih (x + 1) (by omega) (by omega) (by omega)))⟩⟩⟩⟩
theorem fr_unY {post : Int32 → SY → Prop} {ft : Int32} {aP aS aU Th : Nat → Int32} (hN : N < 12)
    (H : post (nI N) (nI N, ft, fw_A (fw_sh fr l N), fw_A (fw_sh to l N), fw_A (fw_sh pa l N), fw_A (fw_sh pb l N), aP, aS, aU, Th)) :
    ∀ (f x : Nat), N - x < f → x ≤ N → l ≤ x → wY_unlink_26 post (nI N) ft f (nI x) (fw_A (fw_sh fr l x)) (fw_A (fw_sh to l x)) (fw_A (fw_sh pa l x)) (fw_A (fw_sh pb l x)) aP aS aU Th := by
  intro f
  induction f with
  | zero => intro x h; omega
  | succ f ih =>
    intro x hf hx hl
    rw [wY_unlink_26]
    dsimp only
    refine pk_le N x (fun c => ?_) (fun c => ?_)
    · have e : x = N := by omega
      subst e
      exact H
    · have h1 : vp_in (nI x) 12 := vp_in_nI (by omega) (by omega)
      have h2 : vp_in (nI (x + 1)) 12 := vp_in_nI (by omega) (by omega)
      rw [nI_1 x, nI_clamp (show x < 2 ^ 31 by omega), nI_clamp (show x + 1 < 2 ^ 31 by omega), fw_sh_step fr hl, fw_sh_step to hl, fw_sh_step pa hl, fw_sh_step pb hl]
      exact ⟨h2, h1, nm_e ⟨h2, h1, nm_e ⟨h2, h1, nm_e ⟨h2, h1, nm_e (nm_e (ih (x + 1) (by omega) (by omega) (by omega)))⟩⟩⟩⟩
end
theorem i_vc_unlink {k : Nat} {u : SX} {v : SY} (I : i_Rel k u v) (hk : k + 5 ≤ 2560) (v1 : Int32) : wpX_unlink (fun r u' => wpY_unlink (fun r' v' => r' = r ∧ i_Rel (k + 5) u' v') v v1) u v1 := by
  refine fr_el (P := fun u v => wpX_unlink (fun r u' => wpY_unlink (fun r' v' => r' = r ∧ i_Rel (k + 5) u' v') v v1) u v1) ?_ I
  intro L T fr to pa pb pl ta tb tab g SC S G M Th hI
  have hI' := hI
  obtain ⟨⟨hL, hT, hfr, hto, hpa, hpb, hpl, hta, htb⟩, hA, hR, hM⟩ := hI'
  unfold wpX_unlink
  rcases pk_ix v1 (n := L) (by omega) with h | h | ⟨l, hl, rfl⟩
  · refine br_t h ?_
    unfold wpY_unlink
    exact br_t h ⟨rfl, fr_mk hI⟩
  · have h0 : ¬ v1 < 0 := by
      rw [Int32.le_iff_toInt_le, nI_toInt (by omega)] at h
      rw [Int32.lt_iff_toInt_lt, show (0 : Int32).toInt = 0 from by decide]
      omega
    have h1 : ¬ v1 < nI L := fun z => fr_nlt z h
    refine br_f h0 (br_f h1 ?_)
    unfold wpY_unlink
    exact br_f h0 (br_f h1 ⟨rfl, fr_mk hI⟩)
  · obtain ⟨N, rfl⟩ : ∃ N, L = N + 1 := ⟨L - 1, by omega⟩
    have h0 := fr_ok0 (n := l) (by omega)
    have h1 : nI l < nI (N + 1) := nI_lt hl (by omega)
    refine br_f h0 (br_t h1 (nm_r (nI_pred N) ⟨N - l + 1, ?_⟩))
    have hx := fr_unX (fr := fr) (to := to) (pa := pa) (pb := pb) (l := l) (N := N) (post := fun r u' => wpY_unlink (fun r' v' => r' = r ∧ i_Rel (k + 5) u' v') (nI (N + 1), nI T, fw_A fr, fw_A to, fw_A pa, fw_A pb, fw_A pl, fw_A ta, fw_A tb, Th) (nI l))
      (ft := nI T) (g := g) (aP := fw_A pl) (aM := fw_A (fw_tm ta tb)) (SC := SC) (S := S) (G := G) (M := M) (by omega) ?_ (N - l + 1) l (by omega) (by omega) (Nat.le_refl l)
    · rw [fw_sh_0, fw_sh_0, fw_sh_0, fw_sh_0] at hx
      exact hx
    · have ok : fw_Ok N T (fw_sh fr l N) (fw_sh to l N) (fw_sh pa l N) (fw_sh pb l N) pl ta tb :=
        ⟨by omega, hT, fw_sh_lt hfr, fw_sh_lt hto, fw_sh_le hpa, fw_sh_le hpb, hpl, hta, htb⟩
      refine fx_rebuild (by omega) hT ok.2.2.1 ok.2.2.2.1 ok.2.2.2.2.1 ok.2.2.2.2.2.1 hpl hta htb (fun tab' g' SC' S' G' M' h1' h2' h3' => ?_)
      unfold wpY_unlink
      refine br_f h0 (br_t h1 (nm_r (nI_pred N) ⟨N - l + 1, ?_⟩))
      have hy := fr_unY (fr := fr) (to := to) (pa := pa) (pb := pb) (l := l) (N := N) (post := fun r' v' => r' = nI N ∧ i_Rel (k + 5) (nI N, nI T, g', fw_A (fw_sh fr l N), fw_A (fw_sh to l N), fw_A (fw_sh pa l N), fw_A (fw_sh pb l N), fw_A pl, fw_A (fw_tm ta tb), SC', S', G', M') v')
        (ft := nI T) (aP := fw_A pl) (aS := fw_A ta) (aU := fw_A tb) (Th := Th) (by omega) ⟨rfl, fr_mk ⟨ok, h1', h2', h3'⟩⟩ (N - l + 1) l (by omega) (by omega) (Nat.le_refl l)
      rw [fw_sh_0, fw_sh_0, fw_sh_0, fw_sh_0] at hy
      exact hy
/-! tokens and marks -/
theorem fr_mk_put {tab : Nat → List (Nat × Nat)} {pl ta tb : Nat → Nat} {T p a b idx : Nat} :
    fw_mk tab (fw_u pl T p) (fw_u ta T a) (fw_u tb T b) (T + 1) idx = fw_mk tab pl ta tb T idx + fw_H tab p a b idx 7 := by
  show fw_s (fun t => fw_H tab (fw_u pl T p t) (fw_u ta T a t) (fw_u tb T b t) idx 7) T + fw_H tab (fw_u pl T p T) (fw_u ta T a T) (fw_u tb T b T) idx 7 = _
  rw [fw_u_at, fw_u_at, fw_u_at]
  congr 1
  refine fw_s_congr T (fun t ht => ?_)
  show fw_H tab (fw_u pl T p t) (fw_u ta T a t) (fw_u tb T b t) idx 7 = _
  rw [fw_u_ne (by omega), fw_u_ne (by omega), fw_u_ne (by omega)]
theorem fr_mk_set {tab : Nat → List (Nat × Nat)} {pl ta tb : Nat → Nat} {T k p a b idx : Nat} (hk : k < T) :
    fw_mk tab (fw_u pl k p) (fw_u ta k a) (fw_u tb k b) T idx + fw_H tab (pl k) (ta k) (tb k) idx 7 = fw_mk tab pl ta tb T idx + fw_H tab p a b idx 7 := by
  refine fw_s_upd (f := fun t => fw_H tab (pl t) (ta t) (tb t) idx 7) (g := fun t => fw_H tab (fw_u pl k p t) (fw_u ta k a t) (fw_u tb k b t) idx 7) T hk ?_ (fun i hi => ?_)
  · show fw_H tab (fw_u pl k p k) (fw_u ta k a k) (fw_u tb k b k) idx 7 = _
    rw [fw_u_at, fw_u_at, fw_u_at]
  · show fw_H tab (fw_u pl k p i) (fw_u ta k a i) (fw_u tb k b i) idx 7 = _
    rw [fw_u_ne hi, fw_u_ne hi, fw_u_ne hi]
theorem fr_mk_take {tab : Nat → List (Nat × Nat)} {pl ta tb : Nat → Nat} {N k idx : Nat} (hk : k < N + 1) :
    fw_mk tab (fw_u pl k (pl N)) (fw_u ta k (ta N)) (fw_u tb k (tb N)) N idx + fw_H tab (pl k) (ta k) (tb k) idx 7 = fw_mk tab pl ta tb (N + 1) idx := by
  have e0 : fw_mk tab pl ta tb (N + 1) idx = fw_mk tab pl ta tb N idx + fw_H tab (pl N) (ta N) (tb N) idx 7 := rfl
  by_cases e : k = N
  · subst e
    rw [e0]
    congr 1
    refine fw_s_congr k (fun t ht => ?_)
    show fw_H tab (fw_u pl k (pl k) t) (fw_u ta k (ta k) t) (fw_u tb k (tb k) t) idx 7 = _
    rw [fw_u_ne (by omega), fw_u_ne (by omega), fw_u_ne (by omega)]
  · rw [fr_mk_set (by omega), e0]
theorem fr_plus {x y : Int32} {c h c' : Nat} (hx : y = x + 1 * nI h) (hc : x = nI c) (e : c' = c + h) : y = nI c' := by
  rw [hx, hc, Int32.one_mul, nI_add, e]
theorem fr_minus {x y : Int32} {c h c' : Nat} (hx : y = x + (-1) * nI h) (hc : x = nI c) (e : c' + h = c) : y = nI c' := by
  rw [hx, hc, ← e, ← nI_add, Int32.neg_mul, Int32.one_mul, ← Int32.sub_eq_add_neg, Int32.add_sub_cancel]
theorem fr_both {x y z : Int32} {c h h' c' : Nat} (hx : y = x + (-1) * nI h) (hz : z = y + 1 * nI h') (hc : x = nI c) (e : c' + h = c + h') : z = nI c' := by
  have e1 : nI c' + nI h = nI c + nI h' := by rw [nI_add, nI_add, e]
  rw [hz, hx, hc, Int32.one_mul, Int32.neg_mul, Int32.one_mul, Int32.add_assoc, Int32.add_comm (-nI h), ← Int32.add_assoc, ← e1, ← Int32.sub_eq_add_neg, Int32.add_sub_cancel]
theorem fr_c20 {T : Nat} (h : T ≤ 20) (c : ¬ T < 20) : nI T = (20 : Int32) := by
  have e : T = 20 := by omega
  subst e
  rfl
theorem i_vc_put {k : Nat} {u : SX} {v : SY} (I : i_Rel k u v) (hk : k + 5 ≤ 2560) (v1 : Int32) (v2 : Int32) (v3 : Int32) : wpX_put (fun r u' => wpY_put (fun r' v' => r' = r ∧ i_Rel (k + 5) u' v') v v1 v2 v3) u v1 v2 v3 := by
  refine fr_el (P := fun u v => wpX_put (fun r u' => wpY_put (fun r' v' => r' = r ∧ i_Rel (k + 5) u' v') v v1 v2 v3) u v1 v2 v3) ?_ I
  intro L T fr to pa pb pl ta tb tab g SC S G M Th hI
  have hI' := hI
  obtain ⟨⟨hL, hT, hfr, hto, hpa, hpb, hpl, hta, htb⟩, hA, hR, hM⟩ := hI'
  unfold wpX_put
  rcases fr_place v1 with ⟨p, hp, rfl⟩ | ⟨bx, hy, _⟩
  rotate_left
  · refine bx _ (br_t rfl ?_)
    unfold wpY_put
    exact hy _ (br_f (by decide) ⟨rfl, fr_mk hI⟩)
  refine fr_pX hp (br_f (by decide) ?_)
  rcases fr_time v2 v3 with ⟨a, b, ha, hb, rfl, rfl⟩ | ⟨bx, hy, _⟩
  rotate_left
  · refine bx _ (br_t rfl ?_)
    unfold wpY_put
    exact fr_pY hp (br_t rfl (hy _ (br_f (by decide) ⟨rfl, fr_mk hI⟩)))
  refine fr_tX ha hb (br_f (by decide) ?_)
  by_cases c : T < 20
  · have hin : vp_in (nI T) 20 := vp_in_nI c (by omega)
    refine br_t (nI_lt (b := 20) c (by omega)) ?_
    rw [nI_clamp (show T < 2 ^ 31 by omega), fx_16, fw_A_u, fw_A_u, fw_tm_u]
    refine ⟨hin, nm_e ⟨hin, nm_e (nm_r (nI_1 T) ?_)⟩⟩
    have ok : fw_Ok L (T + 1) fr to pa pb (fw_u pl T p) (fw_u ta T a) (fw_u tb T b) :=
      ⟨hL, by omega, hfr, hto, hpa, hpb, fw_u_lt hpl hp, fw_u_le hta ha, fw_u_le htb hb⟩
    refine fx_count (tab := tab) hp ha hb hR (fw_AR_len (by omega) hA) (fw_AR_small (by omega) hA) (fun M' hM' => ?_)
    unfold wpY_put
    refine fr_pY hp (br_t rfl (fr_tY ha hb (br_t rfl (br_f ?_ ?_))))
    · rw [show (20 : Int32) = nI 20 from rfl, nI_eq (by omega) (by omega)]; omega
    · rw [nI_clamp (show T < 2 ^ 31 by omega), fw_A_u, fw_A_u, fw_A_u]
      exact ⟨hin, nm_e ⟨hin, nm_e ⟨hin, nm_e (nm_r (nI_1 T) ⟨rfl, fr_mk ⟨ok, hA, hR, fun idx hi => fr_plus (hM' idx) (hM idx hi) fr_mk_put⟩⟩)⟩⟩⟩
  · refine br_f (nI_nlt (b := 20) (by omega) (by omega)) ?_
    unfold wpY_put
    exact fr_pY hp (br_t rfl (fr_tY ha hb (br_t rfl (br_t (fr_c20 hT c) ⟨rfl, fr_mk hI⟩))))
end
section
/-! part 14: take, pass -/
theorem fr_eqs {pl ta tb : Nat → Nat} {t p a b : Nat} (hpl : ∀ t, pl t < 7) (hta : ∀ t, ta t ≤ 15) (htb : ∀ t, tb t ≤ 15) (hp : p < 7) (ha : a ≤ 15) (hb : b ≤ 15) :
    (nI (pl t) = nI p ∧ nI (ta t) = nI a ∧ nI (tb t) = nI b) ↔ (pl t = p ∧ ta t = a ∧ tb t = b) := by
  have g1 := hpl t
  have g2 := hta t
  have g3 := htb t
  rw [nI_eq (by omega) (by omega), nI_eq (by omega) (by omega), nI_eq (by omega) (by omega)]
theorem fr_m1 : ¬ (0 : Int32) ≤ -1 := by decide
theorem fr_ge0 {k : Nat} (h : k < 2 ^ 31) : (0 : Int32) ≤ nI k := nI_pos' h
theorem i_vc_take {k : Nat} {u : SX} {v : SY} (I : i_Rel k u v) (hk : k + 5 ≤ 2560) (v1 : Int32) (v2 : Int32) (v3 : Int32) : wpX_take (fun r u' => wpY_take (fun r' v' => r' = r ∧ i_Rel (k + 5) u' v') v v1 v2 v3) u v1 v2 v3 := by
  refine fr_el (P := fun u v => wpX_take (fun r u' => wpY_take (fun r' v' => r' = r ∧ i_Rel (k + 5) u' v') v v1 v2 v3) u v1 v2 v3) ?_ I
  intro L T fr to pa pb pl ta tb tab g SC S G M Th hI
  have hI' := hI
  obtain ⟨⟨hL, hT, hfr, hto, hpa, hpb, hpl, hta, htb⟩, hA, hR, hM⟩ := hI'
  have hno : (∀ t, t < T → ¬ (nI (pl t) = v1 ∧ nI (ta t) = v2 ∧ nI (tb t) = v3)) → wpY_take (fun r' v' => r' = -1 ∧ i_Rel (k + 5) (nI L, nI T, g, fw_A fr, fw_A to, fw_A pa, fw_A pb, fw_A pl, fw_A (fw_tm ta tb), SC, S, G, M) v')
      (nI L, nI T, fw_A fr, fw_A to, fw_A pa, fw_A pb, fw_A pl, fw_A ta, fw_A tb, Th) v1 v2 v3 := by
    intro hn
    unfold wpY_take
    exact fy_find_none hT hn (br_f fr_m1 ⟨rfl, fr_mk hI⟩)
  unfold wpX_take
  rcases fr_place v1 with ⟨p, hp, rfl⟩ | ⟨bx, _, hne⟩
  rotate_left
  · refine bx _ (br_t rfl ?_)
    unfold wX_take_29 wX_take_30
    exact br_f fr_m1 (hno (fun t _ z => hne _ (hpl t) z.1))
  refine fr_pX hp (br_f (by decide) ?_)
  rcases fr_time v2 v3 with ⟨a, b, ha, hb, rfl, rfl⟩ | ⟨bx, _, hne⟩
  rotate_left
  · refine bx _ (br_t rfl ?_)
    unfold wX_take_29 wX_take_30
    exact br_f fr_m1 (hno (fun t _ z => hne _ _ (hta t) (htb t) z.2))
  refine fr_tX ha hb (br_f (by decide) ?_)
  rw [fx_16]
  rcases fw_first (fun t => pl t = p ∧ ta t = a ∧ tb t = b) T with ⟨j, hj, hP, hn⟩ | hn
  · refine fx_tok_some hT hpl hta htb hp ha hb hj hP hn ?_
    obtain ⟨N, rfl⟩ : ∃ N, T = N + 1 := ⟨T - 1, by omega⟩
    have hiN : vp_in (nI N) 20 := vp_in_nI (by omega) (by omega)
    have hij : vp_in (nI j) 20 := vp_in_nI (by omega) (by omega)
    have ok : fw_Ok L N fr to pa pb (fw_u pl j (pl N)) (fw_u ta j (ta N)) (fw_u tb j (tb N)) :=
      ⟨hL, by omega, hfr, hto, hpa, hpb, fw_u_lt hpl (hpl N), fw_u_le hta (hta N), fw_u_le htb (htb N)⟩
    unfold wX_take_30
    refine br_t (fr_ge0 (by omega)) (nm_r (nI_pred N) ?_)
    rw [nI_clamp (show N < 2 ^ 31 by omega), nI_clamp (show j < 2 ^ 31 by omega), fw_A_at pl, fw_A_at (fw_tm ta tb), fw_A_u, fw_A_u, show fw_tm ta tb N = 16 * ta N + tb N from rfl, fw_tm_u, fx_16]
    refine ⟨hiN, hij, nm_e ⟨hiN, hij, nm_e ?_⟩⟩
    refine fx_count (tab := tab) hp ha hb hR (fw_AR_len (by omega) hA) (fw_AR_small (by omega) hA) (fun M' hM' => ?_)
    unfold wpY_take
    refine fy_find_some hT hj ((fr_eqs hpl hta htb hp ha hb).mpr hP) (fun t ht z => hn t ht ((fr_eqs hpl hta htb hp ha hb).mp z)) ?_
    refine br_t (fr_ge0 (by omega)) (nm_r (nI_pred N) ?_)
    rw [nI_clamp (show N < 2 ^ 31 by omega), nI_clamp (show j < 2 ^ 31 by omega), fw_A_at pl, fw_A_at ta, fw_A_at tb, fw_A_u, fw_A_u, fw_A_u]
    refine ⟨hiN, hij, nm_e ⟨hiN, hij, nm_e ⟨hiN, hij, nm_e ⟨rfl, fr_mk ⟨ok, hA, hR, fun idx hi => fr_minus (hM' idx) (hM idx hi) ?_⟩⟩⟩⟩⟩
    rw [← hP.1, ← hP.2.1, ← hP.2.2]
    exact fr_mk_take hj
  · refine fx_tok_none hT hpl hta htb hp ha hb hn ?_
    unfold wX_take_30
    exact br_f fr_m1 (hno (fun t ht z => hn t ht ((fr_eqs hpl hta htb hp ha hb).mp z)))
theorem i_vc_pass {k : Nat} {u : SX} {v : SY} (I : i_Rel k u v) (hk : k + 5 ≤ 2560) (v1 : Int32) (v2 : Int32) (v3 : Int32) : wpX_pass (fun r u' => wpY_pass (fun r' v' => r' = r ∧ i_Rel (k + 5) u' v') v v1 v2 v3) u v1 v2 v3 := by
  refine fr_el (P := fun u v => wpX_pass (fun r u' => wpY_pass (fun r' v' => r' = r ∧ i_Rel (k + 5) u' v') v v1 v2 v3) u v1 v2 v3) ?_ I
  intro L T fr to pa pb pl ta tb tab g SC S G M Th hI
  have hI' := hI
  obtain ⟨⟨hL, hT, hfr, hto, hpa, hpb, hpl, hta, htb⟩, hA, hR, hM⟩ := hI'
  unfold wpX_pass
  rcases pk_ix v1 (n := L) (by omega) with h | h | ⟨l, hl, rfl⟩
  · refine br_t h ?_
    unfold wpY_pass
    refine br_t h ?_
    unfold wY_pass_12 wY_pass_28
    exact br_f fr_m1 ⟨rfl, fr_mk hI⟩
  · have h0 : ¬ v1 < 0 := by
      rw [Int32.le_iff_toInt_le, nI_toInt (by omega)] at h
      rw [Int32.lt_iff_toInt_lt, show (0 : Int32).toInt = 0 from by decide]
      omega
    have h1 : ¬ v1 < nI L := fun z => fr_nlt z h
    refine br_f h0 (br_t h ?_)
    unfold wpY_pass
    refine br_f h0 (br_f h1 ?_)
    unfold wY_pass_12 wY_pass_28
    exact br_f fr_m1 ⟨rfl, fr_mk hI⟩
  have h0 := fr_ok0 (n := l) (by omega)
  have hil : vp_in (nI l) 12 := vp_in_nI (by omega) (by omega)
  have hf := hfr l
  have ht := hto l
  have hp3 := hpa l
  have hq3 := hpb l
  have hno : (∀ t, t < T → ¬ (nI (pl t) = nI (fr l) ∧ nI (ta t) = v2 ∧ nI (tb t) = v3)) → wpY_pass (fun r' v' => r' = -1 ∧ i_Rel (k + 5) (nI L, nI T, g, fw_A fr, fw_A to, fw_A pa, fw_A pb, fw_A pl, fw_A (fw_tm ta tb), SC, S, G, M) v')
      (nI L, nI T, fw_A fr, fw_A to, fw_A pa, fw_A pb, fw_A pl, fw_A ta, fw_A tb, Th) (nI l) v2 v3 := by
    intro hn
    unfold wpY_pass
    refine br_f h0 (br_t (nI_lt hl (by omega)) ⟨hil, ?_⟩)
    rw [nI_clamp (show l < 2 ^ 31 by omega), fw_A_at fr]
    refine fy_find_none hT hn ?_
    unfold wY_pass_28
    exact br_f fr_m1 ⟨rfl, fr_mk hI⟩
  refine br_f h0 (br_f (nI_ge hl (by omega)) ?_)
  rcases fr_time v2 v3 with ⟨a, b, ha, hb, rfl, rfl⟩ | ⟨bx, _, hne⟩
  rotate_left
  · exact bx _ (br_t rfl (hno (fun t _ z => hne _ _ (hta t) (htb t) z.2)))
  refine fr_tX ha hb (br_f (by decide) ⟨hil, ?_⟩)
  rw [fx_16, nI_clamp (show l < 2 ^ 31 by omega), fw_A_at fr]
  rcases fw_first (fun t => pl t = fr l ∧ ta t = a ∧ tb t = b) T with ⟨j, hj, hP, hn⟩ | hn
  rotate_left
  · refine fx_tok_none hT hpl hta htb hf ha hb hn (br_f fr_m1 ?_)
    exact hno (fun t ht z => hn t ht ((fr_eqs hpl hta htb hf ha hb).mp z))
  have hij : vp_in (nI j) 20 := vp_in_nI (by omega) (by omega)
  have hY : ∀ Q : Int32 → SY → Prop,
      (¬ (a + pa l ≤ 15 ∧ b + pb l ≤ 15) → Q (-2) (nI L, nI T, fw_A fr, fw_A to, fw_A pa, fw_A pb, fw_A pl, fw_A ta, fw_A tb, Th)) →
      (a + pa l ≤ 15 ∧ b + pb l ≤ 15 → Q 0 (nI L, nI T, fw_A fr, fw_A to, fw_A pa, fw_A pb, fw_A (fw_u pl j (to l)), fw_A (fw_u ta j (a + pa l)), fw_A (fw_u tb j (b + pb l)), Th)) →
      wpY_pass Q (nI L, nI T, fw_A fr, fw_A to, fw_A pa, fw_A pb, fw_A pl, fw_A ta, fw_A tb, Th) (nI l) (nI a) (nI b) := by
    intro Q q2 q0
    unfold wpY_pass
    refine br_f h0 (br_t (nI_lt hl (by omega)) ⟨hil, ?_⟩)
    rw [nI_clamp (show l < 2 ^ 31 by omega), fw_A_at fr]
    refine fy_find_some hT hj ((fr_eqs hpl hta htb hf ha hb).mpr hP) (fun t ht z => hn t ht ((fr_eqs hpl hta htb hf ha hb).mp z)) ?_
    unfold wY_pass_28
    refine br_t (fr_ge0 (by omega)) ⟨hil, hil, ?_⟩
    rw [nI_clamp (show l < 2 ^ 31 by omega), nI_clamp (show j < 2 ^ 31 by omega), fw_A_at pa, fw_A_at pb, fw_A_at to, nI_add, nI_add, fw_A_u, fw_A_u, fw_A_u]
    by_cases c : a + pa l ≤ 15 ∧ b + pb l ≤ 15
    · exact fr_tY c.1 c.2 (br_t rfl ⟨hil, hij, nm_e ⟨hil, hij, nm_e ⟨hil, hij, nm_e (q0 c)⟩⟩⟩)
    · exact fr_tYb (by omega) (by omega) c (br_f (by decide) (q2 c))
  refine fx_tok_some hT hpl hta htb hf ha hb hj hP hn (br_t (fr_ge0 (by omega)) ⟨hil, ?_⟩)
  rw [fw_A_at pa, fw_A_at pb, nI_add, nI_add]
  refine pk_lt 15 (a + pa l) (fun c => ?_) (fun c1 => ⟨hil, pk_le (b + pb l) 15 (fun c2 => ?_) (fun c2 => ?_)⟩)
  · exact hY _ (fun _ => ⟨rfl, fr_mk hI⟩) (fun z => by omega)
  · refine ⟨hij, hij, ?_⟩
    rw [nI_clamp (show j < 2 ^ 31 by omega), fw_A_at pl, fw_A_at (fw_tm ta tb), show fw_tm ta tb j = 16 * ta j + tb j from rfl]
    refine fx_count (tab := tab) (hpl j) (hta j) (htb j) hR (fw_AR_len (by omega) hA) (fw_AR_small (by omega) hA) (fun M' hM' => ?_)
    dsimp only
    rw [fw_A_at to, fw_A_at pa, fw_A_at pb, fw_A_at (fw_tm ta tb), fx_16, nI_add,
      show fw_tm ta tb j + (16 * pa l + pb l) = 16 * (a + pa l) + (b + pb l) from by show 16 * ta j + tb j + (16 * pa l + pb l) = _; omega, fw_A_u, fw_A_u, fw_tm_u]
    refine ⟨hil, hij, nm_e ⟨hij, hil, hil, hij, nm_e ⟨hij, hij, ?_⟩⟩⟩
    rw [fw_A_at (fw_u pl j (to l)), fw_u_at, fw_A_at (fw_tm _ _), show fw_tm (fw_u ta j (a + pa l)) (fw_u tb j (b + pb l)) j = 16 * (a + pa l) + (b + pb l) from by
      show 16 * fw_u ta j (a + pa l) j + fw_u tb j (b + pb l) j = _
      rw [fw_u_at, fw_u_at]]
    refine fx_count (tab := tab) ht c1 c2 hR (fw_AR_len (by omega) hA) (fw_AR_small (by omega) hA) (fun M'' hM'' => ?_)
    have ok : fw_Ok L T fr to pa pb (fw_u pl j (to l)) (fw_u ta j (a + pa l)) (fw_u tb j (b + pb l)) :=
      ⟨hL, hT, hfr, hto, hpa, hpb, fw_u_lt hpl ht, fw_u_le hta c1, fw_u_le htb c2⟩
    exact hY _ (fun z => absurd ⟨c1, c2⟩ z) (fun _ => ⟨rfl, fr_mk ⟨ok, hA, hR, fun idx hi => fr_both (hM' idx) (hM'' idx) (hM idx hi) (fr_mk_set hj)⟩⟩)
  · exact hY _ (fun _ => ⟨rfl, fr_mk hI⟩) (fun z => by omega)
end
section
/-! part 15: the scans of front, frontAt, shortest, ready -/
section
variable {fl ft : Int32} {bF bT bA bB bP bS bU Th : Nat → Int32} {m : Nat} {U : Nat → Nat → Prop}
theorem fy_frow {post : Int32 → SY → Prop} (hm : m < 7) (hU : ∀ a b, a < 19 → b < 19 → (U a b ↔ ∃ x y, x ≤ a ∧ y ≤ b ∧ Th (361 * m + 19 * x + y) ≠ 0))
    (hup : ∀ a b a' b', U a b → a ≤ a' → b ≤ b' → U a' b') {a β r c : Nat} (ha : a < 16) (hB : fw_B U a β) (hB' : fw_B U (a + 1) r) (hr : r ≤ β)
    (K : ∀ n, 256 - 16 * (a + 1) < n → wY_front_17 post (nI m) fl ft bF bT bA bB bP bS bU Th n (nI (c + fw_b (r < β))) (nI (16 * (a + 1)))) :
    ∀ (d b : Nat), b + d = 16 → ∀ n, 256 - (16 * a + b) < n → wY_front_17 post (nI m) fl ft bF bT bA bB bP bS bU Th n (nI (c + fw_b (r < β ∧ r < b))) (nI (16 * a + b)) := by
  intro d
  induction d with
  | zero =>
    intro b hb n hn
    have e : b = 16 := by omega
    subst e
    have h1 := hB.1
    rw [fw_b_iff (P := r < β ∧ r < 16) (Q := r < β) ⟨fun z => z.1, fun z => ⟨z, by omega⟩⟩]
    exact K n (by omega)
  | succ d ih =>
    intro b hb n hn
    obtain ⟨n, rfl⟩ : ∃ n', n = n' + 1 := ⟨n - 1, by omega⟩
    have hF := fw_F_iff hup hB hB' (b := b) (by omega)
    rw [wY_front_17]
    dsimp only
    rw [fy_r16 (by omega), fy_d16 (by omega), show (16 * a + b) / 16 = a from by omega, show (16 * a + b) % 16 = b from by omega]
    refine pk_le 256 (16 * a + b) (fun z => by omega) (fun _ => ⟨by decide, by decide, ?_⟩)
    refine fy_inFront hm (by omega) (by omega) hU (fun z => ?_) (fun z => ?_)
    · obtain ⟨e1, e2⟩ := hF.mp z
      refine br_f (by decide) (nm_r (e' := nI (c + fw_b (r < β ∧ r < b + 1))) ?_ (nm_r (nI_1 _) (ih (b + 1) (by omega) n (by omega))))
      rw [fw_b0 (fun z => by omega), fw_b1 ⟨e2, by omega⟩, nI_1]
    · refine br_t rfl (nm_r (nI_1 _) ?_)
      rw [fw_b_iff (P := r < β ∧ r < b) (Q := r < β ∧ r < b + 1) ⟨fun w => ⟨w.1, by omega⟩, fun w => ⟨w.1, by
        have : ¬ (b = r ∧ r < β) := fun v => z (hF.mpr v)
        omega⟩⟩]
      exact ih (b + 1) (by omega) n (by omega)
theorem fr_front {gl gt gg : Int32} {aF aT aA aB aP aM SC S G M : Nat → Int32} {mk : Nat → Nat → Prop} (hm : m < 7)
    (hup : ∀ a b a' b', U a b → a ≤ a' → b ≤ b' → U a' b') (hUm : ∀ a b, a < 16 → b < 16 → (U a b ↔ ∃ x y, x ≤ a ∧ y ≤ b ∧ mk x y))
    (hM : ∀ x y, x < 16 → y < 16 → (M (256 * m + 16 * x + y) ≤ 0 ↔ ¬ mk x y)) :
    ∀ (d a c β : Nat), a + d = 16 → fw_B U a β → ∃ r : Nat,
      (∀ (post : Int32 → Prop) (n : Nat), d < n → post (nI r) → wX_front_17 post (nI m) gl gt gg aF aT aA aB aP aM SC S G M n (nI c) (nI β) (nI a)) ∧
      (∀ (Th : Nat → Int32), (∀ a b, a < 19 → b < 19 → (U a b ↔ ∃ x y, x ≤ a ∧ y ≤ b ∧ Th (361 * m + 19 * x + y) ≠ 0)) → ∀ (post : Int32 → SY → Prop) (n : Nat), 256 - 16 * a < n → post (nI r) (fl, ft, bF, bT, bA, bB, bP, bS, bU, Th) → wY_front_17 post (nI m) fl ft bF bT bA bB bP bS bU Th n (nI c) (nI (16 * a))) := by
  intro d
  induction d with
  | zero =>
    intro a c β ha hB
    have e : a = 16 := by omega
    subst e
    refine ⟨c, fun post n hn hp => ?_, fun Th hU post n hn hp => ?_⟩
    · obtain ⟨n, rfl⟩ : ∃ n', n = n' + 1 := ⟨n - 1, by omega⟩
      rw [wX_front_17]
      exact pk_le 16 16 (fun _ => hp) (fun z => by omega)
    · obtain ⟨n, rfl⟩ : ∃ n', n = n' + 1 := ⟨n - 1, by omega⟩
      rw [wY_front_17]
      exact pk_le 256 256 (fun _ => hp) (fun z => by omega)
  | succ d ih =>
    intro a c β ha hB
    obtain ⟨r0, h1, h2, h3⟩ := fw_fm (mk a) β
    have hB' := fw_B_next hUm (by omega) hB h1 h2 h3
    obtain ⟨r, hX, hY⟩ := ih (a + 1) (c + fw_b (r0 < β)) r0 (by omega) hB'
    refine ⟨r, fun post n hn hp => ?_, fun Th hU post n hn hp => ?_⟩
    · obtain ⟨n, rfl⟩ : ∃ n', n = n' + 1 := ⟨n - 1, by omega⟩
      have hb16 := hB.1
      rw [wX_front_17]
      refine pk_le 16 a (fun z => by omega) (fun _ => ?_)
      refine fx_fm hm hM (by omega) hb16 h1 h2 h3 ?_
      have hX' := hX post n (by omega) hp
      refine pk_le β r0 (fun z => nm_r (Int32.add_zero _) (nm_r (nI_1 a) ?_)) (fun z => nm_r (nI_1 c) (nm_r (nI_1 a) ?_))
      · rw [fw_b0 (by omega)] at hX'; exact hX'
      · rw [fw_b1 z] at hX'; exact hX'
    · have := fy_frow (post := post) (c := c) hm hU hup (by omega) hB hB' h1 (fun n' hn' => hY Th hU post n' hn' hp) 16 0 (by omega) n (by omega)
      rw [fw_b0 (fun z => absurd z.2 (Nat.not_lt_zero _))] at this
      exact this
theorem fy_arow {post : Int32 → SY → Prop} (hm : m < 7) (hU : ∀ a b, a < 19 → b < 19 → (U a b ↔ ∃ x y, x ≤ a ∧ y ≤ b ∧ Th (361 * m + 19 * x + y) ≠ 0))
    (hup : ∀ a b a' b', U a b → a ≤ a' → b ≤ b' → U a' b') {a β r c q : Nat} (ha : a < 16) (hc : c ≤ 16) (hq : q < 2 ^ 31) (hB : fw_B U a β) (hB' : fw_B U (a + 1) r) (hr : r ≤ β)
    (Kh : r < β → c = q → post (nI (16 * a + r)) (fl, ft, bF, bT, bA, bB, bP, bS, bU, Th))
    (K : ¬ (r < β ∧ c = q) → ∀ n, 256 - 16 * (a + 1) < n → wY_frontAt_18 post (nI m) (nI q) fl ft bF bT bA bB bP bS bU Th n (nI (c + fw_b (r < β))) (nI (16 * (a + 1)))) :
    ∀ (d b : Nat), b + d = 16 → (r < β ∧ c = q → b ≤ r) → ∀ n, 256 - (16 * a + b) < n → wY_frontAt_18 post (nI m) (nI q) fl ft bF bT bA bB bP bS bU Th n (nI (c + fw_b (r < β ∧ r < b))) (nI (16 * a + b)) := by
  intro d
  induction d with
  | zero =>
    intro b hb hbr n hn
    have e : b = 16 := by omega
    subst e
    have h1 := hB.1
    rw [fw_b_iff (P := r < β ∧ r < 16) (Q := r < β) ⟨fun z => z.1, fun z => ⟨z, by omega⟩⟩]
    exact K (fun z => by have := hbr z; omega) n (by omega)
  | succ d ih =>
    intro b hb hbr n hn
    obtain ⟨n, rfl⟩ : ∃ n', n = n' + 1 := ⟨n - 1, by omega⟩
    have hF := fw_F_iff hup hB hB' (b := b) (by omega)
    rw [wY_frontAt_18]
    dsimp only
    rw [fy_r16 (by omega), fy_d16 (by omega), show (16 * a + b) / 16 = a from by omega, show (16 * a + b) % 16 = b from by omega]
    refine pk_le 256 (16 * a + b) (fun z => by omega) (fun _ => ⟨by decide, by decide, ?_⟩)
    refine fy_inFront hm (by omega) (by omega) hU (fun z => ?_) (fun z => ?_)
    · obtain ⟨e1, e2⟩ := hF.mp z
      subst e1
      have e3 : fw_b (b < β ∧ b < b) = 0 := fw_b0 (fun w => Nat.lt_irrefl b w.2)
      rw [e3, Nat.add_zero]
      refine br_f (by decide) (pk_eq c q (fun w => Kh e2 w) (fun w => nm_r (e' := nI (c + fw_b (b < β ∧ b < b + 1))) ?_ (nm_r (nI_1 _) (ih (b + 1) (by omega) (fun v => absurd v.2 w) n (by omega)))))
      rw [fw_b1 ⟨e2, by omega⟩, nI_1]
    · have z' : ¬ (b = r ∧ r < β) := fun v => z (hF.mpr v)
      refine br_t rfl (nm_r (nI_1 _) ?_)
      rw [fw_b_iff (P := r < β ∧ r < b) (Q := r < β ∧ r < b + 1) ⟨fun w => ⟨w.1, by omega⟩, fun w => ⟨w.1, by omega⟩⟩]
      exact ih (b + 1) (by omega) (fun v => by have := hbr v; omega) n (by omega)
theorem fr_frontAt {gl gt gg : Int32} {aF aT aA aB aP aM SC S G M : Nat → Int32} {mk : Nat → Nat → Prop} {q : Nat} (hq : q < 2 ^ 31) (hm : m < 7)
    (hup : ∀ a b a' b', U a b → a ≤ a' → b ≤ b' → U a' b') (hUm : ∀ a b, a < 16 → b < 16 → (U a b ↔ ∃ x y, x ≤ a ∧ y ≤ b ∧ mk x y))
    (hM : ∀ x y, x < 16 → y < 16 → (M (256 * m + 16 * x + y) ≤ 0 ↔ ¬ mk x y)) :
    ∀ (d a c β : Nat), a + d = 16 → c ≤ a → c ≤ q → fw_B U a β → ∃ r : Int32,
      (∀ (post : Int32 → Prop) (n : Nat), d < n → post r → wX_frontAt_22 post (nI m) gl gt gg aF aT aA aB aP aM SC S G M n (nI (q - c)) (nI β) (nI a)) ∧
      (∀ (Th : Nat → Int32), (∀ a b, a < 19 → b < 19 → (U a b ↔ ∃ x y, x ≤ a ∧ y ≤ b ∧ Th (361 * m + 19 * x + y) ≠ 0)) → ∀ (post : Int32 → SY → Prop) (n : Nat), 256 - 16 * a < n → post r (fl, ft, bF, bT, bA, bB, bP, bS, bU, Th) → wY_frontAt_18 post (nI m) (nI q) fl ft bF bT bA bB bP bS bU Th n (nI c) (nI (16 * a))) := by
  intro d
  induction d with
  | zero =>
    intro a c β ha _ _ hB
    have e : a = 16 := by omega
    subst e
    refine ⟨-1, fun post n hn hp => ?_, fun Th hU post n hn hp => ?_⟩
    · obtain ⟨n, rfl⟩ : ∃ n', n = n' + 1 := ⟨n - 1, by omega⟩
      rw [wX_frontAt_22]
      exact pk_le 16 16 (fun _ => hp) (fun z => by omega)
    · obtain ⟨n, rfl⟩ : ∃ n', n = n' + 1 := ⟨n - 1, by omega⟩
      rw [wY_frontAt_18]
      exact pk_le 256 256 (fun _ => hp) (fun z => by omega)
  | succ d ih =>
    intro a c β ha hca hcq hB
    have hb16 := hB.1
    obtain ⟨r0, h1, h2, h3⟩ := fw_fm (mk a) β
    have hB' := fw_B_next hUm (by omega) hB h1 h2 h3
    by_cases hit : r0 < β ∧ c = q
    · refine ⟨nI (16 * a + r0), fun post n hn hp => ?_, fun Th hU post n hn hp => ?_⟩
      · obtain ⟨n, rfl⟩ : ∃ n', n = n' + 1 := ⟨n - 1, by omega⟩
        rw [wX_frontAt_22]
        refine pk_le 16 a (fun z => by omega) (fun _ => ?_)
        refine fx_fm hm hM (by omega) hb16 h1 h2 h3 ?_
        refine pk_le β r0 (fun z => by omega) (fun z => pk_eq (q - c) 0 (fun _ => ?_) (fun w => by omega))
        rw [fx_16]
        exact hp
      · have := fy_arow (post := post) (c := c) (q := q) hm hU hup (by omega) (by omega) hq hB hB' h1 (fun _ _ => hp) (fun z => absurd hit z) 16 0 (by omega) (fun _ => Nat.zero_le _) n (by omega)
        rw [fw_b0 (fun z => absurd z.2 (Nat.not_lt_zero _))] at this
        exact this
    · have hle : c + fw_b (r0 < β) ≤ q := by
        by_cases z : r0 < β
        · rw [fw_b1 z]
          have : c ≠ q := fun w => hit ⟨z, w⟩
          omega
        · rw [fw_b0 z]; exact hcq
      have hb1 := fw_b_le (r0 < β)
      obtain ⟨r, hX, hY⟩ := ih (a + 1) (c + fw_b (r0 < β)) r0 (by omega) (by omega) hle hB'
      refine ⟨r, fun post n hn hp => ?_, fun Th hU post n hn hp => ?_⟩
      · obtain ⟨n, rfl⟩ : ∃ n', n = n' + 1 := ⟨n - 1, by omega⟩
        have hX' := hX post n (by omega) hp
        rw [wX_frontAt_22]
        refine pk_le 16 a (fun z => by omega) (fun _ => ?_)
        refine fx_fm hm hM (by omega) hb16 h1 h2 h3 ?_
        refine pk_le β r0 (fun z => nm_r (nI_1 a) ?_) (fun z => pk_eq (q - c) 0 (fun w => absurd ⟨z, by omega⟩ hit) (fun w => nm_r (e' := nI (q - (c + 1))) ?_ (nm_r (nI_1 a) ?_)))
        · rw [fw_b0 (by omega)] at hX'; exact hX'
        · rw [show q - c = q - (c + 1) + 1 from by omega]; exact pk_m1 _
        · rw [fw_b1 z] at hX'; exact hX'
      · have := fy_arow (post := post) (c := c) (q := q) hm hU hup (by omega) (by omega) hq hB hB' h1 (fun z w => absurd ⟨z, w⟩ hit) (fun _ n' hn' => hY Th hU post n' hn' hp) 16 0 (by omega) (fun z => Nat.zero_le _) n (by omega)
        rw [fw_b0 (fun z => absurd z.2 (Nat.not_lt_zero _))] at this
        exact this
theorem fy_aneg {post : Int32 → SY → Prop} {p1 : Int32} (hp1 : ¬ 0 ≤ p1) (hm : m < 7) (hU : ∀ a b, a < 19 → b < 19 → (U a b ↔ ∃ x y, x ≤ a ∧ y ≤ b ∧ Th (361 * m + 19 * x + y) ≠ 0))
    (hp : post (-1) (fl, ft, bF, bT, bA, bB, bP, bS, bU, Th)) :
    ∀ (n t c : Nat), 256 - t < n → t ≤ 256 → c ≤ t → wY_frontAt_18 post (nI m) p1 fl ft bF bT bA bB bP bS bU Th n (nI c) (nI t) := by
  intro n
  induction n with
  | zero => intro t c h; omega
  | succ n ih =>
    intro t c hn ht hc
    rw [wY_frontAt_18]
    dsimp only
    rw [fy_r16 (by omega), fy_d16 (by omega)]
    refine pk_le 256 t (fun _ => hp) (fun d => ⟨by decide, by decide, ?_⟩)
    refine fy_inFront hm (by omega) (by omega) hU (fun _ => ?_) (fun _ => br_t rfl (nm_r (nI_1 t) (ih (t + 1) c (by omega) (by omega) (by omega))))
    refine br_f (by decide) (br_f (fun e => hp1 ?_) (nm_r (nI_1 c) (nm_r (nI_1 t) (ih (t + 1) (c + 1) (by omega) (by omega) (by omega)))))
    rw [← e]
    exact nI_pos' (by omega)
theorem fy_sh36 {post : Int32 → SY → Prop} (hm : m < 7) (hU : ∀ a b, a < 19 → b < 19 → (U a b ↔ ∃ x y, x ≤ a ∧ y ≤ b ∧ Th (361 * m + 19 * x + y) ≠ 0))
    (hp : post (nI (fw_s (fun t => fw_b (fw_F U (t / 19) (t % 19))) 361)) (fl, ft, bF, bT, bA, bB, bP, bS, bU, Th)) :
    ∀ (n t : Nat), 361 - t < n → t ≤ 361 → wY_shortest_36 post (nI m) fl ft bF bT bA bB bP bS bU Th n (nI (fw_s (fun t => fw_b (fw_F U (t / 19) (t % 19))) t)) (nI t) := by
  intro n
  induction n with
  | zero => intro t h; omega
  | succ n ih =>
    intro t hn ht
    rw [wY_shortest_36]
    dsimp only
    rw [fy_b19 (by omega), fy_d19 (by omega)]
    refine pk_le 361 t (fun d => ?_) (fun d => ⟨by decide, by decide, ?_⟩)
    · have e : t = 361 := by omega
      subst e
      exact hp
    · have h := ih (t + 1) (by omega) (by omega)
      refine fy_inFront hm (by omega) (by omega) hU (fun z => br_f (by decide) (nm_r (nI_1 _) (nm_r (nI_1 t) ?_))) (fun z => br_t rfl (nm_r (nI_1 t) ?_))
      · change wY_shortest_36 post (nI m) fl ft bF bT bA bB bP bS bU Th n (nI (fw_s (fun t => fw_b (fw_F U (t / 19) (t % 19))) t + fw_b (fw_F U (t / 19) (t % 19)))) (nI (t + 1)) at h
        rw [fw_b1 z] at h
        exact h
      · change wY_shortest_36 post (nI m) fl ft bF bT bA bB bP bS bU Th n (nI (fw_s (fun t => fw_b (fw_F U (t / 19) (t % 19))) t + fw_b (fw_F U (t / 19) (t % 19)))) (nI (t + 1)) at h
        rw [fw_b0 z] at h
        exact h
end
/-- the other tokens, below T -/
def fw_Zo (pl ta tb : Nat → Nat) (m a b T : Nat) (m0 a0 b0 : Nat) : Prop := ∃ t, t < T ∧ ¬ fw_here pl ta tb m a b t ∧ pl t = m0 ∧ ta t = a0 ∧ tb t = b0
section
variable {L T m a b : Nat} {fr to pa pb pl ta tb : Nat → Nat}
theorem fy_ready36 {post : Int32 → SY → Prop} (hL : L ≤ 12) (hfr : ∀ i, fr i < 7) (hto : ∀ i, to i < 7) (hpa : ∀ i, pa i ≤ 3) (hpb : ∀ i, pb i ≤ 3) (hT : T ≤ 20) (hpl : ∀ t, pl t < 7) (hta : ∀ t, ta t ≤ 15) (htb : ∀ t, tb t ≤ 15)
    (hm : m < 7) (ha : a ≤ 15) (hb : b ≤ 15)
    (h0 : fw_Q L fr to pa pb (fw_Zo pl ta tb m a b T) m a b → ∀ Th, post 0 (nI L, nI T, fw_A fr, fw_A to, fw_A pa, fw_A pb, fw_A pl, fw_A ta, fw_A tb, Th))
    (h1 : ¬ fw_Q L fr to pa pb (fw_Zo pl ta tb m a b T) m a b → ∀ Th, post 1 (nI L, nI T, fw_A fr, fw_A to, fw_A pa, fw_A pb, fw_A pl, fw_A ta, fw_A tb, Th)) :
    ∀ (f t : Nat) (Th : Nat → Int32), T - t < f → t ≤ T → fw_st (fw_Zo pl ta tb m a b t) Th →
      wY_ready_36 post (nI m) (nI a) (nI b) f (nI t) (nI L) (nI T) (fw_A fr) (fw_A to) (fw_A pa) (fw_A pb) (fw_A pl) (fw_A ta) (fw_A tb) Th := by
  intro f
  induction f with
  | zero => intro t Th h; omega
  | succ f ih =>
    intro t Th hf ht hS
    have g1 := hpl t
    have g2 := hta t
    have g3 := htb t
    rw [wY_ready_36]
    dsimp only
    refine pk_le T t (fun c => ?_) (fun c => ?_)
    · have e : t = T := by omega
      subst e
      refine fy_spreadZ hL hfr hto hpa hpb hS (fun m a b h => ?_) (fun Th' h' => ?_)
      · obtain ⟨t', _, _, e1, e2, e3⟩ := h
        have := hpl t'
        have := hta t'
        have := htb t'
        omega
      · refine fy_below hm (by omega) (by omega) (fun ⟨x, y, z1, z2, z3, _⟩ => br_f (by decide) (h0 ((h' m a b hm (by omega) (by omega)).mpr ⟨x, y, z1, z2, z3⟩) Th')) (fun z => br_t rfl (h1 (fun w => z ?_) Th'))
        obtain ⟨x, y, z1, z2, z3⟩ := (h' m a b hm (by omega) (by omega)).mp w
        exact ⟨x, y, z1, z2, z3, fun v => v.1 rfl⟩
    · have hin : vp_in (nI t) 20 := vp_in_nI (by omega) (by omega)
      have hset : ¬ fw_here pl ta tb m a b t → wY_ready_78 post (wY_ready_36 post (nI m) (nI a) (nI b) f) (nI m) (nI a) (nI b) (nI t) (nI L) (nI T) (fw_A fr) (fw_A to) (fw_A pa) (fw_A pb) (fw_A pl) (fw_A ta) (fw_A tb) Th := by
        intro hh
        unfold wY_ready_78
        rw [nI_clamp (show t < 2 ^ 31 by omega), fw_A_at pl, fw_A_at ta, fw_A_at tb]
        refine ⟨hin, hin, hin, fy_set g1 (by omega) (by omega) (nm_r (nI_1 t) (ih (t + 1) _ (by omega) (by omega) (fw_st_set g1 (by omega) (by omega) hS (fun m' a' b' => ?_))))⟩
        constructor
        · intro ⟨t', w1, w2, w3, w4, w5⟩
          by_cases e : t' = t
          · subst e; exact Or.inr ⟨w3.symm, w4.symm, w5.symm⟩
          · exact Or.inl ⟨t', by omega, w2, w3, w4, w5⟩
        · intro h
          rcases h with ⟨t', w1, w2⟩ | ⟨w1, w2, w3⟩
          · exact ⟨t', by omega, w2⟩
          · exact ⟨t, by omega, hh, w1.symm, w2.symm, w3.symm⟩
      rw [nI_clamp (show t < 2 ^ 31 by omega), fw_A_at pl, fw_A_at ta, fw_A_at tb]
      refine ⟨hin, pk_eq (pl t) m (fun e1 => ⟨hin, pk_eq (ta t) a (fun e2 => ⟨hin, pk_eq (tb t) b (fun e3 => ?_) (fun e3 => hset (fun z => e3 z.2.2))⟩) (fun e2 => hset (fun z => e2 z.2.1))⟩) (fun e1 => hset (fun z => e1 z.1))⟩
      refine nm_r (nI_1 t) (ih (t + 1) Th (by omega) (by omega) (fun m' a' b' w1 w2 w3 => ?_))
      rw [hS m' a' b' w1 w2 w3]
      constructor
      · intro ⟨t', v1, v2⟩; exact ⟨t', by omega, v2⟩
      · intro ⟨t', v1, v2⟩
        by_cases e : t' = t
        · subst e; exact absurd ⟨e1, e2, e3⟩ v2.1
        · exact ⟨t', by omega, v2⟩
theorem fw_Q_rch {tab : Nat → List (Nat × Nat)} (hA : fw_AR L fr to pa pb 7 tab) (hpl : ∀ t, pl t < 7) (hm : m < 7) :
    fw_Q L fr to pa pb (fw_Zo pl ta tb m a b T) m a b ↔ ∃ t, t < T ∧ ¬ fw_here pl ta tb m a b t ∧ fw_rch tab pl ta tb m a b t := by
  have key : ∀ t, fw_rch tab pl ta tb m a b t ↔ (ta t ≤ a ∧ tb t ≤ b ∧ fw_D L fr to pa pb 7 (pl t) m (a - ta t, b - tb t)) := by
    intro t
    have hpt := hpl t
    have hr := (hA (7 * pl t + m) (by omega)).2.1 (a - ta t, b - tb t)
    rw [show (7 * pl t + m) / 7 = pl t from by omega, show (7 * pl t + m) % 7 = m from by omega] at hr
    rw [← hr]
    constructor
    · intro ⟨e, h1, h2, h3⟩
      exact ⟨by omega, by omega, e, h1, by show e.1 ≤ a - ta t; omega, by show e.2 ≤ b - tb t; omega⟩
    · intro ⟨h1, h2, e, h3, h4, h5⟩
      have h4' : e.1 ≤ a - ta t := h4
      have h5' : e.2 ≤ b - tb t := h5
      exact ⟨e, h3, by omega, by omega⟩
  constructor
  · intro ⟨m0, a0, b0, ⟨t, w1, w2, w3, w4, w5⟩, h1, h2, h3⟩
    subst w3 w4 w5
    exact ⟨t, w1, w2, (key t).mpr ⟨h1, h2, h3⟩⟩
  · intro ⟨t, w1, w2, w3⟩
    obtain ⟨h1, h2, h3⟩ := (key t).mp w3
    exact ⟨pl t, ta t, tb t, ⟨t, w1, w2, rfl, rfl, rfl⟩, h1, h2, h3⟩
end
end
section
/-! part 16: possible, ready, front, frontAt, shortest -/
theorem i_vc_possible {k : Nat} {u : SX} {v : SY} (I : i_Rel k u v) (hk : k + 5 ≤ 2560) (v1 : Int32) (v2 : Int32) (v3 : Int32) : wpX_possible (fun r => wpY_possible (fun r' v' => r' = r ∧ i_Rel (k + 5) u v') v v1 v2 v3) u v1 v2 v3 := by
  refine fr_el (P := fun u v => wpX_possible (fun r => wpY_possible (fun r' v' => r' = r ∧ i_Rel (k + 5) u v') v v1 v2 v3) u v1 v2 v3) ?_ I
  intro L T fr to pa pb pl ta tb tab g SC S G M Th hI
  have hI' := hI
  obtain ⟨⟨hL, hT, hfr, hto, hpa, hpb, hpl, hta, htb⟩, hA, hR, hM⟩ := hI'
  unfold wpX_possible
  rcases fr_place v1 with ⟨m, hm, rfl⟩ | ⟨bx, hy, _⟩
  rotate_left
  · refine bx _ (br_t rfl ?_)
    unfold wpY_possible
    exact hy _ (br_f (by decide) ⟨rfl, fr_mk hI⟩)
  refine fr_pX hm (br_f (by decide) ?_)
  rcases fr_time v2 v3 with ⟨a, b, ha, hb, rfl, rfl⟩ | ⟨bx, hy, _⟩
  rotate_left
  · refine bx _ (br_t rfl ?_)
    unfold wpY_possible
    exact fr_pY hm (br_t rfl (hy _ (br_f (by decide) ⟨rfl, fr_mk hI⟩)))
  refine fr_tX ha hb (br_f (by decide) ⟨a + 2, ?_⟩)
  have hq := fw_up_marks (ta := ta) (tb := tb) (T := T) hA (fun t _ => hpl t) (a := a) (b := b) hm
  refine fx_pos20 (mk := fw_M tab T pl ta tb m) hm (fun x y hx hy => fx_mark (fw_AR_len (by omega) hA) hpl hT hM hm hx hy) ha hb (fun z => ?_) (fun z => ?_) (a + 2) 0 (by omega) (by omega) (fun x' y' h' => absurd h' (Nat.not_lt_zero x'))
  · unfold wpY_possible
    refine fr_pY hm (br_t rfl (fr_tY ha hb (br_t rfl ?_)))
    refine fy_spreadTokens hL hfr hto hpa hpb hT hpl hta htb (fun Th' h' => ?_)
    refine fy_below hm (by omega) (by omega) (fun _ => br_f (by decide) ⟨rfl, fr_mk hI⟩) (fun w => absurd ?_ w)
    obtain ⟨x, y, w1, w2, w3⟩ := (h' m a b hm (by omega) (by omega)).mp (hq.mp z)
    exact ⟨x, y, w1, w2, w3, fun e => e.1 rfl⟩
  · unfold wpY_possible
    refine fr_pY hm (br_t rfl (fr_tY ha hb (br_t rfl ?_)))
    refine fy_spreadTokens hL hfr hto hpa hpb hT hpl hta htb (fun Th' h' => ?_)
    refine fy_below hm (by omega) (by omega) (fun ⟨x, y, w1, w2, w3, _⟩ => absurd (hq.mpr ((h' m a b hm (by omega) (by omega)).mpr ⟨x, y, w1, w2, w3⟩)) z) (fun _ => br_t rfl ⟨rfl, fr_mk hI⟩)
theorem i_vc_ready {k : Nat} {u : SX} {v : SY} (I : i_Rel k u v) (hk : k + 5 ≤ 2560) (v1 : Int32) (v2 : Int32) (v3 : Int32) : wpX_ready (fun r => wpY_ready (fun r' v' => r' = r ∧ i_Rel (k + 5) u v') v v1 v2 v3) u v1 v2 v3 := by
  refine fr_el (P := fun u v => wpX_ready (fun r => wpY_ready (fun r' v' => r' = r ∧ i_Rel (k + 5) u v') v v1 v2 v3) u v1 v2 v3) ?_ I
  intro L T fr to pa pb pl ta tb tab g SC S G M Th hI
  have hI' := hI
  obtain ⟨⟨hL, hT, hfr, hto, hpa, hpb, hpl, hta, htb⟩, hA, hR, hM⟩ := hI'
  unfold wpX_ready
  rcases fr_place v1 with ⟨m, hm, rfl⟩ | ⟨bx, hy, _⟩
  rotate_left
  · refine bx _ (br_t rfl ?_)
    unfold wpY_ready
    exact hy _ (br_f (by decide) ⟨rfl, fr_mk hI⟩)
  refine fr_pX hm (br_f (by decide) ?_)
  rcases fr_time v2 v3 with ⟨a, b, ha, hb, rfl, rfl⟩ | ⟨bx, hy, _⟩
  rotate_left
  · refine bx _ (br_t rfl ?_)
    unfold wpY_ready
    exact fr_pY hm (br_t rfl (hy _ (br_f (by decide) ⟨rfl, fr_mk hI⟩)))
  refine fr_tX ha hb (br_f (by decide) ⟨T + 1, ?_⟩)
  have hq := fw_Q_rch (T := T) (ta := ta) (tb := tb) (a := a) (b := b) hA hpl hm
  have hY : ∀ r : Int32, ((¬ ∃ t, t < T ∧ fw_here pl ta tb m a b t) → r = 0) → ((∃ t, t < T ∧ ¬ fw_here pl ta tb m a b t ∧ fw_rch tab pl ta tb m a b t) → r = 0) →
      ((∃ t, t < T ∧ fw_here pl ta tb m a b t) → (¬ ∃ t, t < T ∧ ¬ fw_here pl ta tb m a b t ∧ fw_rch tab pl ta tb m a b t) → r = 1) →
      wpY_ready (fun r' v' => r' = r ∧ i_Rel (k + 5) (nI L, nI T, g, fw_A fr, fw_A to, fw_A pa, fw_A pb, fw_A pl, fw_A (fw_tm ta tb), SC, S, G, M) v') (nI L, nI T, fw_A fr, fw_A to, fw_A pa, fw_A pb, fw_A pl, fw_A ta, fw_A tb, Th) (nI m) (nI a) (nI b) := by
    intro r r1 r2 r3
    unfold wpY_ready
    refine fr_pY hm (br_t rfl (fr_tY ha hb (br_t rfl ?_)))
    rcases fw_first (fun t => pl t = m ∧ ta t = a ∧ tb t = b) T with ⟨j, hj, hP, hn⟩ | hn
    · refine fy_find_some hT hj ((fr_eqs hpl hta htb hm ha hb).mpr hP) (fun t ht z => hn t ht ((fr_eqs hpl hta htb hm ha hb).mp z)) ?_
      refine br_t (fr_ge0 (by omega)) (fy_empty (fun Th' h' => ⟨T + 1, ?_⟩))
      refine fy_ready36 hL hfr hto hpa hpb hT hpl hta htb hm ha hb (fun z Th'' => ⟨(r2 (hq.mp z)).symm, fr_mk hI⟩) (fun z Th'' => ⟨(r3 ⟨j, hj, hP⟩ (fun w => z (hq.mpr w))).symm, fr_mk hI⟩) (T + 1) 0 Th' (by omega) (by omega)
        (fw_st_0 h' (fun m' a' b' ⟨t, w1, _⟩ => absurd w1 (Nat.not_lt_zero t)))
    · refine fy_find_none hT (fun t ht z => hn t ht ((fr_eqs hpl hta htb hm ha hb).mp z)) (br_f fr_m1 ⟨(r1 ?_).symm, fr_mk hI⟩)
      exact fun ⟨t, w1, w2⟩ => hn t w1 w2
  refine fx_ready23 hT hR (fw_AR_len (by omega) hA) (fw_AR_small (by omega) hA) hpl hta htb hm ha hb (fun z => hY 0 (fun _ => rfl) (fun _ => rfl) (fun _ w => absurd z w)) (fun z => hY 0 (fun _ => rfl) (fun _ => rfl) (fun w _ => absurd w z))
    (fun z w => hY 1 (fun v => absurd z v) (fun v => absurd v w) (fun _ _ => rfl)) (T + 1) 0 0 (by omega) (by omega) (by omega) ⟨fun z => absurd z (Nat.lt_irrefl 0), fun ⟨t, w, _⟩ => absurd w (Nat.not_lt_zero t)⟩ (fun t w => absurd w (Nat.not_lt_zero t))
theorem i_vc_front {k : Nat} {u : SX} {v : SY} (I : i_Rel k u v) (hk : k + 5 ≤ 2560) (v1 : Int32) : wpX_front (fun r => wpY_front (fun r' v' => r' = r ∧ i_Rel (k + 5) u v') v v1) u v1 := by
  refine fr_el (P := fun u v => wpX_front (fun r => wpY_front (fun r' v' => r' = r ∧ i_Rel (k + 5) u v') v v1) u v1) ?_ I
  intro L T fr to pa pb pl ta tb tab g SC S G M Th hI
  have hI' := hI
  obtain ⟨⟨hL, hT, hfr, hto, hpa, hpb, hpl, hta, htb⟩, hA, hR, hM⟩ := hI'
  unfold wpX_front
  rcases fr_place v1 with ⟨m, hm, rfl⟩ | ⟨bx, hy, _⟩
  rotate_left
  · refine bx _ (br_t rfl ?_)
    unfold wpY_front
    exact hy _ (br_f (by decide) ⟨rfl, fr_mk hI⟩)
  refine fr_pX hm (br_f (by decide) ⟨17, ?_⟩)
  have hUm : ∀ a b, a < 16 → b < 16 → (fw_Q L fr to pa pb (fw_Z T pl ta tb) m a b ↔ ∃ x y, x ≤ a ∧ y ≤ b ∧ fw_M tab T pl ta tb m x y) := fun a b _ _ => (fw_up_marks hA (fun t _ => hpl t) hm).symm
  have hMk : ∀ x y, x < 16 → y < 16 → (M (256 * m + 16 * x + y) ≤ 0 ↔ ¬ fw_M tab T pl ta tb m x y) := fun x y hx hy => fx_mark (fw_AR_len (by omega) hA) hpl hT hM hm hx hy
  have hup : ∀ a b a' b', fw_Q L fr to pa pb (fw_Z T pl ta tb) m a b → a ≤ a' → b ≤ b' → fw_Q L fr to pa pb (fw_Z T pl ta tb) m a' b' := fun a b a' b' h h1 h2 => fw_Q_up h h1 h2
  obtain ⟨r, hX, hY⟩ := fr_front (fl := nI L) (ft := nI T) (bF := fw_A fr) (bT := fw_A to) (bA := fw_A pa) (bB := fw_A pb) (bP := fw_A pl) (bS := fw_A ta) (bU := fw_A tb)
    (gl := nI L) (gt := nI T) (gg := g) (aF := fw_A fr) (aT := fw_A to) (aA := fw_A pa) (aB := fw_A pb) (aP := fw_A pl) (aM := fw_A (fw_tm ta tb)) (SC := SC) (S := S) (G := G) (M := M) hm hup hUm hMk 16 0 0 16 (by omega) (fw_B0 _)
  refine hX _ 17 (by omega) ?_
  unfold wpY_front
  refine fr_pY hm (br_t rfl (fy_spreadTokens hL hfr hto hpa hpb hT hpl hta htb (fun Th' h' => ⟨257, ?_⟩)))
  exact hY Th' (fun a b ha hb => h' m a b hm ha hb) _ 257 (by omega) ⟨rfl, fr_mk hI⟩
theorem i_vc_frontAt {k : Nat} {u : SX} {v : SY} (I : i_Rel k u v) (hk : k + 5 ≤ 2560) (v1 : Int32) (v2 : Int32) : wpX_frontAt (fun r => wpY_frontAt (fun r' v' => r' = r ∧ i_Rel (k + 5) u v') v v1 v2) u v1 v2 := by
  refine fr_el (P := fun u v => wpX_frontAt (fun r => wpY_frontAt (fun r' v' => r' = r ∧ i_Rel (k + 5) u v') v v1 v2) u v1 v2) ?_ I
  intro L T fr to pa pb pl ta tb tab g SC S G M Th hI
  have hI' := hI
  obtain ⟨⟨hL, hT, hfr, hto, hpa, hpb, hpl, hta, htb⟩, hA, hR, hM⟩ := hI'
  unfold wpX_frontAt
  rcases fr_place v1 with ⟨m, hm, rfl⟩ | ⟨bx, hy, _⟩
  rotate_left
  · refine bx _ (br_t rfl ?_)
    unfold wpY_frontAt
    exact hy _ (br_f (by decide) ⟨rfl, fr_mk hI⟩)
  refine fr_pX hm (br_f (by decide) ?_)
  have hUm : ∀ a b, a < 16 → b < 16 → (fw_Q L fr to pa pb (fw_Z T pl ta tb) m a b ↔ ∃ x y, x ≤ a ∧ y ≤ b ∧ fw_M tab T pl ta tb m x y) := fun a b _ _ => (fw_up_marks hA (fun t _ => hpl t) hm).symm
  have hMk : ∀ x y, x < 16 → y < 16 → (M (256 * m + 16 * x + y) ≤ 0 ↔ ¬ fw_M tab T pl ta tb m x y) := fun x y hx hy => fx_mark (fw_AR_len (by omega) hA) hpl hT hM hm hx hy
  have hup : ∀ a b a' b', fw_Q L fr to pa pb (fw_Z T pl ta tb) m a b → a ≤ a' → b ≤ b' → fw_Q L fr to pa pb (fw_Z T pl ta tb) m a' b' := fun a b a' b' h h1 h2 => fw_Q_up h h1 h2
  by_cases c : 0 ≤ v2
  · obtain ⟨q, hq, rfl⟩ := nI_of (x := v2) (Int32.not_lt.mpr c)
    obtain ⟨r, hX, hY⟩ := fr_frontAt (fl := nI L) (ft := nI T) (bF := fw_A fr) (bT := fw_A to) (bA := fw_A pa) (bB := fw_A pb) (bP := fw_A pl) (bS := fw_A ta) (bU := fw_A tb)
      (gl := nI L) (gt := nI T) (gg := g) (aF := fw_A fr) (aT := fw_A to) (aA := fw_A pa) (aB := fw_A pb) (aP := fw_A pl) (aM := fw_A (fw_tm ta tb)) (SC := SC) (S := S) (G := G) (M := M) hq hm hup hUm hMk 16 0 0 16 (by omega) (by omega) (by omega) (fw_B0 _)
    refine br_t c ⟨17, hX _ 17 (by omega) ?_⟩
    unfold wpY_frontAt
    refine fr_pY hm (br_t rfl (fy_spreadTokens hL hfr hto hpa hpb hT hpl hta htb (fun Th' h' => ⟨257, ?_⟩)))
    exact hY Th' (fun a b ha hb => h' m a b hm ha hb) _ 257 (by omega) ⟨rfl, fr_mk hI⟩
  · refine br_f c ?_
    unfold wpY_frontAt
    refine fr_pY hm (br_t rfl (fy_spreadTokens hL hfr hto hpa hpb hT hpl hta htb (fun Th' h' => ⟨257, ?_⟩)))
    exact fy_aneg c hm (fun a b ha hb => h' m a b hm ha hb) ⟨rfl, fr_mk hI⟩ 257 0 0 (by omega) (by omega) (by omega)
theorem i_vc_shortest {k : Nat} {u : SX} {v : SY} (I : i_Rel k u v) (hk : k + 5 ≤ 2560) (v1 : Int32) (v2 : Int32) : wpX_shortest (fun r => wpY_shortest (fun r' v' => r' = r ∧ i_Rel (k + 5) u v') v v1 v2) u v1 v2 := by
  refine fr_el (P := fun u v => wpX_shortest (fun r => wpY_shortest (fun r' v' => r' = r ∧ i_Rel (k + 5) u v') v v1 v2) u v1 v2) ?_ I
  intro L T fr to pa pb pl ta tb tab g SC S G M Th hI
  have hI' := hI
  obtain ⟨⟨hL, hT, hfr, hto, hpa, hpb, hpl, hta, htb⟩, hA, hR, hM⟩ := hI'
  unfold wpX_shortest
  rcases fr_place v1 with ⟨f, hf, rfl⟩ | ⟨bx, hy, _⟩
  rotate_left
  · refine bx _ (br_t rfl ?_)
    unfold wpY_shortest
    exact hy _ (br_f (by decide) ⟨rfl, fr_mk hI⟩)
  refine fr_pX hf (br_f (by decide) ?_)
  rcases fr_place v2 with ⟨m, hm, rfl⟩ | ⟨bx, hy, _⟩
  rotate_left
  · refine bx _ (br_t rfl ?_)
    unfold wpY_shortest
    exact fr_pY hf (br_t rfl (hy _ (br_f (by decide) ⟨rfl, fr_mk hI⟩)))
  refine fr_pX hm (br_f (by decide) ?_)
  have hr49 : 7 * f + m < 49 := by omega
  rw [fx_7, nI_clamp (show 7 * f + m < 2 ^ 31 by omega), (hR _ hr49).1]
  refine ⟨vp_in_nI hr49 (by omega), ?_⟩
  unfold wpY_shortest
  refine fr_pY hf (br_t rfl (fr_pY hm (br_t rfl (fy_empty (fun T1 h1 => ?_)))))
  refine fy_set (a := 0) (b := 0) hf (by omega) (by omega) ?_
  have hRI := hA _ hr49
  have hst : fw_st (fun m0 a0 b0 => m0 = f ∧ a0 = 0 ∧ b0 = 0) (upd T1 (361 * f + 19 * 0 + 0) 1) :=
    fw_st_set (Z := fun _ _ _ => False) hf (by omega) (by omega) (fw_st_0 h1 (fun _ _ _ z => z)) (fun m' a' b' => ⟨Or.inr, fun z => z.elim False.elim id⟩)
  refine fy_spreadZ hL hfr hto hpa hpb hst (fun m' a' b' z => by omega) (fun Th' h' => ⟨362, ?_⟩)
  refine fy_sh36 hm (fun a b ha hb => h' m a b hm ha hb) ?_ 362 0 (by omega) (by omega)
  refine ⟨congrArg nI ?_, fr_mk hI⟩
  have hU : ∀ a b, a < 19 → b < 19 → (fw_Q L fr to pa pb (fun m0 a0 b0 => m0 = f ∧ a0 = 0 ∧ b0 = 0) m a b ↔ fw_Cov (tab (7 * f + m)) (a, b)) := by
    intro a b _ _
    rw [hRI.2.1 (a, b), show (7 * f + m) / 7 = f from by omega, show (7 * f + m) % 7 = m from by omega]
    constructor
    · intro ⟨m0, a0, b0, ⟨e1, e2, e3⟩, _, _, hd⟩
      subst e1 e2 e3
      exact hd
    · intro hd
      exact ⟨f, 0, 0, ⟨rfl, rfl, rfl⟩, Nat.zero_le _, Nat.zero_le _, hd⟩
  have hs := fw_RI_small (by omega) hr49 hRI
  rw [← fw_cnt_list (c := 19) (N := 361) (tab (7 * f + m)) (fw_sd_nodup hRI.1) (fun e he => by have := hs e he; omega)]
  refine fw_s_congr 361 (fun t ht => fw_b_iff (fw_F_row hRI.1 hU (by omega) (by omega)))
end
section
/-! part 17: the turn's end, the constructors -/
theorem i_up {k : Nat} {u : SX} {v : SY} (h : i_Rel k u v) : i_Rel (k + 5) u v := h
theorem fr_ok00 : fw_Ok 0 0 (fun _ => 0) (fun _ => 0) (fun _ => 0) (fun _ => 0) (fun _ => 0) (fun _ => 0) (fun _ => 0) :=
  ⟨Nat.zero_le _, Nat.zero_le _, fun _ => Nat.zero_lt_succ _, fun _ => Nat.zero_lt_succ _, fun _ => Nat.zero_le _, fun _ => Nat.zero_le _, fun _ => Nat.zero_lt_succ _, fun _ => Nat.zero_le _, fun _ => Nat.zero_le _⟩
theorem fr_init (post : SX → Prop) (H : ∀ (tab : Nat → List (Nat × Nat)) (g : Int32) (SC S G M : Nat → Int32), fw_In 0 0 (fun _ => 0) (fun _ => 0) (fun _ => 0) (fun _ => 0) (fun _ => 0) (fun _ => 0) (fun _ => 0) tab SC S M →
      post (nI 0, nI 0, g, fw_A (fun _ => 0), fw_A (fun _ => 0), fw_A (fun _ => 0), fw_A (fun _ => 0), fw_A (fun _ => 0), fw_A (fw_tm (fun _ => 0) (fun _ => 0)), SC, S, G, M)) :
    wpX_rebuild post (0, 0, 0, (fun _ => 0), (fun _ => 0), (fun _ => 0), (fun _ => 0), (fun _ => 0), (fun _ => 0), (fun _ => 0), (fun _ => 0), (fun _ => 0), (fun _ => 0)) := by
  have ok := fr_ok00
  exact fx_rebuild (post := post) (L := 0) (T := 0) (fr := fun _ => 0) (to := fun _ => 0) (pa := fun _ => 0) (pb := fun _ => 0) (pl := fun _ => 0) (ta := fun _ => 0) (tb := fun _ => 0)
    ok.1 ok.2.1 ok.2.2.1 ok.2.2.2.1 ok.2.2.2.2.1 ok.2.2.2.2.2.1 ok.2.2.2.2.2.2.1 ok.2.2.2.2.2.2.2.1 ok.2.2.2.2.2.2.2.2 (fun tab g SC S G M h1 h2 h3 => H tab g SC S G M ⟨ok, h1, h2, h3⟩)
theorem i_vc0 : wpX_init (fun u => wpY_init (fun v => i_Rel 0 u v)) := by
  unfold wpX_init
  refine fr_init _ (fun tab g SC S G M h => ?_)
  unfold wpY_init
  exact fr_mk (Th := fun _ => 0) h
end
