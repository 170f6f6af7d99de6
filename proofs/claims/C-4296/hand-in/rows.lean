section
theorem pk_us {f : Nat → Int32} {k : Nat} {x : Int32} : upd f k x k = x := if_pos rfl
theorem pk_un {f : Nat → Int32} {k j : Nat} {x : Int32} (h : j ≠ k) : upd f k x j = f j := if_neg h
theorem pk_uLs {f : Nat → Int64} {k : Nat} {x : Int64} : vp_updL f k x k = x := if_pos rfl
theorem pk_uLn {f : Nat → Int64} {k j : Nat} {x : Int64} (h : j ≠ k) : vp_updL f k x j = f j := if_neg h
theorem pk_sub {a b : Nat} (h : b ≤ a) : nI a - nI b = nI (a - b) := by
  obtain ⟨c, rfl⟩ : ∃ c, a = c + b := ⟨a - b, by omega⟩
  rw [← nI_add, Int32.add_sub_cancel, Nat.add_sub_cancel]
theorem pk_m1 (n : Nat) : nI (n + 1) + (-1) = nI n := by
  rw [← nI_1, Int32.add_assoc, show (1 : Int32) + (-1) = 0 from rfl, Int32.add_zero]
theorem pk_mul (a b : Nat) : nI a * nI b = nI (a * b) := (Int32.ofNat_mul a b).symm
theorem pk_div {a d : Nat} (ha : a < 2 ^ 31) (h0 : 0 < d) (hd : d < 2 ^ 31) : nI a / nI d = nI (a / d) := by
  apply Int32.toInt_inj.mp
  rw [lg_idiv_nonneg (by rw [nI_toInt ha]; omega) (by rw [nI_toInt hd]; omega), nI_toInt ha, nI_toInt hd, nI_toInt (Nat.lt_of_le_of_lt (Nat.div_le_self a d) ha)]
  first | rfl | exact (Int.natCast_ediv _ _).symm
theorem pk_rem {a d : Nat} (ha : a < 2 ^ 31) (h0 : 0 < d) (hd : d < 2 ^ 31) : nI a - nI a / nI d * nI d = nI (a % d) := by
  rw [pk_div ha h0 hd, pk_mul, pk_sub (Nat.div_mul_le_self a d)]
  exact congrArg nI (by have := Nat.div_add_mod' a d; omega)
theorem pk_sub_toInt {a b : Nat} (ha : a < 2 ^ 30) (hb : b < 2 ^ 30) : (nI a - nI b).toInt = (a : Int) - b := by
  rw [Int32.toInt_sub, nI_toInt (by omega), nI_toInt (by omega)]
  exact Int.bmod_eq_of_le (by omega) (by omega)
theorem pk_sneg {a b : Nat} (hb : b < 2 ^ 30) (h : a < b) : nI a - nI b < 0 := by
  rw [Int32.lt_iff_toInt_lt, pk_sub_toInt (by omega) hb, show (0 : Int32).toInt = 0 from by decide]
  omega
theorem pk_ix (x : Int32) {n : Nat} (hn : n < 2 ^ 31) : x < 0 ∨ nI n ≤ x ∨ ∃ j : Nat, j < n ∧ x = nI j := by
  by_cases h : x < 0
  · exact Or.inl h
  · obtain ⟨j, hj, rfl⟩ := nI_of h
    by_cases h2 : j < n
    · exact Or.inr (Or.inr ⟨j, h2, rfl⟩)
    · exact Or.inr (Or.inl (nI_le (by omega) hj))
theorem pk_le {x y : Int32} {A B : Prop} (a b : Nat) (f : a ≤ b → A) (g : b < a → B) (hx : x = nI a := by rfl) (hy : y = nI b := by rfl) (ha : a < 2 ^ 31 := by omega) (hb : b < 2 ^ 31 := by omega) : (x ≤ y → A) ∧ (¬ x ≤ y → B) := by
  subst hx hy
  rw [nI_leI ha hb]
  exact ⟨f, fun z => g (by omega)⟩
theorem pk_lt {x y : Int32} {A B : Prop} (a b : Nat) (f : a < b → A) (g : b ≤ a → B) (hx : x = nI a := by rfl) (hy : y = nI b := by rfl) (ha : a < 2 ^ 31 := by omega) (hb : b < 2 ^ 31 := by omega) : (x < y → A) ∧ (¬ x < y → B) := by
  subst hx hy
  rw [nI_ltI ha hb]
  exact ⟨f, fun z => g (by omega)⟩
theorem pk_eq {x y : Int32} {A B : Prop} (a b : Nat) (f : a = b → A) (g : a ≠ b → B) (hx : x = nI a := by rfl) (hy : y = nI b := by rfl) (ha : a < 2 ^ 31 := by omega) (hb : b < 2 ^ 31 := by omega) : (x = y → A) ∧ (¬ x = y → B) := by
  subst hx hy
  rw [nI_eq ha hb]
  exact ⟨f, g⟩
theorem pk_in {x : Int32} (n N : Nat) (h : n < N) (hx : x = nI n := by rfl) (hN : N < 2 ^ 31 := by omega) : vp_in x N := by
  subst hx
  exact vp_in_nI h hN
theorem pk_cl {x : Int32} (n : Nat) (hx : x = nI n := by rfl) (h : n < 2 ^ 31 := by omega) : x.toNatClampNeg = n := by
  subst hx
  exact nI_clamp h
theorem pk_tn {n : Nat} (h : n < 2 ^ 32) : (nI n).toBitVec.toNat = n := Nat.mod_eq_of_lt h
theorem pk_and (x : Int32) {m : Int32} (k : Nat) (hm : m.toBitVec.toNat = 2 ^ k - 1) : x &&& m = nI (x.toBitVec.toNat % 2 ^ k) := by
  apply Int32.toBitVec_inj.mp
  apply BitVec.eq_of_toNat_eq
  rw [Int32.toBitVec_and, BitVec.toNat_and, hm, Nat.and_two_pow_sub_one_eq_mod]
  show _ = (BitVec.ofNat 32 _).toNat
  rw [BitVec.toNat_ofNat]
  exact (Nat.mod_eq_of_lt (Nat.lt_of_le_of_lt (Nat.mod_le _ _) x.toBitVec.isLt)).symm
theorem pk_andN {n : Nat} (h : n < 2 ^ 32) {m : Int32} (k : Nat) (hm : m.toBitVec.toNat = 2 ^ k - 1) : nI n &&& m = nI (n % 2 ^ k) := by
  rw [pk_and _ k hm, pk_tn h]
theorem pk_andE (x : Int32) {m : Int32} (k : Nat) (hm : m.toBitVec.toNat = 2 ^ k - 1) : ∃ j : Nat, j < 2 ^ k ∧ x &&& m = nI j := ⟨_, Nat.mod_lt _ (Nat.two_pow_pos k), pk_and x k hm⟩
theorem pk_andIn (x : Int32) {m : Int32} (k : Nat) (hm : m.toBitVec.toNat = 2 ^ k - 1) (hk : k ≤ 30) : vp_in (x &&& m) (2 ^ k) := by
  obtain ⟨j, hj, e⟩ := pk_andE x k hm
  rw [e]
  exact vp_in_nI hj (Nat.lt_of_le_of_lt (Nat.pow_le_pow_right (by decide) hk) (by decide))
theorem pk_shl (a s : Int32) (k : Nat) (hs : (s.toBitVec.smod 32).toNat = k) : (a <<< s).toBitVec.toNat = a.toBitVec.toNat * 2 ^ k % 2 ^ 32 := by
  show (a.toBitVec <<< (s.toBitVec.smod 32).toNat).toNat = _
  rw [hs, BitVec.toNat_shiftLeft, Nat.shiftLeft_eq]
theorem pk_shlN {n : Nat} (s : Int32) (k : Nat) (hs : (s.toBitVec.smod 32).toNat = k) (h : n * 2 ^ k < 2 ^ 32) : nI n <<< s = nI (n * 2 ^ k) := by
  apply Int32.toBitVec_inj.mp
  apply BitVec.eq_of_toNat_eq
  have hn : n < 2 ^ 32 := Nat.lt_of_le_of_lt (Nat.le_mul_of_pos_right n (Nat.two_pow_pos k)) h
  rw [pk_shl _ _ k hs, pk_tn hn, pk_tn h, Nat.mod_eq_of_lt h]
theorem pk_shr (a s : Int32) (k : Nat) (hs : (s.toBitVec.smod 32).toNat = k) : (a >>> s).toInt = a.toInt >>> k := by
  show (a.toBitVec.sshiftRight (s.toBitVec.smod 32).toNat).toInt = _
  rw [hs, BitVec.toInt_sshiftRight]
  rfl
theorem pk_shrN {n : Nat} (h : n < 2 ^ 31) (s : Int32) (k : Nat) (hs : (s.toBitVec.smod 32).toNat = k) : nI n >>> s = nI (n / 2 ^ k) := by
  apply Int32.toInt_inj.mp
  have h2 : n / 2 ^ k ≤ n := Nat.div_le_self _ _
  rw [pk_shr _ _ k hs, nI_toInt h, nI_toInt (by omega), Int.shiftRight_eq_div_pow]
  rfl
theorem pk_ushr (x s : Int32) (k : Nat) (hs : ((s.toUInt32 &&& Int32.toUInt32 31).toBitVec % 32).toNat = k) : (x.toUInt32 >>> (s.toUInt32 &&& Int32.toUInt32 31)).toInt32.toBitVec.toNat = x.toBitVec.toNat / 2 ^ k := by
  have e : (x.toUInt32 >>> (s.toUInt32 &&& Int32.toUInt32 31)).toInt32.toBitVec = x.toBitVec >>> k := by
    rw [← hs]
    exact UInt32.toBitVec_shiftRight _ _
  rw [e, BitVec.toNat_ushiftRight, Nat.shiftRight_eq_div_pow]
theorem pk_ushrN {n : Nat} (hn : n < 2 ^ 32) (s : Int32) (k : Nat) (hs : ((s.toUInt32 &&& Int32.toUInt32 31).toBitVec % 32).toNat = k) : ((nI n).toUInt32 >>> (s.toUInt32 &&& Int32.toUInt32 31)).toInt32 = nI (n / 2 ^ k) := by
  apply Int32.toBitVec_inj.mp
  apply BitVec.eq_of_toNat_eq
  rw [pk_ushr _ s k hs, pk_tn hn, pk_tn (Nat.lt_of_le_of_lt (Nat.div_le_self _ _) hn)]
theorem nx_and (a b : Nat) : nI a &&& nI b = nI (a &&& b) := by
  apply Int32.toBitVec_inj.1
  show BitVec.ofNat 32 a &&& BitVec.ofNat 32 b = BitVec.ofNat 32 (a &&& b)
  apply BitVec.eq_of_getLsbD_eq
  intro i hi
  simp [hi]
theorem nx_xor (a b : Nat) : nI a ^^^ nI b = nI (a ^^^ b) := by
  apply Int32.toBitVec_inj.1
  show BitVec.ofNat 32 a ^^^ BitVec.ofNat 32 b = BitVec.ofNat 32 (a ^^^ b)
  apply BitVec.eq_of_getLsbD_eq
  intro i hi
  simp [hi]
theorem nx_cnt : ∀ j : Fin 32, (UInt32.ofNat j.val &&& Int32.toUInt32 31).toNat % 32 = j.val := by decide +kernel
end
section
/-! ## counting on eight points -/
def fc_all : List (Fin 8) := [0, 1, 2, 3, 4, 5, 6, 7]
theorem fc_mem (x : Fin 8) : x ∈ fc_all := by revert x; decide
theorem fc_nd : fc_all.Nodup := by decide
theorem fc_le8 {l : List (Fin 8)} (h : l.Nodup) : l.length ≤ 8 :=
  List.Nodup.length_le_of_subset h (l₂ := fc_all) (fun x _ => fc_mem x)
theorem fc_mapnd {f : Fin 8 → Fin 8} : ∀ {l : List (Fin 8)}, (∀ a ∈ l, ∀ b ∈ l, f a = f b → a = b) → l.Nodup → (l.map f).Nodup
  | [], _, _ => List.nodup_nil
  | x :: t, hi, hn => by
    have h1 := List.nodup_cons.mp hn
    refine List.nodup_cons.mpr ⟨fun hm => ?_, fc_mapnd (fun a ha b hb => hi a (List.mem_cons_of_mem _ ha) b (List.mem_cons_of_mem _ hb)) h1.2⟩
    obtain ⟨y, hy, e⟩ := List.mem_map.mp hm
    have := hi y (List.mem_cons_of_mem _ hy) x List.mem_cons_self e
    exact h1.1 (this ▸ hy)
/-- the number of points in a set -/
def fc_ct (P : Fin 8 → Bool) : Nat := (fc_all.filter P).length
theorem fc_fm {P : Fin 8 → Bool} {x : Fin 8} : x ∈ fc_all.filter P ↔ P x = true := by
  rw [List.mem_filter]; exact ⟨fun h => h.2, fun h => ⟨fc_mem x, h⟩⟩
theorem fc_fnd (P : Fin 8 → Bool) : (fc_all.filter P).Nodup := List.Nodup.sublist List.filter_sublist fc_nd
theorem fc_le (P : Fin 8 → Bool) : fc_ct P ≤ 8 := fc_le8 (fc_fnd P)
theorem fc_inj {P Q : Fin 8 → Bool} (f : Fin 8 → Fin 8) (hm : ∀ x, P x = true → Q (f x) = true)
    (hi : ∀ a b, P a = true → P b = true → f a = f b → a = b) : fc_ct P ≤ fc_ct Q := by
  have h := List.Nodup.length_le_of_subset (l₁ := (fc_all.filter P).map f) (l₂ := fc_all.filter Q)
    (fc_mapnd (fun a ha b hb => hi a b (fc_fm.mp ha) (fc_fm.mp hb)) (fc_fnd P))
    (fun y hy => by
      obtain ⟨x, hx, e⟩ := List.mem_map.mp hy
      exact e ▸ fc_fm.mpr (hm x (fc_fm.mp hx)))
  rw [List.length_map] at h
  exact h
theorem fc_mono {P Q : Fin 8 → Bool} (h : ∀ x, P x = true → Q x = true) : fc_ct P ≤ fc_ct Q :=
  fc_inj (fun x => x) h (fun _ _ _ _ e => e)
theorem fc_lt {P Q : Fin 8 → Bool} (h : ∀ x, P x = true → Q x = true) {y : Fin 8} (hq : Q y = true) (hp : P y = false) : fc_ct P < fc_ct Q := by
  have h := List.Nodup.length_le_of_subset (l₁ := y :: fc_all.filter P) (l₂ := fc_all.filter Q)
    (List.nodup_cons.mpr ⟨fun hm => by rw [fc_fm, hp] at hm; exact absurd hm (by decide), fc_fnd P⟩)
    (fun z hz => by
      rcases List.mem_cons.mp hz with e | hz
      · exact e ▸ fc_fm.mpr hq
      · exact fc_fm.mpr (h z (fc_fm.mp hz)))
  exact h
theorem fc_cong {P Q : Fin 8 → Bool} (h : ∀ x, P x = Q x) : fc_ct P = fc_ct Q := by
  have : P = Q := funext h
  rw [this]
theorem fc_sum (P : Fin 8 → Bool) : fc_ct P = (P 0).toNat + (P 1).toNat + (P 2).toNat + (P 3).toNat + (P 4).toNat + (P 5).toNat + (P 6).toNat + (P 7).toNat := by
  unfold fc_ct fc_all
  rw [← List.countP_eq_length_filter]
  simp only [List.countP_cons, List.countP_nil]
  cases P 0 <;> cases P 1 <;> cases P 2 <;> cases P 3 <;> cases P 4 <;> cases P 5 <;> cases P 6 <;> cases P 7 <;> rfl
theorem fc_not (P : Fin 8 → Bool) : fc_ct P + fc_ct (fun x => !P x) = 8 := by
  rw [fc_sum, fc_sum]
  cases P 0 <;> cases P 1 <;> cases P 2 <;> cases P 3 <;> cases P 4 <;> cases P 5 <;> cases P 6 <;> cases P 7 <;> rfl
theorem fc_surj (f : Fin 8 → Fin 8) (hf : ∀ a b, f a = f b → a = b) (y : Fin 8) : ∃ x, f x = y := by
  apply Classical.byContradiction
  intro hn
  have h := fc_le8 (l := y :: fc_all.map f) (List.nodup_cons.mpr ⟨fun hm => by
    obtain ⟨x, _, e⟩ := List.mem_map.mp hm
    exact hn ⟨x, e⟩, fc_mapnd (fun a _ b _ => hf a b) fc_nd⟩)
  rw [List.length_cons, List.length_map] at h
  exact absurd h (by decide)
/-- no injection of a set into itself leaves out a point of it -/
theorem fc_pig {P : Fin 8 → Bool} (f : Fin 8 → Fin 8) (hm : ∀ x, P x = true → P (f x) = true)
    (hi : ∀ a b, P a = true → P b = true → f a = f b → a = b) {r : Fin 8} (hr : P r = true) (hn : ∀ x, P x = true → f x ≠ r) : False := by
  have h := fc_inj (P := P) (Q := fun x => P x && decide (x ≠ r)) f (fun x hx => by
    simp [hm x hx, hn x hx]) hi
  have h2 := fc_lt (P := fun x => P x && decide (x ≠ r)) (Q := P) (fun x hx => by
    simp at hx; exact hx.1) hr (by simp)
  omega
theorem fc_even (g : Fin 8 → Fin 8) (hg : ∀ x, g (g x) = x) : ∀ (k : Nat) (l : List (Fin 8)), l.length ≤ k → l.Nodup → (∀ x ∈ l, g x ∈ l ∧ g x ≠ x) → l.length % 2 = 0
  | _, [], _, _, _ => rfl
  | 0, _ :: _, h, _, _ => by simp at h
  | k + 1, x :: t, h, hn, hc => by
    have h1 := List.nodup_cons.mp hn
    have hx := hc x List.mem_cons_self
    have hxt : g x ∈ t := by
      rcases List.mem_cons.mp hx.1 with e | e
      · exact absurd e hx.2
      · exact e
    have hl := List.length_erase_of_mem hxt
    have hp : 0 < t.length := List.length_pos_of_mem hxt
    have hle : (t.erase (g x)).length ≤ k := by simp only [List.length_cons] at h; omega
    have ih := fc_even g hg k (t.erase (g x)) hle (List.Nodup.erase _ h1.2) (fun y hy => by
      have hy' := (List.Nodup.mem_erase_iff h1.2).mp hy
      have hyc := hc y (List.mem_cons_of_mem _ hy'.2)
      refine ⟨(List.Nodup.mem_erase_iff h1.2).mpr ⟨fun e => ?_, ?_⟩, hyc.2⟩
      · have e2 : y = x := by rw [← hg y, e, hg]
        exact h1.1 (e2 ▸ hy'.2)
      · rcases List.mem_cons.mp hyc.1 with e | e
        · exact absurd (by rw [← e, hg]) hy'.1
        · exact e)
    simp only [List.length_cons]
    omega
theorem fc_ev (g : Fin 8 → Fin 8) (hg : ∀ x, g (g x) = x) {P : Fin 8 → Bool} (h : ∀ x, P x = true → P (g x) = true ∧ g x ≠ x) : fc_ct P % 2 = 0 :=
  fc_even g hg _ (fc_all.filter P) (Nat.le_refl _) (fc_fnd P) (fun x hx => ⟨fc_fm.mpr (h x (fc_fm.mp hx)).1, (h x (fc_fm.mp hx)).2⟩)
theorem fc_rem {P : Fin 8 → Bool} {b : Fin 8} (hb : P b = true) : fc_ct P = fc_ct (fun x => P x && decide (x ≠ b)) + 1 := by
  have h : fc_all.filter (fun x => P x && decide (x ≠ b)) = (fc_all.filter P).erase b := by
    rw [List.Nodup.erase_eq_filter (fc_fnd P), List.filter_filter]
    apply List.filter_congr
    intro x _
    cases P x
    · simp
    · simp [bne]; rfl
  unfold fc_ct
  rw [h, List.length_erase_of_mem (fc_fm.mpr hb)]
  have := List.length_pos_of_mem (fc_fm.mpr hb)
  omega
/-- a set with all but b paired off is odd -/
theorem fc_odd (g : Fin 8 → Fin 8) (hg : ∀ x, g (g x) = x) {P : Fin 8 → Bool} {b : Fin 8} (hb : P b = true)
    (h : ∀ x, P x = true → x ≠ b → P (g x) = true ∧ g x ≠ x ∧ g x ≠ b) : fc_ct P % 2 = 1 := by
  have h1 := fc_ev g hg (P := fun x => P x && decide (x ≠ b)) (fun x hx => by
    simp at hx
    have := h x hx.1 hx.2
    simp [this])
  rw [fc_rem hb]
  omega
theorem fc_ex (P : Fin 8 → Prop) (h : ¬ ∀ x, P x) : ∃ x, ¬ P x := Classical.not_forall.mp h
end
section
/-! ## matchings: involutions along lines -/
def ma_M (E : Fin 8 → Fin 8 → Bool) (m : Fin 8 → Fin 8) : Prop := (∀ x, m (m x) = x) ∧ ∀ x, m x ≠ x → E x (m x) = true
def ma_out (m : Fin 8 → Fin 8) : Fin 8 → Bool := fun x => decide (m x = x)
def ma_ms (m : Fin 8 → Fin 8) : Nat := fc_ct (ma_out m)
theorem ma_o {m : Fin 8 → Fin 8} {x : Fin 8} : ma_out m x = true ↔ m x = x := decide_eq_true_iff
theorem ma_of {m : Fin 8 → Fin 8} {x : Fin 8} : ma_out m x = false ↔ m x ≠ x := decide_eq_false_iff_not
theorem ma_inj {E : Fin 8 → Fin 8 → Bool} {m : Fin 8 → Fin 8} (h : ma_M E m) {a b : Fin 8} (e : m a = m b) : a = b := by
  rw [← h.1 a, e, h.1]
theorem ma_flip {E : Fin 8 → Fin 8 → Bool} {m : Fin 8 → Fin 8} (h : ma_M E m) {a b : Fin 8} (e : m a = b) : m b = a := by
  rw [← e, h.1]
theorem ma_par {m : Fin 8 → Fin 8} (h : ∀ x, m (m x) = x) : ma_ms m % 2 = 0 := by
  have h1 := fc_ev m h (P := fun x => !ma_out m x) (fun x hx => by
    have hx' : m x ≠ x := ma_of.mp (by simpa using hx)
    refine ⟨?_, hx'⟩
    have : m (m x) ≠ m x := fun e => hx' (by rw [h] at e; exact e.symm)
    simp [ma_of.mpr this])
  have h2 := fc_not (ma_out m)
  unfold ma_ms
  omega
/-- x, left out, takes y; y's partner is left out -/
def ma_sw (n : Fin 8 → Fin 8) (x y : Fin 8) : Fin 8 → Fin 8 := fun w => if w = x then y else if w = y then x else if w = n y then w else n w
theorem ma_swM {E : Fin 8 → Fin 8 → Bool} (hs : ∀ a b, E a b = E b a) {n : Fin 8 → Fin 8} (h : ma_M E n) {x y : Fin 8} (hx : n x = x) (hxy : x ≠ y) (he : E x y = true) : ma_M E (ma_sw n x y) := by
  have hny : n y ≠ x := fun e => hxy (by rw [← h.1 y, e, hx])
  constructor
  · intro w
    unfold ma_sw
    by_cases h1 : w = x
    · subst h1; simp
    · by_cases h2 : w = y
      · subst h2; simp [h1]
      · by_cases h3 : w = n y
        · simp [h1, h2, h3]
          have e1 : ¬ n y = y := fun e => h2 (h3.trans e)
          simp [hny, e1]
        · have a1 : n w ≠ x := fun e => h1 (by rw [← h.1 w, e, hx])
          have a2 : n w ≠ y := fun e => h3 (by rw [← e, h.1])
          have a3 : n w ≠ n y := fun e => h2 (ma_inj h e)
          simp [h1, h2, h3, a1, a2, a3, h.1]
  · intro w
    unfold ma_sw
    by_cases h1 : w = x
    · subst h1; simp; intro _; exact he
    · by_cases h2 : w = y
      · subst h2; simp [h1]; intro _; rw [hs]; exact he
      · by_cases h3 : w = n y
        · intro a
          simp only [if_neg h1, if_neg h2, if_pos h3] at a
          exact absurd rfl a
        · simp [h1, h2, h3]
          exact h.2 w
theorem ma_swx {n : Fin 8 → Fin 8} {x y : Fin 8} : ma_sw n x y x = y := by unfold ma_sw; simp
theorem ma_swo {n : Fin 8 → Fin 8} {x y w : Fin 8} (hxy : x ≠ y) (h : ma_sw n x y w = w) : w ≠ x ∧ w ≠ y ∧ (w = n y ∨ n w = w) := by
  unfold ma_sw at h
  by_cases h1 : w = x
  · subst h1; simp at h; exact absurd h.symm hxy
  · by_cases h2 : w = y
    · subst h2; simp [h1] at h; exact absurd h.symm h1
    · refine ⟨h1, h2, ?_⟩
      by_cases h3 : w = n y
      · exact Or.inl h3
      · simp [h1, h2, h3] at h; exact Or.inr h
theorem ma_swms {n : Fin 8 → Fin 8} {x y : Fin 8} (hxy : x ≠ y) (hx : n x = x) : ma_ms (ma_sw n x y) ≤ ma_ms n := by
  refine fc_inj (fun w => if n w = w then w else x) (fun w hw => ?_) (fun a b ha hb e => ?_)
  · have h1 := ma_swo hxy (ma_o.mp hw)
    by_cases h2 : n w = w
    · simp [h2, ma_o.mpr h2]
    · simp [h2, ma_o.mpr hx]
  · have h1 := ma_swo hxy (ma_o.mp ha)
    have h2 := ma_swo hxy (ma_o.mp hb)
    by_cases h3 : n a = a
    · by_cases h4 : n b = b
      · simpa [h3, h4] using e
      · simp [h3, h4] at e; exact absurd e h1.1
    · by_cases h4 : n b = b
      · simp [h3, h4] at e; exact absurd e.symm h2.1
      · rcases h1.2.2 with u | u
        · rcases h2.2.2 with v | v
          · rw [u, v]
          · exact absurd v h4
        · exact absurd u h3
theorem ma_swms2 {n : Fin 8 → Fin 8} {x y : Fin 8} (hxy : x ≠ y) (hx : n x = x) (hy : n y = y) : ma_ms (ma_sw n x y) < ma_ms n := by
  refine fc_lt (y := x) (fun w hw => ?_) (ma_o.mpr hx) ?_
  · have h1 := ma_swo hxy (ma_o.mp hw)
    rcases h1.2.2 with u | u
    · exact absurd (u.trans hy) h1.2.1
    · exact ma_o.mpr u
  · rw [ma_of, ma_swx]; exact fun e => hxy e.symm
def ma_ag (n m : Fin 8 → Fin 8) : Nat := fc_ct (fun w => decide (n w = m w))
theorem ma_swag {E : Fin 8 → Fin 8 → Bool} {n m : Fin 8 → Fin 8} (h : ma_M E n) (hm : ma_M E m) {x : Fin 8} (hx : n x = x) (hxy : x ≠ m x) : ma_ag n m < ma_ag (ma_sw n x (m x)) m := by
  have hny : n (m x) ≠ x := fun e => hxy (by rw [← h.1 (m x), e, hx])
  refine fc_lt (y := x) (fun w hw => ?_) ?_ ?_
  · have hw' : n w = m w := by simpa using hw
    have h1 : w ≠ x := fun e => hxy (by rw [e, hx] at hw'; exact hw')
    have h2 : w ≠ m x := fun e => by rw [e, hm.1] at hw'; exact hny hw'
    have h3 : w ≠ n (m x) := fun e => by
      have e1 : n w = m x := by rw [e, h.1]
      have e2 : m w = m x := hw'.symm.trans e1
      exact h1 (ma_inj hm e2)
    simp [ma_sw, h1, h2, h3, hw']
  · simp [ma_sw]
  · simp [hx]; exact hxy
theorem ma_push {E : Fin 8 → Fin 8 → Bool} (hs : ∀ a b, E a b = E b a) {m : Fin 8 → Fin 8} (hm : ma_M E m) (t : Nat) : ∀ (k : Nat) (n : Fin 8 → Fin 8), ma_M E n → ma_ms n ≤ t → 8 ≤ ma_ag n m + k → ∃ n', ma_M E n' ∧ (∀ x, n' x = x → m x = x) ∧ ma_ms n' ≤ t := by
  intro k
  induction k with
  | zero =>
    intro n h ht ha
    refine ⟨n, h, ?_, ht⟩
    intro x hx
    apply Classical.byContradiction
    intro hc
    have h1 := ma_swag h hm hx (fun e => hc e.symm)
    have h2 : ma_ag (ma_sw n x (m x)) m ≤ 8 := fc_le _
    omega
  | succ k ih =>
    intro n h ht ha
    by_cases hc : ∀ x, n x = x → m x = x
    · exact ⟨n, h, hc, ht⟩
    · obtain ⟨x, hx⟩ := fc_ex _ hc
      have hx1 : n x = x := Classical.byContradiction (fun e => hx (fun e2 => absurd e2 e))
      have hx2 : x ≠ m x := fun e => hx (fun _ => e.symm)
      have h1 := ma_swag h hm hx1 hx2
      exact ih (ma_sw n x (m x)) (ma_swM hs h hx1 hx2 (hm.2 x (fun e => hx2 e.symm))) (Nat.le_trans (ma_swms hx2 hx1) ht) (by omega)
theorem ma_keep {E : Fin 8 → Fin 8 → Bool} (hs : ∀ a b, E a b = E b a) {m : Fin 8 → Fin 8} (hm : ma_M E m) (z : Fin 8) (t : Nat) (hmin : ∀ n, ma_M E n → t ≤ ma_ms n) : ∀ (k : Nat) (n : Fin 8 → Fin 8), ma_M E n → n z = z → ma_ms n ≤ t → 8 ≤ ma_ag n m + k → ∃ n', ma_M E n' ∧ n' z = z ∧ (∀ x, n' x = x → m x = x ∨ x = z) ∧ ma_ms n' ≤ t := by
  intro k
  induction k with
  | zero =>
    intro n h hz ht ha
    refine ⟨n, h, hz, ?_, ht⟩
    intro x hx
    apply Classical.byContradiction
    intro hc
    have h1 := ma_swag h hm hx (fun e => hc (Or.inl e.symm))
    have h2 : ma_ag (ma_sw n x (m x)) m ≤ 8 := fc_le _
    omega
  | succ k ih =>
    intro n h hz ht ha
    by_cases hc : ∀ x, n x = x → m x = x ∨ x = z
    · exact ⟨n, h, hz, hc, ht⟩
    · obtain ⟨x, hx⟩ := fc_ex _ hc
      have hx1 : n x = x := Classical.byContradiction (fun e => hx (fun e2 => absurd e2 e))
      have hx2 : x ≠ m x := fun e => hx (fun _ => Or.inl e.symm)
      have hx3 : z ≠ x := fun e => hx (fun _ => Or.inr e.symm)
      have h1 := ma_swag h hm hx1 hx2
      have hM := ma_swM hs h hx1 hx2 (hm.2 x (fun e => hx2 e.symm))
      have hx4 : z ≠ m x := fun e => by
        have h5 := ma_swms2 hx2 hx1 (by rw [← e]; exact hz)
        have h6 := hmin _ hM
        omega
      refine ih (ma_sw n x (m x)) hM ?_ (Nat.le_trans (ma_swms hx2 hx1) ht) (by omega)
      simp [ma_sw, hx3, hx4, hz]
/-- a greatest matching -/
def ma_Mx (E : Fin 8 → Fin 8 → Bool) (m : Fin 8 → Fin 8) : Prop := ma_M E m ∧ ∀ n, ma_M E n → ma_ms m ≤ ma_ms n
/-- r stays out in every matching that leaves out no more than m -/
def ma_NR (E : Fin 8 → Fin 8 → Bool) (m : Fin 8 → Fin 8) (r : Fin 8) : Prop := ∀ n, ma_M E n → (∀ x, n x = x → m x = x) → n r = r
theorem ma_NRdown {E : Fin 8 → Fin 8 → Bool} {m m' : Fin 8 → Fin 8} {r : Fin 8} (h : ma_NR E m r) (hd : ∀ x, m' x = x → m x = x) : ma_NR E m' r :=
  fun n hn hs => h n hn (fun x hx => hd x (hs x hx))
theorem ma_max {E : Fin 8 → Fin 8 → Bool} (hs : ∀ a b, E a b = E b a) {m : Fin 8 → Fin 8} (hm : ma_M E m) (hr : ∀ r, m r = r → ma_NR E m r) : ma_Mx E m := by
  refine ⟨hm, fun n hn => ?_⟩
  obtain ⟨n', h1, h2, h3⟩ := ma_push hs hm (ma_ms n) 8 n hn (Nat.le_refl _) (Nat.le_add_left _ _)
  refine Nat.le_trans ?_ h3
  exact fc_mono (fun x hx => ma_o.mpr (hr x (ma_o.mp hx) n' h1 h2))
theorem ma_xch {E : Fin 8 → Fin 8 → Bool} (hs : ∀ a b, E a b = E b a) {m n : Fin 8 → Fin 8} (hm : ma_Mx E m) (hn : ma_M E n) (hle : ma_ms n ≤ ma_ms m) {z : Fin 8} (hz : n z = z) : ∃ n', ma_M E n' ∧ n' z = z ∧ (∀ x, n' x = x → m x = x ∨ x = z) ∧ ma_ms n' ≤ ma_ms m :=
  ma_keep hs hm.1 z (ma_ms m) hm.2 8 n hn hz hle (Nat.le_add_left _ _)
end
section
/-! ## the certificate of a search that made no pair -/
def ce_C (E : Fin 8 → Fin 8 → Bool) (m : Fin 8 → Fin 8) (r : Fin 8) (O I : Fin 8 → Bool) (B : Fin 8 → Fin 8) : Prop :=
  (O r = true ∧ B r = r ∧ m r = r) ∧
  (∀ x y, O x = true → E x y = true → O y = true ∨ I y = true) ∧
  (∀ x, O x = true → I x = true → False) ∧
  (∀ x y, O x = true → O y = true → E x y = true → B x = B y) ∧
  (∀ y, I y = true → O (m y) = true ∧ B (m y) = m y) ∧
  (∀ x, O x = true → B x ≠ x → O (m x) = true ∧ m x ≠ x) ∧
  (∀ x, O x = true → O (B x) = true ∧ B (B x) = B x) ∧
  (∀ x, O x = true → B x = x → x ≠ r → I (m x) = true)
theorem ce_only {E : Fin 8 → Fin 8 → Bool} {m : Fin 8 → Fin 8} {r : Fin 8} {O I : Fin 8 → Bool} {B : Fin 8 → Fin 8} (h : ce_C E m r O I B) {w : Fin 8} (hO : O w = true) (hw : m w = w) : w = r := by
  obtain ⟨h1, h2, h3, h4, h5, h6, h7, h8⟩ := h
  apply Classical.byContradiction
  intro hr
  by_cases hb : B w = w
  · have := h8 w hO hb hr
    rw [hw] at this
    exact h3 w hO this
  · exact (h6 w hO hb).2 hw
theorem ce_pick {E : Fin 8 → Fin 8 → Bool} {m : Fin 8 → Fin 8} {r : Fin 8} {O I : Fin 8 → Bool} {B : Fin 8 → Fin 8} (h : ce_C E m r O I B) (hm : ma_M E m) {n : Fin 8 → Fin 8} (hn : ma_M E n) (b : Fin 8) : ∃ v, (O b = true ∧ B b = b) → (O v = true ∧ B v = b ∧ (n v = v ∨ I (n v) = true)) := by
  obtain ⟨h1, h2, h3, h4, h5, h6, h7, h8⟩ := h
  apply Classical.byContradiction
  intro hc
  have hb : O b = true ∧ B b = b := Classical.byContradiction (fun e => hc ⟨b, fun e2 => absurd e2 e⟩)
  have hall : ∀ x, O x = true → B x = b → n x ≠ x ∧ I (n x) ≠ true := fun x h1 h2 =>
    ⟨fun e => hc ⟨x, fun _ => ⟨h1, h2, Or.inl e⟩⟩, fun e => hc ⟨x, fun _ => ⟨h1, h2, Or.inr e⟩⟩⟩
  have e1 : fc_ct (fun x => O x && decide (B x = b)) % 2 = 0 := fc_ev n hn.1 (fun x hx => by
    simp at hx
    have ha := hall x hx.1 hx.2
    have hE := hn.2 x ha.1
    have hO : O (n x) = true := by
      rcases h2 x (n x) hx.1 hE with u | u
      · exact u
      · exact absurd u ha.2
    have hB := h4 x (n x) hx.1 hO hE
    refine ⟨?_, ha.1⟩
    simp [hO, ← hB, hx.2])
  have e2 : fc_ct (fun x => O x && decide (B x = b)) % 2 = 1 := fc_odd m hm.1 (b := b) (by simp [hb]) (fun x hx hxb => by
    simp at hx
    have hB : B x ≠ x := fun e => hxb (by rw [← e, hx.2])
    have h6' := h6 x hx.1 hB
    have hE := hm.2 x h6'.2
    have hB2 := h4 x (m x) hx.1 h6'.1 hE
    refine ⟨by simp [h6'.1, ← hB2, hx.2], h6'.2, fun e => ?_⟩
    have hmb : m b = x := ma_flip hm e
    by_cases hr : b = r
    · rw [hr, h1.2.2] at hmb
      exact hxb (hmb.symm.trans hr.symm)
    · have := h8 b hb.1 hb.2 hr
      rw [hmb] at this
      exact h3 x hx.1 this)
  omega
theorem ce_dual {E : Fin 8 → Fin 8 → Bool} {m : Fin 8 → Fin 8} {r : Fin 8} {O I : Fin 8 → Bool} {B : Fin 8 → Fin 8} (h : ce_C E m r O I B) (hm : ma_M E m) {n : Fin 8 → Fin 8} (hn : ma_M E n) (v0 : Fin 8)
    (h0 : ∀ w, O w = true → n w = w → w = v0) (hy : (∀ w, O w = true → n w ≠ w) ∨ ∃ y, I y = true ∧ n y = y) : False := by
  obtain ⟨v, hv⟩ := Classical.axiomOfChoice (ce_pick h hm hn)
  obtain ⟨h1, h2, h3, h4, h5, h6, h7, h8⟩ := h
  have hy' : ∃ y, ∀ b, O b = true → B b = b → n (v b) = v b → I y = true ∧ n y = y := by
    rcases hy with u | ⟨y, u⟩
    · exact ⟨r, fun b hb hb2 e => absurd e (u _ (hv b ⟨hb, hb2⟩).1)⟩
    · exact ⟨y, fun _ _ _ _ => u⟩
  obtain ⟨y, hy⟩ := hy'
  have key : ∀ b, O b = true → B b = b → I (n (v b)) ≠ true → n (v b) = v b := fun b hb hb2 hI => by
    rcases (hv b ⟨hb, hb2⟩).2.2 with u | u
    · exact u
    · exact absurd u hI
  have hr : ∀ z, I z = true → m z ≠ r := fun z hz e => by
    have : z = r := by rw [← hm.1 z, e, h1.2.2]
    exact h3 r h1.1 (this ▸ hz)
  refine fc_pig (P := fun b => O b && decide (B b = b)) (fun b => if I (n (v b)) = true then m (n (v b)) else m y) ?_ ?_ (r := r) ?_ ?_
  · intro b hb
    simp at hb
    by_cases hI : I (n (v b)) = true
    · have := h5 _ hI
      simp [hI, this]
    · have := h5 _ (hy b hb.1 hb.2 (key b hb.1 hb.2 hI)).1
      simp [hI, this]
  · intro a b ha hb e
    simp at ha hb
    have hva := hv a ha
    have hvb := hv b hb
    by_cases hIa : I (n (v a)) = true
    · by_cases hIb : I (n (v b)) = true
      · simp [hIa, hIb] at e
        have e2 := ma_inj hn (ma_inj hm e)
        rw [← hva.2.1, e2, hvb.2.1]
      · simp [hIa, hIb] at e
        have hyb := hy b hb.1 hb.2 (key b hb.1 hb.2 hIb)
        have e2 := ma_inj hm e
        have e3 : v a = y := by rw [← hn.1 (v a), e2, hyb.2]
        exact absurd (e3 ▸ hyb.1) (fun e => h3 _ hva.1 e)
    · by_cases hIb : I (n (v b)) = true
      · simp [hIa, hIb] at e
        have hya := hy a ha.1 ha.2 (key a ha.1 ha.2 hIa)
        have e2 := ma_inj hm e
        have e3 : v b = y := by rw [← hn.1 (v b), ← e2, hya.2]
        exact absurd (e3 ▸ hya.1) (fun e => h3 _ hvb.1 e)
      · have e1 := h0 _ hva.1 (key a ha.1 ha.2 hIa)
        have e2 := h0 _ hvb.1 (key b hb.1 hb.2 hIb)
        rw [← hva.2.1, e1, ← e2, hvb.2.1]
  · simp [h1]
  · intro b hb
    simp at hb
    by_cases hI : I (n (v b)) = true
    · simp [hI, hr _ hI]
    · simp [hI, hr _ (hy b hb.1 hb.2 (key b hb.1 hb.2 hI)).1]
theorem ce_NR {E : Fin 8 → Fin 8 → Bool} {m : Fin 8 → Fin 8} {r : Fin 8} {O I : Fin 8 → Bool} {B : Fin 8 → Fin 8} (h : ce_C E m r O I B) (hm : ma_M E m) : ma_NR E m r := by
  intro n hn hs
  apply Classical.byContradiction
  intro hr
  have key : ∀ w, O w = true → n w ≠ w := fun w hw e => hr (by
    have := ce_only h hw (hs w e)
    rw [this] at e
    exact e)
  exact ce_dual h hm hn r (fun w hw e => absurd e (key w hw)) (Or.inl key)
/-- the certificate, and for every outer point a matching that leaves it out instead of r -/
def ce_F (E : Fin 8 → Fin 8 → Bool) (m : Fin 8 → Fin 8) (r : Fin 8) (O : Fin 8 → Bool) : Prop :=
  (∃ I B, ce_C E m r O I B) ∧ ∀ x, O x = true → ∃ n, ma_M E n ∧ ∀ z, n z = z ↔ (z = x ∨ (m z = z ∧ z ≠ r))
theorem ce_loose {E : Fin 8 → Fin 8 → Bool} (hs : ∀ a b, E a b = E b a) {m : Fin 8 → Fin 8} (hm : ma_Mx E m) {Of : Fin 8 → Fin 8 → Bool} (hF : ∀ r, m r = r → ce_F E m r (Of r)) (x : Fin 8) :
    (∃ n, ma_Mx E n ∧ n x = x) ↔ ∃ r, m r = r ∧ Of r x = true := by
  constructor
  · rintro ⟨n, hn, hx⟩
    by_cases hmx : m x = x
    · obtain ⟨⟨I, B, hC⟩, _⟩ := hF x hmx
      exact ⟨x, hmx, hC.1.1⟩
    · obtain ⟨n', a1, a2, a3, a4⟩ := ma_xch hs hm hn.1 (hn.2 m hm.1) hx
      have hr : ∃ r, m r = r ∧ n' r ≠ r := by
        apply Classical.byContradiction
        intro hc
        have : ma_ms m < ma_ms n' := fc_lt (y := x) (fun w hw => ma_o.mpr (Classical.byContradiction (fun e => hc ⟨w, ma_o.mp hw, e⟩))) (ma_o.mpr a2) (ma_of.mpr hmx)
        omega
      obtain ⟨r, hr, hr'⟩ := hr
      refine ⟨r, hr, ?_⟩
      obtain ⟨⟨I, B, hC⟩, _⟩ := hF r hr
      apply Classical.byContradiction
      intro hO
      have key : ∀ w, Of r w = true → n' w ≠ w := fun w hw e => by
        rcases a3 w e with u | u
        · have := ce_only hC hw u
          rw [this] at e
          exact hr' e
        · rw [u] at hw; exact hO hw
      exact ce_dual hC hm.1 a1 r (fun w hw e => absurd e (key w hw)) (Or.inl key)
  · rintro ⟨r, hr, hO⟩
    obtain ⟨_, hf⟩ := hF r hr
    obtain ⟨n, hn, hz⟩ := hf x hO
    refine ⟨n, ⟨hn, fun n' hn' => Nat.le_trans ?_ (hm.2 n' hn')⟩, (hz x).mpr (Or.inl rfl)⟩
    refine fc_inj (fun w => if w = x then r else w) (fun w hw => ?_) (fun a b ha hb e => ?_)
    · by_cases hwx : w = x
      · simp [hwx, ma_o.mpr hr]
      · have := (hz w).mp (ma_o.mp hw)
        simp [hwx] at this
        simp [hwx, ma_o.mpr this.1]
    · have h1 := (hz a).mp (ma_o.mp ha)
      have h2 := (hz b).mp (ma_o.mp hb)
      by_cases hax : a = x
      · by_cases hbx : b = x
        · rw [hax, hbx]
        · simp [hax, hbx] at e
          simp [hbx] at h2
          exact absurd e.symm h2.2
      · by_cases hbx : b = x
        · simp [hax, hbx] at e
          simp [hax] at h1
          exact absurd e h1.2
        · simpa [hax, hbx] using e
theorem ce_ID {E : Fin 8 → Fin 8 → Bool} {m : Fin 8 → Fin 8} (hm : ma_M E m) {r s : Fin 8} {O I Os : Fin 8 → Bool} {B : Fin 8 → Fin 8} (h : ce_C E m r O I B) (hF : ce_F E m s Os) {y : Fin 8} (hI : I y = true) (hO : Os y = true) : False := by
  obtain ⟨_, hf⟩ := hF
  obtain ⟨n, hn, hz⟩ := hf y hO
  refine ce_dual h hm hn r (fun w hw e => ?_) (Or.inr ⟨y, hI, (hz y).mpr (Or.inl rfl)⟩)
  rcases (hz w).mp e with u | u
  · rw [u] at hw; exact absurd hI (fun e => h.2.2.1 y hw e)
  · exact ce_only h hw u.1
end
section
/-! ## components, and the two sides of the bound -/
theorem cm_or (P Q : Fin 8 → Bool) (h : ∀ x, P x = true → Q x = true → False) : fc_ct (fun x => P x || Q x) = fc_ct P + fc_ct Q := by
  have key : ∀ x, (P x || Q x).toNat = (P x).toNat + (Q x).toNat := fun x => by
    have := h x
    cases hp : P x <;> cases hq : Q x <;> simp_all
  rw [fc_sum, fc_sum P, fc_sum Q]
  simp only [key]
  omega
/-- T is constant along the lines inside U -/
def cm_K (E : Fin 8 → Fin 8 → Bool) (U T : Fin 8 → Bool) : Prop := ∀ x y, U x = true → U y = true → E x y = true → T x = T y
def cm_J (E : Fin 8 → Fin 8 → Bool) (U : Fin 8 → Bool) (u v : Fin 8) : Prop := ∀ T, cm_K E U T → T u = T v
/-- ld gives every point of U the leader of its component -/
def cm_L (E : Fin 8 → Fin 8 → Bool) (U : Fin 8 → Bool) (ld : Fin 8 → Fin 8) : Prop :=
  (∀ x y, U x = true → U y = true → E x y = true → ld x = ld y) ∧
  (∀ x, U x = true → U (ld x) = true ∧ ld (ld x) = ld x) ∧
  (∀ x y, U x = true → U y = true → ld x = ld y → cm_J E U x y)
def cm_sz (U : Fin 8 → Bool) (ld : Fin 8 → Fin 8) (v : Fin 8) : Nat := fc_ct (fun x => U x && decide (ld x = v))
def cm_od (U : Fin 8 → Bool) (ld : Fin 8 → Fin 8) : Nat := fc_ct (fun v => U v && (decide (ld v = v) && decide (cm_sz U ld v % 2 = 1)))
theorem cm_pick {E : Fin 8 → Fin 8 → Bool} {U : Fin 8 → Bool} {ld : Fin 8 → Fin 8} (hL : cm_L E U ld) {n : Fin 8 → Fin 8} (hn : ma_M E n) (v : Fin 8) : ∃ w, cm_sz U ld v % 2 = 1 → U w = true ∧ ld w = v ∧ (n w = w ∨ U (n w) = false) := by
  apply Classical.byContradiction
  intro hc
  have hod : cm_sz U ld v % 2 = 1 := Classical.byContradiction (fun e => hc ⟨v, fun e2 => absurd e2 e⟩)
  have hall : ∀ w, U w = true → ld w = v → n w ≠ w ∧ U (n w) = true := fun w h1 h2 =>
    ⟨fun e => hc ⟨w, fun _ => ⟨h1, h2, Or.inl e⟩⟩, Classical.byContradiction (fun e => hc ⟨w, fun _ => ⟨h1, h2, Or.inr (by simpa using e)⟩⟩)⟩
  have e1 : cm_sz U ld v % 2 = 0 := fc_ev n hn.1 (fun x hx => by
    simp at hx
    have ha := hall x hx.1 hx.2
    refine ⟨?_, ha.1⟩
    have := hL.1 x (n x) hx.1 ha.2 (hn.2 x ha.1)
    simp [ha.2, ← this, hx.2])
  omega
/-- the number of odd components is at most the removed points and those left out -/
theorem cm_weak {E : Fin 8 → Fin 8 → Bool} {U : Fin 8 → Bool} {ld : Fin 8 → Fin 8} (hL : cm_L E U ld) {n : Fin 8 → Fin 8} (hn : ma_M E n) : cm_od U ld ≤ fc_ct (fun x => !U x) + ma_ms n := by
  obtain ⟨w, hw⟩ := Classical.axiomOfChoice (cm_pick hL hn)
  have h1 : cm_od U ld ≤ fc_ct (fun x => !U x || (U x && ma_out n x)) := by
    refine fc_inj (fun v => if n (w v) = w v then w v else n (w v)) (fun v hv => ?_) (fun a b ha hb e => ?_)
    · simp at hv
      have := hw v hv.2.2
      by_cases h2 : n (w v) = w v
      · simp [h2, this.1, ma_o.mpr h2]
      · rcases this.2.2 with u | u
        · exact absurd u h2
        · simp [h2, u]
    · simp at ha hb
      have hA := hw a ha.2.2
      have hB := hw b hb.2.2
      by_cases h2 : n (w a) = w a
      · by_cases h3 : n (w b) = w b
        · simp [h2, h3] at e
          rw [← hA.2.1, e, hB.2.1]
        · simp [h2, h3] at e
          rcases hB.2.2 with u | u
          · exact absurd u h3
          · rw [← e, hA.1] at u; exact absurd u (by decide)
      · by_cases h3 : n (w b) = w b
        · simp [h2, h3] at e
          rcases hA.2.2 with u | u
          · exact absurd u h2
          · rw [e, hB.1] at u; exact absurd u (by decide)
        · simp [h2, h3] at e
          rw [← hA.2.1, ma_inj hn e, hB.2.1]
  have h2 := cm_or (fun x => !U x) (fun x => U x && ma_out n x) (fun x a b => by
    simp at a b; rw [a] at b; exact absurd b.1 (by decide))
  have h3 : fc_ct (fun x => U x && ma_out n x) ≤ ma_ms n := fc_mono (fun x hx => by simp at hx; exact hx.2)
  omega
/-- at the points beside the loose ones it is that number -/
theorem cm_tight {E : Fin 8 → Fin 8 → Bool} (hs : ∀ a b, E a b = E b a) {m : Fin 8 → Fin 8} (hm : ma_M E m) {Of : Fin 8 → Fin 8 → Bool} (hF : ∀ r, m r = r → ce_F E m r (Of r))
    {D U : Fin 8 → Bool} (hD : ∀ x, D x = true ↔ ∃ r, m r = r ∧ Of r x = true) (hU : ∀ x, U x = false ↔ (D x = false ∧ ∃ y, D y = true ∧ E x y = true))
    {ld : Fin 8 → Fin 8} (hL : cm_L E U ld) : fc_ct (fun x => !U x) + ma_ms m ≤ cm_od U ld := by
  have hDU : ∀ x, D x = true → U x = true := fun x hx => by
    cases h : U x
    · have := ((hU x).mp h).1; rw [hx] at this; exact absurd this (by decide)
    · rfl
  have hOD : ∀ r x, m r = r → Of r x = true → D x = true := fun r x hr hx => (hD x).mpr ⟨r, hr, hx⟩
  have hnb : ∀ r (I : Fin 8 → Bool) (B : Fin 8 → Fin 8), m r = r → ce_C E m r (Of r) I B → ∀ x y, Of r x = true → U y = true → E x y = true → Of r y = true := by
    intro r I B hr hC x y hx hy he
    rcases hC.2.1 x y hx he with u | u
    · exact u
    · have hDy : D y = false := by
        cases h : D y
        · rfl
        · obtain ⟨s, h1, h2⟩ := (hD y).mp h
          exact absurd (ce_ID hm hC (hF s h1) u h2) id
      have := (hU y).mpr ⟨hDy, x, hOD r x hr hx, by rw [hs]; exact he⟩
      rw [hy] at this; exact absurd this (by decide)
  have hQD : ∀ q, (m q = q ∨ U (m q) = false) → D q = true := by
    intro q hq
    rcases hq with u | u
    · obtain ⟨⟨I, B, hC⟩, _⟩ := hF q u
      exact hOD q q u hC.1.1
    · obtain ⟨h1, y, h2, h3⟩ := (hU _).mp u
      obtain ⟨r, hr, hy⟩ := (hD y).mp h2
      obtain ⟨⟨I, B, hC⟩, _⟩ := hF r hr
      rcases hC.2.1 y (m q) hy (by rw [hs]; exact h3) with v | v
      · have := hOD r _ hr v
        rw [h1] at this; exact absurd this (by decide)
      · have := (hC.2.2.2.2.1 _ v).1
        rw [hm.1] at this
        exact hOD r q hr this
  have hQB : ∀ r (I : Fin 8 → Bool) (B : Fin 8 → Fin 8), m r = r → ce_C E m r (Of r) I B → ∀ q, (m q = q ∨ U (m q) = false) → Of r q = true → B q = q := by
    intro r I B hr hC q hq hO
    rcases hq with u | u
    · have := ce_only hC hO u
      rw [this]; exact hC.1.2.1
    · have hne : m q ≠ q := fun e => by
        rw [e, hDU q (hOD r q hr hO)] at u; exact absurd u (by decide)
      rcases hC.2.1 q (m q) hO (hm.2 q hne) with v | v
      · have := hDU _ (hOD r _ hr v)
        rw [u] at this; exact absurd this (by decide)
      · have := (hC.2.2.2.2.1 _ v).2
        rw [hm.1] at this
        exact this
  have hKb : ∀ r (I : Fin 8 → Bool) (B : Fin 8 → Fin 8), m r = r → ce_C E m r (Of r) I B → ∀ b, cm_K E U (fun x => Of r x && decide (B x = b)) := by
    intro r I B hr hC b x y hx hy he
    show (Of r x && decide (B x = b)) = (Of r y && decide (B y = b))
    cases h1 : Of r x
    · cases h2 : Of r y
      · simp
      · have := hnb r I B hr hC y x h2 hx (by rw [hs]; exact he)
        rw [h1] at this; exact absurd this (by decide)
    · have h2 := hnb r I B hr hC x y h1 hy he
      have h3 := hC.2.2.2.1 x y h1 h2 he
      simp [h1, h2, h3]
  have hcls : ∀ q x, (m q = q ∨ U (m q) = false) → cm_J E U q x → ∃ r I B, m r = r ∧ ce_C E m r (Of r) I B ∧ Of r q = true ∧ B q = q ∧ Of r x = true ∧ B x = q := by
    intro q x hq hj
    obtain ⟨r, hr, hO⟩ := (hD q).mp (hQD q hq)
    obtain ⟨⟨I, B, hC⟩, _⟩ := hF r hr
    have hB := hQB r I B hr hC q hq hO
    have := hj _ (hKb r I B hr hC q)
    simp [hO, hB] at this
    exact ⟨r, I, B, hr, hC, hO, hB, this.1, this.2⟩
  have hct : fc_ct (fun x => !U x) + ma_ms m ≤ fc_ct (fun q => ma_out m q || !U (m q)) := by
    have h1 := cm_or (ma_out m) (fun q => !U (m q)) (fun q a b => by
      have a' := ma_o.mp a
      simp at b
      rw [a'] at b
      have := hDU q (hQD q (Or.inl a'))
      rw [b] at this; exact absurd this (by decide))
    have h2 : fc_ct (fun x => !U x) ≤ fc_ct (fun q => !U (m q)) := fc_inj m (fun x hx => by simpa [hm.1] using hx) (fun a b _ _ e => ma_inj hm e)
    unfold ma_ms
    omega
  refine Nat.le_trans hct ?_
  have hq' : ∀ q, (ma_out m q || !U (m q)) = true → (m q = q ∨ U (m q) = false) := fun q hq => by
    simp [ma_o] at hq
    exact hq
  refine fc_inj ld (fun q hq => ?_) (fun a b ha hb e => ?_)
  · have hq1 := hq' q hq
    have hUq := hDU q (hQD q hq1)
    have hl := hL.2.1 q hUq
    have hodd : cm_sz U ld (ld q) % 2 = 1 := by
      refine fc_odd m hm.1 (b := q) (by simp [hUq]) (fun x hx hxq => ?_)
      simp at hx
      obtain ⟨r, I, B, hr, hC, h1, h2, h3, h4⟩ := hcls q x hq1 (hL.2.2 q x hUq hx.1 hx.2.symm)
      have h5 := hC.2.2.2.2.2.1 x h3 (fun e => hxq (e.symm.trans h4))
      have h6 := hm.2 x h5.2
      have h7 := hDU _ (hOD r _ hr h5.1)
      have h8 := hL.1 x (m x) hx.1 h7 h6
      refine ⟨by simp [h7, ← h8, hx.2], h5.2, fun e => ?_⟩
      have e2 : m q = x := ma_flip hm e
      rcases hq1 with u | u
      · exact hxq (e2.symm.trans u)
      · rw [e2, hx.1] at u; exact absurd u (by decide)
    simp [hl, hodd]
  · have ha1 := hq' a ha
    have hb1 := hq' b hb
    obtain ⟨r, I, B, hr, hC, h1, h2, h3, h4⟩ := hcls a b ha1 (hL.2.2 a b (hDU a (hQD a ha1)) (hDU b (hQD b hb1)) e)
    have := hQB r I B hr hC b hb1 h3
    rw [← h4, this]
end
section
/-! ## walks back to the root, and taking them -/
def wk_W (F : Fin 8 → Option (Fin 8)) (m : Fin 8 → Fin 8) (r : Fin 8) : List (Fin 8) → Prop
  | [] => False
  | [x] => x = r
  | x :: y :: t => x ≠ r ∧ F (m x) = some y ∧ wk_W F m r (y :: t)
def wk_S (m : Fin 8 → Fin 8) (r : Fin 8) (L : List (Fin 8)) : Prop := ∀ a, a ∈ L → a ≠ r → m a ∉ L
theorem wk_det {F : Fin 8 → Option (Fin 8)} {m : Fin 8 → Fin 8} {r : Fin 8} : ∀ {t t' : List (Fin 8)} {x : Fin 8}, wk_W F m r (x :: t) → wk_W F m r (x :: t') → t = t'
  | [], [], _, _, _ => rfl
  | [], _ :: _, _, h, h' => absurd h h'.1
  | _ :: _, [], _, h, h' => absurd h' h.1
  | y :: t, y' :: t', x, h, h' => by
    have e : y = y' := Option.some.inj (h.2.1.symm.trans h'.2.1)
    subst e
    rw [wk_det h.2.2 h'.2.2]
theorem wk_suf {F : Fin 8 → Option (Fin 8)} {m : Fin 8 → Fin 8} {r : Fin 8} : ∀ {l t : List (Fin 8)} {x : Fin 8}, wk_W F m r (l ++ x :: t) → wk_W F m r (x :: t)
  | [], _, _, h => h
  | [_], _, _, h => h.2.2
  | _ :: b :: l, _, _, h => wk_suf (l := b :: l) h.2.2
theorem wk_nd {F : Fin 8 → Option (Fin 8)} {m : Fin 8 → Fin 8} {r : Fin 8} : ∀ {L : List (Fin 8)}, wk_W F m r L → L.Nodup
  | [], _ => List.nodup_nil
  | [x], _ => List.nodup_cons.mpr ⟨by simp, List.nodup_nil⟩
  | x :: y :: t, h => by
    refine List.nodup_cons.mpr ⟨fun hm => ?_, wk_nd h.2.2⟩
    obtain ⟨l, t', e⟩ := List.append_of_mem hm
    have h1 := wk_suf (e ▸ h.2.2 : wk_W F m r (l ++ x :: t'))
    have h2 := wk_det h h1
    have h3 := congrArg List.length e
    rw [List.length_append, h2, List.length_cons] at h3
    omega
theorem wk_ne {F : Fin 8 → Option (Fin 8)} {m : Fin 8 → Fin 8} {r : Fin 8} {L : List (Fin 8)} (h : wk_W F m r L) : r ∈ L := by
  induction L with
  | nil => exact absurd h id
  | cons x t ih =>
    cases t with
    | nil => exact (show x = r from h) ▸ List.mem_cons_self
    | cons y t => exact List.mem_cons_of_mem _ (ih h.2.2)
theorem wk_root {F : Fin 8 → Option (Fin 8)} {m : Fin 8 → Fin 8} {r : Fin 8} {t : List (Fin 8)} (h : wk_W F m r (r :: t)) : t = [] := by
  cases t with
  | nil => rfl
  | cons y t => exact absurd rfl h.1
theorem wk_cong {F F' : Fin 8 → Option (Fin 8)} {m m' : Fin 8 → Fin 8} {r : Fin 8} : ∀ {L : List (Fin 8)}, (∀ a, a ∈ L → F' (m' a) = F (m a)) → wk_W F m r L → wk_W F' m' r L
  | [], _, h => h
  | [_], _, h => h
  | x :: y :: t, hc, h => ⟨h.1, (hc x List.mem_cons_self).trans h.2.1, wk_cong (fun a ha => hc a (List.mem_cons_of_mem _ ha)) h.2.2⟩
theorem ma_swi {n : Fin 8 → Fin 8} {x y w : Fin 8} (h1 : w ≠ x) (h2 : w ≠ y) (h : w = n y ∨ n w = w) : ma_sw n x y w = w := by
  unfold ma_sw
  by_cases h3 : w = n y
  · simp [h1, h2, ← h3]
  · rcases h with u | u
    · exact absurd u h3
    · simp [h1, h2, h3, u]
theorem ma_swk {n : Fin 8 → Fin 8} {x y w : Fin 8} (h1 : w ≠ x) (h2 : w ≠ y) (h3 : w ≠ n y) : ma_sw n x y w = n w := by
  simp [ma_sw, h1, h2, h3]
/-- taking a walk from a point left out: it and the root are paired -/
theorem wk_aug {E : Fin 8 → Fin 8 → Bool} (hs : ∀ a b, E a b = E b a) {F : Fin 8 → Option (Fin 8)} {r : Fin 8} (hE : ∀ u v, F u = some v → E u v = true) :
    ∀ (t : List (Fin 8)) (w y : Fin 8) (f : Fin 8 → Fin 8), ma_M E f → f y = y → E y w = true → wk_W F f r (w :: t) → wk_S f r (w :: t) → y ∉ w :: t → f r = r →
      ∃ f', ma_M E f' ∧ ∀ z, f' z = z ↔ (f z = z ∧ z ≠ y ∧ z ≠ r) := by
  intro t
  induction t with
  | nil =>
    intro w y f hf hy he hw hS hn hr
    have hw : w = r := hw
    subst hw
    have hyw : y ≠ w := fun e => hn (e ▸ List.mem_cons_self)
    refine ⟨ma_sw f y w, ma_swM hs hf hy hyw he, fun z => ⟨fun hz => ?_, fun hz => ma_swi hz.2.1 hz.2.2 (Or.inr hz.1)⟩⟩
    have h1 := ma_swo hyw hz
    refine ⟨?_, h1.1, h1.2.1⟩
    rcases h1.2.2 with u | u
    · exact absurd (u.trans hr) h1.2.1
    · exact u
  | cons w2 t ih =>
    intro w y f hf hy he hw hS hn hr
    have hnd := List.nodup_cons.mp (wk_nd hw)
    have hyw : y ≠ w := fun e => hn (e ▸ List.mem_cons_self)
    have hfw : f w ∉ w :: w2 :: t := hS w List.mem_cons_self hw.1
    have hfw1 : f w ≠ w := fun e => hfw (by rw [e]; exact List.mem_cons_self)
    have hk : ∀ a, a ∈ w2 :: t → ma_sw f y w a = f a := fun a ha => by
      refine ma_swk (fun e => hn (e ▸ List.mem_cons_of_mem _ ha)) (fun e => hnd.1 (e ▸ ha)) (fun e => hfw (e ▸ List.mem_cons_of_mem _ ha))
    have hfy : f w ≠ y := fun e => hyw (by rw [← hy, ← e, hf.1])
    obtain ⟨f', h1, h2⟩ := ih w2 (f w) (ma_sw f y w) (ma_swM hs hf hy hyw he) (ma_swi hfy hfw1 (Or.inl rfl)) (hE _ _ hw.2.1)
      (wk_cong (fun a ha => by rw [hk a ha]) hw.2.2) (fun a ha har hm => by
        rw [hk a ha] at hm
        exact hS a (List.mem_cons_of_mem _ ha) har (List.mem_cons_of_mem _ hm)) (fun hm => hfw (List.mem_cons_of_mem _ hm))
      (by rw [hk r (wk_ne hw.2.2), hr])
    refine ⟨f', h1, fun z => ?_⟩
    rw [h2 z]
    constructor
    · rintro ⟨a1, a2, a3⟩
      have h3 := ma_swo hyw a1
      refine ⟨?_, h3.1, a3⟩
      rcases h3.2.2 with u | u
      · exact absurd u a2
      · exact u
    · rintro ⟨a1, a2, a3⟩
      have h4 : z ≠ w := fun e => hfw1 (by rw [← e, a1])
      refine ⟨ma_swi a2 h4 (Or.inr a1), fun e => ?_, a3⟩
      have : f z = w := by rw [e, hf.1]
      exact h4 (a1.symm.trans this)
/-- an outer point may be left out instead of the root -/
theorem wk_flip {E : Fin 8 → Fin 8 → Bool} (hs : ∀ a b, E a b = E b a) {F : Fin 8 → Option (Fin 8)} {r : Fin 8} (hE : ∀ u v, F u = some v → E u v = true) {m : Fin 8 → Fin 8} (hm : ma_M E m) (hr : m r = r)
    {x : Fin 8} {t : List (Fin 8)} (hw : wk_W F m r (x :: t)) (hS : wk_S m r (x :: t)) : ∃ n, ma_M E n ∧ ∀ z, n z = z ↔ (z = x ∨ (m z = z ∧ z ≠ r)) := by
  cases t with
  | nil =>
    have hw : x = r := hw
    subst hw
    refine ⟨m, hm, fun z => ⟨fun h => ?_, fun h => ?_⟩⟩
    · by_cases hz : z = x
      · exact Or.inl hz
      · exact Or.inr ⟨h, hz⟩
    · rcases h with u | u
      · rw [u]; exact hr
      · exact u.1
  | cons w t =>
    have hnd := List.nodup_cons.mp (wk_nd hw)
    have hmx : m x ∉ x :: w :: t := hS x List.mem_cons_self hw.1
    have hmx1 : m x ≠ x := fun e => hmx (by rw [e]; exact List.mem_cons_self)
    have hk : ∀ a, a ∈ w :: t → (if a = x ∨ a = m x then a else m a) = m a := fun a ha => by
      have h1 : a ≠ x := fun e => hnd.1 (e ▸ ha)
      have h2 : a ≠ m x := fun e => hmx (e ▸ List.mem_cons_of_mem _ ha)
      simp [h1, h2]
    have hM : ma_M E (fun a => if a = x ∨ a = m x then a else m a) := by
      constructor
      · intro a
        by_cases h1 : a = x ∨ a = m x
        · simp [h1]
        · have h2 : ¬ (m a = x ∨ m a = m x) := by
            rintro (u | u)
            · exact h1 (Or.inr (ma_flip hm u).symm)
            · exact h1 (Or.inl (ma_inj hm u))
          simp only [if_neg h1, if_neg h2, hm.1]
      · intro a
        by_cases h1 : a = x ∨ a = m x
        · simp [h1]
        · simp only [if_neg h1]; exact hm.2 a
    obtain ⟨f', h1, h2⟩ := wk_aug hs hE t w (m x) (fun a => if a = x ∨ a = m x then a else m a) hM (by simp) (hE _ _ hw.2.1)
      (wk_cong (fun a ha => by simp only [hk a ha]) hw.2.2) (fun a ha har hm' => by
        simp only [hk a ha] at hm'
        exact hS a (List.mem_cons_of_mem _ ha) har (List.mem_cons_of_mem _ hm')) (fun h => hmx (List.mem_cons_of_mem _ h))
      (by rw [hk r (wk_ne hw.2.2), hr])
    refine ⟨f', h1, fun z => ?_⟩
    rw [h2 z]
    constructor
    · rintro ⟨a1, a2, a3⟩
      by_cases hz : z = x
      · exact Or.inl hz
      · simp [hz, a2] at a1
        exact Or.inr ⟨a1, a3⟩
    · rintro (u | u)
      · subst u
        exact ⟨by simp, fun e => hmx1 e.symm, hw.1⟩
      · have h4 : z ≠ m x := fun e => by
          have e1 : m z = x := by rw [e, hm.1]
          have e2 : z = x := u.1.symm.trans e1
          exact hmx1 (by rw [← e2]; exact u.1)
        have h5 : z ≠ x := fun e => hmx1 (by rw [← e]; exact u.1)
        exact ⟨by simp [h4, h5, u.1], h4, u.2⟩
end
section
/-! ## what holds while a search goes on -/
def sr_I (E : Fin 8 → Fin 8 → Bool) (m : Fin 8 → Fin 8) (r : Fin 8) (O : Fin 8 → Bool) (B : Fin 8 → Fin 8) (F : Fin 8 → Option (Fin 8)) (rk : Fin 8 → Nat) (q : Nat) : Prop :=
  (O r = true ∧ B r = r ∧ m r = r) ∧
  (∀ u v, F u = some v → E u v = true ∧ O v = true) ∧
  (∀ w, O w = true → B w ≠ w → O (m w) = true ∧ B (m w) = B w ∧ m w ≠ w ∧ ∃ g, F (m w) = some g ∧ B g = B w) ∧
  (∀ w, O w = true → B w = w → w ≠ r → O (m w) = false ∧ B (m w) = m w ∧ m w ≠ w ∧ ∃ g, F (m w) = some g ∧ rk (B g) < rk w) ∧
  (∀ w, O w = true → O (B w) = true ∧ B (B w) = B w) ∧
  (∀ y, O y = false → B y = y) ∧
  (∀ y, O y = false → F y ≠ none → O (m y) = true ∧ B (m y) = m y) ∧
  (∀ x, O x = true → ∃ t, wk_W F m r (x :: t) ∧ wk_S m r (x :: t)) ∧
  (∀ w, O w = true → B w = w → rk w < q)
theorem sr_0 {E : Fin 8 → Fin 8 → Bool} {m : Fin 8 → Fin 8} {r : Fin 8} (hr : m r = r) : sr_I E m r (fun x => decide (x = r)) (fun x => x) (fun _ => none) (fun _ => 0) 1 := by
  refine ⟨⟨by simp, rfl, hr⟩, fun u v h => by simp at h, fun w _ h => absurd rfl h, fun w h _ hw => ?_, fun w h => ⟨h, rfl⟩, fun _ _ => rfl, fun y _ h => absurd rfl h, fun x hx => ?_, fun _ _ _ => Nat.lt_succ_self 0⟩
  · simp at h; exact absurd h hw
  · simp at hx
    exact ⟨[], hx, fun a ha har => by simp at ha; exact absurd (ha.trans hx) har⟩
/-- the walk's points are outer -/
theorem sr_out {E : Fin 8 → Fin 8 → Bool} {m : Fin 8 → Fin 8} {r : Fin 8} {O : Fin 8 → Bool} {F : Fin 8 → Option (Fin 8)} (hF : ∀ u v, F u = some v → E u v = true ∧ O v = true) :
    ∀ {t : List (Fin 8)} {x : Fin 8}, O x = true → wk_W F m r (x :: t) → ∀ a, a ∈ x :: t → O a = true
  | [], x, hx, _, a, ha => by simp at ha; exact ha ▸ hx
  | y :: t, x, hx, h, a, ha => by
    rcases List.mem_cons.mp ha with e | e
    · exact e ▸ hx
    · exact sr_out hF (hF _ _ h.2.1).2 h.2.2 a e
/-- an outer point whose mate is outer lies in one ring with it -/
theorem sr_mate {E : Fin 8 → Fin 8 → Bool} {m : Fin 8 → Fin 8} {r : Fin 8} {O : Fin 8 → Bool} {B : Fin 8 → Fin 8} {F : Fin 8 → Option (Fin 8)} {rk : Fin 8 → Nat} {q : Nat} (h : sr_I E m r O B F rk q) {w : Fin 8} (hw : O w = true) (hm : O (m w) = true) : B (m w) = B w := by
  obtain ⟨h1, h2, h3, h4, h5, h6, h7, h8, h9⟩ := h
  by_cases hb : B w = w
  · by_cases hr : w = r
    · rw [hr, h1.2.2]
    · have := (h4 w hw hb hr).1
      rw [hm] at this; exact absurd this (by decide)
  · exact (h3 w hw hb).2.1
/-- a point outside the tree: its mate is outside -/
theorem sr_side {E : Fin 8 → Fin 8 → Bool} {m : Fin 8 → Fin 8} (hm : ma_M E m) {r : Fin 8} {O : Fin 8 → Bool} {B : Fin 8 → Fin 8} {F : Fin 8 → Option (Fin 8)} {rk : Fin 8 → Nat} {q : Nat} (h : sr_I E m r O B F rk q) {y : Fin 8} (hO : O y = false) (hF : F y = none) : O (m y) = false ∧ F (m y) = none := by
  obtain ⟨h1, h2, h3, h4, h5, h6, h7, h8, h9⟩ := h
  have hO' : O (m y) = false := by
    cases hc : O (m y)
    · rfl
    · exfalso
      by_cases hr : m y = r
      · have : y = r := by rw [← hm.1 y, hr, h1.2.2]
        rw [this, h1.1] at hO; exact absurd hO (by decide)
      · by_cases hb : B (m y) = m y
        · obtain ⟨_, _, _, g, hg, _⟩ := h4 _ hc hb hr
          rw [hm.1, hF] at hg; exact absurd hg (by simp)
        · obtain ⟨_, _, _, g, hg, _⟩ := h3 _ hc hb
          rw [hm.1, hF] at hg; exact absurd hg (by simp)
  refine ⟨hO', ?_⟩
  apply Classical.byContradiction
  intro hc
  have := (h7 _ hO' hc).1
  rw [hm.1, hO] at this; exact absurd this (by decide)
/-- the tree grows over y by its mate -/
theorem sr_grow {E : Fin 8 → Fin 8 → Bool} (hs : ∀ a b, E a b = E b a) {m : Fin 8 → Fin 8} (hm : ma_M E m) {r : Fin 8} {O : Fin 8 → Bool} {B : Fin 8 → Fin 8} {F : Fin 8 → Option (Fin 8)} {rk : Fin 8 → Nat} {q : Nat} (h : sr_I E m r O B F rk q)
    {x y : Fin 8} (hx : O x = true) (hy : O y = false) (hFy : F y = none) (hmy : m y ≠ y) (he : E x y = true) :
    sr_I E m r (fun z => if z = m y then true else O z) B (fun z => if z = y then some x else F z) (fun z => if z = m y then q else rk z) (q + 1) := by
  have hside := sr_side hm h hy hFy
  have hmate := fun w => @sr_mate _ _ _ _ _ _ _ _ h w
  obtain ⟨h1, h2, h3, h4, h5, h6, h7, h8, h9⟩ := h
  have hne : ∀ w, O w = true → w ≠ m y := fun w hw e => by rw [e, hside.1] at hw; exact absurd hw (by decide)
  have hne2 : ∀ w, O w = true → w ≠ y := fun w hw e => by rw [e, hy] at hw; exact absurd hw (by decide)
  have hny : ∀ w, O w = true → m w ≠ y := fun w hw e => hne w hw (ma_flip hm e).symm
  refine ⟨⟨by simp [hne r h1.1, h1.1], h1.2.1, h1.2.2⟩, ?_, ?_, ?_, ?_, ?_, ?_, ?_, ?_⟩
  · intro u v hu
    by_cases e : u = y
    · simp [e] at hu
      subst hu
      refine ⟨by rw [e, hs]; exact he, by simp [hx]⟩
    · simp [e] at hu
      have := h2 u v hu
      exact ⟨this.1, by simp [this.2]⟩
  · intro w hw hb
    by_cases e : w = m y
    · rw [e, h6 _ hside.1] at hb; exact absurd rfl hb
    · simp [e] at hw
      obtain ⟨a1, a2, a3, g, a4, a5⟩ := h3 w hw hb
      exact ⟨by simp [a1], a2, a3, g, by simp [hny w hw, a4], a5⟩
  · intro w hw hb hr
    by_cases e : w = m y
    · subst e
      have hb : O (B x) = true := (h5 x hx).1
      have hb2 := (h5 x hx).2
      refine ⟨?_, ?_, ?_, x, ?_, ?_⟩
      · have hmy' : ¬ y = m y := fun e => hmy e.symm
        simp [hm.1, hy, hmy']
      · rw [hm.1, h6 y hy]
      · rw [hm.1]; exact fun e => hmy e.symm
      · simp [hm.1]
      · simp [hne _ hb]; exact h9 _ hb hb2
    · simp [e] at hw
      obtain ⟨a1, a2, a3, g, a4, a5⟩ := h4 w hw hb hr
      have a6 : m w ≠ m y := fun e2 => hne2 w hw (ma_inj hm e2)
      refine ⟨by simp [a6, a1], a2, a3, g, by simp [hny w hw, a4], ?_⟩
      have a7 := (h5 g (h2 _ _ a4).2).1
      simp [e, hne _ a7, a5]
  · intro w hw
    by_cases e : w = m y
    · subst e
      rw [h6 _ hside.1]
      exact ⟨by simp, h6 _ hside.1⟩
    · simp [e] at hw
      have := h5 w hw
      exact ⟨by simp [this.1], this.2⟩
  · intro z hz
    by_cases e : z = m y
    · simp [e] at hz
    · simp [e] at hz
      exact h6 z hz
  · intro z hz hF
    by_cases e : z = m y
    · simp [e] at hz
    · simp [e] at hz
      by_cases e2 : z = y
      · subst e2
        exact ⟨by simp, h6 _ hside.1⟩
      · simp [e2] at hF
        have := h7 z hz hF
        exact ⟨by simp [this.1], this.2⟩
  · intro z hz
    have old : ∀ a t, O a = true → wk_W F m r (a :: t) → wk_W (fun z => if z = y then some x else F z) m r (a :: t) := fun a t ha hw =>
      wk_cong (fun c hc => by simp [hny c (sr_out h2 ha hw c hc)]) hw
    by_cases e : z = m y
    · subst e
      obtain ⟨t, a1, a2⟩ := h8 x hx
      have hout := sr_out h2 hx a1
      refine ⟨x :: t, ⟨?_, ?_, old x t hx a1⟩, ?_⟩
      · exact fun e => hne r h1.1 e.symm
      · simp [hm.1]
      · intro c hc hcr hmc
        rcases List.mem_cons.mp hc with e1 | e1
        · rw [e1, hm.1] at hmc
          rcases List.mem_cons.mp hmc with e2 | e2
          · exact hmy e2.symm
          · exact hne2 y (hout y e2) rfl
        · rcases List.mem_cons.mp hmc with e2 | e2
          · exact hne2 c (hout c e1) (ma_inj hm e2)
          · exact a2 c e1 hcr e2
    · simp [e] at hz
      obtain ⟨t, a1, a2⟩ := h8 z hz
      exact ⟨t, old z t hz a1, a2⟩
  · intro w hw hb
    by_cases e : w = m y
    · simp [e]
    · simp [e] at hw
      have := h9 w hw hb
      simp [e]; omega
/-- at the end: the certificate -/
theorem sr_end {E : Fin 8 → Fin 8 → Bool} (hs : ∀ a b, E a b = E b a) {m : Fin 8 → Fin 8} (hm : ma_M E m) {r : Fin 8} {O : Fin 8 → Bool} {B : Fin 8 → Fin 8} {F : Fin 8 → Option (Fin 8)} {rk : Fin 8 → Nat} {q : Nat} (h : sr_I E m r O B F rk q)
    (h1 : ∀ x y, O x = true → E x y = true → O y = true ∨ F y ≠ none) (h2 : ∀ x y, O x = true → O y = true → E x y = true → B x = B y) : ce_F E m r O := by
  obtain ⟨a1, a2, a3, a4, a5, a6, a7, a8, a9⟩ := h
  refine ⟨⟨fun y => !O y && (F y).isSome, B, a1, ?_, ?_, h2, ?_, ?_, a5, ?_⟩, ?_⟩
  · intro x y hx he
    cases hy : O y
    · right
      rcases h1 x y hx he with u | u
      · rw [hy] at u; exact absurd u (by decide)
      · simp [Option.isSome_iff_ne_none, u, hy]
    · exact Or.inl rfl
  · intro x hx hi
    simp [hx] at hi
  · intro y hy
    simp at hy
    exact a7 y hy.1 (Option.isSome_iff_ne_none.mp hy.2)
  · intro x hx hb
    have := a3 x hx hb
    exact ⟨this.1, this.2.2.1⟩
  · intro x hx hb hr
    obtain ⟨b1, b2, b3, g, b4, b5⟩ := a4 x hx hb hr
    simp [b1, b4]
  · intro x hx
    obtain ⟨t, b1, b2⟩ := a8 x hx
    exact wk_flip hs (fun u v e => (a2 u v e).1) hm a1.2.2 b1 b2
end
section
/-! ## shrinking a ring: the walks afterwards -/
theorem sk_mono {E : Fin 8 → Fin 8 → Bool} {m : Fin 8 → Fin 8} {r : Fin 8} {O : Fin 8 → Bool} {B : Fin 8 → Fin 8} {F : Fin 8 → Option (Fin 8)} {rk : Fin 8 → Nat} {q : Nat} (h : sr_I E m r O B F rk q) :
    ∀ {t : List (Fin 8)} {w : Fin 8}, O w = true → wk_W F m r (w :: t) → ∀ v, v ∈ t → B v = B w ∨ rk (B v) < rk (B w)
  | [], _, _, _, v, hv => by simp at hv
  | y :: t, w, hO, hw, v, hv => by
    have hy : B y = B w ∨ rk (B y) < rk (B w) := by
      by_cases hb : B w = w
      · obtain ⟨_, _, _, g, a4, a5⟩ := h.2.2.2.1 w hO hb hw.1
        have e : g = y := Option.some.inj (a4.symm.trans hw.2.1)
        right; rw [← e, hb]; exact a5
      · obtain ⟨_, _, _, g, a4, a5⟩ := h.2.2.1 w hO hb
        have e : g = y := Option.some.inj (a4.symm.trans hw.2.1)
        left; rw [← e]; exact a5
    rcases List.mem_cons.mp hv with e | e
    · rw [e]; exact hy
    · have := sk_mono h (h.2.1 _ _ hw.2.1).2 hw.2.2 v e
      rcases this with u | u <;> rcases hy with u' | u'
      · left; rw [u, u']
      · right; rw [u]; exact u'
      · right; rw [← u']; exact u
      · right; omega
theorem sk_base {E : Fin 8 → Fin 8 → Bool} {m : Fin 8 → Fin 8} {r : Fin 8} {O : Fin 8 → Bool} {B : Fin 8 → Fin 8} {F : Fin 8 → Option (Fin 8)} {rk : Fin 8 → Nat} {q : Nat} (h : sr_I E m r O B F rk q) :
    ∀ {t : List (Fin 8)} {w : Fin 8}, O w = true → wk_W F m r (w :: t) → B w ∈ w :: t
  | [], w, _, hw => by
    have hw : w = r := hw
    rw [hw, h.1.2.1]; exact List.mem_cons_self
  | y :: t, w, hO, hw => by
    by_cases hb : B w = w
    · rw [hb]; exact List.mem_cons_self
    · obtain ⟨_, _, _, g, a4, a5⟩ := h.2.2.1 w hO hb
      have e : g = y := Option.some.inj (a4.symm.trans hw.2.1)
      rw [← a5, e]
      exact List.mem_cons_of_mem _ (sk_base h (h.2.1 _ _ hw.2.1).2 hw.2.2)
/-- one side of a ring: the walk, cut where it comes into the goal's ring -/
def sk_H (m : Fin 8 → Fin 8) (r : Fin 8) (O : Fin 8 → Bool) (B : Fin 8 → Fin 8) (F : Fin 8 → Option (Fin 8)) (goal : Fin 8) (XS : List (Fin 8)) (xk : Fin 8) (RA : List (Fin 8)) : Prop :=
  wk_W F m r (XS ++ xk :: RA) ∧ wk_S m r (XS ++ xk :: RA) ∧ (∀ x, x ∈ XS → B x ≠ goal) ∧ B xk = goal ∧ (∀ x, x ∈ XS ++ xk :: RA → O x = true)
section
variable {E : Fin 8 → Fin 8 → Bool} {m : Fin 8 → Fin 8} {r : Fin 8} {O : Fin 8 → Bool} {B : Fin 8 → Fin 8} {F : Fin 8 → Option (Fin 8)} {rk : Fin 8 → Nat} {q : Nat} {goal : Fin 8} {XS YS RA RB : List (Fin 8)} {xk yk : Fin 8}
theorem sk_suf (hH : sk_H m r O B F goal XS xk RA) {x : Fin 8} (hx : x ∈ XS) : ∃ l l2, XS = l ++ x :: l2 ∧ wk_W F m r (x :: (l2 ++ xk :: RA)) := by
  obtain ⟨l, l2, e⟩ := List.append_of_mem hx
  refine ⟨l, l2, e, ?_⟩
  have := hH.1
  rw [e, List.append_assoc] at this
  exact wk_suf this
theorem sk_xo (hH : sk_H m r O B F goal XS xk RA) {x : Fin 8} (hx : x ∈ XS) : O x = true := hH.2.2.2.2 x (List.mem_append_left _ hx)
theorem sk_hi (h : sr_I E m r O B F rk q) (hH : sk_H m r O B F goal XS xk RA) {x : Fin 8} (hx : x ∈ XS) : rk goal < rk (B x) := by
  obtain ⟨l, l2, e, hw⟩ := sk_suf hH hx
  rcases sk_mono h (sk_xo hH hx) hw xk (by simp) with u | u
  · exact absurd (u.symm.trans hH.2.2.2.1) (hH.2.2.1 x hx)
  · rw [hH.2.2.2.1] at u; exact u
theorem sk_lo (h : sr_I E m r O B F rk q) (hH : sk_H m r O B F goal XS xk RA) {z : Fin 8} (hz : z ∈ xk :: RA) : rk (B z) ≤ rk goal := by
  rcases List.mem_cons.mp hz with e | e
  · rw [e, hH.2.2.2.1]; exact Nat.le_refl _
  · rcases sk_mono h (hH.2.2.2.2 xk (by simp)) (wk_suf hH.1) z e with u | u
    · rw [u, hH.2.2.2.1]; exact Nat.le_refl _
    · rw [hH.2.2.2.1] at u; exact Nat.le_of_lt u
theorem sk_r (hH : sk_H m r O B F goal XS xk RA) : r ∉ XS := by
  intro hr
  obtain ⟨l, l2, e, hw⟩ := sk_suf hH hr
  have := wk_root hw
  simp at this
theorem sk_bs (h : sr_I E m r O B F rk q) (hH : sk_H m r O B F goal XS xk RA) {x : Fin 8} (hx : x ∈ XS) : B x ∈ XS := by
  obtain ⟨l, l2, e, hw⟩ := sk_suf hH hx
  have hb := sk_base h (sk_xo hH hx) hw
  rw [← List.cons_append] at hb
  rcases List.mem_append.mp hb with u | u
  · rw [e]; exact List.mem_append_right _ u
  · have h1 := sk_lo h hH u
    rw [(h.2.2.2.2.1 x (sk_xo hH hx)).2] at h1
    have := sk_hi h hH hx
    omega
theorem sk_nx (hH : sk_H m r O B F goal XS xk RA) {x : Fin 8} (hx : x ∈ XS) {g : Fin 8} (hg : F (m x) = some g) : g ∈ XS ∨ B g = goal := by
  obtain ⟨l, l2, e, hw⟩ := sk_suf hH hx
  cases l2 with
  | nil =>
    have h1 : F (m x) = some xk := hw.2.1
    have e2 : g = xk := Option.some.inj (hg.symm.trans h1)
    right; rw [e2]; exact hH.2.2.2.1
  | cons y l2 =>
    have h1 : F (m x) = some y := hw.2.1
    have e2 : g = y := Option.some.inj (hg.symm.trans h1)
    left; rw [e2, e]; simp
theorem sk_ne (h : sr_I E m r O B F rk q) (hH : sk_H m r O B F goal XS xk RA) {x : Fin 8} (hx : x ∈ XS) : x ≠ r ∧ m x ≠ x := by
  have hr : x ≠ r := fun e => sk_r hH (e ▸ hx)
  refine ⟨hr, ?_⟩
  by_cases hb : B x = x
  · exact (h.2.2.2.1 x (sk_xo hH hx) hb hr).2.2.1
  · exact (h.2.2.1 x (sk_xo hH hx) hb).2.2.1
end
/-- the pointers that one marking writes -/
def sk_F (m : Fin 8 → Fin 8) : List (Fin 8) → Fin 8 → (Fin 8 → Option (Fin 8)) → (Fin 8 → Option (Fin 8))
  | [], _, F => F
  | x :: t, c, F => sk_F m t (m x) (fun z => if z = x then some c else F z)
def sk_c (m : Fin 8 → Fin 8) : List (Fin 8) → Fin 8 → Fin 8
  | [], c => c
  | x :: t, _ => sk_c m t (m x)
theorem sk_Fn {m : Fin 8 → Fin 8} : ∀ {XS : List (Fin 8)} {c : Fin 8} {F : Fin 8 → Option (Fin 8)} {v : Fin 8}, v ∉ XS → sk_F m XS c F v = F v
  | [], _, _, _, _ => rfl
  | x :: t, c, F, v, hv => by
    have h1 : v ≠ x := fun e => hv (e ▸ List.mem_cons_self)
    show sk_F m t (m x) (fun z => if z = x then some c else F z) v = F v
    rw [sk_Fn (fun e => hv (List.mem_cons_of_mem _ e))]
    simp [h1]
theorem sk_Fv {m : Fin 8 → Fin 8} : ∀ {l l2 : List (Fin 8)} {x c : Fin 8} {F : Fin 8 → Option (Fin 8)}, (l ++ x :: l2).Nodup → sk_F m (l ++ x :: l2) c F x = some (sk_c m l c)
  | [], l2, x, c, F, hn => by
    show sk_F m l2 (m x) (fun z => if z = x then some c else F z) x = some c
    rw [sk_Fn (List.nodup_cons.mp hn).1]
    simp
  | y :: l, l2, x, c, F, hn => sk_Fv (l := l) (List.nodup_cons.mp hn).2
theorem sk_cc {F : Fin 8 → Option (Fin 8)} {m : Fin 8 → Fin 8} {r : Fin 8} : ∀ {l t : List (Fin 8)} {x c : Fin 8}, wk_W F m r (l ++ x :: t) → (l = [] ∧ sk_c m l c = c) ∨ ∃ x', x' ∈ l ∧ sk_c m l c = m x' ∧ F (m x') = some x
  | [], _, _, _, _ => Or.inl ⟨rfl, rfl⟩
  | [y], _, _, _, h => Or.inr ⟨y, List.mem_cons_self, rfl, h.2.1⟩
  | y :: y2 :: l, t, x, c, h => by
    rcases sk_cc (l := y2 :: l) (c := m y) h.2.2 with u | ⟨x', a1, a2, a3⟩
    · exact absurd u.1 (by simp)
    · exact Or.inr ⟨x', List.mem_cons_of_mem _ a1, a2, a3⟩
theorem sk_rev {F2 : Fin 8 → Option (Fin 8)} {m : Fin 8 → Fin 8} {r : Fin 8} (hmm : ∀ x, m (m x) = x) : ∀ (XS : List (Fin 8)) (c : Fin 8) (A0 : List (Fin 8)),
    (∀ l x l2, XS = l ++ x :: l2 → F2 x = some (sk_c m l c)) → wk_W F2 m r (c :: A0) → (∀ x, x ∈ XS → m x ≠ r) →
    ∀ x, x ∈ XS → ∃ A, wk_W F2 m r (m x :: A) ∧ ∀ z, z ∈ A → z ∈ c :: A0 ∨ ∃ x', x' ∈ XS ∧ z = m x'
  | [], _, _, _, _, _, x, hx => by simp at hx
  | x0 :: t, c, A0, hF, hw, hr, x, hx => by
    have h0 : wk_W F2 m r (m x0 :: c :: A0) := ⟨hr x0 List.mem_cons_self, by rw [hmm]; exact hF [] x0 t rfl, hw⟩
    rcases List.mem_cons.mp hx with e | e
    · subst e
      exact ⟨c :: A0, h0, fun z hz => Or.inl hz⟩
    · obtain ⟨A, a1, a2⟩ := sk_rev hmm t (m x0) (c :: A0) (fun l y l2 e => hF (x0 :: l) y l2 (by rw [e]; rfl)) h0 (fun y hy => hr y (List.mem_cons_of_mem _ hy)) x e
      refine ⟨A, a1, fun z hz => ?_⟩
      rcases a2 z hz with u | ⟨x', u1, u2⟩
      · rcases List.mem_cons.mp u with v | v
        · exact Or.inr ⟨x0, List.mem_cons_self, v⟩
        · exact Or.inl v
      · exact Or.inr ⟨x', List.mem_cons_of_mem _ u1, u2⟩
theorem sk_new {F F2 : Fin 8 → Option (Fin 8)} {m : Fin 8 → Fin 8} {r : Fin 8} (hmm : ∀ x, m (m x) = x) {XS YS : List (Fin 8)} {PX PY : Fin 8 → Prop}
    (hn : ∀ v, v ∉ XS → v ∉ YS → F2 v = F v) (hX : ∀ x, x ∈ XS → ∃ A, wk_W F2 m r (m x :: A) ∧ ∀ z, z ∈ A → PX z) (hY : ∀ x, x ∈ YS → ∃ A, wk_W F2 m r (m x :: A) ∧ ∀ z, z ∈ A → PY z) :
    ∀ L, wk_W F m r L → wk_W F2 m r L ∨ ∃ P w t A, L = P ++ w :: t ∧ (∀ c, c ∈ P → m c ∉ XS ∧ m c ∉ YS) ∧ wk_W F2 m r (P ++ w :: A) ∧ ((m w ∈ XS ∧ ∀ z, z ∈ A → PX z) ∨ (m w ∈ YS ∧ ∀ z, z ∈ A → PY z))
  | [], h => absurd h id
  | [x], h => Or.inl h
  | x :: y :: t, h => by
    by_cases h1 : m x ∈ XS
    · obtain ⟨A, a1, a2⟩ := hX _ h1
      rw [hmm] at a1
      exact Or.inr ⟨[], x, y :: t, A, rfl, by simp, a1, Or.inl ⟨h1, a2⟩⟩
    · by_cases h2 : m x ∈ YS
      · obtain ⟨A, a1, a2⟩ := hY _ h2
        rw [hmm] at a1
        exact Or.inr ⟨[], x, y :: t, A, rfl, by simp, a1, Or.inr ⟨h2, a2⟩⟩
      · have hx : F2 (m x) = some y := (hn _ h1 h2).trans h.2.1
        rcases sk_new hmm hn hX hY (y :: t) h.2.2 with u | ⟨P, w, t', A, b1, b2, b3, b4⟩
        · exact Or.inl ⟨h.1, hx, u⟩
        · refine Or.inr ⟨x :: P, w, t', A, by rw [b1]; rfl, ?_, ?_, b4⟩
          · intro c hc
            rcases List.mem_cons.mp hc with e | e
            · rw [e]; exact ⟨h1, h2⟩
            · exact b2 c e
          · cases P with
            | nil =>
              have e : y = w := (List.cons.inj b1).1
              exact ⟨h.1, by rw [hx, e], b3⟩
            | cons p P =>
              have e : y = p := (List.cons.inj b1).1
              exact ⟨h.1, by rw [hx, e], b3⟩
/-- what the two sides have to do with each other -/
theorem sk_sep {E : Fin 8 → Fin 8 → Bool} {m : Fin 8 → Fin 8} {r : Fin 8} {O : Fin 8 → Bool} {B : Fin 8 → Fin 8} {F : Fin 8 → Option (Fin 8)} {rk : Fin 8 → Nat} {q : Nat} {goal : Fin 8} {XS YS RA RB : List (Fin 8)} {xk yk : Fin 8}
    (h : sr_I E m r O B F rk q) (hA : sk_H m r O B F goal XS xk RA) (hg : ∀ x y, x ∈ XS ++ xk :: RA → y ∈ YS ++ yk :: RB → B x = B y → rk (B x) ≤ rk goal) {x y : Fin 8} (hx : x ∈ XS) (hy : y ∈ YS ++ yk :: RB) : B x ≠ B y := by
  intro e
  have h1 := hg x y (List.mem_append_left _ hx) hy e
  have h2 := sk_hi h hA hx
  omega
section
variable {E : Fin 8 → Fin 8 → Bool} {m : Fin 8 → Fin 8} {r : Fin 8} {O : Fin 8 → Bool} {B : Fin 8 → Fin 8} {F : Fin 8 → Option (Fin 8)} {rk : Fin 8 → Nat} {q : Nat} {goal : Fin 8} {XS YS RA RB : List (Fin 8)} {xk yk : Fin 8}
def sk_Z (m : Fin 8 → Fin 8) (XS LB : List (Fin 8)) (z : Fin 8) : Prop := z ∈ LB ∨ ∃ x, x ∈ XS ∧ z = m x
theorem sk_ZZ (hm : ma_M E m) (h : sr_I E m r O B F rk q) (hA : sk_H m r O B F goal XS xk RA) (hB : sk_H m r O B F goal YS yk RB)
    (hg : ∀ x y, x ∈ XS ++ xk :: RA → y ∈ YS ++ yk :: RB → B x = B y → rk (B x) ≤ rk goal) {c d : Fin 8} (hc : sk_Z m XS (YS ++ yk :: RB) c) (hd : sk_Z m XS (YS ++ yk :: RB) d) (hcr : c ≠ r) (e : m c = d) : False := by
  rcases hc with hc | ⟨x, hx, hc⟩
  · rcases hd with hd | ⟨x, hx, hd⟩
    · exact hB.2.1 c hc hcr (e ▸ hd)
    · have e2 : c = x := ma_inj hm (e.trans hd)
      exact sk_sep h hA hg hx hc (by rw [e2])
  · have e1 : x = d := by rw [← e, hc, hm.1]
    rcases hd with hd | ⟨x', hx', hd⟩
    · exact sk_sep h hA hg hx hd (by rw [e1])
    · have e2 : m x' = x := by rw [e1, hd]
      refine hA.2.1 x' (List.mem_append_left _ hx') (sk_ne h hA hx').1 ?_
      rw [e2]; exact List.mem_append_left _ hx
theorem sk_PZ (hm : ma_M E m) (h : sr_I E m r O B F rk q) (hA : sk_H m r O B F goal XS xk RA) (hB : sk_H m r O B F goal YS yk RB)
    {P t : List (Fin 8)} {w : Fin 8} (hw : wk_W F m r (P ++ w :: t)) (hO : ∀ c, c ∈ P ++ w :: t → O c = true)
    (hP : ∀ c, c ∈ P → m c ∉ XS ∧ m c ∉ YS) (hwX : m w ∈ XS) {c d : Fin 8} (hc : c ∈ P) (hd : sk_Z m XS (YS ++ yk :: RB) d) (e : m c = d) : False := by
  obtain ⟨P1, P2, eP⟩ := List.append_of_mem hc
  have hcw : wk_W F m r (c :: (P2 ++ w :: t)) := by
    rw [eP, List.append_assoc] at hw
    exact wk_suf hw
  have hwr : w ≠ r := fun e => sk_r hA (by rw [e, h.1.2.2] at hwX; exact hwX)
  rcases hd with hd | ⟨x, hx, hd⟩
  · have hOc : O c = true := hO c (List.mem_append_left _ hc)
    have hOw : O w = true := hO w (by simp)
    rcases List.mem_append.mp hd with u | u
    · exact (hP c hc).2 (e ▸ u)
    · have h1 := sk_lo h hB u
      have hOd : O (m c) = true := by rw [e]; exact hB.2.2.2.2 d hd
      have h2 := sr_mate h hOc hOd
      have h3 := sk_mono h hOc hcw w (by simp)
      have h4 := sk_hi h hA hwX
      have h5 := sr_mate h hOw (sk_xo hA hwX)
      rw [← e, h2] at h1
      rw [h5] at h4
      rcases h3 with u | u
      · rw [u] at h4; omega
      · omega
  · have e2 : c = x := ma_inj hm (e.trans hd)
    rw [← e2] at hx
    obtain ⟨l, l2, eX, hcx⟩ := sk_suf hA hx
    have hd := wk_det hcw hcx
    have hwA : w ∈ XS ++ xk :: RA := by
      have h1 : w ∈ l2 ++ xk :: RA := by rw [← hd]; simp
      rw [eX, List.append_assoc]
      exact List.mem_append_right _ (List.mem_cons_of_mem _ h1)
    exact hA.2.1 w hwA hwr (List.mem_append_left _ hwX)
theorem sk_simple (hm : ma_M E m) (h : sr_I E m r O B F rk q) (hA : sk_H m r O B F goal XS xk RA) (hB : sk_H m r O B F goal YS yk RB)
    (hg : ∀ x y, x ∈ XS ++ xk :: RA → y ∈ YS ++ yk :: RB → B x = B y → rk (B x) ≤ rk goal)
    {P t A : List (Fin 8)} {w : Fin 8} (hw : wk_W F m r (P ++ w :: t)) (hS : wk_S m r (P ++ w :: t)) (hO : ∀ c, c ∈ P ++ w :: t → O c = true)
    (hP : ∀ c, c ∈ P → m c ∉ XS ∧ m c ∉ YS) (hwX : m w ∈ XS) (hAZ : ∀ z, z ∈ A → sk_Z m XS (YS ++ yk :: RB) z) : wk_S m r (P ++ w :: A) := by
  have hZ : ∀ z, z ∈ w :: A → sk_Z m XS (YS ++ yk :: RB) z := fun z hz => by
    rcases List.mem_cons.mp hz with e | e
    · exact Or.inr ⟨m w, hwX, by rw [e, hm.1]⟩
    · exact hAZ z e
  intro c hc hcr hd
  rcases List.mem_append.mp hc with u | u
  · rcases List.mem_append.mp hd with v | v
    · exact hS c (List.mem_append_left _ u) hcr (List.mem_append_left _ v)
    · exact sk_PZ hm h hA hB hw hO hP hwX u (hZ _ v) rfl
  · rcases List.mem_append.mp hd with v | v
    · exact sk_PZ hm h hA hB hw hO hP hwX v (hZ _ u) (hm.1 c)
    · exact sk_ZZ hm h hA hB hg (hZ _ u) (hZ _ v) hcr rfl
end
end
section
/-! ## shrinking a ring keeps what holds -/
section
variable {E : Fin 8 → Fin 8 → Bool} {m : Fin 8 → Fin 8} {r : Fin 8} {O : Fin 8 → Bool} {B : Fin 8 → Fin 8} {F F2 : Fin 8 → Option (Fin 8)} {rk : Fin 8 → Nat} {q : Nat} {goal a b : Fin 8} {XS YS RA RB : List (Fin 8)} {xk yk : Fin 8}
/-- the written pointers of one side -/
theorem sh_ptr (hs : ∀ a b, E a b = E b a) (h : sr_I E m r O B F rk q) (hA : sk_H m r O B F goal XS xk RA) (hd : ∃ t, XS ++ xk :: RA = a :: t) (he : E a b = true)
    (hF2 : ∀ l x l2, XS = l ++ x :: l2 → F2 x = some (sk_c m l b)) {x : Fin 8} (hx : x ∈ XS) :
    ∃ c, F2 x = some c ∧ E x c = true ∧ (c = b ∨ ∃ x', x' ∈ XS ∧ c = m x') := by
  obtain ⟨l, l2, e⟩ := List.append_of_mem hx
  refine ⟨sk_c m l b, hF2 l x l2 e, ?_⟩
  have hw := hA.1
  rw [e, List.append_assoc] at hw
  rcases sk_cc (c := b) hw with ⟨u1, u2⟩ | ⟨x', u1, u2, u3⟩
  · refine ⟨?_, Or.inl u2⟩
    obtain ⟨t, ht⟩ := hd
    rw [e, u1] at ht
    have : x = a := (List.cons.inj ht).1
    rw [u2, this]; exact he
  · refine ⟨?_, Or.inr ⟨x', by rw [e]; exact List.mem_append_left _ u1, u2⟩⟩
    rw [u2, hs]
    exact (h.2.1 _ _ u3).1
theorem sh_inv (hs : ∀ a b, E a b = E b a) (hm : ma_M E m) (h : sr_I E m r O B F rk q) (hA : sk_H m r O B F goal XS xk RA) (hB : sk_H m r O B F goal YS yk RB)
    (hg : ∀ x y, x ∈ XS ++ xk :: RA → y ∈ YS ++ yk :: RB → B x = B y → rk (B x) ≤ rk goal)
    (hda : ∃ t, XS ++ xk :: RA = a :: t) (hdb : ∃ t, YS ++ yk :: RB = b :: t) (he : E a b = true) (hgO : O goal = true) (hgB : B goal = goal)
    (hFn : ∀ v, v ∉ XS → v ∉ YS → F2 v = F v) (hFX : ∀ l x l2, XS = l ++ x :: l2 → F2 x = some (sk_c m l b)) (hFY : ∀ l x l2, YS = l ++ x :: l2 → F2 x = some (sk_c m l a))
    {R : Fin 8 → Bool} (hR : ∀ v, R v = true ↔ ∃ x, (x ∈ XS ∨ x ∈ YS) ∧ (v = B x ∨ v = B (m x))) {q' : Nat} (hq : q ≤ q') :
    sr_I E m r (fun p => O p || R (B p)) (fun p => if R (B p) = true then goal else B p) F2 rk q' ∧ (if R (B a) = true then goal else B a) = goal ∧ (if R (B b) = true then goal else B b) = goal := by
  have hg' : ∀ x y, x ∈ YS ++ yk :: RB → y ∈ XS ++ xk :: RA → B x = B y → rk (B x) ≤ rk goal := fun x y hx hy e => by
    rw [e]; exact hg y x hy hx e.symm
  have hsA := fun x y hx hy => @sk_sep E m r O B F rk q goal XS YS RA RB xk yk h hA hg x y hx hy
  have hsB := fun x y hx hy => @sk_sep E m r O B F rk q goal YS XS RB RA yk xk h hB hg' x y hx hy
  have hmate := fun w => @sr_mate E m r O B F rk q h w
  have hpX := fun x hx => @sh_ptr E m r O B F F2 rk q goal a b XS RA xk hs h hA hda he hFX x hx
  have hpY := fun x hx => @sh_ptr E m r O B F F2 rk q goal b a YS RB yk hs h hB hdb (by rw [hs]; exact he) hFY x hx
  obtain ⟨h1, h2, h3, h4, h5, h6, h7, h8, h9⟩ := id h
  have hXO : ∀ x, (x ∈ XS ∨ x ∈ YS) → O x = true := fun x hx => by
    rcases hx with u | u
    · exact sk_xo hA u
    · exact sk_xo hB u
  have hXb : ∀ x, (x ∈ XS ∨ x ∈ YS) → (B x ∈ XS ∨ B x ∈ YS) := fun x hx => by
    rcases hx with u | u
    · exact Or.inl (sk_bs h hA u)
    · exact Or.inr (sk_bs h hB u)
  have hXg : ∀ x, (x ∈ XS ∨ x ∈ YS) → B x ≠ goal ∧ rk goal < rk (B x) ∧ x ≠ r ∧ m x ≠ x := fun x hx => by
    rcases hx with u | u
    · exact ⟨hA.2.2.1 x u, sk_hi h hA u, sk_ne h hA u⟩
    · exact ⟨hB.2.2.1 x u, sk_hi h hB u, sk_ne h hB u⟩
  -- marked bases: of outer points, and the mates of bases on the ring
  have hRo : ∀ v, O v = true → R (B v) = true → (B v ∈ XS ∨ B v ∈ YS) := fun v hv hr => by
    obtain ⟨x, hx, e⟩ := (hR _).mp hr
    have hOb := (h5 v hv).1
    rcases e with e | e
    · rw [e]; exact hXb x hx
    · cases hO : O (m x)
      · rw [e, h6 _ hO, hO] at hOb; exact absurd hOb (by decide)
      · rw [e, hmate x (hXO x hx) hO]; exact hXb x hx
  have hRn : ∀ v, O v = false → R (B v) = true → (m v ∈ XS ∨ m v ∈ YS) ∧ B (m v) = m v := fun v hv hr => by
    rw [h6 v hv] at hr
    obtain ⟨x, hx, e⟩ := (hR _).mp hr
    rcases e with e | e
    · have := (h5 x (hXO x hx)).1
      rw [← e, hv] at this; exact absurd this (by decide)
    · cases hO : O (m x)
      · rw [h6 _ hO] at e
        have e2 : m v = x := by rw [e, hm.1]
        rw [e2]
        refine ⟨hx, ?_⟩
        apply Classical.byContradiction
        intro hb
        have := (h3 x (hXO x hx) hb).1
        rw [hO] at this; exact absurd this (by decide)
      · have := (h5 _ hO).1
        rw [← e, hv] at this; exact absurd this (by decide)
  have hRx : ∀ x, (x ∈ XS ∨ x ∈ YS) → R (B x) = true ∧ R (B (m x)) = true := fun x hx =>
    ⟨(hR _).mpr ⟨x, hx, Or.inl rfl⟩, (hR _).mpr ⟨x, hx, Or.inr rfl⟩⟩
  have hRg : R goal = false := by
    cases hc : R goal
    · rfl
    · have := hRo goal hgO (by rw [hgB]; exact hc)
      have h10 := (hXg _ this).1
      rw [hgB, hgB] at h10; exact absurd rfl h10
  have hRr : R r = false := by
    cases hc : R r
    · rfl
    · have := hRo r h1.1 (by rw [h1.2.1]; exact hc)
      rw [h1.2.1] at this
      exact absurd rfl (hXg r this).2.2.1
  have hda' : a ∈ XS ∨ B a = goal := by
    obtain ⟨t, ht⟩ := hda
    cases XS with
    | nil => right; rw [← (List.cons.inj ht).1]; exact hA.2.2.2.1
    | cons x0 t0 => left; rw [(List.cons.inj ht).1]; exact List.mem_cons_self
  have hdb' : b ∈ YS ∨ B b = goal := by
    obtain ⟨t, ht⟩ := hdb
    cases YS with
    | nil => right; rw [← (List.cons.inj ht).1]; exact hB.2.2.2.1
    | cons x0 t0 => left; rw [(List.cons.inj ht).1]; exact List.mem_cons_self
  have hOa : O a = true := by
    obtain ⟨t, ht⟩ := hda
    exact hA.2.2.2.2 a (by rw [ht]; exact List.mem_cons_self)
  have hOb : O b = true := by
    obtain ⟨t, ht⟩ := hdb
    exact hB.2.2.2.2 b (by rw [ht]; exact List.mem_cons_self)
  have hBa : (if R (B a) = true then goal else B a) = goal := by
    rcases hda' with u | u
    · simp [(hRx a (Or.inl u)).1]
    · simp [u]
  have hBb : (if R (B b) = true then goal else B b) = goal := by
    rcases hdb' with u | u
    · simp [(hRx b (Or.inr u)).1]
    · simp [u]
  -- a written pointer: its line, and its end lies in the new ring
  have hp : ∀ x, (x ∈ XS ∨ x ∈ YS) → ∃ c, F2 x = some c ∧ E x c = true ∧ (O c || R (B c)) = true ∧ (if R (B c) = true then goal else B c) = goal := fun x hx => by
    rcases hx with u | u
    · obtain ⟨c, c1, c2, c3⟩ := hpX x u
      refine ⟨c, c1, c2, ?_⟩
      rcases c3 with c3 | ⟨x', c3, c4⟩
      · rw [c3]; exact ⟨by simp [hOb], hBb⟩
      · have := (hRx x' (Or.inl c3)).2
        rw [c4]; simp [this]
    · obtain ⟨c, c1, c2, c3⟩ := hpY x u
      refine ⟨c, c1, c2, ?_⟩
      rcases c3 with c3 | ⟨x', c3, c4⟩
      · rw [c3]; exact ⟨by simp [hOa], hBa⟩
      · have := (hRx x' (Or.inr c3)).2
        rw [c4]; simp [this]
  have hnx : ∀ x, (x ∈ XS ∨ x ∈ YS) → ∀ g, F (m x) = some g → (if R (B g) = true then goal else B g) = goal := fun x hx g hgx => by
    rcases hx with u | u
    · rcases sk_nx hA u hgx with v | v
      · simp [(hRx g (Or.inl v)).1]
      · simp [v]
    · rcases sk_nx hB u hgx with v | v
      · simp [(hRx g (Or.inr v)).1]
      · simp [v]
  have hold : ∀ v, (v ∉ XS ∧ v ∉ YS) ∨ (v ∈ XS ∨ v ∈ YS) := fun v => by
    by_cases u1 : v ∈ XS
    · exact Or.inr (Or.inl u1)
    · by_cases u2 : v ∈ YS
      · exact Or.inr (Or.inr u2)
      · exact Or.inl ⟨u1, u2⟩
  have hnO : ∀ v, O v = false → v ∉ XS ∧ v ∉ YS := fun v hv => by
    rcases hold v with u | u
    · exact u
    · have := hXO v u
      rw [hv] at this; exact absurd this (by decide)
  refine ⟨⟨⟨by simp [h1.1], by simp [h1.2.1, hRr], h1.2.2⟩, ?_, ?_, ?_, ?_, ?_, ?_, ?_, ?_⟩, hBa, hBb⟩
  · intro u v huv
    rcases hold u with w | w
    · rw [hFn u w.1 w.2] at huv
      have := h2 u v huv
      exact ⟨this.1, by simp [this.2]⟩
    · obtain ⟨c, c1, c2, c3, c4⟩ := hp u w
      have e : c = v := Option.some.inj (c1.symm.trans huv)
      rw [← e]; exact ⟨c2, c3⟩
  · intro w hw hb
    cases hRw : R (B w)
    · have hOw : O w = true := by simpa [hRw] using hw
      have hb' : B w ≠ w := by simpa [hRw] using hb
      obtain ⟨a1, a2, a3, g, a4, a5⟩ := h3 w hOw hb'
      have hnm : m w ∉ XS ∧ m w ∉ YS := by
        rcases hold (m w) with u | u
        · exact u
        · have := (hRx _ u).1
          rw [a2, hRw] at this; exact absurd this (by decide)
      refine ⟨by simp [a1], by simp [a2], a3, g, by rw [hFn _ hnm.1 hnm.2]; exact a4, by simp [a5]⟩
    · cases hOw : O w
      · obtain ⟨c1, c2⟩ := hRn w hOw hRw
        obtain ⟨c, d1, d2, d3, d4⟩ := hp _ c1
        have c3 := (hRx _ c1).1
        have c4 := (hXg _ c1).2.2.2
        refine ⟨by simp [hXO _ c1], by simp [c3, hRw], fun e => c4 (by rw [hm.1]; exact e.symm), c, d1, (d4.trans (if_pos hRw).symm)⟩
      · have hbX := hRo w hOw hRw
        by_cases hb' : B w = w
        · rw [hb'] at hbX
          obtain ⟨a1, a2, a3, g, a4, a5⟩ := h4 w hOw hb' (hXg w hbX).2.2.1
          have c3 := (hRx _ hbX).2
          have hnm := hnO _ a1
          refine ⟨by simp [c3], by simp [c3, hRw], a3, g, by rw [hFn _ hnm.1 hnm.2]; exact a4, ?_⟩
          exact (hnx w hbX g a4).trans (if_pos hRw).symm
        · obtain ⟨a1, a2, a3, g, a4, a5⟩ := h3 w hOw hb'
          rcases hold (m w) with u | u
          · refine ⟨by simp [a1], by simp [a2, hRw], a3, g, by rw [hFn _ u.1 u.2]; exact a4, by simp [a5, hRw]⟩
          · obtain ⟨c, d1, d2, d3, d4⟩ := hp _ u
            refine ⟨by simp [a1], by simp [a2, hRw], a3, c, d1, d4.trans (if_pos hRw).symm⟩
  · intro w hw hb hwr
    have hRw : R (B w) = false := by
      cases hc : R (B w)
      · rfl
      · simp [hc] at hb
        rw [← hb, hgB, hRg] at hc; exact absurd hc (by decide)
    have hOw : O w = true := by simpa [hRw] using hw
    have hb' : B w = w := by simpa [hRw] using hb
    obtain ⟨a1, a2, a3, g, a4, a5⟩ := h4 w hOw hb' hwr
    have hnm := hnO _ a1
    have hRm : R (m w) = false := by
      cases hc : R (m w)
      · rfl
      · have := (hRn (m w) a1 (by rw [a2]; exact hc)).1
        rw [hm.1] at this
        have := (hRx w this).1
        rw [hRw] at this; exact absurd this (by decide)
    refine ⟨by simp [a1, a2, hRm], by simp [a2, hRm], a3, g, by rw [hFn _ hnm.1 hnm.2]; exact a4, ?_⟩
    cases hRgg : R (B g)
    · simpa [hRgg] using a5
    · have := hRo g (h2 _ _ a4).2 hRgg
      have h10 := (hXg _ this).2.1
      rw [(h5 g (h2 _ _ a4).2).2] at h10
      simp [hRgg]
      omega
  · intro w hw
    cases hRw : R (B w)
    · have hOw : O w = true := by simpa [hRw] using hw
      have := h5 w hOw
      simp [hRw, this]
    · simp [hgO, hgB, hRw]
  · intro y hy
    simp at hy
    have h6' := h6 y hy.1
    have hy2 := hy.2
    rw [h6'] at hy2
    simp [h6', hy2]
  · intro y hy hF
    simp at hy
    have hny := hnO y hy.1
    rw [hFn y hny.1 hny.2] at hF
    have h10 := h7 y hy.1 hF
    have hRm : R (m y) = false := by
      cases hc : R (m y)
      · rfl
      · have := hRo (m y) h10.1 (by rw [h10.2]; exact hc)
        rw [h10.2] at this
        have h11 := (hRx _ this).2
        rw [hm.1, hy.2] at h11; exact absurd h11 (by decide)
    simp [h10, hRm]
  · -- the walks
    have hbA : ∀ x, x ∈ XS → ∃ A, wk_W F2 m r (m x :: A) ∧ ∀ z, z ∈ A → sk_Z m XS (YS ++ yk :: RB) z := by
      intro x hx
      obtain ⟨t, ht⟩ := hdb
      have hwb : wk_W F2 m r (b :: t) := by
        rw [← ht]
        refine wk_cong (fun c hc => ?_) hB.1
        have hOc := hB.2.2.2.2 c hc
        have hn1 : m c ∉ XS := fun e => by
          have := hmate c hOc (hXO _ (Or.inl e))
          exact hsA _ c e hc this
        have hn2 : m c ∉ YS := fun e => by
          have hcr : c ≠ r := fun e2 => by rw [e2, h1.2.2] at e; exact sk_r hB e
          exact hB.2.1 c hc hcr (List.mem_append_left _ e)
        exact hFn _ hn1 hn2
      obtain ⟨A, a1, a2⟩ := sk_rev hm.1 XS b t hFX hwb (fun y hy e => by
        have e2 : y = r := by rw [← hm.1 y, e, h1.2.2]
        exact sk_r hA (e2 ▸ hy)) x hx
      refine ⟨A, a1, fun z hz => ?_⟩
      rcases a2 z hz with u | u
      · left; rw [ht]; exact u
      · right; exact u
    have hbB : ∀ x, x ∈ YS → ∃ A, wk_W F2 m r (m x :: A) ∧ ∀ z, z ∈ A → sk_Z m YS (XS ++ xk :: RA) z := by
      intro x hx
      obtain ⟨t, ht⟩ := hda
      have hwb : wk_W F2 m r (a :: t) := by
        rw [← ht]
        refine wk_cong (fun c hc => ?_) hA.1
        have hOc := hA.2.2.2.2 c hc
        have hn1 : m c ∉ YS := fun e => by
          have := hmate c hOc (hXO _ (Or.inr e))
          exact hsB _ c e hc this
        have hn2 : m c ∉ XS := fun e => by
          have hcr : c ≠ r := fun e2 => by rw [e2, h1.2.2] at e; exact sk_r hA e
          exact hA.2.1 c hc hcr (List.mem_append_left _ e)
        exact hFn _ hn2 hn1
      obtain ⟨A, a1, a2⟩ := sk_rev hm.1 YS a t hFY hwb (fun y hy e => by
        have e2 : y = r := by rw [← hm.1 y, e, h1.2.2]
        exact sk_r hB (e2 ▸ hy)) x hx
      refine ⟨A, a1, fun z hz => ?_⟩
      rcases a2 z hz with u | u
      · left; rw [ht]; exact u
      · right; exact u
    intro z hz
    cases hOz : O z
    · have hRz : R (B z) = true := by simpa [hOz] using hz
      obtain ⟨c1, c2⟩ := hRn z hOz hRz
      rcases c1 with u | u
      · obtain ⟨A, a1, a2⟩ := hbA _ u
        rw [hm.1] at a1
        have hZ : ∀ v, v ∈ z :: A → sk_Z m XS (YS ++ yk :: RB) v := fun v hv => by
          rcases List.mem_cons.mp hv with e | e
          · exact Or.inr ⟨m z, u, by rw [e, hm.1]⟩
          · exact a2 v e
        exact ⟨A, a1, fun c hc hcr hd => sk_ZZ hm h hA hB hg (hZ _ hc) (hZ _ hd) hcr rfl⟩
      · obtain ⟨A, a1, a2⟩ := hbB _ u
        rw [hm.1] at a1
        have hZ : ∀ v, v ∈ z :: A → sk_Z m YS (XS ++ xk :: RA) v := fun v hv => by
          rcases List.mem_cons.mp hv with e | e
          · exact Or.inr ⟨m z, u, by rw [e, hm.1]⟩
          · exact a2 v e
        exact ⟨A, a1, fun c hc hcr hd => sk_ZZ hm h hB hA hg' (hZ _ hc) (hZ _ hd) hcr rfl⟩
    · obtain ⟨t, a1, a2⟩ := h8 z hOz
      have hout := sr_out h2 hOz a1
      rcases sk_new hm.1 hFn hbA hbB (z :: t) a1 with u | ⟨P, w, t', A, b1, b2, b3, b4⟩
      · exact ⟨t, u, a2⟩
      · have hS : wk_S m r (P ++ w :: A) := by
          rw [b1] at a1 a2 hout
          rcases b4 with ⟨b4, b5⟩ | ⟨b4, b5⟩
          · exact sk_simple hm h hA hB hg a1 a2 hout b2 b4 b5
          · exact sk_simple hm h hB hA hg' a1 a2 hout (fun c hc => ⟨(b2 c hc).2, (b2 c hc).1⟩) b4 b5
        cases P with
        | nil =>
          have e : z = w := (List.cons.inj b1).1
          rw [e]; exact ⟨A, b3, hS⟩
        | cons p P =>
          have e : z = p := (List.cons.inj b1).1
          rw [e]; exact ⟨P ++ w :: A, b3, hS⟩
  · intro w hw hb
    have hRw : R (B w) = false := by
      cases hc : R (B w)
      · rfl
      · simp [hc] at hb
        rw [← hb, hgB, hRg] at hc; exact absurd hc (by decide)
    have hOw : O w = true := by simpa [hRw] using hw
    have hb' : B w = w := by simpa [hRw] using hb
    exact Nat.lt_of_lt_of_le (h9 w hOw hb') hq
end
end
section
/-! ## points and sets as ints -/
def vx (i : Fin 8) : Int32 := nI i.val
theorem vx_cl (i : Fin 8) : (vx i).toNatClampNeg = i.val := nI_clamp (by omega)
theorem vx_in (i : Fin 8) : vp_in (vx i) 8 := vp_in_nI i.isLt (by decide)
theorem vx_inj (i j : Fin 8) : vx i = vx j ↔ i = j := by
  unfold vx; rw [nI_eq (by omega) (by omega)]; exact ⟨Fin.ext, fun e => by rw [e]⟩
theorem vx_nn (i : Fin 8) : ¬ vx i < 0 := nI_pos (by omega)
theorem vx_nl (i : Fin 8) : 0 ≤ vx i := nI_pos' (by omega)
theorem vx_m1 : (-1 : Int32) < 0 := by decide
theorem vx_m1' : ¬ (0 : Int32) ≤ -1 := by decide
theorem vx_ne (i : Fin 8) : ¬ vx i = -1 := by revert i; decide +kernel
theorem vx_ne' (i : Fin 8) : ¬ (-1 : Int32) = vx i := by revert i; decide +kernel
theorem vx_ge (i : Fin 8) : ¬ (8 : Int32) ≤ vx i := by revert i; decide +kernel
theorem vx_8 : nI 8 = 8 := by decide +kernel
theorem vx_of {k : Nat} (h : k < 8) : nI k = vx ⟨k, h⟩ := rfl
theorem vx_bool0 : vp_nar .boolean 0 = 0 := rfl
theorem vx_bool1 : vp_nar .boolean 1 = 1 := rfl
theorem bx_bitF : ∀ s : Fin 256, ∀ i : Fin 8, ((nI s.val >>> (vx i &&& 31)) &&& 1) = if s.val.testBit i.val then 1 else 0 := by decide +kernel
theorem bx_bit {s : Nat} (hs : s < 256) (i : Fin 8) : ((nI s >>> (vx i &&& 31)) &&& 1) = if s.testBit i.val then 1 else 0 := bx_bitF ⟨s, hs⟩ i
theorem bx_lowF : ∀ s : Fin 256, ∀ i : Fin 8, ((nI s.val >>> (vx i &&& 31)) <<< ((31 : Int32) &&& 31)) = 0 ↔ s.val.testBit i.val = false := by decide +kernel
theorem bx_low {s : Nat} (hs : s < 256) (i : Fin 8) : ((nI s >>> (vx i &&& 31)) <<< ((31 : Int32) &&& 31)) = 0 ↔ s.testBit i.val = false := bx_lowF ⟨s, hs⟩ i
theorem bx_sh : ∀ i : Fin 8, (1 : Int32) <<< (vx i &&& 31) = nI (2 ^ i.val) := by decide +kernel
theorem bx_no : ∀ i : Fin 8, ((1 : Int32) <<< (vx i &&& 31)) ^^^ (-1) = nI (2 ^ 32 - 1 - 2 ^ i.val) := by decide +kernel
theorem bx_and (a b : Nat) : nI a &&& nI b = nI (a &&& b) := nx_and a b
theorem bx_xor (a b : Nat) : nI a ^^^ nI b = nI (a ^^^ b) := nx_xor a b
theorem bx_or (a b : Nat) : nI a ||| nI b = nI (a ||| b) := by
  apply Int32.toBitVec_inj.mp
  apply BitVec.eq_of_toNat_eq
  rw [Int32.toBitVec_or, BitVec.toNat_or]
  show (a % 2 ^ 32) ||| (b % 2 ^ 32) = (a ||| b) % 2 ^ 32
  exact (Nat.or_mod_two_pow).symm
theorem bx_land {a b : Nat} (h : a < 256) : a &&& b < 256 := Nat.lt_of_le_of_lt Nat.and_le_left h
theorem bx_delF : ∀ s : Fin 256, ∀ i : Fin 8, ∃ t : Fin 256, nI s.val &&& (((1 : Int32) <<< (vx i &&& 31)) ^^^ (-1)) = nI t.val ∧ ∀ j : Fin 8, t.val.testBit j.val = (s.val.testBit j.val && decide (j ≠ i)) := by
  intro s i
  refine ⟨⟨s.val &&& (2 ^ 32 - 1 - 2 ^ i.val), bx_land s.isLt⟩, by rw [bx_no, bx_and], fun j => ?_⟩
  show (s.val &&& (2 ^ 32 - 1 - 2 ^ i.val)).testBit j.val = _
  rw [Nat.testBit_and]
  congr 1
  revert i j; decide +kernel
/-- the array holds the lines -/
def nr_G (a : Nat → Int32) (g : Fin 8 → Nat) : Prop := (∀ i : Fin 8, g i < 256 ∧ a i.val = nI (g i)) ∧ (∀ i j : Fin 8, (g i).testBit j.val = (g j).testBit i.val) ∧ ∀ i : Fin 8, (g i).testBit i.val = false
def nr_E (g : Fin 8 → Nat) (s : Nat) (i j : Fin 8) : Bool := (g i).testBit j.val && (s.testBit i.val && s.testBit j.val)
theorem nr_sym {a : Nat → Int32} {g : Fin 8 → Nat} (h : nr_G a g) (s : Nat) (i j : Fin 8) : nr_E g s i j = nr_E g s j i := by
  unfold nr_E; rw [h.2.1 i j, Bool.and_comm (s.testBit i.val)]
theorem nr_in {g : Fin 8 → Nat} {s : Nat} {i j : Fin 8} (h : nr_E g s i j = true) : s.testBit i.val = true ∧ s.testBit j.val = true := by
  unfold nr_E at h; simp at h; exact h.2
def ar_B (a : Nat → Int32) (B : Fin 8 → Fin 8) : Prop := ∀ i : Fin 8, a i.val = vx (B i)
def ar_M (a : Nat → Int32) (m : Fin 8 → Fin 8) : Prop := ∀ i : Fin 8, a i.val = if m i = i then -1 else vx (m i)
def ar_O (a : Nat → Int32) (O : Fin 8 → Bool) : Prop := ∀ i : Fin 8, a i.val = if O i = true then 1 else 0
def ar_F (a : Nat → Int32) (F : Fin 8 → Option (Fin 8)) : Prop := ∀ i : Fin 8, a i.val = (F i).elim (-1) vx
def ar_Q (a : Nat → Int32) (L : List (Fin 8)) : Prop := ∀ (i : Nat) (x : Fin 8), L[i]? = some x → a i = vx x
theorem ar_upd {a : Nat → Int32} {i j : Fin 8} {v : Int32} : upd a i.val v j.val = if j = i then v else a j.val := by
  unfold upd
  by_cases h : j = i
  · simp [h]
  · have : ¬ j.val = i.val := fun e => h (Fin.ext e)
    simp [h, this]
theorem ar_Bu {a : Nat → Int32} {B : Fin 8 → Fin 8} (h : ar_B a B) (i v : Fin 8) : ar_B (upd a i.val (vx v)) (fun j => if j = i then v else B j) := fun j => by
  rw [ar_upd]; by_cases e : j = i
  · simp [e]
  · simp [e, h j]
theorem ar_Ou {a : Nat → Int32} {O : Fin 8 → Bool} (h : ar_O a O) (i : Fin 8) (b : Bool) {v : Int32} (hv : v = if b = true then 1 else 0) : ar_O (upd a i.val v) (fun j => if j = i then b else O j) := fun j => by
  rw [ar_upd]; by_cases e : j = i
  · simp [e, hv]
  · simp [e, h j]
theorem ar_Fu {a : Nat → Int32} {F : Fin 8 → Option (Fin 8)} (h : ar_F a F) (i v : Fin 8) : ar_F (upd a i.val (vx v)) (fun j => if j = i then some v else F j) := fun j => by
  rw [ar_upd]; by_cases e : j = i
  · simp [e]
  · simp [e, h j]
theorem ar_Fn {a : Nat → Int32} {F : Fin 8 → Option (Fin 8)} (h : ar_F a F) {i : Fin 8} (e : F i = none) : a i.val = -1 := by rw [h i, e]; rfl
theorem ar_Fs {a : Nat → Int32} {F : Fin 8 → Option (Fin 8)} (h : ar_F a F) {i v : Fin 8} (e : F i = some v) : a i.val = vx v := by rw [h i, e]; rfl
theorem ar_Mn {a : Nat → Int32} {m : Fin 8 → Fin 8} (h : ar_M a m) {i : Fin 8} (e : m i = i) : a i.val = -1 := by rw [h i, if_pos e]
theorem ar_Ms {a : Nat → Int32} {m : Fin 8 → Fin 8} (h : ar_M a m) {i : Fin 8} (e : m i ≠ i) : a i.val = vx (m i) := by rw [h i, if_neg e]
theorem ar_O1 {a : Nat → Int32} {O : Fin 8 → Bool} (h : ar_O a O) {i : Fin 8} (e : O i = true) : ¬ a i.val = 0 := by rw [h i, if_pos e]; decide
theorem ar_O0 {a : Nat → Int32} {O : Fin 8 → Bool} (h : ar_O a O) {i : Fin 8} (e : O i = false) : a i.val = 0 := by rw [h i, e]; rfl
theorem ar_Qapp {a : Nat → Int32} {L : List (Fin 8)} (h : ar_Q a L) (x : Fin 8) : ar_Q (upd a L.length (vx x)) (L ++ [x]) := fun i y hy => by
  unfold upd
  by_cases e : i = L.length
  · subst e
    simp at hy
    simp [hy]
  · have hlt : i < L.length := by
      have := (List.getElem?_eq_some_iff.mp hy).1
      simp at this; omega
    rw [List.getElem?_append_left hlt] at hy
    simp [e, h i y hy]
end
section
/-! ## the component's change and startFrom -/
theorem vx_lt8 {i : Nat} (h : i < 8) : ¬ (8 : Int32) ≤ nI i := by rw [← vx_8]; exact nI_ge h (by decide)
theorem vx_ge8 {i : Nat} (h : 8 ≤ i) (h2 : i < 2 ^ 31) : (8 : Int32) ≤ nI i := by rw [← vx_8]; exact nI_le h h2
section
variable {fp fq : Int32} {an am ao af ab aq ai ap a1 : Nat → Int32}
theorem cg_loop {post : SX → Prop} {E : Fin 8 → Fin 8 → Bool} (hs : ∀ a b, E a b = E b a) {F : Fin 8 → Option (Fin 8)} {r : Fin 8} (hE : ∀ u v, F u = some v → E u v = true) (haf : ar_F af F) :
    ∀ (t : List (Fin 8)) (w y : Fin 8) (f : Fin 8 → Fin 8) (am : Nat → Int32) (i n : Nat), ma_M E f → f y = y → F y = some w → wk_W F f r (w :: t) → wk_S f r (w :: t) → y ∉ w :: t → f r = r →
      i + (t.length + 1) ≤ 8 → t.length + 2 ≤ n → (∀ j : Fin 8, j ≠ y → am j.val = if f j = j then -1 else vx (f j)) →
      (∀ f' am', ma_M E f' → (∀ z, f' z = z ↔ (f z = z ∧ z ≠ y ∧ z ≠ r)) → ar_M am' f' → post (fp, fq, an, am', ao, af, ab, aq, ai, ap, a1)) →
      wX_change_4 post fp fq n (vx y) (nI i) an am ao af ab aq ai ap a1 := by
  intro t
  induction t with
  | nil =>
    intro w y f am i n hf hy hFy hw hS hn hr hi hfuel ham hp
    obtain ⟨n, rfl⟩ : ∃ k, n = k + 1 := ⟨n - 1, by simp at hfuel; omega⟩
    have hw : w = r := hw
    subst hw
    have hyw : y ≠ w := fun e => hn (e ▸ List.mem_cons_self)
    rw [wX_change_4]
    refine br_f (vx_lt8 (by simp at hi; omega)) (br_f (vx_nn y) ⟨vx_in y, ?_⟩)
    intro x4 e4
    have e4' : x4 = vx w := by rw [e4, vx_cl, ar_Fs haf hFy]
    subst e4'
    refine ⟨vx_in w, ?_⟩
    intro x5 e5
    have e5' : x5 = -1 := by rw [e5, vx_cl, ham w (fun e => hyw e.symm), if_pos hr]
    subst e5'
    refine ⟨vx_in y, ?_⟩
    intro am8 e8
    refine ⟨vx_in w, ?_⟩
    intro am10 e10
    intro x3 e3
    have hpost : post (fp, fq, an, am10, ao, af, ab, aq, ai, ap, a1) := by
      refine hp (ma_sw f y w) am10 (ma_swM hs hf hy hyw (hE _ _ hFy)) (fun z => ⟨fun hz => ?_, fun hz => ma_swi hz.2.1 hz.2.2 (Or.inr hz.1)⟩) ?_
      · have h1 := ma_swo hyw hz
        refine ⟨?_, h1.1, h1.2.1⟩
        rcases h1.2.2 with u | u
        · exact absurd (u.trans hr) h1.2.1
        · exact u
      · intro j
        rw [e10, e8, vx_cl, vx_cl, ar_upd, ar_upd]
        by_cases h1 : j = w
        · subst h1
          have : ma_sw f y j j = y := by simp [ma_sw, fun e => hyw (Eq.symm e)]
          simp [this, hyw]
        · by_cases h2 : j = y
          · subst h2
            have : ma_sw f j w j = w := ma_swx
            simp [h1, this]; exact fun e => absurd e.symm hyw
          · have : ma_sw f y w j = f j := ma_swk h2 h1 (by rw [hr]; exact h1)
            simp [h1, h2, this, ham j h2]
    cases n with
    | zero => simp at hfuel
    | succ n =>
      rw [wX_change_4]
      by_cases h8 : (8 : Int32) ≤ x3
      · exact br_t h8 hpost
      · exact br_f h8 (br_t vx_m1 hpost)
  | cons w2 t ih =>
    intro w y f am i n hf hy hFy hw hS hn hr hi hfuel ham hp
    obtain ⟨n, rfl⟩ : ∃ k, n = k + 1 := ⟨n - 1, by simp at hfuel; omega⟩
    simp only [List.length_cons] at hi hfuel
    have hnd := List.nodup_cons.mp (wk_nd hw)
    have hyw : y ≠ w := fun e => hn (e ▸ List.mem_cons_self)
    have hfw : f w ∉ w :: w2 :: t := hS w List.mem_cons_self hw.1
    have hfw1 : f w ≠ w := fun e => hfw (by rw [e]; exact List.mem_cons_self)
    have hk : ∀ a, a ∈ w2 :: t → ma_sw f y w a = f a := fun a ha => by
      refine ma_swk (fun e => hn (e ▸ List.mem_cons_of_mem _ ha)) (fun e => hnd.1 (e ▸ ha)) (fun e => hfw (e ▸ List.mem_cons_of_mem _ ha))
    have hfy : f w ≠ y := fun e => hyw (by rw [← hy, ← e, hf.1])
    rw [wX_change_4]
    refine br_f (vx_lt8 (by omega)) (br_f (vx_nn y) ⟨vx_in y, ?_⟩)
    intro x4 e4
    have e4' : x4 = vx w := by rw [e4, vx_cl, ar_Fs haf hFy]
    subst e4'
    refine ⟨vx_in w, ?_⟩
    intro x5 e5
    have e5' : x5 = vx (f w) := by rw [e5, vx_cl, ham w (fun e => hyw e.symm), if_neg hfw1]
    subst e5'
    refine ⟨vx_in y, ?_⟩
    intro am8 e8
    refine ⟨vx_in w, ?_⟩
    intro am10 e10
    intro x3 e3
    rw [nI_1] at e3
    subst e3
    refine ih w2 (f w) (ma_sw f y w) am10 (i + 1) n (ma_swM hs hf hy hyw (hE _ _ hFy)) (ma_swi hfy hfw1 (Or.inl rfl)) hw.2.1
      (wk_cong (fun a ha => by rw [hk a ha]) hw.2.2) (fun a ha har hm => by
        rw [hk a ha] at hm
        exact hS a (List.mem_cons_of_mem _ ha) har (List.mem_cons_of_mem _ hm)) (fun hm => hfw (List.mem_cons_of_mem _ hm))
      (by rw [hk r (wk_ne hw.2.2), hr]) (by omega) (by omega) ?_ ?_
    · intro j hj
      rw [e10, e8, vx_cl, vx_cl, ar_upd, ar_upd]
      by_cases h1 : j = w
      · subst h1
        have : ma_sw f y j j = y := by simp [ma_sw, fun e => hyw (Eq.symm e)]
        simp [this, hyw]
      · by_cases h2 : j = y
        · subst h2
          have : ma_sw f j w j = w := ma_swx
          simp [h1, this]; exact fun e => absurd e.symm hyw
        · have : ma_sw f y w j = f j := ma_swk h2 h1 hj
          simp [h1, h2, this, ham j h2]
    · intro f' am' h1 h2 h3
      refine hp f' am' h1 (fun z => ?_) h3
      rw [h2 z]
      constructor
      · rintro ⟨a1, a2, a3⟩
        have h3 := ma_swo hyw a1
        refine ⟨?_, h3.1, a3⟩
        rcases h3.2.2 with u | u
        · exact absurd u a2
        · exact u
      · rintro ⟨a1, a2, a3⟩
        have h4 : z ≠ w := fun e => hfw1 (by rw [← e, a1])
        refine ⟨ma_swi a2 h4 (Or.inr a1), fun e => ?_, a3⟩
        have : f z = w := by rw [e, hf.1]
        exact h4 (a1.symm.trans this)
theorem cg_change {post : SX → Prop} {E : Fin 8 → Fin 8 → Bool} (hs : ∀ a b, E a b = E b a) {F : Fin 8 → Option (Fin 8)} {r : Fin 8} (hE : ∀ u v, F u = some v → E u v = true) (haf : ar_F af F)
    {t : List (Fin 8)} {w y : Fin 8} {f : Fin 8 → Fin 8} (hf : ma_M E f) (hy : f y = y) (hFy : F y = some w) (hw : wk_W F f r (w :: t)) (hS : wk_S f r (w :: t)) (hn : y ∉ w :: t) (hr : f r = r) (ham : ar_M am f)
    (hp : ∀ f' am', ma_M E f' → (∀ z, f' z = z ↔ (f z = z ∧ z ≠ y ∧ z ≠ r)) → ar_M am' f' → post (fp, fq, an, am', ao, af, ab, aq, ai, ap, a1)) :
    wpX_change post (fp, fq, an, am, ao, af, ab, aq, ai, ap, a1) (vx y) := by
  refine ⟨t.length + 2, ?_⟩
  have h8 := fc_le8 (wk_nd hw)
  exact cg_loop hs hE haf t w y f am 0 _ hf hy hFy hw hS hn hr (by simp at h8; omega) (Nat.le_refl _) (fun j _ => ham j) hp
theorem sf_loop {post : SX → Prop} (r : Fin 8) : ∀ (d i : Nat) (ao af ab : Nat → Int32), i + d = 8 → (∀ j : Fin 8, j.val < i → ao j.val = 0 ∧ af j.val = -1 ∧ ab j.val = vx j) →
    (∀ ao' af' ab' aq', ar_O ao' (fun x => decide (x = r)) → ar_F af' (fun _ => none) → ar_B ab' (fun x => x) → aq' 0 = vx r → post (fp, 1, an, am, ao', af', ab', aq', ai, ap, a1)) →
    wX_startFrom_2 post (vx r) fp fq (d + 1) (nI i) an am ao af ab aq ai ap a1 := by
  intro d
  induction d with
  | zero =>
    intro i ao af ab hi hj hp
    rw [wX_startFrom_2]
    refine br_t (vx_ge8 (by omega) (by omega)) ⟨vx_in r, ?_⟩
    intro ao' e1 aq' e2
    refine hp ao' af ab aq' ?_ ?_ ?_ ?_
    · intro j
      rw [e1, vx_cl, ar_upd, (hj j (by omega)).1]
      by_cases h : j = r
      · simp [h, vx_bool1]
      · simp [h]
    · intro j; exact (hj j (by omega)).2.1
    · intro j; exact (hj j (by omega)).2.2
    · rw [e2]; simp [upd]
  | succ d ih =>
    intro i ao af ab hi hj hp
    have hi8 : i < 8 := by omega
    rw [wX_startFrom_2]
    refine br_f (vx_lt8 hi8) ⟨vx_in ⟨i, hi8⟩, ?_⟩
    intro ao' e1
    refine ⟨vx_in ⟨i, hi8⟩, ?_⟩
    intro af' e2
    refine ⟨vx_in ⟨i, hi8⟩, ?_⟩
    intro ab' e3 x2 e4
    rw [nI_1] at e4
    subst e4
    refine ih (i + 1) ao' af' ab' (by omega) ?_ hp
    intro j hj'
    have hcl : (nI i).toNatClampNeg = (⟨i, hi8⟩ : Fin 8).val := nI_clamp (by omega)
    rw [e1, e2, e3, hcl, ar_upd, ar_upd, ar_upd]
    by_cases h : j = ⟨i, hi8⟩
    · subst h
      simp [vx_bool0, vx]
    · have : j.val < i := by
        have : j.val ≠ i := fun e => h (Fin.ext e)
        omega
      simp [h, hj j this]
theorem sf_start {post : SX → Prop} (r : Fin 8)
    (hp : ∀ ao' af' ab' aq', ar_O ao' (fun x => decide (x = r)) → ar_F af' (fun _ => none) → ar_B ab' (fun x => x) → aq' 0 = vx r → post (fp, 1, an, am, ao', af', ab', aq', ai, ap, a1)) :
    wpX_startFrom post (fp, fq, an, am, ao, af, ab, aq, ai, ap, a1) (vx r) :=
  ⟨9, sf_loop r 8 0 ao af ab rfl (fun j h => absurd h (by omega)) hp⟩
end
end
section
/-! ## the component's commonBase -/
section
variable {fp fq : Int32} {an am ao af ab aq ai ap a1 : Nat → Int32} {E : Fin 8 → Fin 8 → Bool} {m : Fin 8 → Fin 8} {r : Fin 8} {O : Fin 8 → Bool} {B : Fin 8 → Fin 8} {F : Fin 8 → Option (Fin 8)} {rk : Fin 8 → Nat} {q : Nat}
/-- the next base on a walk -/
theorem cb_next (h : sr_I E m r O B F rk q) {L : List (Fin 8)} (hL : wk_W F m r L) (hO : ∀ x, x ∈ L → O x = true) {c : Fin 8} (hc : c ∈ L) (hb : B c = c) (hr : c ≠ r) :
    ∃ g, m c ≠ c ∧ F (m c) = some g ∧ B g ∈ L ∧ B (B g) = B g ∧ rk (B g) < rk c ∧ ∀ v, v ∈ L → B v = v → (rk (B g) < rk v ↔ (v = c ∨ rk c < rk v)) := by
  obtain ⟨l, t, e⟩ := List.append_of_mem hc
  rw [e] at hL
  have hw := wk_suf hL
  obtain ⟨a1, a2, a3, g, a4, a5⟩ := h.2.2.2.1 c (hO c hc) hb hr
  cases t with
  | nil => exact absurd hw hr
  | cons y t =>
    have eg : g = y := Option.some.inj (a4.symm.trans hw.2.1)
    subst eg
    have hOg := (h.2.1 _ _ a4).2
    have hbase := sk_base h hOg hw.2.2
    refine ⟨g, a3, a4, by rw [e]; exact List.mem_append_right _ (List.mem_cons_of_mem _ hbase), (h.2.2.2.2.1 g hOg).2, a5, ?_⟩
    intro v hv hvb
    constructor
    · intro hlt
      rw [e] at hv
      rcases List.mem_append.mp hv with u | u
      · right
        obtain ⟨l1, l2, e2⟩ := List.append_of_mem u
        rw [e2, List.append_assoc] at hL
        have hnd := wk_nd (wk_suf hL)
        rcases sk_mono h (hO v (by rw [e, e2]; simp)) (wk_suf hL) c (by simp) with u1 | u1
        · exfalso
          have e3 : c = v := by rw [← hb, u1, hvb]
          have := (List.nodup_cons.mp hnd).1
          exact this (by rw [← e3]; simp)
        · rw [hb, hvb] at u1; exact u1
      · rcases List.mem_cons.mp u with u | u
        · exact Or.inl u
        · exfalso
          rcases List.mem_cons.mp u with u | u
          · rw [u] at hvb; rw [hvb, u] at hlt; omega
          · rcases sk_mono h hOg hw.2.2 v u with u1 | u1
            · rw [hvb] at u1; rw [u1] at hlt; omega
            · rw [hvb] at u1; omega
    · rintro (u | u)
      · rw [u]; exact a5
      · omega
/-- the third loop: up from b to a passed base -/
theorem cb_up {post : Int32 → SX → Prop} (h : sr_I E m r O B F rk q) (ham : ar_M am m) (haf : ar_F af F) (hab : ar_B ab B)
    {LA LB : List (Fin 8)} (hLA : wk_W F m r LA) (hOA : ∀ x, x ∈ LA → O x = true) (hLB : wk_W F m r LB) (hOB : ∀ x, x ∈ LB → O x = true) {Ps : Fin 8 → Bool} (hap : ar_O ap Ps) (hPs : ∀ v, Ps v = true ↔ (v ∈ LA ∧ B v = v))
    (hp : ∀ goal, goal ∈ LA → goal ∈ LB → B goal = goal → (∀ v, v ∈ LA → v ∈ LB → B v = v → rk v ≤ rk goal) → post (vx goal) (fp, fq, an, am, ao, af, ab, aq, ai, ap, a1)) :
    ∀ (n : Nat) (c : Fin 8) (i : Nat), rk c < n → rk c + i ≤ 7 → c ∈ LB → B c = c → (∀ v, v ∈ LB → B v = v → rk c < rk v → v ∉ LA) →
      wX_commonBase_112 post fp fq an am ao af ab aq ai ap a1 n (vx c) (nI i) := by
  intro n
  induction n with
  | zero => intro c i h1; omega
  | succ n ih =>
    intro c i h1 h2 hc hb hv
    rw [wX_commonBase_112]
    refine br_f (vx_lt8 (by omega)) ⟨vx_in c, ?_⟩
    rw [vx_cl]
    by_cases hcA : c ∈ LA
    · refine br_f (ar_O1 hap ((hPs c).mpr ⟨hcA, hb⟩)) (hp c hcA hc hb (fun v h3 h4 h5 => ?_))
      apply Classical.byContradiction
      intro h6
      exact hv v h4 h5 (by omega) h3
    · have hPc : Ps c = false := by
        cases e : Ps c
        · rfl
        · exact absurd ((hPs c).mp e).1 hcA
      have hcr : c ≠ r := fun e => hcA (e ▸ wk_ne hLA)
      obtain ⟨g, b1, b2, b3, b4, b5, b6⟩ := cb_next h hLB hOB hc hb hcr
      refine br_t (ar_O0 hap hPc) ⟨vx_in c, ?_⟩
      rw [ar_Ms ham b1]
      refine ⟨vx_in _, ?_⟩
      rw [vx_cl, ar_Fs haf b2]
      refine ⟨vx_in g, ?_⟩
      intro x5 e5 x6 e6
      rw [vx_cl, hab g] at e5
      rw [nI_1] at e6
      subst e5 e6
      refine ih (B g) (i + 1) (by omega) (by omega) b3 b4 (fun v h3 h4 h5 => ?_)
      rcases (b6 v h3 h4).mp h5 with u | u
      · rw [u]; exact hcA
      · exact hv v h3 h4 u
/-- the second loop: marks the bases from a to the root -/
theorem cb_mark {post : Int32 → SX → Prop} (h : sr_I E m r O B F rk q) (ham : ar_M am m) (haf : ar_F af F) (hab : ar_B ab B)
    {LA : List (Fin 8)} (hLA : wk_W F m r LA) (hOA : ∀ x, x ∈ LA → O x = true) {x2 : Int32}
    (hp : ∀ ap' Ps, ar_O ap' Ps → (∀ v, Ps v = true ↔ (v ∈ LA ∧ B v = v)) → vp_in x2 8 ∧ (∀ y, y = ab x2.toNatClampNeg → ∃ n, wX_commonBase_112 post fp fq an am ao af ab aq ai ap' a1 n y 0)) :
    ∀ (n : Nat) (c : Fin 8) (i : Nat) (ap : Nat → Int32) (Ps : Fin 8 → Bool), rk c + 2 ≤ n → rk c + i ≤ 7 → c ∈ LA → B c = c → ar_O ap Ps → (∀ v, Ps v = true ↔ (v ∈ LA ∧ B v = v ∧ rk c < rk v)) →
      wX_commonBase_34 post x2 fp fq n (vx c) 1 (nI i) an am ao af ab aq ai ap a1 := by
  intro n
  induction n with
  | zero => intro c i ap Ps h1; omega
  | succ n ih =>
    intro c i ap Ps h1 h2 hc hb hap hPs
    rw [wX_commonBase_34]
    refine br_f (vx_lt8 (by omega)) (br_f (by decide) ⟨vx_in c, ?_⟩)
    intro ap' e1
    refine ⟨vx_in c, ?_⟩
    have hap' : ar_O ap' (fun j => if j = c then true else Ps j) := by
      rw [e1, vx_cl]; exact ar_Ou hap c true vx_bool1
    rw [vx_cl]
    by_cases hcr : c = r
    · have hmc : m c = c := by rw [hcr]; exact h.1.2.2
      rw [ar_Mn ham hmc]
      refine br_t vx_m1 ?_
      unfold wX_commonBase_67
      refine br_t rfl ?_
      intro x5 e5
      have hfin := hp ap' _ hap' (fun v => by
        by_cases hv : v = c
        · simp [hv, hc, hb]
        · simp [hv, hPs]
          intro hvA hvb
          obtain ⟨l1, l2, e2⟩ := List.append_of_mem hvA
          rw [e2] at hLA
          have hw := wk_suf hLA
          have hmem : c ∈ l2 := by
            have : c ∈ v :: l2 := by rw [hcr]; exact wk_ne hw
            rcases List.mem_cons.mp this with u | u
            · exact absurd u.symm hv
            · exact u
          rcases sk_mono h (hOA v hvA) hw c hmem with u1 | u1
          · rw [hb, hvb] at u1; exact absurd u1.symm hv
          · rw [hb, hvb] at u1; exact u1)
      cases n with
      | zero => omega
      | succ n =>
        rw [wX_commonBase_34]
        by_cases h8 : (8 : Int32) ≤ x5
        · exact br_t h8 hfin
        · exact br_f h8 (br_t rfl hfin)
    · obtain ⟨g, b1, b2, b3, b4, b5, b6⟩ := cb_next h hLA hOA hc hb hcr
      rw [ar_Ms ham b1]
      refine br_f (vx_nn _) ?_
      unfold wX_commonBase_67
      refine br_f (by decide) ⟨vx_in c, ?_⟩
      rw [vx_cl, ar_Ms ham b1]
      refine ⟨vx_in _, ?_⟩
      rw [vx_cl, ar_Fs haf b2]
      refine ⟨vx_in g, ?_⟩
      intro x3 e3 x5 e5
      rw [vx_cl, hab g] at e3
      rw [nI_1] at e5
      subst e3 e5
      refine ih (B g) (i + 1) ap' _ (by omega) (by omega) b3 b4 hap' (fun v => ?_)
      by_cases hv : v = c
      · simp [hv, hc, hb, b5]
      · simp [hv, hPs]
        intro hvA hvb
        rw [b6 v hvA hvb]
        simp [hv]
theorem cb_clear {post : Int32 → SX → Prop} {x1 x2 : Int32}
    (hp : ∀ ap', ar_O ap' (fun _ => false) → vp_in x1 8 ∧ (∀ y, y = ab x1.toNatClampNeg → ∃ n, wX_commonBase_34 post x2 fp fq n y 1 0 an am ao af ab aq ai ap' a1)) :
    ∀ (d i : Nat) (ap : Nat → Int32), i + d = 8 → (∀ j : Fin 8, j.val < i → ap j.val = 0) → wX_commonBase_2 post x1 x2 fp fq (d + 1) (nI i) an am ao af ab aq ai ap a1 := by
  intro d
  induction d with
  | zero =>
    intro i ap hi hj
    rw [wX_commonBase_2]
    exact br_t (vx_ge8 (by omega) (by omega)) (hp ap (fun j => by simp [hj j (by omega)]))
  | succ d ih =>
    intro i ap hi hj
    have hi8 : i < 8 := by omega
    rw [wX_commonBase_2]
    refine br_f (vx_lt8 hi8) ⟨vx_in ⟨i, hi8⟩, ?_⟩
    intro ap' e1 x3 e3
    rw [nI_1] at e3
    subst e3
    refine ih (i + 1) ap' (by omega) (fun j hj' => ?_)
    have hcl : (nI i).toNatClampNeg = (⟨i, hi8⟩ : Fin 8).val := nI_clamp (by omega)
    rw [e1, hcl, ar_upd]
    by_cases h : j = ⟨i, hi8⟩
    · simp [h, vx_bool0]
    · have : j.val < i := by
        have : j.val ≠ i := fun e => h (Fin.ext e)
        omega
      simp [h, hj j this]
theorem cb_base {post : Int32 → SX → Prop} (h : sr_I E m r O B F rk q) (hq : q ≤ 8) (ham : ar_M am m) (haf : ar_F af F) (hab : ar_B ab B) {a b : Fin 8} {tA tB : List (Fin 8)}
    (hLA : wk_W F m r (a :: tA)) (hOa : O a = true) (hLB : wk_W F m r (b :: tB)) (hOb : O b = true)
    (hp : ∀ goal ap', goal ∈ a :: tA → goal ∈ b :: tB → B goal = goal → (∀ v, v ∈ a :: tA → v ∈ b :: tB → B v = v → rk v ≤ rk goal) → post (vx goal) (fp, fq, an, am, ao, af, ab, aq, ai, ap', a1)) :
    wpX_commonBase post (fp, fq, an, am, ao, af, ab, aq, ai, ap, a1) (vx a) (vx b) := by
  have hOA := sr_out h.2.1 hOa hLA
  have hOB := sr_out h.2.1 hOb hLB
  have hBa := h.2.2.2.2.1 a hOa
  have hBb := h.2.2.2.2.1 b hOb
  have ra := h.2.2.2.2.2.2.2.2 _ hBa.1 hBa.2
  have rb := h.2.2.2.2.2.2.2.2 _ hBb.1 hBb.2
  have top : ∀ {L : List (Fin 8)} {x : Fin 8}, O x = true → wk_W F m r (x :: L) → ∀ v, v ∈ x :: L → B v = v → ¬ rk (B x) < rk v := fun {L x} hx hL v hv hvb hlt => by
    rcases List.mem_cons.mp hv with e | e
    · rw [e] at hvb; rw [hvb, e] at hlt; omega
    · rcases sk_mono h hx hL v e with u | u
      · rw [hvb] at u; rw [u] at hlt; omega
      · rw [hvb] at u; omega
  refine ⟨9, cb_clear (fun ap' hap' => ⟨vx_in a, fun y ey => ?_⟩) 8 0 ap rfl (fun j h => absurd h (by omega))⟩
  rw [vx_cl, hab a] at ey
  subst ey
  refine ⟨rk (B a) + 2, cb_mark h ham haf hab hLA hOA (fun ap2 Ps hap2 hPs => ⟨vx_in b, fun y ey => ?_⟩) _ (B a) 0 ap' (fun _ => false) (Nat.le_refl _) (by omega) (sk_base h hOa hLA) hBa.2 hap' (fun v => ?_)⟩
  · rw [vx_cl, hab b] at ey
    subst ey
    exact ⟨rk (B b) + 1, cb_up h ham haf hab hLA hOA hLB hOB hap2 hPs (fun goal g1 g2 g3 g4 => hp goal ap2 g1 g2 g3 g4) _ (B b) 0 (by omega) (by omega) (sk_base h hOb hLB) hBb.2 (fun v h3 h4 h5 => absurd h5 (top hOb hLB v h3 h4))⟩
  · simp
    intro h3 h4
    have := top hOa hLA v (List.mem_cons.mpr h3) h4
    omega
end
end
section
/-! ## the component's markRing and shrink -/
theorem vx_s {i : Nat} (h : i < 8) : vx ⟨i, h⟩ + 1 = nI (i + 1) := nI_1 i
theorem ar_Oc {a : Nat → Int32} {O O' : Fin 8 → Bool} (h : ar_O a O) (e : ∀ x, O x = O' x) : ar_O a O' := fun i => by rw [← e i]; exact h i
theorem ar_Bc {a : Nat → Int32} {B B' : Fin 8 → Fin 8} (h : ar_B a B) (e : ∀ x, B x = B' x) : ar_B a B' := fun i => by rw [← e i]; exact h i
theorem ls_first {B : Fin 8 → Fin 8} {goal : Fin 8} : ∀ {L : List (Fin 8)}, (∃ w, w ∈ L ∧ B w = goal) → ∃ XS xk RA, L = XS ++ xk :: RA ∧ (∀ x, x ∈ XS → B x ≠ goal) ∧ B xk = goal
  | [], h => by obtain ⟨w, hw, _⟩ := h; simp at hw
  | x :: t, h => by
    by_cases hx : B x = goal
    · exact ⟨[], x, t, rfl, by simp, hx⟩
    · obtain ⟨w, hw, e⟩ := h
      rcases List.mem_cons.mp hw with u | u
      · rw [u] at e; exact absurd e hx
      · obtain ⟨XS, xk, RA, a1, a2, a3⟩ := ls_first (L := t) ⟨w, u, e⟩
        refine ⟨x :: XS, xk, RA, by rw [a1]; rfl, ?_, a3⟩
        intro y hy
        rcases List.mem_cons.mp hy with v | v
        · rw [v]; exact hx
        · exact a2 y v
section
variable {fp fq : Int32} {an am ao af ab aq ai ap a1 : Nat → Int32} {E : Fin 8 → Fin 8 → Bool} {m : Fin 8 → Fin 8} {r : Fin 8} {O : Fin 8 → Bool} {B : Fin 8 → Fin 8} {F : Fin 8 → Option (Fin 8)} {rk : Fin 8 → Nat} {q : Nat}
theorem mr_loop {post : SX → Prop} (hmm : ∀ x, m (m x) = x) (ham : ar_M am m) (hab : ar_B ab B) {goal xk : Fin 8} {RA : List (Fin 8)} (hk : B xk = goal) :
    ∀ (XS : List (Fin 8)) (x c : Fin 8) (i n : Nat) (F : Fin 8 → Option (Fin 8)) (af ai : Nat → Int32) (R : Fin 8 → Bool),
      (∃ t, XS ++ xk :: RA = x :: t) → wk_W F m r (XS ++ xk :: RA) → wk_S m r (XS ++ xk :: RA) → (∀ y, y ∈ XS → B y ≠ goal ∧ m y ≠ y) → i + XS.length ≤ 8 → XS.length + 1 ≤ n →
      ar_F af F → ar_O ai R →
      (∀ af' ai' R', ar_F af' (sk_F m XS c F) → ar_O ai' R' → (∀ v, R' v = true ↔ (R v = true ∨ ∃ y, y ∈ XS ∧ (v = B y ∨ v = B (m y)))) → post (fp, fq, an, am, ao, af', ab, aq, ai', ap, a1)) →
      wX_markRing_9 post (vx goal) fp fq n (vx x) (vx c) (nI i) an am ao af ab aq ai ap a1 := by
  intro XS
  induction XS with
  | nil =>
    intro x c i n F af ai R hd hw hS hX hi hn haf hai hp
    obtain ⟨n, rfl⟩ : ∃ k, n = k + 1 := ⟨n - 1, by simp at hn; omega⟩
    obtain ⟨t, ht⟩ := hd
    have hx : x = xk := ((List.cons.inj ht).1).symm
    have hpost := hp af ai R haf hai (fun v => by simp)
    rw [wX_markRing_9]
    by_cases h8 : (8 : Int32) ≤ nI i
    · exact br_t h8 hpost
    · refine br_f h8 ⟨vx_in x, br_t ?_ hpost⟩
      rw [vx_cl, hab x, hx, hk]
  | cons y XS ih =>
    intro x c i n F af ai R hd hw hS hX hi hn haf hai hp
    obtain ⟨n, rfl⟩ : ∃ k, n = k + 1 := ⟨n - 1, by simp at hn; omega⟩
    simp only [List.length_cons] at hi hn
    obtain ⟨t, ht⟩ := hd
    have hx : y = x := (List.cons.inj ht).1
    subst hx
    have hy := hX y List.mem_cons_self
    have hw' : wk_W F m r (y :: (XS ++ xk :: RA)) := hw
    have hS' : wk_S m r (y :: (XS ++ xk :: RA)) := hS
    have e1 : ab y.val = vx (B y) := hab y
    have e2 : am y.val = vx (m y) := ar_Ms ham hy.2
    have e3 : ab (m y).val = vx (B (m y)) := hab (m y)
    obtain ⟨g, t2, ht2⟩ : ∃ g t2, XS ++ xk :: RA = g :: t2 := by
      cases XS with
      | nil => exact ⟨xk, RA, rfl⟩
      | cons z XS => exact ⟨z, XS ++ xk :: RA, rfl⟩
    rw [ht2] at hw' hS'
    have hnd := List.nodup_cons.mp (wk_nd hw')
    have hyr : y ≠ r := hw'.1
    have hmy : m y ∉ y :: g :: t2 := hS' y List.mem_cons_self hyr
    rw [wX_markRing_9]
    simp only [vx_cl, e1, e2, e3]
    refine br_f (vx_lt8 (by omega)) ⟨vx_in y, br_f (fun e => hy.1 ((vx_inj _ _).mp e)) ⟨vx_in y, vx_in _, ?_⟩⟩
    intro ai6 e6
    refine ⟨vx_in y, vx_in _, vx_in _, ?_⟩
    intro ai10 e10
    refine ⟨vx_in y, ?_⟩
    intro af12 e12
    refine ⟨vx_in y, ?_⟩
    intro x5 e5
    refine ⟨vx_in y, vx_in _, ?_⟩
    intro x4 e4 x6 e6'
    rw [nI_1] at e6'
    have haf12 : ar_F af12 (fun z => if z = y then some c else F z) := by rw [e12]; exact ar_Fu haf y c
    have e4' : x4 = vx g := by
      rw [e4]
      refine ar_Fs haf12 ?_
      simp [hy.2, hw'.2.1]
    subst e4' e5 e6'
    have hai10 : ar_O ai10 (fun j => if j = B (m y) then true else (if j = B y then true else R j)) := by
      rw [e10, e6]; exact ar_Ou (ar_Ou hai (B y) true vx_bool1) (B (m y)) true vx_bool1
    refine ih g (m y) (i + 1) n _ af12 ai10 _ ⟨t2, ht2⟩ ?_ ?_ (fun z hz => hX z (List.mem_cons_of_mem _ hz)) (by omega) (by omega) haf12 hai10 ?_
    · rw [ht2]
      refine wk_cong (fun a ha => ?_) hw'.2.2
      have : m a ≠ y := fun e => hmy (by rw [← e, hmm]; exact List.mem_cons_of_mem _ ha)
      simp [this]
    · rw [ht2]
      intro a ha har hm'
      exact hS' a (List.mem_cons_of_mem _ ha) har (List.mem_cons_of_mem _ hm')
    · intro af' ai' R' h1 h2 h3
      refine hp af' ai' R' h1 h2 (fun v => ?_)
      rw [h3 v]
      constructor
      · rintro (u | ⟨z, u1, u2⟩)
        · by_cases w1 : v = B (m y)
          · exact Or.inr ⟨y, List.mem_cons_self, Or.inr w1⟩
          · by_cases w2 : v = B y
            · exact Or.inr ⟨y, List.mem_cons_self, Or.inl w2⟩
            · simp [w1, w2] at u; exact Or.inl u
        · exact Or.inr ⟨z, List.mem_cons_of_mem _ u1, u2⟩
      · rintro (u | ⟨z, u1, u2⟩)
        · left; simp [u]
        · rcases List.mem_cons.mp u1 with w | w
          · left
            rw [w] at u2
            rcases u2 with u2 | u2
            · simp [u2]
            · simp [u2]
          · exact Or.inr ⟨z, w, u2⟩
theorem mr_mark {post : SX → Prop} (hmm : ∀ x, m (m x) = x) (ham : ar_M am m) (hab : ar_B ab B) {goal xk : Fin 8} {RA XS : List (Fin 8)} (hk : B xk = goal) {x c : Fin 8} {R : Fin 8 → Bool}
    (hd : ∃ t, XS ++ xk :: RA = x :: t) (hw : wk_W F m r (XS ++ xk :: RA)) (hS : wk_S m r (XS ++ xk :: RA)) (hX : ∀ y, y ∈ XS → B y ≠ goal ∧ m y ≠ y) (haf : ar_F af F) (hai : ar_O ai R)
    (hp : ∀ af' ai' R', ar_F af' (sk_F m XS c F) → ar_O ai' R' → (∀ v, R' v = true ↔ (R v = true ∨ ∃ y, y ∈ XS ∧ (v = B y ∨ v = B (m y)))) → post (fp, fq, an, am, ao, af', ab, aq, ai', ap, a1)) :
    wpX_markRing post (fp, fq, an, am, ao, af, ab, aq, ai, ap, a1) (vx x) (vx goal) (vx c) := by
  have h8 := fc_le8 (wk_nd hw)
  simp at h8
  exact ⟨XS.length + 1, mr_loop hmm ham hab hk XS x c 0 _ F af ai R hd hw hS hX (by omega) (Nat.le_refl _) haf hai hp⟩
theorem sl_clear {post : SX → Prop} {x1 x2 x3 : Int32} (hp : ∀ ai', ar_O ai' (fun _ => false) → wX_shrink_10 post x1 x2 x3 fp fq 1 8 an am ao af ab aq ai' ap a1) :
    ∀ (d i : Nat) (ai : Nat → Int32), i + d = 8 → (∀ j : Fin 8, j.val < i → ai j.val = 0) → wX_shrink_10 post x1 x2 x3 fp fq (d + 1) (nI i) an am ao af ab aq ai ap a1 := by
  intro d
  induction d with
  | zero =>
    intro i ai hi hj
    have : i = 8 := by omega
    subst this
    exact hp ai (fun j => by simp [hj j (by omega)])
  | succ d ih =>
    intro i ai hi hj
    have hi8 : i < 8 := by omega
    rw [wX_shrink_10]
    refine br_f (vx_lt8 hi8) ⟨vx_in ⟨i, hi8⟩, ?_⟩
    intro ap' e1 x3 e3
    rw [nI_1] at e3
    subst e3
    refine ih (i + 1) ap' (by omega) (fun j hj' => ?_)
    have hcl : (nI i).toNatClampNeg = (⟨i, hi8⟩ : Fin 8).val := nI_clamp (by omega)
    rw [e1, hcl, ar_upd]
    by_cases h : j = ⟨i, hi8⟩
    · simp [h, vx_bool0]
    · have : j.val < i := by
        have : j.val ≠ i := fun e => h (Fin.ext e)
        omega
      simp [h, hj j this]
theorem sl_loop {post : SX → Prop} {goal : Fin 8} {s : Nat} (hs : s < 256) {R : Fin 8 → Bool} (hai : ar_O ai R) (hpart : ∀ p : Fin 8, R (B p) = true → s.testBit p.val = true) {Q0 : List (Fin 8)}
    (hp : ∀ fq' ao' ab' aq' QL', ar_O ao' (fun p => O p || R (B p)) → ar_B ab' (fun p => if R (B p) = true then goal else B p) → fq' = nI QL'.length → ar_Q aq' QL' → QL'.Nodup →
      (∀ x, x ∈ QL' ↔ (O x || R (B x)) = true) → (∃ N, QL' = Q0 ++ N) → post (nI s, fq', an, am, ao', af, ab', aq', ai, ap, a1)) :
    ∀ (d i : Nat) (fq : Int32) (ao ab aq : Nat → Int32) (QL : List (Fin 8)), i + d = 8 → ar_O ao (fun p => if p.val < i then O p || R (B p) else O p) → ar_B ab (fun p => if p.val < i then (if R (B p) = true then goal else B p) else B p) →
      fq = nI QL.length → ar_Q aq QL → QL.Nodup → (∀ x : Fin 8, x ∈ QL ↔ (if x.val < i then O x || R (B x) else O x) = true) → (∃ N, QL = Q0 ++ N) →
      wX_shrink_48 post (vx goal) (nI s) (d + 1) (nI i) fq an am ao af ab aq ai ap a1 := by
  intro d
  induction d with
  | zero =>
    intro i fq ao ab aq QL hi hao hab hfq haq hnd hmem hN
    rw [wX_shrink_48]
    refine br_t (vx_ge8 (by omega) (by omega)) (hp fq ao ab aq QL (ar_Oc hao (fun x => ?_)) (ar_Bc hab (fun x => ?_)) hfq haq hnd (fun x => ?_) hN)
    · simp [show x.val < i by omega]
    · simp [show x.val < i by omega]
    · rw [hmem x]; simp [show x.val < i by omega]
  | succ d ih =>
    intro i fq ao ab aq QL hi hao hab hfq haq hnd hmem hN
    have hi8 : i < 8 := by omega
    have hcl : ∀ x : Fin 8, x ≠ ⟨i, hi8⟩ → (x.val < i + 1 ↔ x.val < i) := fun x hx => by
      have : x.val ≠ i := fun e => hx (Fin.ext e)
      omega
    have hii : (⟨i, hi8⟩ : Fin 8).val = i := rfl
    have hab_i : ab i = vx (B ⟨i, hi8⟩) := by have := hab ⟨i, hi8⟩; simpa using this
    have hao_i : ao i = if O ⟨i, hi8⟩ = true then 1 else 0 := by have := hao ⟨i, hi8⟩; simpa using this
    have hcli : (vx ⟨i, hi8⟩).toNatClampNeg = i := vx_cl ⟨i, hi8⟩
    -- when nothing is marked here
    have hskip : R (B ⟨i, hi8⟩) = false → wX_shrink_48 post (vx goal) (nI s) (d + 1) (nI (i + 1)) fq an am ao af ab aq ai ap a1 := fun hR => by
      refine ih (i + 1) fq ao ab aq QL (by omega) (ar_Oc hao (fun x => ?_)) (ar_Bc hab (fun x => ?_)) hfq haq hnd (fun x => ?_) hN
      · by_cases hx : x = ⟨i, hi8⟩
        · subst hx; simp [hR]
        · simp only [hcl x hx]
      · by_cases hx : x = ⟨i, hi8⟩
        · subst hx; simp [hR]
        · simp only [hcl x hx]
      · rw [hmem x]
        by_cases hx : x = ⟨i, hi8⟩
        · subst hx; simp [hR]
        · simp only [hcl x hx]
    rw [wX_shrink_48, show nI i = vx ⟨i, hi8⟩ from rfl]
    refine br_f (vx_ge _) ?_
    rw [bx_bit hs]
    simp only [hcli, hab_i, vx_cl]
    by_cases hb : s.testBit i = true
    · refine br_t (by simp [hb]) ⟨vx_in _, vx_in _, ?_⟩
      cases hR : R (B ⟨i, hi8⟩)
      · refine br_t (ar_O0 hai hR) ?_
        intro x4 e4
        rw [vx_s] at e4
        subst e4
        exact hskip hR
      · refine br_f (ar_O1 hai hR) ⟨vx_in _, ?_⟩
        intro ab' e1
        refine ⟨vx_in _, ?_⟩
        have hab' : ar_B ab' (fun p => if p.val < i + 1 then (if R (B p) = true then goal else B p) else B p) := by
          rw [e1]
          refine ar_Bc (ar_Bu hab ⟨i, hi8⟩ goal) (fun x => ?_)
          by_cases hx : x = ⟨i, hi8⟩
          · subst hx; simp [hR]
          · simp only [hcl x hx, if_neg hx]
        rw [hao_i]
        cases hO : O ⟨i, hi8⟩
        · refine br_t (by simp) ⟨vx_in _, ?_⟩
          intro ao' e2
          have hlen := fc_le8 hnd
          refine ⟨by rw [hfq]; exact vp_in_nI (by omega) (by decide), ?_⟩
          intro aq' e3 fq' e4 x4 e5
          have hnotin : (⟨i, hi8⟩ : Fin 8) ∉ QL := fun hin => by
            have := (hmem _).mp hin
            simp [hO] at this
          refine ih (i + 1) fq' ao' ab' aq' (QL ++ [⟨i, hi8⟩]) (by omega) ?_ hab' ?_ ?_ ?_ ?_ ?_ |> fun z => by rw [e5, vx_s]; exact z
          · rw [e2]
            refine ar_Oc (ar_Ou hao ⟨i, hi8⟩ true vx_bool1) (fun x => ?_)
            by_cases hx : x = ⟨i, hi8⟩
            · subst hx; simp [hR]
            · simp only [hcl x hx, if_neg hx]
          · rw [e4, hfq, nI_1]; simp
          · rw [e3, hfq, nI_clamp (by omega)]
            exact ar_Qapp haq ⟨i, hi8⟩
          · rw [List.nodup_append]
            refine ⟨hnd, by simp, ?_⟩
            intro x hx y hy e
            simp at hy
            rw [e, hy] at hx; exact hnotin hx
          · intro x
            rw [List.mem_append, hmem x]
            by_cases hx : x = ⟨i, hi8⟩
            · subst hx; simp [hR]
            · simp only [hcl x hx]; simp [hx]
          · obtain ⟨N, hN⟩ := hN
            exact ⟨N ++ [⟨i, hi8⟩], by rw [hN, List.append_assoc]⟩
        · refine br_f (by simp) ?_
          intro x4 e5
          refine ih (i + 1) fq ao ab' aq QL (by omega) (ar_Oc hao (fun x => ?_)) hab' hfq haq hnd (fun x => ?_) hN |> fun z => by rw [e5, vx_s]; exact z
          · by_cases hx : x = ⟨i, hi8⟩
            · subst hx; simp [hO]
            · simp only [hcl x hx]
          · rw [hmem x]
            by_cases hx : x = ⟨i, hi8⟩
            · subst hx; simp [hO]
            · simp only [hcl x hx]
    · refine br_f (by simp [hb]) ?_
      intro x4 e4
      rw [vx_s] at e4
      subst e4
      refine hskip ?_
      cases hR : R (B ⟨i, hi8⟩)
      · rfl
      · exact absurd (hpart _ hR) hb
end
end
section
/-! ## the component's shrink and follow -/
def sv_R (E : Fin 8 → Fin 8 → Bool) (m : Fin 8 → Fin 8) (r : Fin 8) (fq : Int32) (am ao af ab aq : Nat → Int32) (O : Fin 8 → Bool) (B : Fin 8 → Fin 8) (F : Fin 8 → Option (Fin 8)) (rk : Fin 8 → Nat) (QL : List (Fin 8)) : Prop :=
  ar_M am m ∧ ar_O ao O ∧ ar_F af F ∧ ar_B ab B ∧ fq = nI QL.length ∧ ar_Q aq QL ∧ QL.Nodup ∧ (∀ x, x ∈ QL ↔ O x = true) ∧ sr_I E m r O B F rk QL.length
def sv_up (O : Fin 8 → Bool) (B : Fin 8 → Fin 8) (F : Fin 8 → Option (Fin 8)) (QL : List (Fin 8)) (O' : Fin 8 → Bool) (B' : Fin 8 → Fin 8) (F' : Fin 8 → Option (Fin 8)) (QL' : List (Fin 8)) : Prop :=
  (∃ N, QL' = QL ++ N) ∧ (∀ x, O x = true → O' x = true) ∧ (∀ z, F z ≠ none → F' z ≠ none) ∧ (∀ u v, B u = B v → B' u = B' v)
theorem sv_same {O : Fin 8 → Bool} {B : Fin 8 → Fin 8} {F : Fin 8 → Option (Fin 8)} {QL : List (Fin 8)} : sv_up O B F QL O B F QL :=
  ⟨⟨[], (List.append_nil _).symm⟩, fun _ h => h, fun _ h => h, fun _ _ h => h⟩
section
variable {an am ao af ab aq ai ap a1 : Nat → Int32} {fq : Int32} {E : Fin 8 → Fin 8 → Bool} {m : Fin 8 → Fin 8} {r : Fin 8} {O : Fin 8 → Bool} {B : Fin 8 → Fin 8} {F : Fin 8 → Option (Fin 8)} {rk : Fin 8 → Nat} {q : Nat} {QL : List (Fin 8)} {s : Nat}
theorem sr_part (hm : ma_M E m) (h : sr_I E m r O B F rk q) (hE : ∀ x y, E x y = true → s.testBit x.val = true) (hr : s.testBit r.val = true) {x : Fin 8} (hx : O x = true) : s.testBit x.val = true := by
  by_cases e : x = r
  · rw [e]; exact hr
  · by_cases hb : B x = x
    · exact hE x _ (hm.2 x (h.2.2.2.1 x hx hb e).2.2.1)
    · exact hE x _ (hm.2 x (h.2.2.1 x hx hb).2.2.1)
theorem sk_baseL (h : sr_I E m r O B F rk q) {L : List (Fin 8)} (hL : wk_W F m r L) (hO : ∀ x, x ∈ L → O x = true) {x : Fin 8} (hx : x ∈ L) : B x ∈ L := by
  obtain ⟨l, t, e⟩ := List.append_of_mem hx
  rw [e] at hL
  have := sk_base h (hO x hx) (wk_suf hL)
  rw [e]; exact List.mem_append_right _ this
theorem sl_shrink {post : SX → Prop} (hsy : ∀ a b, E a b = E b a) (hm : ma_M E m) (hs : s < 256) (hE : ∀ x y, E x y = true → s.testBit x.val = true) (hr : s.testBit r.val = true)
    (hR : sv_R E m r fq am ao af ab aq O B F rk QL) {a b : Fin 8} (hOa : O a = true) (hOb : O b = true) (he : E a b = true)
    (hp : ∀ O' B' F' QL' fq' ao' af' ab' aq' ai' ap', sv_R E m r fq' am ao' af' ab' aq' O' B' F' rk QL' → sv_up O B F QL O' B' F' QL' → B' a = B' b → post (nI s, fq', an, am, ao', af', ab', aq', ai', ap', a1)) :
    wpX_shrink post (nI s, fq, an, am, ao, af, ab, aq, ai, ap, a1) (vx a) (vx b) := by
  obtain ⟨ham, hao, haf, hab, hfq, haq, hnd, hmem, h⟩ := hR
  obtain ⟨tA, hLA, hSA⟩ := h.2.2.2.2.2.2.2.1 a hOa
  obtain ⟨tB, hLB, hSB⟩ := h.2.2.2.2.2.2.2.1 b hOb
  have hOA := sr_out h.2.1 hOa hLA
  have hOB := sr_out h.2.1 hOb hLB
  unfold wpX_shrink
  refine cb_base h (fc_le8 hnd) ham haf hab hLA hOa hLB hOb ?_
  intro goal ap' g1 g2 g3 g4
  refine ⟨9, ?_⟩
  have hgO := hOA goal g1
  have hg0 : ∀ x y, x ∈ a :: tA → y ∈ b :: tB → B x = B y → rk (B x) ≤ rk goal := fun x y hx hy e => by
    have h1 := sk_baseL h hLA hOA hx
    have h2 := sk_baseL h hLB hOB hy
    rw [← e] at h2
    exact g4 _ h1 h2 (h.2.2.2.2.1 x (hOA x hx)).2
  obtain ⟨XS, xk, RA, eA, hXS, hxk⟩ := ls_first (L := a :: tA) ⟨goal, g1, g3⟩
  obtain ⟨YS, yk, RB, eB, hYS, hyk⟩ := ls_first (L := b :: tB) ⟨goal, g2, g3⟩
  rw [eA] at hLA hSA hOA hg0
  rw [eB] at hLB hSB hOB hg0
  have hA : sk_H m r O B F goal XS xk RA := ⟨hLA, hSA, hXS, hxk, hOA⟩
  have hB : sk_H m r O B F goal YS yk RB := ⟨hLB, hSB, hYS, hyk, hOB⟩
  have hsep := fun x y hx hy => @sk_sep E m r O B F rk QL.length goal XS YS RA RB xk yk h hA hg0 x y hx hy
  have hdis : ∀ x, x ∈ XS → x ∉ YS := fun x hx hy => hsep x x hx (List.mem_append_left _ hy) rfl
  have hndX : XS.Nodup := (List.nodup_append.mp (wk_nd hLA)).1
  have hndY : YS.Nodup := (List.nodup_append.mp (wk_nd hLB)).1
  refine sl_clear (fun ai' hai' => ?_) 8 0 ai rfl (fun j h => absurd h (by omega))
  rw [wX_shrink_10]
  refine br_t (by decide) ?_
  refine mr_mark hm.1 ham hab hxk (XS := XS) (RA := RA) (R := fun _ => false) ⟨tA, eA.symm⟩ hLA hSA (fun y hy => ⟨hXS y hy, (sk_ne h hA hy).2⟩) haf hai' ?_
  intro af1 ai1 R1 haf1 hai1 hR1
  dsimp only
  have hF1 : ∀ c, c ∈ YS ++ yk :: RB → sk_F m XS b F (m c) = F (m c) := fun c hc => by
    refine sk_Fn (fun e => ?_)
    exact hsep _ c e hc (sr_mate h (hOB c hc) (sk_xo hA e))
  refine mr_mark hm.1 ham hab hyk (XS := YS) (RA := RB) (R := R1) ⟨tB, eB.symm⟩ (wk_cong hF1 hLB) hSB (fun y hy => ⟨hYS y hy, (sk_ne h hB hy).2⟩) haf1 hai1 ?_
  intro af2 ai2 R2 haf2 hai2 hR2
  dsimp only
  have hR : ∀ v, R2 v = true ↔ ∃ x, (x ∈ XS ∨ x ∈ YS) ∧ (v = B x ∨ v = B (m x)) := fun v => by
    rw [hR2 v, hR1 v]
    constructor
    · rintro ((u | ⟨y, u1, u2⟩) | ⟨y, u1, u2⟩)
      · exact absurd u (by decide)
      · exact ⟨y, Or.inl u1, u2⟩
      · exact ⟨y, Or.inr u1, u2⟩
    · rintro ⟨y, u1 | u1, u2⟩
      · exact Or.inl (Or.inr ⟨y, u1, u2⟩)
      · exact Or.inr ⟨y, u1, u2⟩
  have hFn : ∀ v, v ∉ XS → v ∉ YS → sk_F m YS a (sk_F m XS b F) v = F v := fun v h1 h2 => by rw [sk_Fn h2, sk_Fn h1]
  have hFX : ∀ l x l2, XS = l ++ x :: l2 → sk_F m YS a (sk_F m XS b F) x = some (sk_c m l b) := fun l x l2 e => by
    rw [sk_Fn (hdis x (by rw [e]; simp)), e]
    exact sk_Fv (e ▸ hndX)
  have hFY : ∀ l x l2, YS = l ++ x :: l2 → sk_F m YS a (sk_F m XS b F) x = some (sk_c m l a) := fun l x l2 e => by
    rw [e]; exact sk_Fv (e ▸ hndY)
  have hinv := fun q' hq => @sh_inv E m r O B F (sk_F m YS a (sk_F m XS b F)) rk QL.length goal a b XS YS RA RB xk yk hsy hm h hA hB hg0 ⟨tA, eA.symm⟩ ⟨tB, eB.symm⟩ he hgO g3 hFn hFX hFY R2 hR q' hq
  have hpart : ∀ p : Fin 8, R2 (B p) = true → s.testBit p.val = true := fun p hp2 =>
    sr_part hm (hinv _ (Nat.le_refl _)).1 hE hr (x := p) (by simp [hp2])
  refine ⟨9, sl_loop (O := O) (B := B) hs hai2 hpart (Q0 := QL) ?_ 8 0 fq ao ab aq QL rfl (ar_Oc hao (fun x => by simp)) (ar_Bc hab (fun x => by simp)) hfq haq hnd (fun x => by rw [hmem x]; simp) ⟨[], (List.append_nil _).symm⟩⟩
  intro fq' ao' ab' aq' QL' b1 b2 b3 b4 b5 b6 b7
  have hle : QL.length ≤ QL'.length := by obtain ⟨N, hN⟩ := b7; rw [hN]; simp
  have hfin := hinv QL'.length hle
  refine hp _ _ _ QL' fq' ao' af2 ab' aq' ai2 ap' ⟨ham, b1, haf2, b2, b3, b4, b5, b6, hfin.1⟩ ⟨b7, fun x hx => by simp [hx], fun z hz => ?_, fun u v e => by simp [e]⟩ (hfin.2.1.trans hfin.2.2.symm)
  by_cases hzX : z ∈ XS
  · obtain ⟨l, l2, e⟩ := List.append_of_mem hzX
    rw [hFX l z l2 e]; simp
  · by_cases hzY : z ∈ YS
    · obtain ⟨l, l2, e⟩ := List.append_of_mem hzY
      rw [hFY l z l2 e]; simp
    · rw [hFn z hzX hzY]; exact hz
theorem fo_follow {post : Int32 → SX → Prop} (hsy : ∀ a b, E a b = E b a) (hm : ma_M E m) (hs : s < 256) (hE : ∀ x y, E x y = true → s.testBit x.val = true) (hr : s.testBit r.val = true)
    (hR : sv_R E m r fq am ao af ab aq O B F rk QL) {x y : Fin 8} (hx : O x = true) (he : E x y = true)
    (hp0 : ∀ O' B' F' rk' QL' fq' ao' af' ab' aq' ai' ap', sv_R E m r fq' am ao' af' ab' aq' O' B' F' rk' QL' → sv_up O B F QL O' B' F' QL' → (O' y = true ∨ F' y ≠ none) → (O y = true → B' x = B' y) →
      post 0 (nI s, fq', an, am, ao', af', ab', aq', ai', ap', a1))
    (hp1 : ∀ m' fq' am' ao' af' ab' aq' ai' ap', ma_M E m' → m y = y → y ≠ r → (∀ z, m' z = z ↔ (m z = z ∧ z ≠ y ∧ z ≠ r)) → ar_M am' m' → post 1 (nI s, fq', an, am', ao', af', ab', aq', ai', ap', a1)) :
    wpX_follow post (nI s, fq, an, am, ao, af, ab, aq, ai, ap, a1) (vx x) (vx y) := by
  obtain ⟨ham, hao, haf, hab, hfq, haq, hnd, hmem, h⟩ := id hR
  have e1 : ab x.val = vx (B x) := hab x
  have e2 : ab y.val = vx (B y) := hab y
  unfold wpX_follow
  simp only [vx_cl, e1, e2]
  refine ⟨vx_in x, vx_in y, ?_⟩
  by_cases hb : B x = B y
  · refine br_t (by rw [hb]) (hp0 O B F rk QL fq ao af ab aq ai ap hR sv_same ?_ (fun _ => hb))
    left
    cases hO : O y
    · have h1 := h.2.2.2.2.2.1 y hO
      have h2 := (h.2.2.2.2.1 x hx).1
      rw [hb, h1, hO] at h2; exact absurd h2 (by decide)
    · rfl
  · refine br_f (fun e => hb ((vx_inj _ _).mp e)) ⟨vx_in x, ?_⟩
    by_cases hmx : m x = y ∧ m x ≠ x
    · refine br_t (by rw [ar_Ms ham hmx.2, hmx.1]) (hp0 O B F rk QL fq ao af ab aq ai ap hR sv_same ?_ (fun hO => ?_))
      · rw [← hmx.1]
        by_cases hbx : B x = x
        · have hxr : x ≠ r := fun e => hmx.2 (by rw [e]; exact h.1.2.2)
          obtain ⟨_, _, _, g, a4, _⟩ := h.2.2.2.1 x hx hbx hxr
          right; rw [a4]; simp
        · left; exact (h.2.2.1 x hx hbx).1
      · rw [← hmx.1] at hO ⊢
        exact (sr_mate h hx hO).symm
    · refine br_f ?_ ⟨vx_in y, ?_⟩
      · intro e
        by_cases hxx : m x = x
        · rw [ar_Mn ham hxx] at e; exact vx_ne' _ e
        · rw [ar_Ms ham hxx] at e
          exact hmx ⟨(vx_inj _ _).mp e, hxx⟩
      · cases hO : O y
        · refine br_t (ar_O0 hao hO) ⟨vx_in y, ?_⟩
          cases hF : F y with
          | some g =>
            rw [ar_Fs haf hF]
            exact br_f (vx_nn g) (hp0 O B F rk QL fq ao af ab aq ai ap hR sv_same (Or.inr (by rw [hF]; simp)) (fun e => by rw [hO] at e; exact absurd e (by decide)))
          | none =>
            rw [ar_Fn haf hF]
            refine br_t vx_m1 ⟨vx_in y, ?_⟩
            intro af' eaf
            refine ⟨vx_in y, ?_⟩
            have haf' : ar_F af' (fun z => if z = y then some x else F z) := by rw [eaf]; exact ar_Fu haf y x
            by_cases hmy : m y = y
            · rw [ar_Mn ham hmy]
              refine br_f vx_m1' ?_
              obtain ⟨t, hw, hS⟩ := h.2.2.2.2.2.2.2.1 x hx
              have hout := sr_out h.2.1 hx hw
              have hyn : y ∉ x :: t := fun e => by rw [hout y e] at hO; exact absurd hO (by decide)
              refine cg_change hsy (F := fun z => if z = y then some x else F z) (r := r) (E := E) (f := m) (t := t) (w := x) ?_ haf' hm hmy (by simp) (wk_cong (fun c hc => ?_) hw) hS hyn h.1.2.2 ham ?_
              · intro u v huv
                by_cases e : u = y
                · simp [e] at huv; rw [e, ← huv, hsy]; exact he
                · simp [e] at huv; exact (h.2.1 u v huv).1
              · have : m c ≠ y := fun e => hyn (by
                  have e3 : c = y := by rw [← hm.1 c, e, hmy]
                  rw [← e3]; exact hc)
                simp [this]
              · intro f' am' c1 c2 c3
                exact hp1 f' fq am' ao af' ab aq ai ap c1 hmy (fun e => by rw [e, h.1.1] at hO; exact absurd hO (by decide)) c2 c3
            · rw [ar_Ms ham hmy]
              refine br_t (vx_nl _) ⟨vx_in y, vx_in _, ?_⟩
              intro ao' eao
              have hlen := fc_le8 hnd
              refine ⟨vx_in y, by rw [hfq]; exact vp_in_nI (by omega) (by decide), ?_⟩
              intro aq' eaq fq' efq
              have hside := sr_side hm h hO hF
              have hnin : m y ∉ QL := fun e => by rw [(hmem _).mp e] at hside; exact absurd hside.1 (by decide)
              refine hp0 (fun z => if z = m y then true else O z) B (fun z => if z = y then some x else F z) (fun z => if z = m y then QL.length else rk z) (QL ++ [m y]) fq' ao' af' ab aq' ai ap ⟨ham, ?_, haf', hab, ?_, ?_, ?_, ?_, ?_⟩ ⟨⟨[m y], rfl⟩, fun z hz => ?_, fun z hz => ?_, fun _ _ e => e⟩ (Or.inr (by simp)) (fun e => by rw [hO] at e; exact absurd e (by decide))
              · rw [eao, vx_cl]; exact ar_Ou hao (m y) true vx_bool1
              · rw [efq, hfq, nI_1]; simp
              · rw [eaq, hfq, nI_clamp (by omega)]; exact ar_Qapp haq (m y)
              · rw [List.nodup_append]
                refine ⟨hnd, by simp, ?_⟩
                intro u hu v hv e
                simp at hv
                rw [e, hv] at hu; exact hnin hu
              · intro z
                rw [List.mem_append, hmem z]
                by_cases e : z = m y
                · simp [e]
                · simp [e]
              · have := sr_grow hsy hm h hx hO hF hmy he
                simpa using this
              · by_cases e : z = m y
                · simp [e]
                · simp [e, hz]
              · by_cases e : z = y
                · simp [e]
                · simp [e]; exact hz
        · refine br_f (ar_O1 hao hO) ?_
          refine sl_shrink hsy hm hs hE hr hR hx hO he ?_
          intro O' B' F' QL' fq' ao' af' ab' aq' ai' ap' c1 c2 c3
          exact hp0 O' B' F' rk QL' fq' ao' af' ab' aq' ai' ap' c1 c2 (Or.inl (c2.2.1 y hO)) (fun _ => c3)
end
end
section
/-! ## the component's extend and pairOff -/
def sc_I (E : Fin 8 → Fin 8 → Bool) (O : Fin 8 → Bool) (B : Fin 8 → Fin 8) (F : Fin 8 → Option (Fin 8)) (S : Fin 8 → Fin 8 → Prop) : Prop :=
  (∀ x y, S x y → E x y = true → O y = true ∨ F y ≠ none) ∧ (∀ x y, S x y → S y x → E x y = true → B x = B y)
/-- the lines looked at so far -/
def sc_P (QL : List (Fin 8)) (got cur : Nat) (x y : Fin 8) : Prop := (∃ k, k < got ∧ QL[k]? = some x) ∨ (QL[got]? = some x ∧ y.val < cur)
theorem sc_step {E : Fin 8 → Fin 8 → Bool} (hsy : ∀ a b, E a b = E b a) {O O' : Fin 8 → Bool} {B B' : Fin 8 → Fin 8} {F F' : Fin 8 → Option (Fin 8)} {QL QL' : List (Fin 8)} {got cur : Nat}
    (h : sc_I E O B F (sc_P QL got cur)) (hmem : ∀ x, x ∈ QL ↔ O x = true) (hu : sv_up O B F QL O' B' F' QL') {x y : Fin 8} (hx : QL[got]? = some x) (hy : y.val = cur)
    (hn : E x y = true → (O' y = true ∨ F' y ≠ none) ∧ (O y = true → B' x = B' y)) : sc_I E O' B' F' (sc_P QL' got (cur + 1)) := by
  obtain ⟨⟨N, hN⟩, u1, u2, u3⟩ := hu
  have hgl : got < QL.length := (List.getElem?_eq_some_iff.mp hx).1
  have hidx : ∀ k, k ≤ got → QL'[k]? = QL[k]? := fun k hk => by rw [hN]; exact List.getElem?_append_left (by omega)
  have hcase : ∀ u v, sc_P QL' got (cur + 1) u v → sc_P QL got cur u v ∨ (u = x ∧ v = y) := by
    intro u v huv
    rcases huv with ⟨k, k1, k2⟩ | ⟨k1, k2⟩
    · rw [hidx k (by omega)] at k2
      exact Or.inl (Or.inl ⟨k, k1, k2⟩)
    · rw [hidx got (Nat.le_refl _)] at k1
      by_cases e : v.val < cur
      · exact Or.inl (Or.inr ⟨k1, e⟩)
      · right
        refine ⟨Option.some.inj (k1.symm.trans hx), Fin.ext (by omega)⟩
  have hin : ∀ u v, sc_P QL got cur u v → O u = true := fun u v huv => by
    rw [← hmem u]
    rcases huv with ⟨k, _, k2⟩ | ⟨k1, _⟩
    · exact List.mem_of_getElem? k2
    · exact List.mem_of_getElem? k1
  constructor
  · intro u v huv he
    rcases hcase u v huv with w | ⟨w1, w2⟩
    · rcases h.1 u v w he with z | z
      · exact Or.inl (u1 v z)
      · exact Or.inr (u2 v z)
    · rw [w1, w2] at he
      rw [w2]; exact (hn he).1
  · intro u v huv hvu he
    rcases hcase u v huv with w | ⟨w1, w2⟩
    · rcases hcase v u hvu with z | ⟨z1, z2⟩
      · exact u3 u v (h.2 u v w z he)
      · have hO := hin u v w
        rw [z1, z2, hsy] at he
        rw [z2] at hO
        rw [z1, z2]; exact ((hn he).2 hO).symm
    · rcases hcase v u hvu with z | ⟨z1, z2⟩
      · have hO := hin v u z
        rw [w1, w2] at he
        rw [w2] at hO
        rw [w1, w2]; exact (hn he).2 hO
      · rw [w1, z1]
theorem sc_next {E : Fin 8 → Fin 8 → Bool} {O : Fin 8 → Bool} {B : Fin 8 → Fin 8} {F : Fin 8 → Option (Fin 8)} {QL : List (Fin 8)} {got : Nat} (h : sc_I E O B F (sc_P QL got 8)) : sc_I E O B F (sc_P QL (got + 1) 0) := by
  have hcase : ∀ u v, sc_P QL (got + 1) 0 u v → sc_P QL got 8 u v := by
    intro u v huv
    rcases huv with ⟨k, k1, k2⟩ | ⟨k1, k2⟩
    · by_cases e : k = got
      · rw [e] at k2; exact Or.inr ⟨k2, v.isLt⟩
      · exact Or.inl ⟨k, by omega, k2⟩
    · omega
  exact ⟨fun u v a b => h.1 u v (hcase u v a) b, fun u v a b c => h.2 u v (hcase u v a) (hcase v u b) c⟩
section
variable {an am : Nat → Int32} {a1 : Nat → Int32} {g : Fin 8 → Nat} {m : Fin 8 → Fin 8} {r : Fin 8} {s : Nat}
theorem ex_in {post : Int32 → SX → Prop} {J7 : Int32 → Int32 → Int32 → (Nat → Int32) → (Nat → Int32) → (Nat → Int32) → (Nat → Int32) → (Nat → Int32) → (Nat → Int32) → (Nat → Int32) → (Nat → Int32) → (Nat → Int32) → Prop}
    (hg : nr_G an g) (hs : s < 256) (hm : ma_M (nr_E g s) m) (hr : s.testBit r.val = true) {got : Nat} {x : Fin 8}
    (hJ : ∀ O B F rk QL fq ao af ab aq ai ap, sv_R (nr_E g s) m r fq am ao af ab aq O B F rk QL → sc_I (nr_E g s) O B F (sc_P QL (got + 1) 0) → J7 (nI (got + 1)) (nI s) fq an am ao af ab aq ai ap a1)
    (hp1 : ∀ m' y fq' am' ao' af' ab' aq' ai' ap', ma_M (nr_E g s) m' → m y = y → y ≠ r → (∀ z, m' z = z ↔ (m z = z ∧ z ≠ y ∧ z ≠ r)) → ar_M am' m' → post 1 (nI s, fq', an, am', ao', af', ab', aq', ai', ap', a1)) :
    ∀ (d i : Nat) (O : Fin 8 → Bool) (B : Fin 8 → Fin 8) (F : Fin 8 → Option (Fin 8)) (rk : Fin 8 → Nat) (QL : List (Fin 8)) (fq : Int32) (ao af ab aq ai ap : Nat → Int32), i + d = 8 →
      sv_R (nr_E g s) m r fq am ao af ab aq O B F rk QL → QL[got]? = some x → sc_I (nr_E g s) O B F (sc_P QL got i) →
      wX_extend_31 post J7 (nI got) (vx x) (d + 1) (nI i) (nI s) fq an am ao af ab aq ai ap a1 := by
  intro d
  induction d with
  | zero =>
    intro i O B F rk QL fq ao af ab aq ai ap hi hR hx hsc
    have : i = 8 := by omega
    subst this
    rw [wX_extend_31]
    refine br_t (by decide) ?_
    intro x2 e2
    rw [nI_1] at e2
    subst e2
    exact hJ O B F rk QL fq ao af ab aq ai ap hR (sc_next hsc)
  | succ d ih =>
    intro i O B F rk QL fq ao af ab aq ai ap hi hR hx hsc
    have hi8 : i < 8 := by omega
    have hmem := hR.2.2.2.2.2.2.2.1
    have hOx : O x = true := (hmem x).mp (List.mem_of_getElem? hx)
    have hsx := sr_part hm hR.2.2.2.2.2.2.2.2 (fun x y e => (nr_in e).1) hr hOx
    have hsy := nr_sym hg s
    rw [wX_extend_31, show nI i = vx ⟨i, hi8⟩ from rfl]
    refine br_f (vx_ge _) ⟨vx_in x, ?_⟩
    rw [vx_cl, (hg.1 x).2, bx_and]
    have hbit : ((g x) &&& s).testBit i = nr_E g s x ⟨i, hi8⟩ := by
      rw [Nat.testBit_and]; unfold nr_E; rw [hsx]; simp
    have hlow := bx_low (bx_land (b := s) (hg.1 x).1) ⟨i, hi8⟩
    by_cases he : nr_E g s x ⟨i, hi8⟩ = true
    · refine br_f (fun e => ?_) ?_
      · have := hlow.mp e
        rw [hbit, he] at this; exact absurd this (by decide)
      · refine fo_follow hsy hm hs (fun x y e => (nr_in e).1) hr hR hOx he ?_ ?_
        · intro O' B' F' rk' QL' fq' ao' af' ab' aq' ai' ap' c1 c2 c3 c4
          refine br_t rfl ?_
          intro x4 e4
          rw [vx_s] at e4
          subst e4
          refine ih (i + 1) O' B' F' rk' QL' fq' ao' af' ab' aq' ai' ap' (by omega) c1 ?_ (sc_step hsy hsc hmem c2 hx (y := ⟨i, hi8⟩) rfl (fun _ => ⟨c3, c4⟩))
          obtain ⟨⟨N, hN⟩, _⟩ := c2
          rw [hN, List.getElem?_append_left (List.getElem?_eq_some_iff.mp hx).1]; exact hx
        · intro m' fq' am' ao' af' ab' aq' ai' ap' c1 c2 c3 c4 c5
          exact br_f (by decide) (hp1 m' _ fq' am' ao' af' ab' aq' ai' ap' c1 c2 c3 c4 c5)
    · refine br_t (hlow.mpr ?_) ?_
      · rw [hbit]; simpa using he
      · intro x4 e4
        rw [vx_s] at e4
        subst e4
        exact ih (i + 1) O B F rk QL fq ao af ab aq ai ap (by omega) hR hx (sc_step hsy hsc hmem sv_same hx (y := ⟨i, hi8⟩) rfl (fun e => absurd e he))
theorem ex_out {post : Int32 → SX → Prop} (hg : nr_G an g) (hs : s < 256) (hm : ma_M (nr_E g s) m) (hr : s.testBit r.val = true)
    (hp0 : ∀ fq' ao' af' ab' aq' ai' ap' O, ar_M am m → ar_O ao' O → ce_F (nr_E g s) m r O → post 0 (nI s, fq', an, am, ao', af', ab', aq', ai', ap', a1))
    (hp1 : ∀ m' y fq' am' ao' af' ab' aq' ai' ap', ma_M (nr_E g s) m' → m y = y → y ≠ r → (∀ z, m' z = z ↔ (m z = z ∧ z ≠ y ∧ z ≠ r)) → ar_M am' m' → post 1 (nI s, fq', an, am', ao', af', ab', aq', ai', ap', a1)) :
    ∀ (d got : Nat) (O : Fin 8 → Bool) (B : Fin 8 → Fin 8) (F : Fin 8 → Option (Fin 8)) (rk : Fin 8 → Nat) (QL : List (Fin 8)) (fq : Int32) (ao af ab aq ai ap : Nat → Int32), got + d = 8 →
      sv_R (nr_E g s) m r fq am ao af ab aq O B F rk QL → sc_I (nr_E g s) O B F (sc_P QL got 0) →
      wX_extend_7 post (d + 1) (nI got) (nI s) fq an am ao af ab aq ai ap a1 := by
  have fin : ∀ (got : Nat) (O : Fin 8 → Bool) (B : Fin 8 → Fin 8) (F : Fin 8 → Option (Fin 8)) (rk : Fin 8 → Nat) (QL : List (Fin 8)) (fq : Int32) (ao af ab aq ai ap : Nat → Int32),
      sv_R (nr_E g s) m r fq am ao af ab aq O B F rk QL → sc_I (nr_E g s) O B F (sc_P QL got 0) → QL.length ≤ got → post 0 (nI s, fq, an, am, ao, af, ab, aq, ai, ap, a1) := by
    intro got O B F rk QL fq ao af ab aq ai ap hR hsc hl
    have hmem := hR.2.2.2.2.2.2.2.1
    have hall : ∀ x y, O x = true → sc_P QL got 0 x y := fun x y hx => by
      obtain ⟨k, hk, e⟩ := List.getElem_of_mem ((hmem x).mpr hx)
      exact Or.inl ⟨k, by omega, by rw [List.getElem?_eq_getElem hk, e]⟩
    exact hp0 fq ao af ab aq ai ap O hR.1 hR.2.1 (sr_end (nr_sym hg s) hm hR.2.2.2.2.2.2.2.2 (fun x y hx he => hsc.1 x y (hall x y hx) he) (fun x y hx hy he => hsc.2 x y (hall x y hx) (hall y x hy) he))
  intro d
  induction d with
  | zero =>
    intro got O B F rk QL fq ao af ab aq ai ap hd hR hsc
    have hl := fc_le8 hR.2.2.2.2.2.2.1
    rw [wX_extend_7]
    refine br_t ?_ (fin got O B F rk QL fq ao af ab aq ai ap hR hsc (by omega))
    rw [hR.2.2.2.2.1]; exact nI_le (by omega) (by omega)
  | succ d ih =>
    intro got O B F rk QL fq ao af ab aq ai ap hd hR hsc
    have hl := fc_le8 hR.2.2.2.2.2.2.1
    rw [wX_extend_7]
    by_cases hle : QL.length ≤ got
    · refine br_t ?_ (fin got O B F rk QL fq ao af ab aq ai ap hR hsc hle)
      rw [hR.2.2.2.2.1]; exact nI_le hle (by omega)
    · refine br_f ?_ (br_f (vx_lt8 (by omega)) ⟨vp_in_nI (by omega) (by decide), ?_⟩)
      · rw [hR.2.2.2.2.1]; exact nI_ge (by omega) (by omega)
      · intro x3 e3
        have hx : QL[got]? = some (QL[got]'(by omega)) := List.getElem?_eq_getElem (by omega)
        rw [nI_clamp (by omega), hR.2.2.2.2.2.1 got _ hx] at e3
        subst e3
        exact ⟨9, ex_in hg hs hm hr (fun O' B' F' rk' QL' fq' ao' af' ab' aq' ai' ap' c1 c2 => ih (got + 1) O' B' F' rk' QL' fq' ao' af' ab' aq' ai' ap' (by omega) c1 c2) hp1 8 0 O B F rk QL fq ao af ab aq ai ap rfl hR hx hsc⟩
theorem ex_extend {post : Int32 → SX → Prop} {fq : Int32} {ao af ab aq ai ap : Nat → Int32} (hg : nr_G an g) (hs : s < 256) (hm : ma_M (nr_E g s) m) (ham : ar_M am m) (hmr : m r = r) (hr : s.testBit r.val = true)
    (hp0 : ∀ fq' ao' af' ab' aq' ai' ap' O, ar_M am m → ar_O ao' O → ce_F (nr_E g s) m r O → post 0 (nI s, fq', an, am, ao', af', ab', aq', ai', ap', a1))
    (hp1 : ∀ m' y fq' am' ao' af' ab' aq' ai' ap', ma_M (nr_E g s) m' → m y = y → y ≠ r → (∀ z, m' z = z ↔ (m z = z ∧ z ≠ y ∧ z ≠ r)) → ar_M am' m' → post 1 (nI s, fq', an, am', ao', af', ab', aq', ai', ap', a1)) :
    wpX_extend post (nI s, fq, an, am, ao, af, ab, aq, ai, ap, a1) (vx r) := by
  unfold wpX_extend
  refine sf_start r ?_
  intro ao' af' ab' aq' h1 h2 h3 h4
  refine ⟨9, ex_out hg hs hm hr hp0 hp1 8 0 _ _ _ (fun _ => 0) [r] 1 ao' af' ab' aq' ai ap rfl ⟨ham, h1, h2, h3, rfl, ?_, by simp, ?_, sr_0 hmr⟩ ⟨?_, ?_⟩⟩
  · intro i x hx
    have := (List.getElem?_eq_some_iff.mp hx).1
    have hi : i = 0 := by simp at this; omega
    subst hi
    simp at hx
    rw [← hx]; exact h4
  · intro x; simp
  · intro x y h _
    rcases h with ⟨k, k1, _⟩ | ⟨_, k2⟩
    · omega
    · omega
  · intro x y h
    rcases h with ⟨k, k1, _⟩ | ⟨_, k2⟩
    · omega
    · omega
end
theorem po_two {m m' : Fin 8 → Fin 8} {y r : Fin 8} (hy : m y = y) (hr : m r = r) (hne : y ≠ r) (h : ∀ z, m' z = z ↔ (m z = z ∧ z ≠ y ∧ z ≠ r)) : ma_ms m = ma_ms m' + 2 := by
  unfold ma_ms
  rw [fc_rem (P := ma_out m) (b := y) (ma_o.mpr hy), fc_rem (P := fun x => ma_out m x && decide (x ≠ y)) (b := r) (by simp [ma_o.mpr hr]; exact fun e => hne e.symm)]
  have : fc_ct (ma_out m') = fc_ct (fun x => (ma_out m x && decide (x ≠ y)) && decide (x ≠ r)) := fc_cong (fun x => by
    unfold ma_out
    have := h x
    by_cases h1 : m' x = x
    · have h2 := this.mp h1
      simp [h1, h2]
    · simp only [h1, decide_false]
      by_cases h2 : m x = x
      · by_cases h3 : x = y
        · simp [h3]
        · by_cases h4 : x = r
          · simp [h4]
          · exact absurd (this.mpr ⟨h2, h3, h4⟩) h1
      · simp [h2])
  omega
section
variable {an : Nat → Int32} {a1 : Nat → Int32} {g : Fin 8 → Nat} {s : Nat}
theorem po_loop {post : Int32 → SX → Prop} (hg : nr_G an g) (hs : s < 256)
    (hp : ∀ m k fq' am' ao' af' ab' aq' ai' ap', ma_Mx (nr_E g s) m → ma_ms m + 2 * k = 8 → ar_M am' m → post (nI k) (nI s, fq', an, am', ao', af', ab', aq', ai', ap', a1)) :
    ∀ (d i k : Nat) (m : Fin 8 → Fin 8) (fq : Int32) (am ao af ab aq ai ap : Nat → Int32), i + d = 8 → ma_M (nr_E g s) m → ma_ms m + 2 * k = 8 → ar_M am m → (∀ p : Fin 8, p.val < i → m p = p → ma_NR (nr_E g s) m p) →
      wX_pairOff_30 post (nI s) (d + 1) (nI k) (nI i) (nI s) fq an am ao af ab aq ai ap a1 := by
  intro d
  induction d with
  | zero =>
    intro i k m fq am ao af ab aq ai ap hi hm hk ham hNR
    rw [wX_pairOff_30]
    exact br_t (vx_ge8 (by omega) (by omega)) (hp m k fq am ao af ab aq ai ap (ma_max (nr_sym hg s) hm (fun p hp => hNR p (by omega) hp)) hk ham)
  | succ d ih =>
    intro i k m fq am ao af ab aq ai ap hi hm hk ham hNR
    have hi8 : i < 8 := by omega
    have hcl : ∀ x : Fin 8, x.val < i + 1 → x = ⟨i, hi8⟩ ∨ x.val < i := fun x hx => by
      by_cases e : x.val = i
      · exact Or.inl (Fin.ext e)
      · exact Or.inr (by omega)
    rw [wX_pairOff_30, show nI i = vx ⟨i, hi8⟩ from rfl]
    refine br_f (vx_ge _) ?_
    rw [bx_bit hs]
    by_cases hb : s.testBit i = true
    · refine br_t (by simp [hb]) ⟨vx_in _, ?_⟩
      rw [vx_cl]
      by_cases hmi : m ⟨i, hi8⟩ = ⟨i, hi8⟩
      · rw [ar_Mn ham hmi]
        refine br_f vx_m1' ?_
        refine ex_extend hg hs hm ham hmi hb ?_ ?_
        · intro fq' ao' af' ab' aq' ai' ap' O c1 c2 c3
          refine br_t rfl ?_
          intro x3 e3
          rw [vx_s] at e3
          subst e3
          refine ih (i + 1) k m fq' am ao' af' ab' aq' ai' ap' (by omega) hm hk ham (fun p hp hmp => ?_)
          rcases hcl p hp with e | e
          · obtain ⟨⟨I, B, hC⟩, _⟩ := c3
            rw [e]; exact ce_NR hC hm
          · exact hNR p e hmp
        · intro m' y fq' am' ao' af' ab' aq' ai' ap' c1 c2 c3 c4 c5
          refine br_f (by decide) ?_
          intro x2 e2 x3 e3
          rw [vx_s] at e3
          rw [nI_1] at e2
          subst e2 e3
          have h2 := po_two c2 hmi c3 c4
          refine ih (i + 1) (k + 1) m' fq' am' ao' af' ab' aq' ai' ap' (by omega) c1 (by omega) c5 (fun p hp hmp => ?_)
          have h3 := (c4 p).mp hmp
          rcases hcl p hp with e | e
          · exact absurd e h3.2.2
          · exact ma_NRdown (hNR p e h3.1) (fun x hx => ((c4 x).mp hx).1)
      · rw [ar_Ms ham hmi]
        refine br_t (vx_nl _) ?_
        intro x3 e3
        rw [vx_s] at e3
        subst e3
        refine ih (i + 1) k m fq am ao af ab aq ai ap (by omega) hm hk ham (fun p hp hmp => ?_)
        rcases hcl p hp with e | e
        · rw [e] at hmp; exact absurd hmp hmi
        · exact hNR p e hmp
    · refine br_f (by simp [hb]) ?_
      intro x3 e3
      rw [vx_s] at e3
      subst e3
      refine ih (i + 1) k m fq am ao af ab aq ai ap (by omega) hm hk ham (fun p hp hmp => ?_)
      rcases hcl p hp with e | e
      · intro n hn _
        apply Classical.byContradiction
        intro hc
        have := (nr_in (hn.2 p hc)).1
        rw [e] at this; exact hb this
      · exact hNR p e hmp
theorem po_clear {post : Int32 → SX → Prop} {fq : Int32} {ao af ab aq ai ap : Nat → Int32}
    (hp : ∀ am', ar_M am' (fun x => x) → ∃ n, wX_pairOff_30 post (nI s) n 0 0 (nI s) fq an am' ao af ab aq ai ap a1) :
    ∀ (d i : Nat) (am : Nat → Int32), i + d = 8 → (∀ j : Fin 8, j.val < i → am j.val = -1) → wX_pairOff_9 post (nI s) 0 (nI s) fq (d + 1) (nI i) an am ao af ab aq ai ap a1 := by
  intro d
  induction d with
  | zero =>
    intro i am hi hj
    rw [wX_pairOff_9]
    exact br_t (vx_ge8 (by omega) (by omega)) (hp am (fun j => by simp [hj j (by omega)]))
  | succ d ih =>
    intro i am hi hj
    have hi8 : i < 8 := by omega
    rw [wX_pairOff_9]
    refine br_f (vx_lt8 hi8) ⟨vx_in ⟨i, hi8⟩, ?_⟩
    intro ap' e1 x3 e3
    rw [nI_1] at e3
    subst e3
    refine ih (i + 1) ap' (by omega) (fun j hj' => ?_)
    have hcl : (nI i).toNatClampNeg = (⟨i, hi8⟩ : Fin 8).val := nI_clamp (by omega)
    rw [e1, hcl, ar_upd]
    by_cases h : j = ⟨i, hi8⟩
    · simp [h]
    · have : j.val < i := by
        have : j.val ≠ i := fun e => h (Fin.ext e)
        omega
      simp [h, hj j this]
/-- the greatest pairing within a set -/
theorem po_pair {post : Int32 → SX → Prop} {fp fq : Int32} {am ao af ab aq ai ap : Nat → Int32} (hg : nr_G an g) (hs : s < 256)
    (hp : ∀ m k fq' am' ao' af' ab' aq' ai' ap', ma_Mx (nr_E g s) m → ma_ms m + 2 * k = 8 → ar_M am' m → post (nI k) (nI s, fq', an, am', ao', af', ab', aq', ai', ap', a1)) :
    wpX_pairOff post (fp, fq, an, am, ao, af, ab, aq, ai, ap, a1) (nI s) := by
  refine ⟨9, po_clear (fun am' h => ⟨9, po_loop hg hs hp 8 0 0 (fun x => x) fq am' ao af ab aq ai ap rfl ⟨fun _ => rfl, fun _ h => absurd rfl h⟩ ?_ h (fun p h => absurd h (by omega))⟩) 8 0 am rfl (fun j h => absurd h (by omega))⟩
  unfold ma_ms
  rw [fc_sum]
  simp [ma_out]
end
end
section
/-! ## the reference's table of pairings -/
def tb_pf : Nat → Nat → Nat → Nat
  | 0, p, _ => p
  | k + 1, p, d => if d.testBit p then tb_pf k (p + 1) d else p
def tb_p (d : Nat) : Nat := tb_pf 8 0 d
def tb_k0 (w d p : Nat) : Nat × Nat := (w ||| (p <<< (3 * p)), d ||| 2 ^ p)
def tb_k1 (w d p q : Nat) : Nat × Nat := ((w ||| (q <<< (3 * p))) ||| (p <<< (3 * q)), (d ||| 2 ^ p) ||| 2 ^ q)
/-- the pairs pushed for q, q - 1, .., p + 1 -/
def tb_push (w d p : Nat) : Nat → List (Nat × Nat)
  | 0 => []
  | q + 1 => if q + 1 ≤ p then [] else if d.testBit (q + 1) then tb_push w d p q else tb_k1 w d p (q + 1) :: tb_push w d p q
def tb_gen : Nat → Nat → Nat → List Nat
  | 0, _, _ => []
  | k + 1, w, d => if d = 255 then [w] else ((tb_k0 w d (tb_p d) :: tb_push w d (tb_p d) 7).reverse).flatMap (fun x => tb_gen k x.1 x.2)
def tb_tab : List Nat := tb_gen 9 0 0
/-- the stack machine of the constructor -/
def tb_run : Nat → List (Nat × Nat) → Nat → List Nat → Option (List Nat)
  | 0, _, _, _ => none
  | _ + 1, [], _, out => some out
  | n + 1, (w, d) :: S, c, out => if d = 255 then (if c < 764 then tb_run n S (c + 1) (w :: out) else none)
      else if d < 255 ∧ S.length + 8 ≤ 64 then tb_run n ((tb_k0 w d (tb_p d) :: tb_push w d (tb_p d) 7).reverse ++ S) c out else none
theorem tb_len : tb_tab.length = 764 := by decide +kernel
theorem tb_runs : tb_run 1800 [(0, 0)] 0 [] = some tb_tab.reverse := by decide +kernel
def tb_dg (c p : Nat) : Nat := (c >>> (3 * p)) % 8
theorem tb_inv : tb_tab.all (fun c => decide (c < 2 ^ 24) && (List.range 8).all (fun p => tb_dg c (tb_dg c p) == p)) = true := by decide +kernel
def tb_kd (p q : Nat) : Nat := if q = p then 8 else q
def tb_key (c : Nat) : Nat := (List.range 8).foldl (fun a p => 9 * a + tb_kd p (tb_dg c p)) 0
def tb_up : List Nat → Bool
  | [] => true
  | [_] => true
  | a :: b :: t => decide (a < b) && tb_up (b :: t)
theorem tb_srt : tb_up (tb_tab.map tb_key) = true := by decide +kernel
end
section
/-! ## facts about the table -/
theorem tb_dlt (c p : Nat) : tb_dg c p < 8 := Nat.mod_lt _ (by decide)
def tb_P (n : Nat) (p : Fin 8) : Fin 8 := ⟨tb_dg (tb_tab.getD n 0) p.val, tb_dlt _ _⟩
theorem tb_in {n : Nat} (h : n < 764) : tb_tab.getD n 0 ∈ tb_tab := by
  have h2 : n < tb_tab.length := by rw [tb_len]; exact h
  rw [List.getD_eq_getElem?_getD, List.getElem?_eq_getElem h2]
  exact List.getElem_mem h2
theorem tb_c {n : Nat} (h : n < 764) : tb_tab.getD n 0 < 2 ^ 24 ∧ ∀ p : Fin 8, tb_P n (tb_P n p) = p := by
  have h1 := List.all_eq_true.mp tb_inv _ (tb_in h)
  rw [Bool.and_eq_true] at h1
  refine ⟨of_decide_eq_true h1.1, fun p => ?_⟩
  have h2 := List.all_eq_true.mp h1.2 p.val (List.mem_range.mpr p.isLt)
  exact Fin.ext (eq_of_beq h2)
theorem tb_or (a b p : Nat) : tb_dg (a ||| b) p = tb_dg a p ||| tb_dg b p := by
  unfold tb_dg
  rw [Nat.shiftRight_or_distrib]
  exact Nat.or_mod_two_pow (n := 3)
theorem tb_shl : ∀ p q p' : Fin 8, tb_dg (q.val <<< (3 * p.val)) p'.val = if p' = p then q.val else 0 := by decide +kernel
def tb_z (d : Nat) : Nat := (List.range 8).countP (fun i => !d.testBit i)
theorem tb_z1 : ∀ d : Fin 256, ∀ p : Fin 8, d.val.testBit p.val = false → tb_z (d.val ||| 2 ^ p.val) < tb_z d.val ∧ d.val ||| 2 ^ p.val < 256 := by decide +kernel
theorem tb_z2 : ∀ d : Fin 256, ∀ p : Fin 8, tb_z (d.val ||| 2 ^ p.val) ≤ tb_z d.val ∧ d.val ||| 2 ^ p.val < 256 := by decide +kernel
theorem tb_p1 : ∀ d : Fin 256, d.val ≠ 255 → tb_p d.val < 8 ∧ d.val.testBit (tb_p d.val) = false ∧ ∀ i : Fin 8, i.val < tb_p d.val → d.val.testBit i.val = true := by decide +kernel
theorem tb_255 : ∀ i : Fin 8, (255 : Nat).testBit i.val = true := by decide +kernel
theorem tb_orb (d : Nat) (p i : Fin 8) : (d ||| 2 ^ p.val).testBit i.val = (d.testBit i.val || decide (i = p)) := by
  rw [Nat.testBit_or, Nat.testBit_two_pow]
  congr 1
  by_cases h : i = p
  · simp [h]
  · have : ¬ p.val = i.val := fun e => h (Fin.ext e.symm)
    simp [h, this]
theorem tb_pm {w d p q : Nat} (hp : p < q) (hq : d.testBit q = false) : ∀ n, q ≤ n → tb_k1 w d p q ∈ tb_push w d p n
  | 0, h => by omega
  | n + 1, h => by
    unfold tb_push
    rw [if_neg (by omega)]
    by_cases e : q = n + 1
    · subst e; rw [hq]; simp
    · have := tb_pm (w := w) hp hq n (by omega)
      cases d.testBit (n + 1)
      · simp; exact Or.inr this
      · simp; exact this
theorem tb_mem (f : Fin 8 → Fin 8) (hf : ∀ x, f (f x) = x) : ∀ (k w d : Nat), d < 256 → tb_z d < k → (∀ p : Fin 8, d.testBit p.val = true → tb_dg w p.val = (f p).val ∧ d.testBit (f p).val = true) →
    (∀ p : Fin 8, d.testBit p.val = false → tb_dg w p.val = 0) → ∃ c, c ∈ tb_gen k w d ∧ ∀ p : Fin 8, tb_dg c p.val = (f p).val := by
  intro k
  induction k with
  | zero => intro w d _ h; omega
  | succ k ih =>
    intro w d hd hz h1 h0
    unfold tb_gen
    by_cases e : d = 255
    · rw [if_pos e]
      exact ⟨w, by simp, fun p => (h1 p (by rw [e]; exact tb_255 p)).1⟩
    · rw [if_neg e]
      obtain ⟨a1, a2, a3⟩ := tb_p1 ⟨d, hd⟩ e
      simp only at a1 a2 a3
      -- the first point not yet decided
      generalize hP : (⟨tb_p d, a1⟩ : Fin 8) = p
      have hpv : tb_p d = p.val := by rw [← hP]
      rw [hpv] at a2 a3 ⊢
      have key : ∀ x : Nat × Nat, x ∈ tb_k0 w d p.val :: tb_push w d p.val 7 → (∃ c, c ∈ tb_gen k x.1 x.2 ∧ ∀ i : Fin 8, tb_dg c i.val = (f i).val) →
          ∃ c, c ∈ ((tb_k0 w d p.val :: tb_push w d p.val 7).reverse).flatMap (fun x => tb_gen k x.1 x.2) ∧ ∀ i : Fin 8, tb_dg c i.val = (f i).val := by
        intro x hx hc
        obtain ⟨c, c1, c2⟩ := hc
        exact ⟨c, List.mem_flatMap.mpr ⟨x, List.mem_reverse.mpr hx, c1⟩, c2⟩
      have z1 := tb_z1 ⟨d, hd⟩ p a2
      simp only at z1
      by_cases hq : f p = p
      · refine key (tb_k0 w d p.val) List.mem_cons_self ?_
        refine ih (w ||| (p.val <<< (3 * p.val))) (d ||| 2 ^ p.val) z1.2 (by omega) ?_ ?_
        · intro i hi
          rw [tb_orb] at hi
          rw [tb_or, tb_shl, tb_orb]
          by_cases hip : i = p
          · subst hip
            rw [h0 i a2, hq]
            simp
          · simp [hip] at hi
            have := h1 i hi
            simp [hip, this]
        · intro i hi
          rw [tb_orb] at hi
          simp at hi
          rw [tb_or, tb_shl, h0 i hi.1]
          simp [hi.2]
      · have hqo : d.testBit (f p).val = false := by
          cases hc : d.testBit (f p).val
          · rfl
          · have := (h1 (f p) hc).2
            rw [hf, a2] at this; exact absurd this (by decide)
        have hpq : p.val < (f p).val := by
          apply Classical.byContradiction
          intro hn
          have hne : (f p).val ≠ p.val := fun e => hq (Fin.ext e)
          have := a3 (f p) (by omega)
          rw [hqo] at this; exact absurd this (by decide)
        refine key (tb_k1 w d p.val (f p).val) (List.mem_cons_of_mem _ (tb_pm hpq hqo 7 (by omega))) ?_
        have z2 := tb_z2 ⟨d ||| 2 ^ p.val, z1.2⟩ (f p)
        simp only at z2
        refine ih ((w ||| ((f p).val <<< (3 * p.val))) ||| (p.val <<< (3 * (f p).val))) ((d ||| 2 ^ p.val) ||| 2 ^ (f p).val) z2.2 (by omega) ?_ ?_
        · intro i hi
          rw [tb_orb, tb_orb] at hi
          rw [tb_or, tb_or, tb_shl, tb_shl, tb_orb, tb_orb]
          by_cases hip : i = p
          · subst hip
            rw [h0 i a2]
            have hq' : ¬ i = f i := fun e => hq e.symm
            simp [hq']
          · by_cases hiq : i = f p
            · subst hiq
              rw [h0 _ hqo, hf]
              simp [hq]
            · simp [hip, hiq] at hi
              have := h1 i hi
              simp [hip, hiq, this]
        · intro i hi
          rw [tb_orb, tb_orb] at hi
          simp at hi
          rw [tb_or, tb_or, tb_shl, tb_shl, h0 i hi.1.1]
          simp [hi.1.2, hi.2]
/-- every pairing stands in the table -/
theorem tb_all (f : Fin 8 → Fin 8) (hf : ∀ x, f (f x) = x) : ∃ n, n < 764 ∧ ∀ p, tb_P n p = f p := by
  obtain ⟨c, c1, c2⟩ := tb_mem f hf 9 0 0 (by decide) (by decide) (fun p h => by simp at h) (fun p _ => by simp [tb_dg])
  obtain ⟨n, hn, e⟩ := List.getElem_of_mem (show c ∈ tb_tab from c1)
  refine ⟨n, by rw [tb_len] at hn; exact hn, fun p => Fin.ext ?_⟩
  show tb_dg (tb_tab.getD n 0) p.val = _
  rw [List.getD_eq_getElem?_getD, List.getElem?_eq_getElem hn]
  show tb_dg (tb_tab[n]) p.val = _
  rw [e]; exact c2 p
def tb_K (v : Fin 8 → Nat) : Nat := 9 * (9 * (9 * (9 * (9 * (9 * (9 * v 0 + v 1) + v 2) + v 3) + v 4) + v 5) + v 6) + v 7
theorem tb_keyK (c : Nat) : tb_key c = tb_K (fun p => tb_kd p.val (tb_dg c p.val)) := by
  unfold tb_key tb_K
  simp [List.range, List.range.loop]
  rfl
theorem tb_Klt {v v' : Fin 8 → Nat} (hv : ∀ i, v i ≤ 8) (hv' : ∀ i, v' i ≤ 8) (p : Fin 8) (he : ∀ i, i.val < p.val → v i = v' i) (hp : v p < v' p) : tb_K v < tb_K v' := by
  have a0 := hv 0; have a1 := hv 1; have a2 := hv 2; have a3 := hv 3; have a4 := hv 4; have a5 := hv 5; have a6 := hv 6; have a7 := hv 7
  have e := fun i => he i
  unfold tb_K
  match p, he, hp with
  | 0, he, hp => omega
  | 1, he, hp => have := he 0 (by decide); omega
  | 2, he, hp => have := he 0 (by decide); have := he 1 (by decide); omega
  | 3, he, hp => have := he 0 (by decide); have := he 1 (by decide); have := he 2 (by decide); omega
  | 4, he, hp => have := he 0 (by decide); have := he 1 (by decide); have := he 2 (by decide); have := he 3 (by decide); omega
  | 5, he, hp => have := he 0 (by decide); have := he 1 (by decide); have := he 2 (by decide); have := he 3 (by decide); have := he 4 (by decide); omega
  | 6, he, hp => have := he 0 (by decide); have := he 1 (by decide); have := he 2 (by decide); have := he 3 (by decide); have := he 4 (by decide); have := he 5 (by decide); omega
  | 7, he, hp => have := he 0 (by decide); have := he 1 (by decide); have := he 2 (by decide); have := he 3 (by decide); have := he 4 (by decide); have := he 5 (by decide); have := he 6 (by decide); omega
theorem tb_upl : ∀ (l : List Nat), tb_up l = true → ∀ j i, i < j → ∀ (hj : j < l.length), l.getD i 0 < l.getD j 0
  | [], _, j, i, _, hj => by simp at hj
  | [a], _, j, i, h, hj => by simp at hj; omega
  | a :: b :: t, hu, j, i, h, hj => by
    unfold tb_up at hu
    rw [Bool.and_eq_true] at hu
    have hab := of_decide_eq_true hu.1
    cases j with
    | zero => omega
    | succ j =>
      have ih := tb_upl (b :: t) hu.2
      have hj' : j < (b :: t).length := by simp at hj ⊢; omega
      cases i with
      | zero =>
        show a < (b :: t).getD j 0
        cases j with
        | zero => exact hab
        | succ j => exact Nat.lt_trans hab (ih (j + 1) 0 (by omega) hj')
      | succ i => exact ih j i (by omega) hj'
/-- the table is sorted -/
theorem tb_lt {i j : Nat} (h : i < j) (hj : j < 764) : tb_K (fun p => tb_kd p.val (tb_P i p).val) < tb_K (fun p => tb_kd p.val (tb_P j p).val) := by
  have hl : j < (tb_tab.map tb_key).length := by rw [List.length_map, tb_len]; exact hj
  have h1 := tb_upl _ tb_srt j i h hl
  have hg : ∀ k, k < 764 → (tb_tab.map tb_key).getD k 0 = tb_key (tb_tab.getD k 0) := fun k hk => by
    have h2 : k < tb_tab.length := by rw [tb_len]; exact hk
    simp [List.getD_eq_getElem?_getD, List.getElem?_eq_getElem h2]
  rw [hg i (by omega), hg j hj, tb_keyK, tb_keyK] at h1
  exact h1
theorem tb_kd8 (p q : Nat) (h : q < 8) : tb_kd p q ≤ 8 := by unfold tb_kd; split <;> omega
end
section
/-! ## the reference's constructor -/
def ys_S (aw ad : Nat → Int32) : List (Nat × Nat) → Prop
  | [] => True
  | x :: S => aw S.length = nI x.1 ∧ ad S.length = nI x.2 ∧ ys_S aw ad S
def ys_O (pa : Nat → Int32) : List Nat → Prop
  | [] => True
  | w :: o => pa o.length = nI w ∧ ys_O pa o
theorem ys_Su {aw ad : Nat → Int32} {k : Nat} {v v' : Int32} : ∀ {S : List (Nat × Nat)}, ys_S aw ad S → S.length ≤ k → ys_S (upd aw k v) (upd ad k v') S
  | [], _, _ => trivial
  | x :: S, h, hl => by
    simp only [List.length_cons] at hl
    have h1 : S.length ≠ k := by omega
    exact ⟨by rw [pk_un h1]; exact h.1, by rw [pk_un h1]; exact h.2.1, ys_Su h.2.2 (by omega)⟩
theorem ys_Ou {pa : Nat → Int32} {k : Nat} {v : Int32} : ∀ {o : List Nat}, ys_O pa o → o.length ≤ k → ys_O (upd pa k v) o
  | [], _, _ => trivial
  | x :: S, h, hl => by
    simp only [List.length_cons] at hl
    have h1 : S.length ≠ k := by omega
    exact ⟨by rw [pk_un h1]; exact h.1, ys_Ou h.2 (by omega)⟩
theorem ys_Oget {pa : Nat → Int32} : ∀ {o : List Nat}, ys_O pa o → ∀ i, i < o.length → pa i = nI (o.reverse.getD i 0)
  | [], _, i, hi => by simp at hi
  | x :: S, h, i, hi => by
    simp only [List.length_cons] at hi
    rw [List.reverse_cons]
    by_cases e : i = S.length
    · subst e
      rw [h.1]
      simp [List.getD_eq_getElem?_getD]
    · have hi' : i < S.length := by omega
      rw [ys_Oget h.2 i hi']
      simp only [List.getD_eq_getElem?_getD]
      rw [List.getElem?_append_left (by rw [List.length_reverse]; exact hi')]
theorem yx_sh : ∀ p q : Fin 8, vx q <<< ((3 * vx p) &&& 31) = nI (q.val <<< (3 * p.val)) := by decide +kernel
theorem yx_pl (w d p : Nat) : ∀ q, (tb_push w d p q).length ≤ q
  | 0 => Nat.le_refl _
  | q + 1 => by
    have := yx_pl w d p q
    unfold tb_push
    split
    · simp
    · split
      · omega
      · simp only [List.length_cons]; omega
section
variable {post : Int32 → SY → Prop} {fm : Int32} {an pa : Nat → Int32} {w d : Nat}
theorem ye_push (hd : d < 256) (p : Fin 8) : ∀ (q : Nat), q < 8 → ∀ (S : List (Nat × Nat)) (aw ad : Nat → Int32), ys_S aw ad S → S.length + q ≤ 64 →
    (∀ aw' ad', ys_S aw' ad' ((tb_push w d p.val q).reverse ++ S) → post (nI ((tb_push w d p.val q).reverse ++ S).length) (fm, an, pa, aw', ad')) →
    wY_extend_87 post (nI w) (nI d) (vx p) fm (q + 1) (nI S.length) (nI q) an pa aw ad := by
  intro q
  induction q with
  | zero =>
    intro _ S aw ad hS hl hp
    rw [wY_extend_87]
    exact br_t (by rw [nI_0]; exact vx_nl p) (hp aw ad hS)
  | succ q ih =>
    intro hq S aw ad hS hl hp
    rw [wY_extend_87]
    by_cases hle : q + 1 ≤ p.val
    · refine br_t (nI_le hle (by omega)) ?_
      have e : tb_push w d p.val (q + 1) = [] := by unfold tb_push; rw [if_pos hle]
      rw [e] at hp
      exact hp aw ad hS
    · refine br_f (nI_ge (by omega) (by omega)) ?_
      rw [show nI (q + 1) = vx ⟨q + 1, hq⟩ from rfl, bx_bit hd]
      have em : vx ⟨q + 1, hq⟩ + (-1) = nI q := pk_m1 q
      cases hb : d.testBit (q + 1)
      · have e : tb_push w d p.val (q + 1) = tb_k1 w d p.val (q + 1) :: tb_push w d p.val q := by
          conv => lhs; unfold tb_push
          rw [if_neg hle, hb]; simp
        rw [e, List.reverse_cons, List.append_assoc] at hp
        refine br_t (by simp) ⟨vp_in_nI (by omega) (by decide), ?_⟩
        intro aw' e1
        refine ⟨vp_in_nI (by omega) (by decide), ?_⟩
        intro ad' e2 x5 e3 x6 e4
        rw [em] at e4
        rw [nI_1] at e3
        subst e3 e4
        refine ih (by omega) (tb_k1 w d p.val (q + 1) :: S) aw' ad' ?_ (by simp only [List.length_cons]; omega) hp
        rw [e1, e2, nI_clamp (by omega)]
        refine ⟨?_, ?_, ys_Su hS (Nat.le_refl _)⟩
        · rw [pk_us, yx_sh, yx_sh, bx_or, bx_or]; rfl
        · rw [pk_us, bx_sh, bx_sh, bx_or, bx_or]; rfl
      · have e : tb_push w d p.val (q + 1) = tb_push w d p.val q := by
          conv => lhs; unfold tb_push
          rw [if_neg hle, hb]; simp
        rw [e] at hp
        refine br_f (by simp) ?_
        intro x6 e4
        rw [em] at e4
        subst e4
        exact ih (by omega) S aw ad hS (by omega) hp
theorem ye_find (hd : d < 256) (p : Fin 8) (h0 : d.testBit p.val = false) (h1 : ∀ i : Fin 8, i.val < p.val → d.testBit i.val = true) {S : List (Nat × Nat)} {aw ad : Nat → Int32} (hS : ys_S aw ad S) (hl : S.length + 8 ≤ 64)
    (hp : ∀ aw' ad', ys_S aw' ad' ((tb_k0 w d p.val :: tb_push w d p.val 7).reverse ++ S) → post (nI ((tb_k0 w d p.val :: tb_push w d p.val 7).reverse ++ S).length) (fm, an, pa, aw', ad')) :
    ∀ (j i : Nat), i + j = p.val → wY_extend_32 post (nI w) (nI d) (nI S.length) fm an pa aw ad (j + 1) (nI i) := by
  intro j
  induction j with
  | zero =>
    intro i hi
    have : nI i = vx p := by rw [show i = p.val by omega]; rfl
    rw [wY_extend_32, this]
    dsimp only
    rw [bx_bit hd, h0]
    refine br_f (by simp) ⟨vp_in_nI (by omega) (by decide), ?_⟩
    intro aw' e1
    refine ⟨vp_in_nI (by omega) (by decide), ?_⟩
    intro ad' e2 x5 e3
    rw [nI_1] at e3
    subst e3
    rw [List.reverse_cons, List.append_assoc] at hp
    refine ⟨8, ye_push hd p 7 (by decide) (tb_k0 w d p.val :: S) aw' ad' ?_ (by simp only [List.length_cons]; omega) hp⟩
    rw [e1, e2, nI_clamp (by omega)]
    refine ⟨?_, ?_, ys_Su hS (Nat.le_refl _)⟩
    · rw [pk_us, yx_sh, bx_or]; rfl
    · rw [pk_us, bx_sh, bx_or]; rfl
  | succ j ih =>
    intro i hi
    have hi8 : i < 8 := by omega
    rw [wY_extend_32, show nI i = vx ⟨i, hi8⟩ from rfl]
    dsimp only
    rw [bx_bit hd, h1 ⟨i, hi8⟩ (by simp only; omega)]
    refine br_t (by simp) ?_
    intro x4 e4
    rw [vx_s] at e4
    subst e4
    exact ih (i + 1) (by omega)
theorem ye_ext (hd : d < 255) {S : List (Nat × Nat)} {aw ad : Nat → Int32} (hS : ys_S aw ad S) (hl : S.length + 8 ≤ 64)
    (hp : ∀ aw' ad', ys_S aw' ad' ((tb_k0 w d (tb_p d) :: tb_push w d (tb_p d) 7).reverse ++ S) → post (nI ((tb_k0 w d (tb_p d) :: tb_push w d (tb_p d) 7).reverse ++ S).length) (fm, an, pa, aw', ad')) :
    wpY_extend post (fm, an, pa, aw, ad) (nI w) (nI d) (nI S.length) := by
  obtain ⟨a1, a2, a3⟩ := tb_p1 ⟨d, by omega⟩ (by simp only; omega)
  refine br_f ?_ ⟨tb_p d + 1, ye_find (by omega) ⟨tb_p d, a1⟩ a2 a3 hS hl hp (tb_p d) 0 (by simp)⟩
  intro e
  have : d = 255 := (nI_eq (by omega) (by decide)).mp e
  omega
end
theorem yi_loop {post : SY → Prop} {an : Nat → Int32} {res : List Nat} (hp : ∀ fm' pa' aw' ad', ys_O pa' res → post (fm', an, pa', aw', ad')) :
    ∀ (n : Nat) (S : List (Nat × Nat)) (c : Nat) (out : List Nat) (pa aw ad : Nat → Int32), tb_run n S c out = some res → c = out.length → S.length ≤ 64 → ys_S aw ad S → ys_O pa out →
      wY_init_39 post n (nI S.length) (nI c) an pa aw ad := by
  intro n
  induction n with
  | zero => intro S c out pa aw ad h; unfold tb_run at h; exact absurd h (by simp)
  | succ n ih =>
    intro S c out pa aw ad h hc hl hS hO
    rw [wY_init_39]
    cases S with
    | nil =>
      unfold tb_run at h
      have e : out = res := Option.some.inj h
      refine br_t (by decide) (hp _ pa aw ad (e ▸ hO))
    | cons x S =>
      simp only [List.length_cons] at hl
      refine br_f (nI_nle (by simp) (by simp only [List.length_cons]; omega)) ?_
      intro x1 e1
      rw [show (x :: S).length = S.length + 1 from rfl, pk_m1] at e1
      subst e1
      refine ⟨vp_in_nI (by omega) (by decide), vp_in_nI (by omega) (by decide), ?_⟩
      rw [nI_clamp (by omega), hS.1, hS.2.1]
      obtain ⟨w, d⟩ := x
      unfold tb_run at h
      by_cases hd : d = 255
      · rw [if_pos hd] at h
        by_cases hc7 : c < 764
        · rw [if_pos hc7] at h
          refine br_t (by rw [hd]; rfl) ⟨vp_in_nI hc7 (by decide), ?_⟩
          intro pa' e2 fm' e3
          rw [nI_1] at e3
          subst e3
          refine ih S (c + 1) (w :: out) pa' aw ad h (by rw [hc]; rfl) (by omega) hS.2.2 ?_
          rw [e2, nI_clamp (by omega), hc]
          exact ⟨pk_us, ys_Ou hO (Nat.le_refl _)⟩
        · rw [if_neg hc7] at h; exact absurd h (by simp)
      · rw [if_neg hd] at h
        by_cases hb : d < 255 ∧ S.length + 8 ≤ 64
        · rw [if_pos hb] at h
          refine ye_ext hb.1 hS.2.2 hb.2 ?_
          intro aw' ad' h2
          refine ih _ c out pa aw' ad' h hc ?_ h2 hO
          have := yx_pl w d (tb_p d) 7
          simp only [List.length_append, List.length_reverse, List.length_cons]
          omega
        · rw [if_neg hb] at h; exact absurd h (by simp)
theorem yi_init {post : SY → Prop} (hp : ∀ fm' pa' aw' ad', (∀ n, n < 764 → pa' n = nI (tb_tab.getD n 0)) → post (fm', (fun _ => 0), pa', aw', ad')) : wpY_init post := by
  refine ⟨1800, ?_⟩
  refine yi_loop (res := tb_tab.reverse) (fun fm' pa' aw' ad' h => hp fm' pa' aw' ad' (fun n hn => ?_)) 1800 [(0, 0)] 0 [] (fun _ => 0) (fun _ => 0) (fun _ => 0) tb_runs rfl (by decide) ⟨rfl, rfl, trivial⟩ trivial
  have := ys_Oget h n (by rw [List.length_reverse, tb_len]; exact hn)
  rw [List.reverse_reverse] at this
  exact this
end
section
/-! ## the reference's helpers -/
def pc_ct (l : Nat) : Nat → Nat
  | 0 => 0
  | i + 1 => pc_ct l i + (l.testBit i).toNat
def pc_S (l : Nat) : Fin 8 → Bool := fun p => l.testBit p.val
theorem pc_le (l : Nat) : ∀ i, pc_ct l i ≤ i
  | 0 => Nat.le_refl _
  | i + 1 => by
    have := pc_le l i
    unfold pc_ct
    cases l.testBit i <;> simp <;> omega
theorem pc_8 (l : Nat) : pc_ct l 8 = fc_ct (pc_S l) := by
  rw [fc_sum]
  simp [pc_ct, pc_S]
  rfl
theorem pc_add {l : Nat} (hl : l < 256) (c : Nat) (i : Fin 8) : nI c + ((nI l >>> (vx i &&& 31)) &&& 1) = nI (c + (l.testBit i.val).toNat) := by
  rw [bx_bit hl]
  cases l.testBit i.val
  · simp
  · simp; exact nI_1 c
section
variable {post : Int32 → Prop} {fm : Int32} {an pa aw ad : Nat → Int32} {g : Fin 8 → Nat} {s : Nat}
theorem yb_bits {l : Nat} (hl : l < 256) (hp : post (nI (fc_ct (pc_S l)))) : wpY_bits post (fm, an, pa, aw, ad) (nI l) := by
  have key : ∀ (d i : Nat), i + d = 8 → wY_bits_4 post (nI l) fm an pa aw ad (d + 1) (nI (pc_ct l i)) (nI i) := by
    intro d
    induction d with
    | zero =>
      intro i hi
      rw [wY_bits_4]
      refine br_t (vx_ge8 (by omega) (by omega)) ?_
      rw [show i = 8 by omega, pc_8]; exact hp
    | succ d ih =>
      intro i hi
      have hi8 : i < 8 := by omega
      rw [wY_bits_4]
      refine br_f (vx_lt8 hi8) ?_
      intro x2 e2 x3 e3
      rw [show nI i = vx ⟨i, hi8⟩ from rfl, pc_add hl] at e2
      rw [nI_1] at e3
      subst e2 e3
      exact ih (i + 1) (by omega)
  exact ⟨9, key 8 0 rfl⟩
theorem yx_s3 : ∀ p : Fin 8, (((3 * vx p) &&& 31).toBitVec.smod 32).toNat = 3 * p.val := by decide +kernel
theorem yb_part (hT : ∀ n, n < 764 → pa n = nI (tb_tab.getD n 0)) {n : Nat} (hn : n < 764) (p : Fin 8) (hp : post (vx (tb_P n p))) : wpY_partnerIn post (fm, an, pa, aw, ad) (nI n) (vx p) := by
  refine ⟨vp_in_nI hn (by decide), ?_⟩
  rw [nI_clamp (by omega), hT n hn]
  have hc := (tb_c hn).1
  have e1 := pk_shrN (n := tb_tab.getD n 0) (by omega) ((3 * vx p) &&& 31) (3 * p.val) (yx_s3 p)
  have hlt : tb_tab.getD n 0 / 2 ^ (3 * p.val) < 2 ^ 32 := Nat.lt_of_le_of_lt (Nat.div_le_self _ _) (by omega)
  rw [e1, pk_andN hlt 3 (by decide)]
  have e2 : nI (tb_tab.getD n 0 / 2 ^ (3 * p.val) % 2 ^ 3) = vx (tb_P n p) := by
    show nI _ = nI (tb_dg (tb_tab.getD n 0) p.val)
    unfold tb_dg
    rw [Nat.shiftRight_eq_div_pow]
  rw [e2]; exact hp
theorem yb_line (hg : nr_G an g) (p q : Fin 8) (h1 : (g p).testBit q.val = true → post 1) (h0 : (g p).testBit q.val = false → post 0) : wpY_hasLine post (fm, an, pa, aw, ad) (vx p) (vx q) := by
  refine ⟨vx_in p, ?_⟩
  rw [vx_cl, (hg.1 p).2, bx_bit (hg.1 p).1]
  cases e : (g p).testBit q.val
  · exact br_f (by simp) (h0 e)
  · exact br_t (by simp) (h1 e)
theorem yb_val {n : Nat} (hn : n < 764) (h : ∀ p : Fin 8, tb_P n p ≠ p → (g p).testBit (tb_P n p).val = true ∧ s.testBit p.val = true) : ma_M (nr_E g s) (tb_P n) := by
  refine ⟨(tb_c hn).2, fun x hx => ?_⟩
  have h1 := h x hx
  have h2 := h (tb_P n x) (by rw [(tb_c hn).2]; exact fun e => hx e.symm)
  unfold nr_E
  rw [h1.1, h1.2, h2.2]; rfl
theorem yb_left (hg : nr_G an g) (hT : ∀ n, n < 764 → pa n = nI (tb_tab.getD n 0)) {n : Nat} (hn : n < 764) (hs : s < 256)
    (hv : ma_M (nr_E g s) (tb_P n) → ∀ l, l < 256 → (∀ p : Fin 8, l.testBit p.val = ma_out (tb_P n) p) → post (nI l)) (hnv : ¬ ma_M (nr_E g s) (tb_P n) → post (-1)) :
    wpY_leftOut post (fm, an, pa, aw, ad) (nI n) (nI s) := by
  have key : ∀ (d i l : Nat), i + d = 8 → l < 256 → (∀ p : Fin 8, l.testBit p.val = (decide (p.val < i) && ma_out (tb_P n) p)) → (∀ p : Fin 8, p.val < i → tb_P n p ≠ p → (g p).testBit (tb_P n p).val = true ∧ s.testBit p.val = true) →
      wY_leftOut_5 post (nI n) (nI s) fm an pa aw ad (d + 1) (nI l) (nI i) := by
    intro d
    induction d with
    | zero =>
      intro i l hi hl hb hok
      rw [wY_leftOut_5]
      refine br_t (vx_ge8 (by omega) (by omega)) (hv (yb_val hn (fun p hp => hok p (by omega) hp)) l hl (fun p => ?_))
      rw [hb p]; simp [show p.val < i by omega]
    | succ d ih =>
      intro i l hi hl hb hok
      have hi8 : i < 8 := by omega
      have hcl : ∀ x : Fin 8, x ≠ ⟨i, hi8⟩ → (x.val < i + 1 ↔ x.val < i) := fun x hx => by
        have : x.val ≠ i := fun e => hx (Fin.ext e)
        omega
      rw [wY_leftOut_5, show nI i = vx ⟨i, hi8⟩ from rfl]
      refine br_f (vx_ge _) ?_
      refine yb_part hT hn ⟨i, hi8⟩ ?_
      by_cases hpi : tb_P n ⟨i, hi8⟩ = ⟨i, hi8⟩
      · refine br_t (by rw [hpi]) ?_
        intro x3 e3 x4 e4
        rw [vx_s] at e4
        rw [bx_sh, bx_or] at e3
        subst e3 e4
        have hl2 := (tb_z2 ⟨l, hl⟩ ⟨i, hi8⟩).2
        refine ih (i + 1) (l ||| 2 ^ i) (by omega) hl2 (fun p => ?_) (fun p hp hpp => ?_)
        · have := tb_orb l ⟨i, hi8⟩ p
          simp only at this
          rw [this, hb p]
          by_cases hx : p = ⟨i, hi8⟩
          · subst hx; simp [ma_o.mpr hpi]
          · simp only [hcl p hx]; simp [hx]
        · by_cases hx : p = ⟨i, hi8⟩
          · rw [hx] at hpp; exact absurd hpi hpp
          · exact hok p ((hcl p hx).mp hp) hpp
      · refine br_f (fun e => hpi ((vx_inj _ _).mp e)) ?_
        refine yb_line hg ⟨i, hi8⟩ (tb_P n ⟨i, hi8⟩) (fun hl1 => ?_) (fun hl0 => ?_)
        · refine br_f (by decide) ?_
          rw [bx_bit hs]
          cases hsb : s.testBit i
          · refine br_t (by simp) (hnv (fun hM => ?_))
            have := (nr_in (hM.2 _ hpi)).1
            simp only at this
            rw [hsb] at this; exact absurd this (by decide)
          · refine br_f (by simp) ?_
            intro x4 e4
            rw [vx_s] at e4
            subst e4
            refine ih (i + 1) l (by omega) hl (fun p => ?_) (fun p hp hpp => ?_)
            · rw [hb p]
              by_cases hx : p = ⟨i, hi8⟩
              · subst hx; simp [ma_of.mpr hpi]
              · simp only [hcl p hx]
            · by_cases hx : p = ⟨i, hi8⟩
              · rw [hx]; exact ⟨hl1, hsb⟩
              · exact hok p ((hcl p hx).mp hp) hpp
        · refine br_t rfl (hnv (fun hM => ?_))
          have := hM.2 _ hpi
          unfold nr_E at this
          rw [hl0] at this
          simp at this
  exact ⟨9, key 8 0 0 rfl (by decide) (fun p => by simp) (fun p h => absurd h (by omega))⟩
/-- k lines are the most -/
def nu_is (E : Fin 8 → Fin 8 → Bool) (k : Nat) : Prop := ∃ m, ma_Mx E m ∧ ma_ms m + 2 * k = 8
theorem nu_un {E : Fin 8 → Fin 8 → Bool} {k k' : Nat} (h : nu_is E k) (h' : nu_is E k') : k = k' := by
  obtain ⟨m, h1, h2⟩ := h
  obtain ⟨m', h3, h4⟩ := h'
  have := h1.2 m' h3.1
  have := h3.2 m h1.1
  omega
theorem yx_2 (a : Nat) (h : a ≤ 8) : ((8 : Int32) - nI a) / 2 = nI ((8 - a) / 2) := by
  rw [show (8 : Int32) = nI 8 from rfl, show (2 : Int32) = nI 2 from rfl, pk_sub h, pk_div (by omega) (by decide) (by decide)]
theorem yb_msb {n l : Nat} (hl : ∀ p : Fin 8, l.testBit p.val = ma_out (tb_P n) p) : fc_ct (pc_S l) = ma_ms (tb_P n) := fc_cong hl
theorem yb_most (hg : nr_G an g) (hT : ∀ n, n < 764 → pa n = nI (tb_tab.getD n 0)) (hs : s < 256) (hp : ∀ k, nu_is (nr_E g s) k → post (nI k)) : wpY_mostWithin post (fm, an, pa, aw, ad) (nI s) := by
  have key : ∀ (d n k : Nat), n + d = 764 → (∃ m, ma_M (nr_E g s) m ∧ ma_ms m + 2 * k = 8) → (∀ n', n' < n → ma_M (nr_E g s) (tb_P n') → 8 ≤ ma_ms (tb_P n') + 2 * k) →
      wY_mostWithin_4 post (nI s) fm an pa aw ad (d + 1) (nI k) (nI n) := by
    intro d
    induction d with
    | zero =>
      intro n k hn hk hall
      rw [wY_mostWithin_4]
      refine br_t (by rw [show n = 764 by omega]; decide) ?_
      obtain ⟨m, h1, h2⟩ := hk
      refine hp k ⟨m, ⟨h1, fun m' h' => ?_⟩, h2⟩
      obtain ⟨n', c1, c2⟩ := tb_all m' h'.1
      have e : tb_P n' = m' := funext c2
      have := hall n' (by omega) (by rw [e]; exact h')
      rw [e] at this
      omega
    | succ d ih =>
      intro n k hn hk hall
      have hk4 : k ≤ 4 := by obtain ⟨m, _, h2⟩ := hk; omega
      rw [wY_mostWithin_4]
      refine br_f ?_ ?_
      · rw [show (764 : Int32) = nI 764 from rfl]; exact nI_ge (by omega) (by decide)
      · refine yb_left hg hT (by omega) hs (fun hM l hl hb => ?_) (fun hM => ?_)
        · refine br_t (nI_pos' (by omega)) ?_
          refine yb_bits hl ⟨by decide, ?_⟩
          rw [yb_msb hb]
          have hms : ma_ms (tb_P n) ≤ 8 := fc_le _
          have hpar := ma_par hM.1
          rw [yx_2 _ hms]
          refine pk_le ((8 - ma_ms (tb_P n)) / 2) k (fun hle => ?_) (fun hlt => ?_)
          · intro x3 e3
            rw [nI_1] at e3
            subst e3
            refine ih (n + 1) k (by omega) hk (fun n' hn' hM' => ?_)
            by_cases e : n' = n
            · rw [e]; omega
            · exact hall n' (by omega) hM'
          · intro x3 e3
            rw [nI_1] at e3
            subst e3
            refine ih (n + 1) _ (by omega) ⟨tb_P n, hM, by omega⟩ (fun n' hn' hM' => ?_)
            by_cases e : n' = n
            · rw [e]; omega
            · have := hall n' (by omega) hM'
              omega
        · refine br_f (by decide) ?_
          refine br_t (nI_pos' (by omega)) ?_
          intro x3 e3
          rw [nI_1] at e3
          subst e3
          refine ih (n + 1) k (by omega) hk (fun n' hn' hM' => ?_)
          by_cases e : n' = n
          · rw [e] at hM'; exact absurd hM' hM
          · exact hall n' (by omega) hM'
  refine ⟨765, key 764 0 0 rfl ⟨fun x => x, ⟨fun _ => rfl, fun _ h => absurd rfl h⟩, ?_⟩ (fun n' h => absurd h (by omega))⟩
  unfold ma_ms
  rw [fc_sum]
  simp [ma_out]
def gt_is (g : Fin 8 → Nat) (n k : Nat) : Prop := ma_M (nr_E g 255) (tb_P n) ∧ ma_ms (tb_P n) + 2 * k = 8
theorem yb_great (hg : nr_G an g) (hT : ∀ n, n < 764 → pa n = nI (tb_tab.getD n 0)) {n k : Nat} (hn : n < 764) (hk : k ≤ 4) (h1 : gt_is g n k → post 1) (h0 : ¬ gt_is g n k → post 0) : wpY_isGreatest post (fm, an, pa, aw, ad) (nI n) (nI k) := by
  unfold wpY_isGreatest
  refine yb_left (s := 255) hg hT hn (by decide) (fun hM l hl hb => ?_) (fun hM => ?_)
  · refine br_f (nI_pos (by omega)) ?_
    refine yb_bits hl ?_
    rw [yb_msb hb]
    have hms : ma_ms (tb_P n) ≤ 8 := fc_le _
    refine pk_eq (8 - ma_ms (tb_P n)) (2 * k) (fun e => h1 ⟨hM, by omega⟩) (fun e => h0 (fun h => e (by have := h.2; omega))) ?_ ?_
    · rw [show (8 : Int32) = nI 8 from rfl, pk_sub hms]
    · rw [show (2 : Int32) = nI 2 from rfl, pk_mul]
  · exact br_t (by decide) (h0 (fun h => hM h.1))
theorem gt_mx {n k : Nat} (hn : n < 764) (hk : nu_is (nr_E g 255) k) : gt_is g n k ↔ ma_Mx (nr_E g 255) (tb_P n) := by
  obtain ⟨m, h1, h2⟩ := hk
  constructor
  · rintro ⟨a, b⟩
    exact ⟨a, fun n' h' => by have := h1.2 n' h'; omega⟩
  · rintro ⟨a, b⟩
    refine ⟨a, ?_⟩
    have := h1.2 _ a
    have := b m h1.1
    omega
theorem nu_4 {E : Fin 8 → Fin 8 → Bool} {k : Nat} (h : nu_is E k) : k ≤ 4 := by obtain ⟨m, _, h2⟩ := h; omega
end
end
section
/-! ## the relation; line and lines -/
/-- the same lines on both sides, and the reference's table -/
def i_Rel (k : Nat) (u : SX) (v : SY) : Prop := ∃ g : Fin 8 → Nat, nr_G u.2.2.1 g ∧ v.2.1 = u.2.2.1 ∧ ∀ n, n < 764 → v.2.2.1 n = nI (tb_tab.getD n 0)
theorem i_up {k : Nat} {u : SX} {v : SY} (h : i_Rel k u v) : i_Rel (k + 3) u v := h
theorem i_vc0 : wpX_init (fun u => wpY_init (fun v => i_Rel 0 u v)) := by
  refine yi_init (fun fm' pa' aw' ad' h => ⟨fun _ => 0, ⟨fun i => ⟨show (0 : Nat) < 256 by decide, rfl⟩, fun i j => by simp, fun i => by simp⟩, rfl, h⟩)
theorem rl_el {k : Nat} {P : SX → SY → Prop} (h : ∀ fp fq an am ao af ab aq ai ap a1 fm pa aw ad g, nr_G an g → (∀ n, n < 764 → pa n = nI (tb_tab.getD n 0)) → P (fp, fq, an, am, ao, af, ab, aq, ai, ap, a1) (fm, an, pa, aw, ad))
    {u : SX} {v : SY} (I : i_Rel k u v) : P u v := by
  obtain ⟨fp, fq, an, am, ao, af, ab, aq, ai, ap, a1⟩ := u
  obtain ⟨fm, bn, pa, aw, ad⟩ := v
  obtain ⟨g, h1, h2, h3⟩ := I
  have h2 : bn = an := h2
  subst h2
  exact h fp fq bn am ao af ab aq ai ap a1 fm pa aw ad g h1 h3
theorem rl_mk {k : Nat} {fp fq : Int32} {an am ao af ab aq ai ap a1 : Nat → Int32} {fm : Int32} {pa aw ad : Nat → Int32} {g : Fin 8 → Nat} (h : nr_G an g) (hT : ∀ n, n < 764 → pa n = nI (tb_tab.getD n 0)) :
    i_Rel k (fp, fq, an, am, ao, af, ab, aq, ai, ap, a1) (fm, an, pa, aw, ad) := ⟨g, h, rfl, hT⟩
theorem ix_8 (x : Int32) : (x < 0 ∨ (8 : Int32) ≤ x) ∨ ∃ p : Fin 8, x = vx p := by
  rcases pk_ix x (n := 8) (by decide) with h | h | ⟨j, h1, h2⟩
  · exact Or.inl (Or.inl h)
  · exact Or.inl (Or.inr h)
  · exact Or.inr ⟨⟨j, h1⟩, h2⟩
theorem ix_256 (x : Int32) : (x < 0 ∨ (256 : Int32) ≤ x) ∨ ∃ s : Nat, s < 256 ∧ x = nI s := by
  rcases pk_ix x (n := 256) (by decide) with h | h | ⟨j, h1, h2⟩
  · exact Or.inl (Or.inl h)
  · exact Or.inl (Or.inr h)
  · exact Or.inr ⟨j, h1, h2⟩
theorem ix_lit : (0 : Int32).toInt = 0 ∧ (7 : Int32).toInt = 7 ∧ (8 : Int32).toInt = 8 ∧ (255 : Int32).toInt = 255 ∧ (256 : Int32).toInt = 256 := by decide
section
variable {post : Int32 → Prop} {u : SX} {v : SY} {x y : Int32}
theorem xb_bad (h : x < 0 ∨ (8 : Int32) ≤ x) (hp : post 1) : wpX_bad post u x := by
  obtain ⟨fp, fq, an, am, ao, af, ab, aq, ai, ap, a1⟩ := u
  rcases h with h | h
  · exact br_t h hp
  · have h1 : ¬ x < 0 := fun e => by
      rw [Int32.lt_iff_toInt_lt] at e; rw [Int32.le_iff_toInt_le] at h; have := ix_lit; omega
    exact br_f h1 (br_f (fun e => by
      rw [Int32.lt_iff_toInt_lt] at e; rw [Int32.le_iff_toInt_le] at h; omega) hp)
theorem xb_ok (p : Fin 8) (hp : post 0) : wpX_bad post u (vx p) := by
  obtain ⟨fp, fq, an, am, ao, af, ab, aq, ai, ap, a1⟩ := u
  exact br_f (vx_nn p) (br_t (Int32.not_le.mp (vx_ge p)) hp)
theorem xs_bad (h : x < 0 ∨ (256 : Int32) ≤ x) (hp : post 1) : wpX_badSet post u x := by
  obtain ⟨fp, fq, an, am, ao, af, ab, aq, ai, ap, a1⟩ := u
  rcases h with h | h
  · exact br_t h hp
  · have h1 : ¬ x < 0 := fun e => by
      rw [Int32.lt_iff_toInt_lt] at e; rw [Int32.le_iff_toInt_le] at h; have := ix_lit; omega
    exact br_f h1 (br_f (fun e => by
      rw [Int32.le_iff_toInt_le] at e h; have := ix_lit; omega) hp)
theorem xs_ok {s : Nat} (h : s < 256) (hp : post 0) : wpX_badSet post u (nI s) := by
  obtain ⟨fp, fq, an, am, ao, af, ab, aq, ai, ap, a1⟩ := u
  exact br_f (nI_pos (by omega)) (br_t (nI_le (b := 255) (by omega) (by decide)) hp)
theorem ys_bad (h : x < 0 ∨ (256 : Int32) ≤ x) (hp : post 0) : wpY_isSet post v x := by
  obtain ⟨fm, bn, pa, aw, ad⟩ := v
  rcases h with h | h
  · exact br_t h hp
  · have h1 : ¬ x < 0 := fun e => by
      rw [Int32.lt_iff_toInt_lt] at e; rw [Int32.le_iff_toInt_le] at h; have := ix_lit; omega
    exact br_f h1 (br_t (by
      rw [Int32.lt_iff_toInt_lt]; rw [Int32.le_iff_toInt_le] at h; have := ix_lit; omega) hp)
theorem ys_ok {s : Nat} (h : s < 256) (hp : post 1) : wpY_isSet post v (nI s) := by
  obtain ⟨fm, bn, pa, aw, ad⟩ := v
  exact br_f (nI_pos (by omega)) (br_f (show ¬ nI 255 < nI s from nI_nlt (by omega) (by decide)) hp)
theorem yx_7 (h : (8 : Int32) ≤ x) : ¬ x < 0 ∧ 7 < x ∧ ¬ x ≤ 7 := by
  rw [Int32.lt_iff_toInt_lt, Int32.lt_iff_toInt_lt, Int32.le_iff_toInt_le]; rw [Int32.le_iff_toInt_le] at h; have := ix_lit; omega
theorem yx_p7 (p : Fin 8) : ¬ 7 < vx p ∧ vx p ≤ 7 := by revert p; decide +kernel
theorem yp_bad1 (h : x < 0 ∨ (8 : Int32) ≤ x) (hp : post 0) : wpY_isPair post v x y := by
  obtain ⟨fm, bn, pa, aw, ad⟩ := v
  rcases h with h | h
  · exact br_t h hp
  · have := yx_7 h
    exact br_f this.1 (br_t this.2.1 hp)
theorem yp_bad2 (p : Fin 8) (h : y < 0 ∨ (8 : Int32) ≤ y) (hp : post 0) : wpY_isPair post v (vx p) y := by
  obtain ⟨fm, bn, pa, aw, ad⟩ := v
  rcases h with h | h
  · exact br_f (vx_nn p) (br_f (yx_p7 p).1 (br_t h hp))
  · have := yx_7 h
    exact br_f (vx_nn p) (br_f (yx_p7 p).1 (br_f this.1 (br_t this.2.1 hp)))
theorem yp_ok (p q : Fin 8) (h1 : p ≠ q → post 1) (h0 : p = q → post 0) : wpY_isPair post v (vx p) (vx q) := by
  obtain ⟨fm, bn, pa, aw, ad⟩ := v
  refine br_f (vx_nn p) (br_f (yx_p7 p).1 (br_f (vx_nn q) (br_f (yx_p7 q).1 ?_)))
  by_cases h : p = q
  · exact br_t (by rw [h]) (h0 h)
  · exact br_f (fun e => h ((vx_inj _ _).mp e)) (h1 h)
end
def tn_a (an : Nat → Int32) (p q : Fin 8) : Nat → Int32 :=
  upd (upd an p.val (an p.val ^^^ ((1 : Int32) <<< (vx q &&& 31)))) q.val ((upd an p.val (an p.val ^^^ ((1 : Int32) <<< (vx q &&& 31)))) q.val ^^^ ((1 : Int32) <<< (vx p &&& 31)))
def tn_g (g : Fin 8 → Nat) (p q : Fin 8) : Fin 8 → Nat := fun i => if i = p then g p ^^^ 2 ^ q.val else if i = q then g q ^^^ 2 ^ p.val else g i
theorem tn_xb (a : Nat) (q j : Fin 8) : (a ^^^ 2 ^ q.val).testBit j.val = (a.testBit j.val ^^ decide (j = q)) := by
  rw [Nat.testBit_xor, Nat.testBit_two_pow]
  congr 1
  by_cases h : j = q
  · simp [h]
  · have : ¬ q.val = j.val := fun e => h (Fin.ext e.symm)
    simp [h, this]
theorem tn_lt {a : Nat} (h : a < 256) (q : Fin 8) : a ^^^ 2 ^ q.val < 256 :=
  Nat.xor_lt_two_pow (n := 8) h (Nat.pow_lt_pow_right (by decide) q.isLt)
theorem tn_b {g : Fin 8 → Nat} {p q : Fin 8} (hne : p ≠ q) (i j : Fin 8) : (tn_g g p q i).testBit j.val = ((g i).testBit j.val ^^ ((decide (i = p) && decide (j = q)) || (decide (i = q) && decide (j = p)))) := by
  unfold tn_g
  by_cases h1 : i = p
  · subst h1
    rw [if_pos rfl, tn_xb]
    simp [hne]
  · by_cases h2 : i = q
    · subst h2
      rw [if_neg h1, if_pos rfl, tn_xb]
      simp [h1]
    · simp [h1, h2]
theorem tn_G {an : Nat → Int32} {g : Fin 8 → Nat} (h : nr_G an g) {p q : Fin 8} (hne : p ≠ q) : nr_G (tn_a an p q) (tn_g g p q) := by
  refine ⟨fun i => ?_, fun i j => ?_, fun i => ?_⟩
  · have hp := h.1 p
    have hq := h.1 q
    have hi := h.1 i
    unfold tn_a tn_g
    rw [ar_upd, ar_upd, ar_upd, bx_sh, bx_sh]
    by_cases h1 : i = p
    · subst h1
      simp [hne, hp.2, bx_xor, tn_lt hp.1]
    · by_cases h2 : i = q
      · subst h2
        simp [h1, hq.2, bx_xor, tn_lt hq.1]
      · simp [h1, h2, hi]
  · rw [tn_b hne, tn_b hne, h.2.1 i j]
    congr 1
    rw [Bool.and_comm (decide (j = p)), Bool.and_comm (decide (j = q)), Bool.or_comm]
  · rw [tn_b hne, h.2.2 i]
    by_cases h1 : i = p
    · subst h1; simp [hne]
    · by_cases h2 : i = q
      · subst h2; simp [h1]
      · simp [h1, h2]
theorem tn_X {post : SX → Prop} {fp fq : Int32} {an am ao af ab aq ai ap a1 : Nat → Int32} (p q : Fin 8) (hp : post (fp, fq, tn_a an p q, am, ao, af, ab, aq, ai, ap, a1)) :
    wpX_turn post (fp, fq, an, am, ao, af, ab, aq, ai, ap, a1) (vx p) (vx q) := by
  refine ⟨vx_in p, vx_in p, ?_⟩
  intro a3 e3
  refine ⟨vx_in q, vx_in q, ?_⟩
  intro a6 e6
  rw [vx_cl] at e3 e6
  subst e3
  have : a6 = tn_a an p q := by rw [e6]; rfl
  rw [this]; exact hp
theorem tn_Y {post : SY → Prop} {fm : Int32} {an pa aw ad : Nat → Int32} (p q : Fin 8) (hp : post (fm, tn_a an p q, pa, aw, ad)) : wpY_exchange post (fm, an, pa, aw, ad) (vx p) (vx q) := by
  refine ⟨vx_in p, vx_in p, ?_⟩
  intro a3 e3
  refine ⟨vx_in q, vx_in q, ?_⟩
  intro a6 e6
  rw [vx_cl] at e3 e6
  subst e3
  have : a6 = tn_a an p q := by rw [e6]; rfl
  rw [this]; exact hp
theorem i_vc_line {k : Nat} {u : SX} {v : SY} (I : i_Rel k u v) (hk : k + 3 ≤ 1536) (v1 : Int32) (v2 : Int32) : wpX_line (fun r u' => wpY_line (fun r' v' => r' = r ∧ i_Rel (k + 3) u' v') v v1 v2) u v1 v2 := by
  refine rl_el (P := fun u v => wpX_line (fun r u' => wpY_line (fun r' v' => r' = r ∧ i_Rel (k + 3) u' v') v v1 v2) u v1 v2) ?_ I
  intro fp fq an am ao af ab aq ai ap a1 fm pa aw ad g hg hT
  unfold wpX_line wpY_line
  dsimp only
  rcases ix_8 v1 with h1 | ⟨p, rfl⟩
  · refine xb_bad h1 (br_f (by decide) ?_)
    exact yp_bad1 h1 (br_t rfl ⟨rfl, rl_mk hg hT⟩)
  · rcases ix_8 v2 with h2 | ⟨q, rfl⟩
    · refine xb_ok p (br_t rfl (xb_bad h2 (br_f (by decide) ?_)))
      exact yp_bad2 p h2 (br_t rfl ⟨rfl, rl_mk hg hT⟩)
    · refine xb_ok p (br_t rfl (xb_ok q (br_t rfl ?_)))
      by_cases hpq : p = q
      · refine br_t (by rw [hpq]) ?_
        exact yp_ok p q (fun e => absurd hpq e) (fun _ => br_t rfl ⟨rfl, rl_mk hg hT⟩)
      · refine br_f (fun e => hpq ((vx_inj _ _).mp e)) ?_
        refine tn_X p q ⟨vx_in p, ?_⟩
        have hG := tn_G hg hpq
        dsimp only
        rw [vx_cl, (hG.1 p).2, bx_bit (hG.1 p).1]
        refine yp_ok p q (fun _ => br_f (by decide) ?_) (fun e => absurd e hpq)
        refine tn_Y p q ?_
        refine yb_line hG p q (fun e => ?_) (fun e => ?_)
        · exact br_f (by decide) ⟨by simp [e], rl_mk hG hT⟩
        · exact br_t rfl ⟨by simp [e], rl_mk hG hT⟩
theorem ln_loop {fp fq : Int32} {am ao af ab aq ai ap a1 : Nat → Int32} {fm : Int32} {pa aw ad : Nat → Int32} {x3 : Int32} {p : Fin 8} {s c g0 : Nat} (hs : s < 256) (hc : c < 256)
    (hcb : ∀ j : Fin 8, c.testBit j.val = ((g0.testBit j.val ^^ s.testBit j.val) && decide (j ≠ p))) :
    ∀ (d i : Nat) (an : Nat → Int32) (g : Fin 8 → Nat), i + d = 8 → nr_G an g → (∀ j : Fin 8, i ≤ j.val → (g p).testBit j.val = g0.testBit j.val) →
      ∃ an' g', nr_G an' g' ∧ (∀ postX : Int32 → SX → Prop, postX x3 (fp, fq, an', am, ao, af, ab, aq, ai, ap, a1) → wX_lines_39 postX (vx p) x3 (nI c) (d + 1) (nI i) fp fq an am ao af ab aq ai ap a1) ∧
        (∀ postY : Int32 → SY → Prop, postY x3 (fm, an', pa, aw, ad) → wY_lines_30 postY (vx p) (nI s) x3 (d + 1) (nI i) fm an pa aw ad) := by
  intro d
  induction d with
  | zero =>
    intro i an g hi hg hb
    have h8 : (8 : Int32) ≤ nI i := vx_ge8 (by omega) (by omega)
    refine ⟨an, g, hg, fun postX hp => ?_, fun postY hp => ?_⟩
    · rw [wX_lines_39]; exact br_t h8 hp
    · rw [wY_lines_30]; exact br_t h8 hp
  | succ d ih =>
    intro i an g hi hg hb
    have hi8 : i < 8 := by omega
    have ei : nI i = vx ⟨i, hi8⟩ := rfl
    have hcb' := hcb ⟨i, hi8⟩
    have hb' := hb ⟨i, hi8⟩ (Nat.le_refl _)
    simp only at hcb' hb'
    cases hci : c.testBit i
    · obtain ⟨an', g', a1', a2, a3⟩ := ih (i + 1) an g (by omega) hg (fun j hj => hb j (by omega))
      refine ⟨an', g', a1', fun postX hp => ?_, fun postY hp => ?_⟩
      · rw [wX_lines_39, ei]
        refine br_f (vx_ge _) ?_
        rw [bx_bit hc]
        refine br_f (by simp [hci]) ?_
        intro x5 e5
        rw [vx_s] at e5
        subst e5
        exact a2 postX hp
      · rw [wY_lines_30, ei]
        refine br_f (vx_ge _) ?_
        by_cases hip : (⟨i, hi8⟩ : Fin 8) = p
        · refine br_t (by rw [hip]) ?_
          intro x4 e4
          rw [vx_s] at e4
          subst e4
          exact a3 postY hp
        · refine br_f (fun e => hip ((vx_inj _ _).mp e)) ?_
          rw [hci] at hcb'
          have hx : g0.testBit i = s.testBit i := by
            simp [hip] at hcb'
            exact hcb'
          have h65 : ∀ z : Int32, z = (if s.testBit i then 1 else 0) → wY_lines_65 postY (wY_lines_30 postY (vx p) (nI s) x3 (d + 1)) (vx p) (nI s) x3 (vx ⟨i, hi8⟩) (if s.testBit i then 1 else 0) z fm an pa aw ad := fun z ez => by
            refine br_t ez ?_
            intro x4 e4
            rw [vx_s] at e4
            subst e4
            exact a3 postY hp
          refine yb_line hg p ⟨i, hi8⟩ (fun e => ?_) (fun e => ?_)
          · simp only at e
            rw [hb', hx] at e
            have := h65 1 (by simp [e])
            rw [bx_bit hs]
            refine br_t (by simp [e]) ?_
            simpa [e] using this
          · simp only at e
            rw [hb', hx] at e
            have := h65 0 (by simp [e])
            rw [bx_bit hs]
            refine br_f (by simp [e]) ?_
            simpa [e] using this
    · rw [hci] at hcb'
      have hip : (⟨i, hi8⟩ : Fin 8) ≠ p := by
        intro e; simp [e] at hcb'
      have hpi : p ≠ ⟨i, hi8⟩ := fun e => hip e.symm
      have hx : (g0.testBit i ^^ s.testBit i) = true := by
        simp [hip] at hcb'
        simp [hcb']
      have hG := tn_G hg hpi
      obtain ⟨an', g', a1', a2, a3⟩ := ih (i + 1) (tn_a an p ⟨i, hi8⟩) (tn_g g p ⟨i, hi8⟩) (by omega) hG (fun j hj => by
        rw [tn_b hpi, hb j (by omega)]
        have : j ≠ ⟨i, hi8⟩ := fun e => by rw [e] at hj; simp only at hj; omega
        simp [this, hpi])
      refine ⟨an', g', a1', fun postX hp => ?_, fun postY hp => ?_⟩
      · rw [wX_lines_39, ei]
        refine br_f (vx_ge _) ?_
        rw [bx_bit hc]
        refine br_t (by simp [hci]) ?_
        refine tn_X p ⟨i, hi8⟩ ?_
        intro x5 e5
        rw [vx_s] at e5
        subst e5
        exact a2 postX hp
      · rw [wY_lines_30, ei]
        refine br_f (vx_ge _) (br_f (fun e => hip ((vx_inj _ _).mp e)) ?_)
        have h65 : ∀ z z1 : Int32, ¬ z1 = z → wY_lines_65 postY (wY_lines_30 postY (vx p) (nI s) x3 (d + 1)) (vx p) (nI s) x3 (vx ⟨i, hi8⟩) z z1 fm an pa aw ad := fun z z1 ez => by
          refine br_f ez ?_
          refine tn_Y p ⟨i, hi8⟩ ?_
          intro x4 e4
          rw [vx_s] at e4
          subst e4
          exact a3 postY hp
        refine yb_line hg p ⟨i, hi8⟩ (fun e => ?_) (fun e => ?_)
        · simp only at e
          rw [hb'] at e
          rw [e] at hx
          rw [bx_bit hs]
          have hsb : s.testBit i = false := by simpa using hx
          exact br_f (by simp [hsb]) (h65 0 1 (by decide))
        · simp only at e
          rw [hb'] at e
          rw [e] at hx
          rw [bx_bit hs]
          have hsb : s.testBit i = true := by simpa using hx
          exact br_t (by simp [hsb]) (h65 1 0 (by decide))
theorem i_vc_lines {k : Nat} {u : SX} {v : SY} (I : i_Rel k u v) (hk : k + 3 ≤ 1536) (v1 : Int32) (v2 : Int32) : wpX_lines (fun r u' => wpY_lines (fun r' v' => r' = r ∧ i_Rel (k + 3) u' v') v v1 v2) u v1 v2 := by
  refine rl_el (P := fun u v => wpX_lines (fun r u' => wpY_lines (fun r' v' => r' = r ∧ i_Rel (k + 3) u' v') v v1 v2) u v1 v2) ?_ I
  intro fp fq an am ao af ab aq ai ap a1 fm pa aw ad g hg hT
  unfold wpX_lines wpY_lines
  dsimp only
  rcases ix_8 v1 with h1 | ⟨p, rfl⟩
  · refine xb_bad h1 (br_f (by decide) ?_)
    rcases h1 with h | h
    · exact br_t h ⟨rfl, rl_mk hg hT⟩
    · have := yx_7 h
      exact br_f this.1 (br_t this.2.1 ⟨rfl, rl_mk hg hT⟩)
  · rcases ix_256 v2 with h2 | ⟨s, hs, rfl⟩
    · refine xb_ok p (br_t rfl (xs_bad h2 (br_f (by decide) ?_)))
      exact br_f (vx_nn p) (br_f (yx_p7 p).1 (ys_bad h2 (br_t rfl ⟨rfl, rl_mk hg hT⟩)))
    · refine xb_ok p (br_t rfl (xs_ok hs (br_t rfl ⟨vx_in p, ?_⟩)))
      intro x3 e3 x4 e4
      rw [vx_cl, (hg.1 p).2] at e3
      rw [e3, bx_xor] at e4
      have hlt : g p ^^^ s < 256 := Nat.xor_lt_two_pow (n := 8) (hg.1 p).1 hs
      obtain ⟨c, c1, c2⟩ := bx_delF ⟨g p ^^^ s, hlt⟩ p
      simp only at c1 c2
      rw [c1] at e4
      subst e4
      obtain ⟨an', g', b1, b2, b3⟩ := ln_loop (fp := fp) (fq := fq) (am := am) (ao := ao) (af := af) (ab := ab) (aq := aq) (ai := ai) (ap := ap) (a1 := a1) (fm := fm) (pa := pa) (aw := aw) (ad := ad) (x3 := x3) (p := p) (g0 := g p) hs c.isLt
        (fun j => by rw [c2 j, Nat.testBit_xor]) 8 0 an g rfl hg (fun j _ => rfl)
      refine ⟨9, b2 _ ?_⟩
      refine br_f (vx_nn p) (br_f (yx_p7 p).1 (ys_ok hs (br_f (by decide) ⟨vx_in p, ?_⟩)))
      intro y3 ey
      rw [vx_cl, (hg.1 p).2, ← e3] at ey
      subst ey
      exact ⟨9, b3 _ ⟨rfl, rl_mk b1 hT⟩⟩
end
section
/-! ## most, mostIn, critical, missing -/
def dl_s (s : Nat) (p : Fin 8) : Nat := s &&& (2 ^ 32 - 1 - 2 ^ p.val)
theorem dl_i (s : Nat) (p : Fin 8) : nI s &&& (((1 : Int32) <<< (vx p &&& 31)) ^^^ (-1)) = nI (dl_s s p) := by rw [bx_no, bx_and]; rfl
theorem dl_lt {s : Nat} (h : s < 256) (p : Fin 8) : dl_s s p < 256 := bx_land h
theorem dl_cb : ∀ i j : Fin 8, (2 ^ 32 - 1 - 2 ^ i.val).testBit j.val = decide (j ≠ i) := by decide +kernel
theorem dl_b (s : Nat) (p j : Fin 8) : (dl_s s p).testBit j.val = (s.testBit j.val && decide (j ≠ p)) := by
  unfold dl_s; rw [Nat.testBit_and, dl_cb]
theorem dl_eF : ∀ s : Fin 256, ∀ p : Fin 8, dl_s s.val p = s.val ↔ s.val.testBit p.val = false := by decide +kernel
theorem dl_e {s : Nat} (h : s < 256) (p : Fin 8) : dl_s s p = s ↔ s.testBit p.val = false := dl_eF ⟨s, h⟩ p
theorem dl_ct {s : Nat} (p : Fin 8) (h : s.testBit p.val = true) : fc_ct (pc_S s) = fc_ct (pc_S (dl_s s p)) + 1 := by
  rw [fc_rem (P := pc_S s) (b := p) h]
  congr 1
  exact fc_cong (fun x => (dl_b s p x).symm)
section
variable {fp fq : Int32} {an am ao af ab aq ai ap a1 : Nat → Int32} {fm : Int32} {pa aw ad : Nat → Int32} {g : Fin 8 → Nat} {s : Nat}
theorem xz_size {post : Int32 → Prop} {l : Nat} (hl : l < 256) (hp : post (nI (fc_ct (pc_S l)))) : wpX_sizeOf post (fp, fq, an, am, ao, af, ab, aq, ai, ap, a1) (nI l) := by
  have key : ∀ (d i : Nat), i + d = 8 → wX_sizeOf_4 post (nI l) fp fq an am ao af ab aq ai ap a1 (d + 1) (nI (pc_ct l i)) (nI i) := by
    intro d
    induction d with
    | zero =>
      intro i hi
      rw [wX_sizeOf_4]
      refine br_t (vx_ge8 (by omega) (by omega)) ?_
      rw [show i = 8 by omega, pc_8]; exact hp
    | succ d ih =>
      intro i hi
      have hi8 : i < 8 := by omega
      rw [wX_sizeOf_4]
      refine br_f (vx_lt8 hi8) ?_
      intro x2 e2 x3 e3
      rw [show nI i = vx ⟨i, hi8⟩ from rfl, pc_add hl] at e2
      rw [nI_1] at e3
      subst e2 e3
      exact ih (i + 1) (by omega)
  exact ⟨9, key 8 0 rfl⟩
theorem po_nu {post : Int32 → SX → Prop} (hg : nr_G an g) (hs : s < 256)
    (hp : ∀ k fq' am' ao' af' ab' aq' ai' ap', nu_is (nr_E g s) k → post (nI k) (nI s, fq', an, am', ao', af', ab', aq', ai', ap', a1)) :
    wpX_pairOff post (fp, fq, an, am, ao, af, ab, aq, ai, ap, a1) (nI s) :=
  po_pair hg hs (fun m k fq' am' ao' af' ab' aq' ai' ap' h1 h2 _ => hp k fq' am' ao' af' ab' aq' ai' ap' ⟨m, h1, h2⟩)
end
theorem i_vc_most {k : Nat} {u : SX} {v : SY} (I : i_Rel k u v) (hk : k + 3 ≤ 1536) : wpX_most (fun r u' => wpY_most (fun r' => r' = r ∧ i_Rel (k + 3) u' v) v) u := by
  refine rl_el (P := fun u v => wpX_most (fun r u' => wpY_most (fun r' => r' = r ∧ i_Rel (k + 3) u' v) v) u) ?_ I
  intro fp fq an am ao af ab aq ai ap a1 fm pa aw ad g hg hT
  unfold wpX_most wpY_most
  dsimp only
  refine po_nu (s := 255) hg (by decide) ?_
  intro k1 fq' am' ao' af' ab' aq' ai' ap' h1
  refine yb_most (s := 255) hg hT (by decide) (fun k2 h2 => ⟨?_, rl_mk hg hT⟩)
  rw [nu_un h2 h1]
theorem i_vc_mostIn {k : Nat} {u : SX} {v : SY} (I : i_Rel k u v) (hk : k + 3 ≤ 1536) (v1 : Int32) : wpX_mostIn (fun r u' => wpY_mostIn (fun r' => r' = r ∧ i_Rel (k + 3) u' v) v v1) u v1 := by
  refine rl_el (P := fun u v => wpX_mostIn (fun r u' => wpY_mostIn (fun r' => r' = r ∧ i_Rel (k + 3) u' v) v v1) u v1) ?_ I
  intro fp fq an am ao af ab aq ai ap a1 fm pa aw ad g hg hT
  unfold wpX_mostIn wpY_mostIn
  dsimp only
  rcases ix_256 v1 with h1 | ⟨s, hs, rfl⟩
  · exact xs_bad h1 (br_f (by decide) (ys_bad h1 (br_t rfl ⟨rfl, rl_mk hg hT⟩)))
  · refine xs_ok hs (br_t rfl ?_)
    refine po_nu hg hs ?_
    intro k1 fq' am' ao' af' ab' aq' ai' ap' h1
    refine ys_ok hs (br_f (by decide) ?_)
    refine yb_most hg hT hs (fun k2 h2 => ⟨?_, rl_mk hg hT⟩)
    rw [nu_un h2 h1]
/-! critical -/
def cr_is (g : Fin 8 → Nat) (s : Nat) : Prop := fc_ct (pc_S s) % 2 = 1 ∧ ∀ p : Fin 8, s.testBit p.val = true → ∃ k, nu_is (nr_E g (dl_s s p)) k ∧ 2 * k + 1 = fc_ct (pc_S s)
section
variable {an a1 : Nat → Int32} {fm : Int32} {pa aw ad : Nat → Int32} {g : Fin 8 → Nat} {s : Nat}
theorem cr_zero {post : Int32 → SX → Prop} {x1 x2 x4 : Int32} {n : Nat} {fp fq : Int32} {am ao af ab aq ai ap : Nat → Int32} (hp : post 0 (fp, fq, an, am, ao, af, ab, aq, ai, ap, a1)) :
    wX_critical_32 post x1 x2 (n + 1) 0 x4 fp fq an am ao af ab aq ai ap a1 := by
  rw [wX_critical_32]
  exact br_c (fun _ => ⟨rfl, hp⟩) (fun _ => br_t rfl ⟨rfl, hp⟩)
theorem cr_X {post : Int32 → SX → Prop} (hg : nr_G an g) (hs : s < 256) (hodd : fc_ct (pc_S s) % 2 = 1)
    (h1 : cr_is g s → ∀ fp fq am ao af ab aq ai ap, post 1 (fp, fq, an, am, ao, af, ab, aq, ai, ap, a1)) (h0 : ¬ cr_is g s → ∀ fp fq am ao af ab aq ai ap, post 0 (fp, fq, an, am, ao, af, ab, aq, ai, ap, a1)) :
    ∀ (d i : Nat) (fp fq : Int32) (am ao af ab aq ai ap : Nat → Int32), i + d = 8 → (∀ p : Fin 8, p.val < i → s.testBit p.val = true → ∃ k, nu_is (nr_E g (dl_s s p)) k ∧ 2 * k + 1 = fc_ct (pc_S s)) →
      wX_critical_32 post (nI s) (nI (fc_ct (pc_S s))) (d + 1) 1 (nI i) fp fq an am ao af ab aq ai ap a1 := by
  have hz8 : fc_ct (pc_S s) ≤ 8 := fc_le _
  intro d
  induction d with
  | zero =>
    intro i fp fq am ao af ab aq ai ap hi hall
    rw [wX_critical_32]
    exact br_t (vx_ge8 (by omega) (by omega)) ⟨rfl, h1 ⟨hodd, fun p hp => hall p (by omega) hp⟩ fp fq am ao af ab aq ai ap⟩
  | succ d ih =>
    intro i fp fq am ao af ab aq ai ap hi hall
    have hi8 : i < 8 := by omega
    have hcl : ∀ x : Fin 8, x.val < i + 1 → x = ⟨i, hi8⟩ ∨ x.val < i := fun x hx => by
      by_cases e : x.val = i
      · exact Or.inl (Fin.ext e)
      · exact Or.inr (by omega)
    rw [wX_critical_32, show nI i = vx ⟨i, hi8⟩ from rfl]
    refine br_f (vx_ge _) (br_f (by decide) ?_)
    rw [bx_bit hs, dl_i]
    cases hb : s.testBit i
    · refine br_f (by simp) ?_
      intro x4 e4
      rw [vx_s] at e4
      subst e4
      refine ih (i + 1) fp fq am ao af ab aq ai ap (by omega) (fun p hp hsp => ?_)
      rcases hcl p hp with e | e
      · rw [e] at hsp; simp only at hsp; rw [hb] at hsp; exact absurd hsp (by decide)
      · exact hall p e hsp
    · refine br_t (by simp) ?_
      refine po_nu hg (dl_lt hs _) ?_
      intro k1 fq' am' ao' af' ab' aq' ai' ap' hk1
      have hk4 := nu_4 hk1
      refine pk_eq (2 * k1) (fc_ct (pc_S s) - 1) (fun e => ?_) (fun e => ?_) ?_ ?_
      · intro x4 e4
        rw [vx_s] at e4
        subst e4
        refine ih (i + 1) _ fq' am' ao' af' ab' aq' ai' ap' (by omega) (fun p hp hsp => ?_)
        rcases hcl p hp with e2 | e2
        · rw [e2]; exact ⟨k1, hk1, by omega⟩
        · exact hall p e2 hsp
      · intro x4 e4
        rw [vx_s] at e4
        subst e4
        refine cr_zero (h0 (fun hc => ?_) _ fq' am' ao' af' ab' aq' ai' ap')
        obtain ⟨k2, hk2, e2⟩ := hc.2 ⟨i, hi8⟩ hb
        have := nu_un hk2 hk1
        omega
      · rw [show (2 : Int32) = nI 2 from rfl, pk_mul]
      · rw [show (1 : Int32) = nI 1 from rfl, pk_sub (by omega)]
theorem cr_Y {post : Int32 → Prop} (hg : nr_G an g) (hT : ∀ n, n < 764 → pa n = nI (tb_tab.getD n 0)) (hs : s < 256) (hodd : fc_ct (pc_S s) % 2 = 1) (h1 : cr_is g s → post 1) (h0 : ¬ cr_is g s → post 0) :
    ∀ (d i : Nat), i + d = 8 → (∀ p : Fin 8, p.val < i → s.testBit p.val = true → ∃ k, nu_is (nr_E g (dl_s s p)) k ∧ 2 * k + 1 = fc_ct (pc_S s)) →
      wY_critical_22 post (nI s) fm an pa aw ad (d + 1) (nI i) := by
  intro d
  induction d with
  | zero =>
    intro i hi hall
    rw [wY_critical_22]
    exact br_t (vx_ge8 (by omega) (by omega)) (h1 ⟨hodd, fun p hp => hall p (by omega) hp⟩)
  | succ d ih =>
    intro i hi hall
    have hi8 : i < 8 := by omega
    have hcl : ∀ x : Fin 8, x.val < i + 1 → x = ⟨i, hi8⟩ ∨ x.val < i := fun x hx => by
      by_cases e : x.val = i
      · exact Or.inl (Fin.ext e)
      · exact Or.inr (by omega)
    rw [wY_critical_22, show nI i = vx ⟨i, hi8⟩ from rfl]
    refine br_f (vx_ge _) ?_
    intro x3 e3
    rw [dl_i] at e3
    subst e3
    have hlt := dl_lt hs ⟨i, hi8⟩
    have hde := dl_e hs ⟨i, hi8⟩
    cases hb : s.testBit i
    · refine br_t (by rw [hde.mpr hb]) ?_
      intro x4 e4
      rw [vx_s] at e4
      subst e4
      refine ih (i + 1) (by omega) (fun p hp hsp => ?_)
      rcases hcl p hp with e | e
      · rw [e] at hsp; simp only at hsp; rw [hb] at hsp; exact absurd hsp (by decide)
      · exact hall p e hsp
    · have hct := dl_ct ⟨i, hi8⟩ hb
      refine br_f (fun e => ?_) ?_
      · have := hde.mp ((nI_eq (by omega) (by omega)).mp e)
        simp only at this
        rw [hb] at this; exact absurd this (by decide)
      · refine yb_most hg hT hlt (fun k1 hk1 => ?_)
        have hk4 := nu_4 hk1
        refine yb_bits hlt ?_
        have hz8 : fc_ct (pc_S (dl_s s ⟨i, hi8⟩)) ≤ 8 := fc_le _
        refine pk_eq (2 * k1) (fc_ct (pc_S (dl_s s ⟨i, hi8⟩))) (fun e => ?_) (fun e => ?_) ?_ ?_
        · intro x4 e4
          rw [vx_s] at e4
          subst e4
          refine ih (i + 1) (by omega) (fun p hp hsp => ?_)
          rcases hcl p hp with e2 | e2
          · rw [e2]; exact ⟨k1, hk1, by omega⟩
          · exact hall p e2 hsp
        · refine h0 (fun hc => ?_)
          obtain ⟨k2, hk2, e2⟩ := hc.2 ⟨i, hi8⟩ hb
          have := nu_un hk2 hk1
          omega
        · rw [show (2 : Int32) = nI 2 from rfl, pk_mul]
        · rfl
end
theorem i_vc_critical {k : Nat} {u : SX} {v : SY} (I : i_Rel k u v) (hk : k + 3 ≤ 1536) (v1 : Int32) : wpX_critical (fun r u' => wpY_critical (fun r' => r' = r ∧ i_Rel (k + 3) u' v) v v1) u v1 := by
  refine rl_el (P := fun u v => wpX_critical (fun r u' => wpY_critical (fun r' => r' = r ∧ i_Rel (k + 3) u' v) v v1) u v1) ?_ I
  intro fp fq an am ao af ab aq ai ap a1 fm pa aw ad g hg hT
  unfold wpX_critical
  dsimp only
  rcases ix_256 v1 with h1 | ⟨s, hs, rfl⟩
  · refine xs_bad h1 (br_f (by decide) ?_)
    unfold wpY_critical
    exact ys_bad h1 (br_t rfl ⟨rfl, rl_mk hg hT⟩)
  · refine xs_ok hs (br_t rfl ?_)
    refine xz_size hs ⟨by decide, ?_⟩
    have hz8 : fc_ct (pc_S s) ≤ 8 := fc_le _
    have hrem : nI (fc_ct (pc_S s)) - nI (fc_ct (pc_S s)) / 2 * 2 = nI (fc_ct (pc_S s) % 2) := pk_rem (d := 2) (by omega) (by decide) (by decide)
    rw [hrem]
    by_cases hodd : fc_ct (pc_S s) % 2 = 1
    · rw [hodd]
      refine br_t rfl ⟨9, ?_⟩
      have hY : ∀ r : Int32, (cr_is g s → (1 : Int32) = r) → (¬ cr_is g s → (0 : Int32) = r) → ∀ u' : SX, (∀ v' : SY, v' = (fm, an, pa, aw, ad) → i_Rel (k + 3) u' v') → wpY_critical (fun r' => r' = r ∧ i_Rel (k + 3) u' (fm, an, pa, aw, ad)) (fm, an, pa, aw, ad) (nI s) := by
        intro r hr1 hr0 u' hu
        unfold wpY_critical
        dsimp only
        refine ys_ok hs (br_f (by decide) ?_)
        refine yb_bits hs ⟨by decide, ?_⟩
        rw [hrem, hodd]
        exact br_f (by decide) ⟨9, cr_Y hg hT hs hodd (fun hc => ⟨hr1 hc, hu _ rfl⟩) (fun hc => ⟨hr0 hc, hu _ rfl⟩) 8 0 rfl (fun p h => absurd h (by omega))⟩
      refine cr_X hg hs hodd (fun hc fp fq am ao af ab aq ai ap => ?_) (fun hc fp fq am ao af ab aq ai ap => ?_) 8 0 fp fq am ao af ab aq ai ap rfl (fun p h => absurd h (by omega))
      · exact hY 1 (fun _ => rfl) (fun h => absurd hc h) _ (fun v' e => by rw [e]; exact rl_mk hg hT)
      · exact hY 0 (fun h => absurd h hc) (fun _ => rfl) _ (fun v' e => by rw [e]; exact rl_mk hg hT)
    · have h0 : fc_ct (pc_S s) % 2 = 0 := by omega
      rw [h0]
      refine br_f (by decide) ⟨1, ?_⟩
      refine cr_zero ?_
      unfold wpY_critical
      dsimp only
      refine ys_ok hs (br_f (by decide) ?_)
      refine yb_bits hs ⟨by decide, ?_⟩
      rw [hrem, h0]
      exact br_t rfl ⟨rfl, rl_mk hg hT⟩
/-! missing -/
def lk_v (g : Fin 8 → Nat) (n : Nat) (p : Fin 8) : Nat := if tb_P n p = p then 100 else if (g p).testBit (tb_P n p).val then 0 else 1
def lk_c (g : Fin 8 → Nat) (n : Nat) : Nat → Nat
  | 0 => 0
  | i + 1 => lk_c g n i + (if h : i < 8 then lk_v g n ⟨i, h⟩ else 0)
theorem lk_8 (g : Fin 8 → Nat) (n : Nat) : lk_c g n 8 = lk_v g n 0 + lk_v g n 1 + lk_v g n 2 + lk_v g n 3 + lk_v g n 4 + lk_v g n 5 + lk_v g n 6 + lk_v g n 7 := by
  simp [lk_c]
theorem lk_big {g : Fin 8 → Nat} {n : Nat} {p : Fin 8} (h : tb_P n p = p) : 100 ≤ lk_c g n 8 := by
  rw [lk_8]
  have hp : lk_v g n p = 100 := by unfold lk_v; rw [if_pos h]
  match p, hp with
  | 0, hp => omega
  | 1, hp => omega
  | 2, hp => omega
  | 3, hp => omega
  | 4, hp => omega
  | 5, hp => omega
  | 6, hp => omega
  | 7, hp => omega
theorem lk_ct {g : Fin 8 → Nat} {n : Nat} (h : ∀ p, tb_P n p ≠ p) : lk_c g n 8 = fc_ct (fun p => !(g p).testBit (tb_P n p).val) := by
  rw [lk_8, fc_sum]
  have key : ∀ p, lk_v g n p = (!(g p).testBit (tb_P n p).val).toNat := fun p => by
    unfold lk_v
    rw [if_neg (h p)]
    cases (g p).testBit (tb_P n p).val <;> rfl
  simp only [key]
theorem lk_le (g : Fin 8 → Nat) (n : Nat) : ∀ i, lk_c g n i ≤ 100 * i
  | 0 => Nat.le_refl _
  | i + 1 => by
    have := lk_le g n i
    unfold lk_c
    split
    · rename_i h
      have : lk_v g n ⟨i, h⟩ ≤ 100 := by
        unfold lk_v
        split
        · omega
        · split <;> omega
      omega
    · omega
theorem lk_ext : ∀ (t : Nat) (f : Fin 8 → Fin 8), (∀ x, f (f x) = x) → ma_ms f ≤ t → ∃ f' : Fin 8 → Fin 8, (∀ x, f' (f' x) = x) ∧ (∀ x, f' x ≠ x) ∧ ∀ x, f x ≠ x → f' x = f x := by
  intro t
  induction t with
  | zero =>
    intro f hf ht
    refine ⟨f, hf, fun x hx => ?_, fun _ _ => rfl⟩
    have := fc_lt (P := fun _ => false) (Q := ma_out f) (fun _ h => absurd h (by decide)) (ma_o.mpr hx) rfl
    unfold ma_ms at ht
    omega
  | succ t ih =>
    intro f hf ht
    by_cases hc : ∀ x, f x ≠ x
    · exact ⟨f, hf, hc, fun _ _ => rfl⟩
    · obtain ⟨x, hx⟩ := fc_ex _ hc
      have hx : f x = x := Classical.byContradiction hx
      have hy : ∃ y, f y = y ∧ y ≠ x := by
        apply Classical.byContradiction
        intro hn
        have h1 := ma_par hf
        have h2 : ma_ms f = fc_ct (fun z => ma_out f z && decide (z ≠ x)) + 1 := fc_rem (ma_o.mpr hx)
        have h3 : fc_ct (fun z => ma_out f z && decide (z ≠ x)) = fc_ct (fun _ => false) := fc_cong (fun z => by
          by_cases e : f z = z
          · by_cases e2 : z = x
            · simp [e2]
            · exact absurd ⟨z, e, e2⟩ hn
          · simp [ma_of.mpr e])
        have h4 : fc_ct (fun _ => false) = 0 := by rw [fc_sum]; rfl
        rw [h3, h4] at h2
        omega
      obtain ⟨y, hy, hne⟩ := hy
      have hxy : x ≠ y := fun e => hne e.symm
      have hM : ma_M (fun _ _ => true) f := ⟨hf, fun _ _ => rfl⟩
      have hM' := ma_swM (fun _ _ => rfl) hM hx hxy rfl
      have hlt := ma_swms2 hxy hx hy
      obtain ⟨f', a1, a2, a3⟩ := ih (ma_sw f x y) hM'.1 (by omega)
      refine ⟨f', a1, a2, fun z hz => ?_⟩
      have e1 : z ≠ x := fun e => hz (by rw [e]; exact hx)
      have e2 : z ≠ y := fun e => hz (by rw [e]; exact hy)
      have e3 : ma_sw f x y z = f z := ma_swk e1 e2 (by rw [hy]; exact e2)
      rw [a3 z (by rw [e3]; exact hz), e3]
theorem nr_255 (g : Fin 8 → Nat) (x y : Fin 8) : nr_E g 255 x y = (g x).testBit y.val := by
  unfold nr_E; rw [tb_255, tb_255]; simp
theorem lk_hi {g : Fin 8 → Nat} {k : Nat} (hk : nu_is (nr_E g 255) k) : ∃ n, n < 764 ∧ lk_c g n 8 ≤ 8 - 2 * k := by
  obtain ⟨m, h1, h2⟩ := hk
  obtain ⟨f, a1, a2, a3⟩ := lk_ext 8 m h1.1.1 (fc_le _)
  obtain ⟨n, b1, b2⟩ := tb_all f a1
  refine ⟨n, b1, ?_⟩
  rw [lk_ct (fun p => by rw [b2]; exact a2 p)]
  have : fc_ct (fun p => !(g p).testBit (tb_P n p).val) ≤ ma_ms m := fc_mono (fun p hp => by
    rw [ma_o]
    apply Classical.byContradiction
    intro hc
    have e := h1.1.2 p hc
    rw [nr_255] at e
    rw [b2, a3 p hc, e] at hp
    exact absurd hp (by decide))
  omega
theorem lk_lo {an : Nat → Int32} {g : Fin 8 → Nat} (hg : nr_G an g) {k : Nat} (hk : nu_is (nr_E g 255) k) {n : Nat} (hn : n < 764) : 8 - 2 * k ≤ lk_c g n 8 := by
  obtain ⟨m, h1, h2⟩ := hk
  by_cases hf : ∀ p, tb_P n p ≠ p
  · rw [lk_ct hf]
    have hI := (tb_c hn).2
    have hM : ma_M (nr_E g 255) (fun p => if (g p).testBit (tb_P n p).val then tb_P n p else p) := by
      constructor
      · intro p
        cases e : (g p).testBit (tb_P n p).val
        · simp [e]
        · have e2 : (g (tb_P n p)).testBit p.val = true := by rw [← hg.2.1]; exact e
          simp [e, hI, e2]
      · intro p hp
        cases e : (g p).testBit (tb_P n p).val
        · simp [e] at hp
        · simp only [e, if_true]
          rw [nr_255]; exact e
    have h3 := h1.2 _ hM
    have h4 : ma_ms (fun p => if (g p).testBit (tb_P n p).val then tb_P n p else p) = fc_ct (fun p => !(g p).testBit (tb_P n p).val) := fc_cong (fun p => by
      unfold ma_out
      cases e : (g p).testBit (tb_P n p).val
      · simp [e]
      · simp [e, hf p])
    omega
  · obtain ⟨p, hp⟩ := fc_ex _ hf
    have := lk_big (g := g) (n := n) (p := p) (Classical.byContradiction hp)
    omega
section
variable {an : Nat → Int32} {fm : Int32} {pa aw ad : Nat → Int32} {g : Fin 8 → Nat}
theorem lk_in {post : Int32 → Prop} {J5 : Int32 → Int32 → Prop} (hg : nr_G an g) (hT : ∀ n, n < 764 → pa n = nI (tb_tab.getD n 0)) {n L : Nat} (hn : n < 764) (hL : L ≤ 100)
    (hJ : J5 (nI (if lk_c g n 8 < L then lk_c g n 8 else L)) (nI (n + 1))) :
    ∀ (d i : Nat), i + d = 8 → wY_missing_17 post J5 (nI L) (nI n) fm an pa aw ad (d + 1) (nI (lk_c g n i)) (nI i) := by
  intro d
  induction d with
  | zero =>
    intro i hi
    have : i = 8 := by omega
    subst this
    have h8 := lk_le g n 8
    rw [wY_missing_17]
    refine br_t (by decide) ?_
    refine pk_le L (lk_c g n 8) (fun h => ?_) (fun h => ?_)
    · intro x2 e2
      rw [nI_1] at e2
      subst e2
      rw [if_neg (by omega)] at hJ
      exact hJ
    · intro x2 e2
      rw [nI_1] at e2
      subst e2
      rw [if_pos h] at hJ
      exact hJ
  | succ d ih =>
    intro i hi
    have hi8 : i < 8 := by omega
    have e0 : lk_c g n (i + 1) = lk_c g n i + lk_v g n ⟨i, hi8⟩ := by
      conv => lhs; unfold lk_c
      rw [dif_pos hi8]
    rw [wY_missing_17, show nI i = vx ⟨i, hi8⟩ from rfl]
    refine br_f (vx_ge _) ?_
    refine yb_part hT hn ⟨i, hi8⟩ ?_
    by_cases hp : tb_P n ⟨i, hi8⟩ = ⟨i, hi8⟩
    · refine br_t (by rw [hp]) ?_
      intro x3 e3 x4 e4
      rw [vx_s] at e4
      rw [show (100 : Int32) = nI 100 from rfl, nI_add] at e3
      subst e4 e3
      have e1 : lk_v g n ⟨i, hi8⟩ = 100 := by unfold lk_v; rw [if_pos hp]
      have := ih (i + 1) (by omega)
      rw [e0, e1] at this
      exact this
    · refine br_f (fun e => hp ((vx_inj _ _).mp e)) ?_
      refine yb_line hg ⟨i, hi8⟩ (tb_P n ⟨i, hi8⟩) (fun e => ?_) (fun e => ?_)
      · refine br_f (by decide) ?_
        intro x4 e4
        rw [vx_s] at e4
        subst e4
        have e1 : lk_v g n ⟨i, hi8⟩ = 0 := by unfold lk_v; rw [if_neg hp, e]; rfl
        have := ih (i + 1) (by omega)
        rw [e0, e1] at this
        exact this
      · refine br_t rfl ?_
        intro x3 e3 x4 e4
        rw [vx_s] at e4
        rw [nI_1] at e3
        subst e4 e3
        have e1 : lk_v g n ⟨i, hi8⟩ = 1 := by unfold lk_v; rw [if_neg hp, e]; rfl
        have := ih (i + 1) (by omega)
        rw [e0, e1] at this
        exact this
theorem lk_Y {post : Int32 → Prop} (hg : nr_G an g) (hT : ∀ n, n < 764 → pa n = nI (tb_tab.getD n 0)) {k : Nat} (hk : nu_is (nr_E g 255) k) (hp : post (nI (4 - k))) : wpY_missing post (fm, an, pa, aw, ad) := by
  have hk4 := nu_4 hk
  have e48 : (8 - 2 * k) / 2 = 4 - k := by omega
  have key : ∀ (d n L : Nat), n + d = 764 → L ≤ 100 → 8 - 2 * k ≤ L → (L = 8 - 2 * k ∨ ∃ n', n ≤ n' ∧ n' < 764 ∧ lk_c g n' 8 ≤ 8 - 2 * k) → wY_missing_5 post fm an pa aw ad (d + 1) (nI L) (nI n) := by
    intro d
    induction d with
    | zero =>
      intro n L hn hL hlo hhi
      rw [wY_missing_5]
      refine br_t (by rw [show n = 764 by omega]; decide) ⟨by decide, ?_⟩
      have : L = 8 - 2 * k := by
        rcases hhi with h | ⟨n', h1, h2, _⟩
        · exact h
        · omega
      rw [show (2 : Int32) = nI 2 from rfl, pk_div (by omega) (by decide) (by decide), this]
      rw [e48]
      exact hp
    | succ d ih =>
      intro n L hn hL hlo hhi
      rw [wY_missing_5]
      refine br_f ?_ ⟨9, lk_in hg hT (by omega) hL ?_ 8 0 rfl⟩
      · rw [show (764 : Int32) = nI 764 from rfl]; exact nI_ge (by omega) (by decide)
      · have h1 := lk_lo hg hk (n := n) (by omega)
        refine ih (n + 1) _ (by omega) ?_ ?_ ?_
        · split <;> omega
        · split <;> omega
        · rcases hhi with h | ⟨n', h2, h3, h4⟩
          · left
            rw [if_neg (by omega)]; exact h
          · by_cases e : n' = n
            · subst e
              left
              split <;> omega
            · exact Or.inr ⟨n', by omega, h3, h4⟩
  obtain ⟨n', a1, a2⟩ := lk_hi hk
  exact ⟨765, key 764 0 100 rfl (by decide) (by omega) (Or.inr ⟨n', Nat.zero_le _, a1, a2⟩)⟩
end
theorem i_vc_missing {k : Nat} {u : SX} {v : SY} (I : i_Rel k u v) (hk : k + 3 ≤ 1536) : wpX_missing (fun r u' => wpY_missing (fun r' => r' = r ∧ i_Rel (k + 3) u' v) v) u := by
  refine rl_el (P := fun u v => wpX_missing (fun r u' => wpY_missing (fun r' => r' = r ∧ i_Rel (k + 3) u' v) v) u) ?_ I
  intro fp fq an am ao af ab aq ai ap a1 fm pa aw ad g hg hT
  unfold wpX_missing
  dsimp only
  refine po_nu (s := 255) hg (by decide) ?_
  intro k1 fq' am' ao' af' ab' aq' ai' ap' h1
  refine lk_Y hg hT h1 ⟨?_, rl_mk hg hT⟩
  rw [show (4 : Int32) = nI 4 from rfl, pk_sub (nu_4 h1)]
end
section
/-! ## can and must -/
noncomputable def cw_b (P : Nat → Prop) (n : Nat) : Nat := @ite _ (P n) (Classical.propDecidable _) 1 0
noncomputable def cw_c (P : Nat → Prop) : Nat → Nat
  | 0 => 0
  | n + 1 => cw_c P n + cw_b P n
theorem cw_1 {P : Nat → Prop} {n : Nat} (h : P n) : cw_b P n = 1 := if_pos h
theorem cw_0 {P : Nat → Prop} {n : Nat} (h : ¬ P n) : cw_b P n = 0 := if_neg h
theorem cw_le (P : Nat → Prop) : ∀ n, cw_c P n ≤ n
  | 0 => Nat.le_refl _
  | n + 1 => by
    have := cw_le P n
    unfold cw_c
    by_cases h : P n
    · rw [cw_1 h]; omega
    · rw [cw_0 h]; omega
theorem cw_pos {P : Nat → Prop} : ∀ {n}, 0 < cw_c P n ↔ ∃ i, i < n ∧ P i
  | 0 => ⟨fun h => absurd h (Nat.lt_irrefl 0), fun ⟨i, h, _⟩ => absurd h (by omega)⟩
  | n + 1 => by
    unfold cw_c
    constructor
    · intro h
      by_cases hn : P n
      · exact ⟨n, by omega, hn⟩
      · rw [cw_0 hn] at h
        obtain ⟨i, h1, h2⟩ := cw_pos.mp (show 0 < cw_c P n by omega)
        exact ⟨i, by omega, h2⟩
    · rintro ⟨i, h1, h2⟩
      by_cases e : i = n
      · rw [e] at h2; rw [cw_1 h2]; omega
      · have := cw_pos.mpr ⟨i, show i < n by omega, h2⟩
        omega
theorem cw_mono {P Q : Nat → Prop} (h : ∀ n, P n → Q n) : ∀ n, cw_c P n ≤ cw_c Q n
  | 0 => Nat.le_refl _
  | n + 1 => by
    have := cw_mono h n
    unfold cw_c
    by_cases hp : P n
    · rw [cw_1 hp, cw_1 (h n hp)]; omega
    · rw [cw_0 hp]; omega
theorem cw_eq {P Q : Nat → Prop} (h : ∀ n, P n → Q n) : ∀ {n}, cw_c P n = cw_c Q n ↔ ∀ i, i < n → Q i → P i
  | 0 => ⟨fun _ i hi => absurd hi (by omega), fun _ => rfl⟩
  | n + 1 => by
    have hm := cw_mono h n
    have ih := cw_eq h (n := n)
    unfold cw_c
    constructor
    · intro he i hi hq
      by_cases hp : P n
      · rw [cw_1 hp, cw_1 (h n hp)] at he
        by_cases e : i = n
        · rw [e]; exact hp
        · exact ih.mp (by omega) i (by omega) hq
      · rw [cw_0 hp] at he
        by_cases hqn : Q n
        · rw [cw_1 hqn] at he; omega
        · rw [cw_0 hqn] at he
          by_cases e : i = n
          · rw [e] at hq; exact absurd hq hqn
          · exact ih.mp (by omega) i (by omega) hq
    · intro hall
      have e1 := ih.mpr (fun i hi hq => hall i (by omega) hq)
      by_cases hq : Q n
      · have hp := hall n (by omega) hq
        rw [cw_1 hp, cw_1 hq, e1]
      · have hp : ¬ P n := fun hp => hq (h n hp)
        rw [cw_0 hp, cw_0 hq, e1]
section
variable {an : Nat → Int32} {fm : Int32} {pa aw ad : Nat → Int32} {g : Fin 8 → Nat}
theorem cw_Y {post : Int32 → Prop} (hg : nr_G an g) (hT : ∀ n, n < 764 → pa n = nI (tb_tab.getD n 0)) (p q : Fin 8)
    (hp : ∀ k, nu_is (nr_E g 255) k → post (nI (cw_c (fun n => (p = q ∨ tb_P n p = q) ∧ gt_is g n k) 764))) : wpY_countWith post (fm, an, pa, aw, ad) (vx p) (vx q) := by
  unfold wpY_countWith
  refine yb_most (s := 255) hg hT (by decide) (fun k hk => ⟨765, ?_⟩)
  have hk4 := nu_4 hk
  have key : ∀ (d n : Nat), n + d = 764 → wY_countWith_14 post (vx p) (vx q) (nI k) fm an pa aw ad (d + 1) (nI (cw_c (fun n => (p = q ∨ tb_P n p = q) ∧ gt_is g n k) n)) (nI n) := by
    intro d
    induction d with
    | zero =>
      intro n hn
      have : n = 764 := by omega
      subst this
      rw [wY_countWith_14]
      exact br_t (by decide) (hp k hk)
    | succ d ih =>
      intro n hn
      have ih' := ih (n + 1) (by omega)
      have hle := cw_le (fun n => (p = q ∨ tb_P n p = q) ∧ gt_is g n k) n
      rw [wY_countWith_14]
      have h43 : (p = q ∨ tb_P n p = q) → wY_countWith_43 post (wY_countWith_14 post (vx p) (vx q) (nI k) fm an pa aw ad (d + 1)) (vx p) (vx q) (nI k) (nI (cw_c (fun n => (p = q ∨ tb_P n p = q) ∧ gt_is g n k) n)) (nI n) 1 fm an pa aw ad := by
        intro hh
        refine br_f (by decide) ?_
        refine yb_great hg hT (by omega) hk4 (fun hgt => ?_) (fun hgt => ?_)
        · refine br_f (by decide) ?_
          intro x4 e4 x5 e5
          rw [nI_1] at e4 e5
          subst e4 e5
          unfold cw_c at ih'
          rw [cw_1 ⟨hh, hgt⟩] at ih'
          exact ih'
        · refine br_t rfl ?_
          intro x5 e5
          rw [nI_1] at e5
          subst e5
          unfold cw_c at ih'
          rw [cw_0 (fun h => hgt h.2)] at ih'
          exact ih'
      refine br_f ?_ ?_
      · rw [show (764 : Int32) = nI 764 from rfl]; exact nI_ge (by omega) (by decide)
      · by_cases hpq : p = q
        · exact br_t (by rw [hpq]) (h43 (Or.inl hpq))
        · refine br_f (fun e => hpq ((vx_inj _ _).mp e)) ?_
          refine yb_part hT (by omega) p ?_
          by_cases hh : tb_P n p = q
          · exact br_t (by rw [hh]) (h43 (Or.inr hh))
          · refine br_f (fun e => hh ((vx_inj _ _).mp e)) ?_
            refine br_t rfl ?_
            intro x5 e5
            rw [nI_1] at e5
            subst e5
            unfold cw_c at ih'
            rw [cw_0 (fun h => h.1.elim hpq hh)] at ih'
            exact ih'
  exact key 764 0 rfl
end
section
variable {an : Nat → Int32} {g : Fin 8 → Nat} {p q : Fin 8}
theorem ca_E (x y : Fin 8) : nr_E g (dl_s (dl_s 255 p) q) x y = ((g x).testBit y.val && (decide (x ≠ p) && decide (x ≠ q) && (decide (y ≠ p) && decide (y ≠ q)))) := by
  unfold nr_E
  rw [dl_b, dl_b, dl_b, dl_b, tb_255, tb_255]
  simp
/-- a line with which the rest still makes a greatest pairing -/
theorem ca_is (hg : nr_G an g) (hpq : p ≠ q) (he : (g p).testBit q.val = true) {k k' : Nat} (hk : nu_is (nr_E g 255) k) (hk' : nu_is (nr_E g (dl_s (dl_s 255 p) q)) k') :
    (∃ n, n < 764 ∧ ((p = q ∨ tb_P n p = q) ∧ gt_is g n k)) ↔ k' + 1 = k := by
  have hsy := nr_sym hg 255
  obtain ⟨m, h1, h2⟩ := hk
  obtain ⟨m', h3, h4⟩ := hk'
  have hsub : ∀ x y, nr_E g (dl_s (dl_s 255 p) q) x y = true → nr_E g 255 x y = true := fun x y h => by
    rw [ca_E] at h; rw [nr_255]; simp at h; exact h.1
  have hM' : ma_M (nr_E g 255) m' := ⟨h3.1.1, fun x hx => hsub _ _ (h3.1.2 x hx)⟩
  have hp' : m' p = p := Classical.byContradiction (fun hc => by have := h3.1.2 p hc; rw [ca_E] at this; simp at this)
  have hq' : m' q = q := Classical.byContradiction (fun hc => by have := h3.1.2 q hc; rw [ca_E] at this; simp at this)
  have hM2 := ma_swM hsy hM' hp' hpq (by rw [nr_255]; exact he)
  have h5 : ma_ms m' = ma_ms (ma_sw m' p q) + 2 := po_two (y := p) (r := q) hp' hq' hpq (fun z => by
    constructor
    · intro hz
      have := ma_swo hpq hz
      refine ⟨?_, this.1, this.2.1⟩
      rcases this.2.2 with u | u
      · exact absurd (u.trans hq') this.2.1
      · exact u
    · rintro ⟨a, b, c⟩
      exact ma_swi b c (Or.inr a))
  have h6 := h1.2 _ hM2
  constructor
  · rintro ⟨n, hn, hh, hM, hms⟩
    have hf : tb_P n p = q := hh.elim (fun e => absurd e hpq) id
    have hI := (tb_c hn).2
    have hfq : tb_P n q = p := by rw [← hf, hI]
    have hMf : ma_M (nr_E g (dl_s (dl_s 255 p) q)) (fun x => if x = p ∨ x = q then x else tb_P n x) := by
      constructor
      · intro x
        by_cases hx : x = p ∨ x = q
        · simp [hx]
        · have hx2 : ¬ (tb_P n x = p ∨ tb_P n x = q) := by
            rintro (u | u)
            · exact hx (Or.inr (by rw [← hI x, u, hf]))
            · exact hx (Or.inl (by rw [← hI x, u, hfq]))
          simp only [if_neg hx, if_neg hx2, hI]
      · intro x hx
        by_cases hx1 : x = p ∨ x = q
        · simp [hx1] at hx
        · have hx2 : ¬ (tb_P n x = p ∨ tb_P n x = q) := by
            rintro (u | u)
            · exact hx1 (Or.inr (by rw [← hI x, u, hf]))
            · exact hx1 (Or.inl (by rw [← hI x, u, hfq]))
          simp only [if_neg hx1] at hx ⊢
          have := hM.2 x hx
          rw [nr_255] at this
          rw [ca_E, this]
          have a1 : x ≠ p := fun e => hx1 (Or.inl e)
          have a2 : x ≠ q := fun e => hx1 (Or.inr e)
          have a3 : tb_P n x ≠ p := fun e => hx2 (Or.inl e)
          have a4 : tb_P n x ≠ q := fun e => hx2 (Or.inr e)
          simp [a1, a2, a3, a4]
    have h7 : ma_ms (fun x => if x = p ∨ x = q then x else tb_P n x) = ma_ms (tb_P n) + 2 := po_two (y := p) (r := q) (by simp) (by simp) hpq (fun z => by
      constructor
      · intro hz
        have b1 : z ≠ p := fun e => hpq (by rw [e, hf] at hz; exact hz.symm)
        have b2 : z ≠ q := fun e => hpq (by rw [e, hfq] at hz; exact hz)
        exact ⟨by simp [b1, b2, hz], b1, b2⟩
      · rintro ⟨a, b, c⟩
        simpa [b, c] using a)
    have h8 := h3.2 _ hMf
    omega
  · intro e
    obtain ⟨n, b1, b2⟩ := tb_all (ma_sw m' p q) hM2.1
    have hfun : tb_P n = ma_sw m' p q := funext b2
    refine ⟨n, b1, Or.inr (by rw [hfun]; exact ma_swx), by rw [hfun]; exact hM2, by rw [hfun]; omega⟩
/-- a line that all greatest pairings have -/
theorem mu_is (hg : nr_G an g) (hpq : p ≠ q) (he : (g p).testBit q.val = true) {k k' : Nat} (hk : nu_is (nr_E g 255) k) (hk' : nu_is (nr_E (tn_g g p q) 255) k') :
    (∀ n, n < 764 → ((0 : Fin 8) = 0 ∨ tb_P n 0 = 0) ∧ gt_is g n k → (p = q ∨ tb_P n p = q) ∧ gt_is g n k) ↔ k' < k := by
  have he' : (g q).testBit p.val = true := by rw [← hg.2.1]; exact he
  obtain ⟨m, h1, h2⟩ := hk
  obtain ⟨m', h3, h4⟩ := hk'
  have hsub : ∀ x y, nr_E (tn_g g p q) 255 x y = true → nr_E g 255 x y = true ∧ ¬ (x = p ∧ y = q) := fun x y h => by
    rw [nr_255, tn_b hpq] at h
    rw [nr_255]
    by_cases c1 : x = p ∧ y = q
    · obtain ⟨rfl, rfl⟩ := c1
      simp [he] at h
    · by_cases c2 : x = q ∧ y = p
      · obtain ⟨rfl, rfl⟩ := c2
        simp [he'] at h
      · have d1 : (decide (x = p) && decide (y = q)) = false := by simpa using c1
        have d2 : (decide (x = q) && decide (y = p)) = false := by simpa using c2
        rw [d1, d2] at h
        simp at h
        exact ⟨h, c1⟩
  have hM' : ma_M (nr_E g 255) m' := ⟨h3.1.1, fun x hx => (hsub _ _ (h3.1.2 x hx)).1⟩
  constructor
  · intro hall
    apply Classical.byContradiction
    intro hn
    obtain ⟨n, b1, b2⟩ := tb_all m' h3.1.1
    have hfun : tb_P n = m' := funext b2
    have h5 := h1.2 m' hM'
    have h6 := (hall n b1 ⟨Or.inl rfl, by rw [hfun]; exact hM', by rw [hfun]; omega⟩).1
    rcases h6 with u | u
    · exact hpq u
    · rw [hfun] at u
      have := hsub p q (by have := h3.1.2 p (by rw [u]; exact fun e => hpq e.symm); rw [u] at this; exact this)
      exact this.2 ⟨rfl, rfl⟩
  · intro hlt n hn hgt
    refine ⟨Or.inr ?_, hgt.2⟩
    apply Classical.byContradiction
    intro hc
    have hI := (tb_c hn).2
    have hM2 : ma_M (nr_E (tn_g g p q) 255) (tb_P n) := by
      refine ⟨hI, fun x hx => ?_⟩
      have := hgt.2.1.2 x hx
      rw [nr_255] at this
      rw [nr_255, tn_b hpq, this]
      have c1 : ¬ (x = p ∧ tb_P n x = q) := fun e => hc (by rw [← e.1]; exact e.2)
      have c2 : ¬ (x = q ∧ tb_P n x = p) := fun e => hc (by rw [← e.2, hI]; exact e.1)
      have d1 : (decide (x = p) && decide (tb_P n x = q)) = false := by simpa using c1
      have d2 : (decide (x = q) && decide (tb_P n x = p)) = false := by simpa using c2
      rw [d1, d2]; rfl
    have h5 := h3.2 _ hM2
    have h6 := hgt.2.2
    omega
end
theorem xn_ok {post : Int32 → Prop} {fp fq : Int32} {an am ao af ab aq ai ap a1 : Nat → Int32} {g : Fin 8 → Nat} (hg : nr_G an g) (p q : Fin 8) (h0 : (g p).testBit q.val = true → post 0) (h1 : (g p).testBit q.val = false → post 1) :
    wpX_noLine post (fp, fq, an, am, ao, af, ab, aq, ai, ap, a1) (vx p) (vx q) := by
  unfold wpX_noLine
  refine xb_ok p (br_t rfl (xb_ok q (br_t rfl ⟨vx_in p, ?_⟩)))
  rw [vx_cl, (hg.1 p).2, bx_bit (hg.1 p).1]
  cases e : (g p).testBit q.val
  · exact br_t (by simp) (h1 e)
  · exact br_f (by simp) (h0 e)
theorem i_vc_can {k : Nat} {u : SX} {v : SY} (I : i_Rel k u v) (hk : k + 3 ≤ 1536) (v1 : Int32) (v2 : Int32) : wpX_can (fun r u' => wpY_can (fun r' => r' = r ∧ i_Rel (k + 3) u' v) v v1 v2) u v1 v2 := by
  refine rl_el (P := fun u v => wpX_can (fun r u' => wpY_can (fun r' => r' = r ∧ i_Rel (k + 3) u' v) v v1 v2) u v1 v2) ?_ I
  intro fp fq an am ao af ab aq ai ap a1 fm pa aw ad g hg hT
  unfold wpX_can wpY_can
  dsimp only
  rcases ix_8 v1 with h1 | ⟨p, rfl⟩
  · unfold wpX_noLine
    refine xb_bad h1 (br_f (by decide) (br_f (by decide) ?_))
    exact yp_bad1 h1 (br_t rfl ⟨rfl, rl_mk hg hT⟩)
  · rcases ix_8 v2 with h2 | ⟨q, rfl⟩
    · unfold wpX_noLine
      refine xb_ok p (br_t rfl (xb_bad h2 (br_f (by decide) (br_f (by decide) ?_))))
      exact yp_bad2 p h2 (br_t rfl ⟨rfl, rl_mk hg hT⟩)
    · refine xn_ok hg p q (fun he => ?_) (fun he => ?_)
      · have hpq : p ≠ q := fun e => by rw [e, hg.2.2] at he; exact absurd he (by decide)
        refine br_t rfl ?_
        refine po_nu (s := 255) hg (by decide) ?_
        intro k1 fq' am' ao' af' ab' aq' ai' ap' hk1
        rw [show (255 : Int32) = nI 255 from rfl, dl_i, dl_i]
        refine po_nu hg (dl_lt (dl_lt (by decide) p) q) ?_
        intro k2 fq2 am2 ao2 af2 ab2 aq2 ai2 ap2 hk2
        have hca := ca_is hg hpq he hk1 hk2
        have h4 := nu_4 hk1
        have h42 := nu_4 hk2
        have hY : ∀ r : Int32, (k2 + 1 = k1 → (1 : Int32) = r) → (¬ k2 + 1 = k1 → (0 : Int32) = r) → ∀ u' : SX, i_Rel (k + 3) u' (fm, an, pa, aw, ad) →
            wpY_isPair (fun r_1 => (r_1 = 0 → (0 : Int32) = r ∧ i_Rel (k + 3) u' (fm, an, pa, aw, ad)) ∧ (¬ r_1 = 0 → wpY_hasLine (fun r_8 => (r_8 = 0 → (0 : Int32) = r ∧ i_Rel (k + 3) u' (fm, an, pa, aw, ad)) ∧ (¬ r_8 = 0 → wpY_countWith (fun r_15 => (r_15 ≤ 0 → (0 : Int32) = r ∧ i_Rel (k + 3) u' (fm, an, pa, aw, ad)) ∧ (¬ r_15 ≤ 0 → (1 : Int32) = r ∧ i_Rel (k + 3) u' (fm, an, pa, aw, ad))) (fm, an, pa, aw, ad) (vx p) (vx q))) (fm, an, pa, aw, ad) (vx p) (vx q))) (fm, an, pa, aw, ad) (vx p) (vx q) := by
          intro r hr1 hr0 u' hu
          refine yp_ok p q (fun _ => br_f (by decide) ?_) (fun e => absurd e hpq)
          refine yb_line hg p q (fun _ => br_f (by decide) ?_) (fun e => by rw [he] at e; exact absurd e (by decide))
          refine cw_Y hg hT p q (fun k3 hk3 => ?_)
          rw [nu_un hk3 hk1]
          have hle := cw_le (fun n => (p = q ∨ tb_P n p = q) ∧ gt_is g n k1) 764
          refine pk_le (cw_c (fun n => (p = q ∨ tb_P n p = q) ∧ gt_is g n k1) 764) 0 (fun h => ?_) (fun h => ?_)
          · refine ⟨hr0 (fun e => ?_), hu⟩
            have := cw_pos.mpr (hca.mpr e)
            omega
          · exact ⟨hr1 (hca.mp (cw_pos.mp h)), hu⟩
        by_cases e : k2 + 1 = k1
        · refine br_t ?_ ?_
          · rw [show (1 : Int32) = nI 1 from rfl, pk_sub (by omega), show k1 - 1 = k2 by omega]
          · exact hY 1 (fun _ => rfl) (fun h => absurd e h) _ (rl_mk hg hT)
        · refine br_f ?_ ?_
          · intro e2
            by_cases h0 : k1 = 0
            · have : ∀ j : Fin 5, ¬ nI j.val = nI 0 - 1 := by decide +kernel
              rw [h0] at e2
              exact this ⟨k2, by omega⟩ e2
            · rw [show (1 : Int32) = nI 1 from rfl, pk_sub (by omega), nI_eq (by omega) (by omega)] at e2
              omega
          · exact hY 0 (fun h => absurd h e) (fun _ => rfl) _ (rl_mk hg hT)
      · refine br_f (by decide) ?_
        refine yp_ok p q (fun _ => br_f (by decide) ?_) (fun _ => br_t rfl ⟨rfl, rl_mk hg hT⟩)
        exact yb_line hg p q (fun e => by rw [he] at e; exact absurd e (by decide)) (fun _ => br_t rfl ⟨rfl, rl_mk hg hT⟩)
theorem tn_v {an : Nat → Int32} {p q : Fin 8} (hne : p ≠ q) (j : Nat) : tn_a an p q j = if j = q.val then an q.val ^^^ ((1 : Int32) <<< (vx p &&& 31)) else if j = p.val then an p.val ^^^ ((1 : Int32) <<< (vx q &&& 31)) else an j := by
  have h : ¬ q.val = p.val := fun e => hne (Fin.ext e.symm)
  unfold tn_a upd
  simp [h]
theorem tn_aa {an : Nat → Int32} {p q : Fin 8} (hne : p ≠ q) : tn_a (tn_a an p q) p q = an := by
  have h : ¬ q.val = p.val := fun e => hne (Fin.ext e.symm)
  have h' : ¬ p.val = q.val := fun e => hne (Fin.ext e)
  funext j
  rw [tn_v hne]
  by_cases h1 : j = q.val
  · rw [if_pos h1, tn_v hne, if_pos rfl, Int32.xor_assoc, Int32.xor_self, Int32.xor_zero, h1]
  · rw [if_neg h1]
    by_cases h2 : j = p.val
    · rw [if_pos h2, tn_v hne, if_neg h', if_pos rfl, Int32.xor_assoc, Int32.xor_self, Int32.xor_zero, h2]
    · rw [if_neg h2, tn_v hne, if_neg h1, if_neg h2]
theorem i_vc_must {k : Nat} {u : SX} {v : SY} (I : i_Rel k u v) (hk : k + 3 ≤ 1536) (v1 : Int32) (v2 : Int32) : wpX_must (fun r u' => wpY_must (fun r' => r' = r ∧ i_Rel (k + 3) u' v) v v1 v2) u v1 v2 := by
  refine rl_el (P := fun u v => wpX_must (fun r u' => wpY_must (fun r' => r' = r ∧ i_Rel (k + 3) u' v) v v1 v2) u v1 v2) ?_ I
  intro fp fq an am ao af ab aq ai ap a1 fm pa aw ad g hg hT
  unfold wpX_must wpY_must
  dsimp only
  rcases ix_8 v1 with h1 | ⟨p, rfl⟩
  · unfold wpX_noLine
    refine xb_bad h1 (br_f (by decide) (br_f (by decide) ?_))
    exact yp_bad1 h1 (br_t rfl ⟨rfl, rl_mk hg hT⟩)
  · rcases ix_8 v2 with h2 | ⟨q, rfl⟩
    · unfold wpX_noLine
      refine xb_ok p (br_t rfl (xb_bad h2 (br_f (by decide) (br_f (by decide) ?_))))
      exact yp_bad2 p h2 (br_t rfl ⟨rfl, rl_mk hg hT⟩)
    · refine xn_ok hg p q (fun he => ?_) (fun he => ?_)
      · have hpq : p ≠ q := fun e => by rw [e, hg.2.2] at he; exact absurd he (by decide)
        refine br_t rfl ?_
        refine po_nu (s := 255) hg (by decide) ?_
        intro k1 fq' am' ao' af' ab' aq' ai' ap' hk1
        refine tn_X p q ?_
        refine po_nu (s := 255) (tn_G hg hpq) (by decide) ?_
        intro k2 fq2 am2 ao2 af2 ab2 aq2 ai2 ap2 hk2
        refine tn_X p q ?_
        rw [tn_aa hpq]
        dsimp only
        have hmu := mu_is hg hpq he hk1 hk2
        have h4 := nu_4 hk1
        have h42 := nu_4 hk2
        have hY : ∀ r : Int32, (k2 < k1 → (1 : Int32) = r) → (¬ k2 < k1 → (0 : Int32) = r) → ∀ u' : SX, i_Rel (k + 3) u' (fm, an, pa, aw, ad) →
            wpY_isPair (fun r_1 => (r_1 = 0 → (0 : Int32) = r ∧ i_Rel (k + 3) u' (fm, an, pa, aw, ad)) ∧ (¬ r_1 = 0 → wpY_hasLine (fun r_8 => (r_8 = 0 → (0 : Int32) = r ∧ i_Rel (k + 3) u' (fm, an, pa, aw, ad)) ∧ (¬ r_8 = 0 → wpY_countWith (fun r_15 => wpY_countWith (fun r_21 => (r_15 = r_21 → (1 : Int32) = r ∧ i_Rel (k + 3) u' (fm, an, pa, aw, ad)) ∧ (¬ r_15 = r_21 → (0 : Int32) = r ∧ i_Rel (k + 3) u' (fm, an, pa, aw, ad))) (fm, an, pa, aw, ad) 0 0) (fm, an, pa, aw, ad) (vx p) (vx q))) (fm, an, pa, aw, ad) (vx p) (vx q))) (fm, an, pa, aw, ad) (vx p) (vx q) := by
          intro r hr1 hr0 u' hu
          refine yp_ok p q (fun _ => br_f (by decide) ?_) (fun e => absurd e hpq)
          refine yb_line hg p q (fun _ => br_f (by decide) ?_) (fun e => by rw [he] at e; exact absurd e (by decide))
          refine cw_Y hg hT p q (fun k3 hk3 => ?_)
          rw [nu_un hk3 hk1]
          refine cw_Y hg hT 0 0 (fun k4 hk4 => ?_)
          rw [nu_un hk4 hk1]
          have hle := cw_le (fun n => (p = q ∨ tb_P n p = q) ∧ gt_is g n k1) 764
          have hle2 := cw_le (fun n => ((0 : Fin 8) = 0 ∨ tb_P n 0 = 0) ∧ gt_is g n k1) 764
          have hce := cw_eq (P := fun n => (p = q ∨ tb_P n p = q) ∧ gt_is g n k1) (Q := fun n => ((0 : Fin 8) = 0 ∨ tb_P n 0 = 0) ∧ gt_is g n k1) (fun n h => ⟨Or.inl rfl, h.2⟩) (n := 764)
          refine pk_eq (cw_c (fun n => (p = q ∨ tb_P n p = q) ∧ gt_is g n k1) 764) (cw_c (fun n => ((0 : Fin 8) = 0 ∨ tb_P n 0 = 0) ∧ gt_is g n k1) 764) (fun h => ?_) (fun h => ?_)
          · exact ⟨hr1 (hmu.mp (hce.mp h)), hu⟩
          · exact ⟨hr0 (fun e => h (hce.mpr (hmu.mpr e))), hu⟩
        refine pk_le k1 k2 (fun h => ?_) (fun h => ?_)
        · exact hY 0 (fun h2 => absurd h2 (by omega)) (fun _ => rfl) _ (rl_mk hg hT)
        · exact hY 1 (fun _ => rfl) (fun h2 => absurd h h2) _ (rl_mk hg hT)
      · refine br_f (by decide) ?_
        refine yp_ok p q (fun _ => br_f (by decide) ?_) (fun _ => br_t rfl ⟨rfl, rl_mk hg hT⟩)
        exact yb_line hg p q (fun e => by rw [he] at e; exact absurd e (by decide)) (fun _ => br_t rfl ⟨rfl, rl_mk hg hT⟩)
end
section
/-! ## loose, beside, fast -/
theorem mk_ext {s t : Nat} (hs : s < 256) (ht : t < 256) (h : ∀ i : Fin 8, s.testBit i.val = t.testBit i.val) : s = t := by
  apply Nat.eq_of_testBit_eq
  intro i
  by_cases hi : i < 8
  · exact h ⟨i, hi⟩
  · have e : ∀ a, a < 256 → a.testBit i = false := fun a ha => Nat.testBit_lt_two_pow (Nat.lt_of_lt_of_le ha (Nat.pow_le_pow_right (n := 2) (by decide) (show 8 ≤ i by omega)))
    rw [e s hs, e t ht]
theorem mk_or {d : Nat} (hd : d < 256) (p : Fin 8) : nI d ||| ((1 : Int32) <<< (vx p &&& 31)) = nI (d ||| 2 ^ p.val) ∧ d ||| 2 ^ p.val < 256 :=
  ⟨by rw [bx_sh, bx_or], (tb_z2 ⟨d, hd⟩ p).2⟩
/-- the points that some greatest pairing leaves out -/
def lo_is (g : Fin 8 → Nat) (d : Nat) : Prop := d < 256 ∧ ∀ x : Fin 8, d.testBit x.val = true ↔ ∃ n, ma_Mx (nr_E g 255) n ∧ n x = x
theorem lo_un {g : Fin 8 → Nat} {d d' : Nat} (h : lo_is g d) (h' : lo_is g d') : d = d' :=
  mk_ext h.1 h'.1 (fun i => by
    have a := h.2 i
    have b := h'.2 i
    cases e : d.testBit i.val <;> cases e' : d'.testBit i.val
    · rfl
    · exact absurd (a.mpr (b.mp e')) (by rw [e]; decide)
    · exact absurd (b.mpr (a.mp e)) (by rw [e']; decide)
    · rfl)
section
variable {an a1 : Nat → Int32} {g : Fin 8 → Nat}
theorem lx_in {post : Int32 → SX → Prop} {J12 : Int32 → Int32 → Int32 → Int32 → (Nat → Int32) → (Nat → Int32) → (Nat → Int32) → (Nat → Int32) → (Nat → Int32) → (Nat → Int32) → (Nat → Int32) → (Nat → Int32) → (Nat → Int32) → Prop}
    {x2 fp fq : Int32} {am ao af ab aq ai ap : Nat → Int32} {O : Fin 8 → Bool} (hao : ar_O ao O) {d : Nat}
    (hJ : ∀ e, e < 256 → (∀ x : Fin 8, e.testBit x.val = (d.testBit x.val || O x)) → J12 (nI e) (x2 + 1) fp fq an am ao af ab aq ai ap a1) :
    ∀ (c j e : Nat), j + c = 8 → e < 256 → (∀ x : Fin 8, e.testBit x.val = (d.testBit x.val || (decide (x.val < j) && O x))) →
      wX_looseSet_35 post J12 x2 fp fq an am ao af ab aq ai ap a1 (c + 1) (nI e) (nI j) := by
  intro c
  induction c with
  | zero =>
    intro j e hj he hb
    rw [wX_looseSet_35]
    refine br_t (vx_ge8 (by omega) (by omega)) ?_
    intro y ey
    subst ey
    exact hJ e he (fun x => by rw [hb x]; simp [show x.val < j by omega])
  | succ c ih =>
    intro j e hj he hb
    have hj8 : j < 8 := by omega
    have hcl : ∀ x : Fin 8, x ≠ ⟨j, hj8⟩ → (x.val < j + 1 ↔ x.val < j) := fun x hx => by
      have : x.val ≠ j := fun e => hx (Fin.ext e)
      omega
    rw [wX_looseSet_35, show nI j = vx ⟨j, hj8⟩ from rfl]
    refine br_f (vx_ge _) ⟨vx_in _, ?_⟩
    rw [vx_cl]
    cases hO : O ⟨j, hj8⟩
    · refine br_t (ar_O0 hao hO) ?_
      intro x3 e3
      rw [vx_s] at e3
      subst e3
      refine ih (j + 1) e (by omega) he (fun x => ?_)
      rw [hb x]
      by_cases hx : x = ⟨j, hj8⟩
      · subst hx; simp [hO]
      · simp only [hcl x hx]
    · refine br_f (ar_O1 hao hO) ?_
      intro y ey x3 e3
      have hm := mk_or he ⟨j, hj8⟩
      rw [vx_s] at e3
      rw [hm.1] at ey
      subst e3 ey
      refine ih (j + 1) _ (by omega) hm.2 (fun x => ?_)
      rw [tb_orb, hb x]
      by_cases hx : x = ⟨j, hj8⟩
      · subst hx; simp [hO]
      · simp only [hcl x hx]; simp [hx]
theorem lx_loop {post : Int32 → SX → Prop} (hg : nr_G an g) {m : Fin 8 → Fin 8} (hm : ma_Mx (nr_E g 255) m) {am : Nat → Int32} (ham : ar_M am m)
    (hp : ∀ (Of : Fin 8 → Fin 8 → Bool) (d : Nat) (fq' : Int32) (ao' af' ab' aq' ai' ap' : Nat → Int32), (∀ r, m r = r → ce_F (nr_E g 255) m r (Of r)) → d < 256 → (∀ x : Fin 8, d.testBit x.val = true ↔ ∃ r, m r = r ∧ Of r x = true) → post (nI d) (nI 255, fq', an, am, ao', af', ab', aq', ai', ap', a1)) :
    ∀ (c i d : Nat) (Of : Fin 8 → Fin 8 → Bool) (fq : Int32) (ao af ab aq ai ap : Nat → Int32), i + c = 8 → d < 256 → (∀ r : Fin 8, r.val < i → m r = r → ce_F (nr_E g 255) m r (Of r)) →
      (∀ x : Fin 8, d.testBit x.val = true ↔ ∃ r : Fin 8, r.val < i ∧ m r = r ∧ Of r x = true) → wX_looseSet_12 post (c + 1) (nI d) (nI i) (nI 255) fq an am ao af ab aq ai ap a1 := by
  intro c
  induction c with
  | zero =>
    intro i d Of fq ao af ab aq ai ap hi hd hF hb
    rw [wX_looseSet_12]
    refine br_t (vx_ge8 (by omega) (by omega)) (hp Of d fq ao af ab aq ai ap (fun r hr => hF r (by omega) hr) hd (fun x => ?_))
    rw [hb x]
    exact ⟨fun ⟨r, _, h2⟩ => ⟨r, h2⟩, fun ⟨r, h2⟩ => ⟨r, by omega, h2⟩⟩
  | succ c ih =>
    intro i d Of fq ao af ab aq ai ap hi hd hF hb
    have hi8 : i < 8 := by omega
    have hcl : ∀ x : Fin 8, x.val < i + 1 → x = ⟨i, hi8⟩ ∨ x.val < i := fun x hx => by
      by_cases e : x.val = i
      · exact Or.inl (Fin.ext e)
      · exact Or.inr (by omega)
    rw [wX_looseSet_12, show nI i = vx ⟨i, hi8⟩ from rfl]
    refine br_f (vx_ge _) ⟨vx_in _, ?_⟩
    rw [vx_cl]
    by_cases hmi : m ⟨i, hi8⟩ = ⟨i, hi8⟩
    · rw [ar_Mn ham hmi]
      refine br_f vx_m1' ?_
      refine ex_extend hg (by decide) hm.1 ham hmi (tb_255 _) ?_ ?_
      · intro fq' ao' af' ab' aq' ai' ap' O c1 c2 c3
        refine ⟨9, lx_in (d := d) c2 (fun e he heb => ?_) 8 0 d rfl hd (fun x => by simp)⟩
        rw [vx_s]
        refine ih (i + 1) e (fun r => if r = ⟨i, hi8⟩ then O else Of r) fq' ao' af' ab' aq' ai' ap' (by omega) he (fun r hr hmr => ?_) (fun x => ?_)
        · rcases hcl r hr with e2 | e2
          · subst e2; simp; exact c3
          · have : r ≠ ⟨i, hi8⟩ := fun e3 => by rw [e3] at e2; simp only at e2; omega
            simp only [if_neg this]; exact hF r e2 hmr
        · rw [heb x, Bool.or_eq_true, hb x]
          constructor
          · rintro (⟨r, r1, r2, r3⟩ | h)
            · have : r ≠ ⟨i, hi8⟩ := fun e3 => by rw [e3] at r1; simp only at r1; omega
              exact ⟨r, by omega, r2, by simp only [if_neg this]; exact r3⟩
            · exact ⟨⟨i, hi8⟩, by simp only; omega, hmi, by simp [h]⟩
          · rintro ⟨r, r1, r2, r3⟩
            rcases hcl r r1 with e2 | e2
            · subst e2; simp at r3; exact Or.inr r3
            · have : r ≠ ⟨i, hi8⟩ := fun e3 => by rw [e3] at e2; simp only at e2; omega
              simp only [if_neg this] at r3
              exact Or.inl ⟨r, e2, r2, r3⟩
      · intro m' y fq' am' ao' af' ab' aq' ai' ap' c1 c2 c3 c4 c5
        have h1 := hm.2 m' c1
        have h2 := po_two c2 hmi c3 c4
        omega
    · rw [ar_Ms ham hmi]
      refine br_t (vx_nl _) ?_
      intro x2 e2
      rw [vx_s] at e2
      subst e2
      refine ih (i + 1) d Of fq ao af ab aq ai ap (by omega) hd (fun r hr hmr => ?_) (fun x => ?_)
      · rcases hcl r hr with e2 | e2
        · rw [e2] at hmr; exact absurd hmr hmi
        · exact hF r e2 hmr
      · rw [hb x]
        constructor
        · rintro ⟨r, r1, r2⟩; exact ⟨r, by omega, r2⟩
        · rintro ⟨r, r1, r2⟩
          rcases hcl r r1 with e2 | e2
          · rw [e2] at r2; exact absurd r2.1 hmi
          · exact ⟨r, e2, r2⟩
theorem lx_set {post : Int32 → SX → Prop} {fp fq : Int32} {am ao af ab aq ai ap : Nat → Int32} (hg : nr_G an g)
    (hp : ∀ (m : Fin 8 → Fin 8) (Of : Fin 8 → Fin 8 → Bool) (d : Nat) (fq' : Int32) (am' ao' af' ab' aq' ai' ap' : Nat → Int32), ma_Mx (nr_E g 255) m → (∀ r, m r = r → ce_F (nr_E g 255) m r (Of r)) → (∀ x : Fin 8, d.testBit x.val = true ↔ ∃ r, m r = r ∧ Of r x = true) → lo_is g d →
      post (nI d) (nI 255, fq', an, am', ao', af', ab', aq', ai', ap', a1)) :
    wpX_looseSet post (fp, fq, an, am, ao, af, ab, aq, ai, ap, a1) := by
  unfold wpX_looseSet
  refine po_pair (s := 255) hg (by decide) ?_
  intro m k fq' am' ao' af' ab' aq' ai' ap' h1 h2 h3
  refine ⟨9, lx_loop hg h1 h3 (fun Of d fq2 ao2 af2 ab2 aq2 ai2 ap2 c1 c2 c3 => hp m Of d fq2 am' ao2 af2 ab2 aq2 ai2 ap2 h1 c1 c3 ⟨c2, fun x => ?_⟩) 8 0 0 (fun _ _ => false) fq' ao' af' ab' aq' ai' ap' rfl (by decide) (fun r h => absurd h (by omega)) (fun x => ?_)⟩
  · rw [c3 x]; exact (ce_loose (nr_sym hg 255) h1 c1 x).symm
  · simp
end
section
variable {an : Nat → Int32} {fm : Int32} {pa aw ad : Nat → Int32} {g : Fin 8 → Nat}
theorem ly_loose {post : Int32 → Prop} (hg : nr_G an g) (hT : ∀ n, n < 764 → pa n = nI (tb_tab.getD n 0)) (hp : ∀ d, lo_is g d → post (nI d)) : wpY_loose post (fm, an, pa, aw, ad) := by
  unfold wpY_loose
  refine yb_most (s := 255) hg hT (by decide) (fun k hk => ⟨765, ?_⟩)
  have hk4 := nu_4 hk
  have key : ∀ (c n d : Nat), n + c = 764 → d < 256 → (∀ x : Fin 8, d.testBit x.val = true ↔ ∃ n', n' < n ∧ gt_is g n' k ∧ tb_P n' x = x) → wY_loose_12 post (nI k) fm an pa aw ad (c + 1) (nI d) (nI n) := by
    intro c
    induction c with
    | zero =>
      intro n d hn hd hb
      have : n = 764 := by omega
      subst this
      rw [wY_loose_12]
      refine br_t (by decide) (hp d ⟨hd, fun x => ?_⟩)
      rw [hb x]
      constructor
      · rintro ⟨n', h1, h2, h3⟩
        exact ⟨tb_P n', (gt_mx h1 hk).mp h2, h3⟩
      · rintro ⟨f, h1, h2⟩
        obtain ⟨n', b1, b2⟩ := tb_all f h1.1.1
        have hf : tb_P n' = f := funext b2
        exact ⟨n', b1, (gt_mx b1 hk).mpr (by rw [hf]; exact h1), by rw [hf]; exact h2⟩
    | succ c ih =>
      intro n d hn hd hb
      rw [wY_loose_12]
      refine br_f ?_ ?_
      · rw [show (764 : Int32) = nI 764 from rfl]; exact nI_ge (by omega) (by decide)
      · refine yb_great hg hT (by omega) hk4 (fun hgt => ?_) (fun hgt => ?_)
        · refine br_f (by decide) ?_
          refine yb_left (s := 255) hg hT (by omega) (by decide) (fun hM l hl hlb => ?_) (fun hM => absurd hgt.1 hM)
          intro x2 e2 x3 e3
          rw [bx_or] at e2
          rw [nI_1] at e3
          subst e2 e3
          refine ih (n + 1) (d ||| l) (by omega) (Nat.or_lt_two_pow (n := 8) hd hl) (fun x => ?_)
          rw [Nat.testBit_or, Bool.or_eq_true, hb x, hlb x, ma_o]
          constructor
          · rintro (⟨n', h1, h2⟩ | h)
            · exact ⟨n', by omega, h2⟩
            · exact ⟨n, by omega, hgt, h⟩
          · rintro ⟨n', h1, h2, h3⟩
            by_cases e : n' = n
            · rw [e] at h3; exact Or.inr h3
            · exact Or.inl ⟨n', by omega, h2, h3⟩
        · refine br_t rfl ?_
          intro x3 e3
          rw [nI_1] at e3
          subst e3
          refine ih (n + 1) d (by omega) hd (fun x => ?_)
          rw [hb x]
          constructor
          · rintro ⟨n', h1, h2⟩; exact ⟨n', by omega, h2⟩
          · rintro ⟨n', h1, h2, h3⟩
            by_cases e : n' = n
            · rw [e] at h2; exact absurd h2 hgt
            · exact ⟨n', by omega, h2, h3⟩
  exact key 764 0 0 rfl (by decide) (fun x => by simp)
end
/-- the points beside a set -/
def be_is (g : Fin 8 → Nat) (d b : Nat) : Prop := b < 256 ∧ ∀ x : Fin 8, b.testBit x.val = (!d.testBit x.val && decide (g x &&& d ≠ 0))
theorem be_un {g : Fin 8 → Nat} {d b b' : Nat} (h : be_is g d b) (h' : be_is g d b') : b = b' := mk_ext h.1 h'.1 (fun i => by rw [h.2, h'.2])
theorem be_z {a : Nat} (h : a < 256) : nI a = 0 ↔ a = 0 := by rw [← nI_0, nI_eq (by omega) (by decide)]
section
variable {an : Nat → Int32} {g : Fin 8 → Nat}
theorem bx_set {post : Int32 → Prop} {fp fq : Int32} {am ao af ab aq ai ap a1 : Nat → Int32} (hg : nr_G an g) {d : Nat} (hd : d < 256) (hp : ∀ b, be_is g d b → post (nI b)) :
    wpX_besideSet post (fp, fq, an, am, ao, af, ab, aq, ai, ap, a1) (nI d) := by
  have key : ∀ (c i b : Nat), i + c = 8 → b < 256 → (∀ x : Fin 8, b.testBit x.val = (decide (x.val < i) && (!d.testBit x.val && decide (g x &&& d ≠ 0)))) →
      wX_besideSet_4 post (nI d) fp fq an am ao af ab aq ai ap a1 (c + 1) (nI b) (nI i) := by
    intro c
    induction c with
    | zero =>
      intro i b hi hb hbb
      rw [wX_besideSet_4]
      exact br_t (vx_ge8 (by omega) (by omega)) (hp b ⟨hb, fun x => by rw [hbb x]; simp [show x.val < i by omega]⟩)
    | succ c ih =>
      intro i b hi hb hbb
      have hi8 : i < 8 := by omega
      have hcl : ∀ x : Fin 8, x ≠ ⟨i, hi8⟩ → (x.val < i + 1 ↔ x.val < i) := fun x hx => by
        have : x.val ≠ i := fun e => hx (Fin.ext e)
        omega
      rw [wX_besideSet_4, show nI i = vx ⟨i, hi8⟩ from rfl]
      refine br_f (vx_ge _) ?_
      rw [bx_bit hd, vx_cl, (hg.1 ⟨i, hi8⟩).2, bx_and, be_z (bx_land (hg.1 ⟨i, hi8⟩).1)]
      cases hdi : d.testBit i
      · refine br_t (by simp) ⟨vx_in _, ?_⟩
        by_cases hz : g ⟨i, hi8⟩ &&& d = 0
        · refine br_t hz ?_
          intro x3 e3
          rw [vx_s] at e3
          subst e3
          refine ih (i + 1) b (by omega) hb (fun x => ?_)
          rw [hbb x]
          by_cases hx : x = ⟨i, hi8⟩
          · subst hx; simp [hz]
          · simp only [hcl x hx]
        · refine br_f hz ?_
          intro x2 e2 x3 e3
          have hm := mk_or hb ⟨i, hi8⟩
          rw [vx_s] at e3
          rw [hm.1] at e2
          subst e3 e2
          refine ih (i + 1) _ (by omega) hm.2 (fun x => ?_)
          rw [tb_orb, hbb x]
          by_cases hx : x = ⟨i, hi8⟩
          · subst hx; simp [hz, hdi]
          · simp only [hcl x hx]; simp [hx]
      · refine br_f (by simp) ?_
        intro x3 e3
        rw [vx_s] at e3
        subst e3
        refine ih (i + 1) b (by omega) hb (fun x => ?_)
        rw [hbb x]
        by_cases hx : x = ⟨i, hi8⟩
        · subst hx; simp [hdi]
        · simp only [hcl x hx]
  exact ⟨9, key 8 0 0 rfl (by decide) (fun x => by simp)⟩
theorem by_set {post : Int32 → Prop} {fm : Int32} {pa aw ad : Nat → Int32} (hg : nr_G an g) (hT : ∀ n, n < 764 → pa n = nI (tb_tab.getD n 0)) (hp : ∀ d b, lo_is g d → be_is g d b → post (nI b)) : wpY_beside post (fm, an, pa, aw, ad) := by
  unfold wpY_beside
  refine ly_loose hg hT (fun d hlo => ⟨9, ?_⟩)
  have hd := hlo.1
  have key : ∀ (c i b : Nat), i + c = 8 → b < 256 → (∀ x : Fin 8, b.testBit x.val = (decide (x.val < i) && (!d.testBit x.val && decide (g x &&& d ≠ 0)))) →
      wY_beside_9 post (nI d) fm an pa aw ad (c + 1) (nI b) (nI i) := by
    intro c
    induction c with
    | zero =>
      intro i b hi hb hbb
      rw [wY_beside_9]
      exact br_t (vx_ge8 (by omega) (by omega)) (hp d b hlo ⟨hb, fun x => by rw [hbb x]; simp [show x.val < i by omega]⟩)
    | succ c ih =>
      intro i b hi hb hbb
      have hi8 : i < 8 := by omega
      have hcl : ∀ x : Fin 8, x ≠ ⟨i, hi8⟩ → (x.val < i + 1 ↔ x.val < i) := fun x hx => by
        have : x.val ≠ i := fun e => hx (Fin.ext e)
        omega
      rw [wY_beside_9, show nI i = vx ⟨i, hi8⟩ from rfl]
      refine br_f (vx_ge _) ⟨vx_in _, ?_⟩
      rw [bx_bit hd, vx_cl, (hg.1 ⟨i, hi8⟩).2, bx_and, be_z (bx_land (hg.1 ⟨i, hi8⟩).1)]
      have hno : (!d.testBit i && decide (g ⟨i, hi8⟩ &&& d ≠ 0)) = false → wY_beside_38 post (wY_beside_9 post (nI d) fm an pa aw ad (c + 1)) (nI d) (nI b) (vx ⟨i, hi8⟩) fm an pa aw ad := by
        intro hv
        refine br_t rfl ?_
        intro x3 e3
        rw [vx_s] at e3
        subst e3
        refine ih (i + 1) b (by omega) hb (fun x => ?_)
        rw [hbb x]
        by_cases hx : x = ⟨i, hi8⟩
        · subst hx
          rw [hv]; simp
        · simp only [hcl x hx]
      by_cases hz : g ⟨i, hi8⟩ &&& d = 0
      · exact br_t hz (hno (by simp [hz]))
      · refine br_f hz ?_
        cases hdi : d.testBit i
        · refine br_t (by simp) ?_
          refine br_f (by decide) ?_
          intro x2 e2 x3 e3
          have hm := mk_or hb ⟨i, hi8⟩
          rw [vx_s] at e3
          rw [hm.1] at e2
          subst e3 e2
          refine ih (i + 1) _ (by omega) hm.2 (fun x => ?_)
          rw [tb_orb, hbb x]
          by_cases hx : x = ⟨i, hi8⟩
          · subst hx; simp [hz, hdi]
          · simp only [hcl x hx]; simp [hx]
        · exact br_f (by simp) (hno (by simp [hdi]))
  exact key 8 0 0 rfl (by decide) (fun x => by simp)
end
theorem i_vc_loose {k : Nat} {u : SX} {v : SY} (I : i_Rel k u v) (hk : k + 3 ≤ 1536) : wpX_loose (fun r u' => wpY_loose (fun r' => r' = r ∧ i_Rel (k + 3) u' v) v) u := by
  refine rl_el (P := fun u v => wpX_loose (fun r u' => wpY_loose (fun r' => r' = r ∧ i_Rel (k + 3) u' v) v) u) ?_ I
  intro fp fq an am ao af ab aq ai ap a1 fm pa aw ad g hg hT
  unfold wpX_loose
  dsimp only
  refine lx_set hg ?_
  intro m Of d fq' am' ao' af' ab' aq' ai' ap' _ _ _ h
  exact ly_loose hg hT (fun d' h' => ⟨by rw [lo_un h' h], rl_mk hg hT⟩)
theorem i_vc_beside {k : Nat} {u : SX} {v : SY} (I : i_Rel k u v) (hk : k + 3 ≤ 1536) : wpX_beside (fun r u' => wpY_beside (fun r' => r' = r ∧ i_Rel (k + 3) u' v) v) u := by
  refine rl_el (P := fun u v => wpX_beside (fun r u' => wpY_beside (fun r' => r' = r ∧ i_Rel (k + 3) u' v) v) u) ?_ I
  intro fp fq an am ao af ab aq ai ap a1 fm pa aw ad g hg hT
  unfold wpX_beside
  dsimp only
  refine lx_set hg ?_
  intro m Of d fq' am' ao' af' ab' aq' ai' ap' _ _ _ h
  refine bx_set hg h.1 (fun b hb => ?_)
  exact by_set hg hT (fun d' b' h' hb' => ⟨by
    rw [lo_un h' h] at hb'
    rw [be_un hb' hb], rl_mk hg hT⟩)
theorem i_vc_fast {k : Nat} {u : SX} {v : SY} (I : i_Rel k u v) (hk : k + 3 ≤ 1536) : wpX_fast (fun r u' => wpY_fast (fun r' => r' = r ∧ i_Rel (k + 3) u' v) v) u := by
  refine rl_el (P := fun u v => wpX_fast (fun r u' => wpY_fast (fun r' => r' = r ∧ i_Rel (k + 3) u' v) v) u) ?_ I
  intro fp fq an am ao af ab aq ai ap a1 fm pa aw ad g hg hT
  unfold wpX_fast wpY_fast
  dsimp only
  refine lx_set hg ?_
  intro m Of d fq' am' ao' af' ab' aq' ai' ap' _ _ _ h
  refine bx_set hg h.1 (fun b hb => ?_)
  refine ly_loose hg hT (fun d1 h1 => ?_)
  exact by_set hg hT (fun d' b' h' hb' => ⟨by
    rw [lo_un h' h] at hb'
    rw [be_un hb' hb, lo_un h1 h], rl_mk hg hT⟩)
end
section
/-! ## components by growing -/
def cs_C (E : Fin 8 → Fin 8 → Bool) (U C : Fin 8 → Bool) (v : Fin 8) : Prop :=
  C v = true ∧ (∀ x, C x = true → U x = true) ∧ (∀ x y, C x = true → U y = true → E x y = true → C y = true) ∧
  ∀ T : Fin 8 → Bool, T v = true → (∀ x y, T x = true → U y = true → E x y = true → T y = true) → ∀ x, C x = true → T x = true
theorem cs_un {E : Fin 8 → Fin 8 → Bool} {U C C' : Fin 8 → Bool} {v : Fin 8} (h : cs_C E U C v) (h' : cs_C E U C' v) (x : Fin 8) : C x = C' x := by
  have a := h.2.2.2 C' h'.1 h'.2.2.1 x
  have b := h'.2.2.2 C h.1 h.2.2.1 x
  cases e : C x <;> cases e' : C' x
  · rfl
  · rw [b e'] at e; exact absurd e (by decide)
  · rw [a e] at e'; exact absurd e' (by decide)
  · rfl
theorem cs_eq {E : Fin 8 → Fin 8 → Bool} (hs : ∀ a b, E a b = E b a) {U C : Fin 8 → Bool} {x y : Fin 8} (h : cs_C E U C x) (hy : C y = true) : cs_C E U C y := by
  refine ⟨hy, h.2.1, h.2.2.1, fun T hT hc => ?_⟩
  refine h.2.2.2 T ?_ hc
  cases e : T x
  · have := h.2.2.2 (fun z => !T z && U z) (by simp [e, h.2.1 x h.1]) (fun a b ha hb he => by
      simp at ha
      cases eb : T b
      · simp [eb, hb]
      · have := hc b a eb ha.2 (by rw [hs]; exact he)
        rw [ha.1] at this; exact absurd this (by decide)) y hy
    simp [hT] at this
  · rfl
/-- growing by rounds -/
def ro_I (E : Fin 8 → Fin 8 → Bool) (U : Fin 8 → Bool) (v : Fin 8) (i : Nat) (A : Fin 8 → Bool) : Prop :=
  A v = true ∧ (∀ x, A x = true → U x = true) ∧ (∀ T : Fin 8 → Bool, T v = true → (∀ x y, T x = true → U y = true → E x y = true → T y = true) → ∀ x, A x = true → T x = true) ∧
  ((∀ x y, A x = true → U y = true → E x y = true → A y = true) ∨ i + 1 ≤ fc_ct A)
theorem ro_0 {E : Fin 8 → Fin 8 → Bool} {U : Fin 8 → Bool} {v : Fin 8} (hv : U v = true) {A : Fin 8 → Bool} (hA : ∀ x, A x = true ↔ x = v) : ro_I E U v 0 A := by
  refine ⟨(hA v).mpr rfl, fun x hx => by rw [(hA x).mp hx]; exact hv, fun T hT _ x hx => by rw [(hA x).mp hx]; exact hT, Or.inr ?_⟩
  have := fc_lt (P := fun _ => false) (Q := A) (fun _ h => absurd h (by decide)) ((hA v).mpr rfl) rfl
  omega
theorem ro_end {E : Fin 8 → Fin 8 → Bool} {U : Fin 8 → Bool} {v : Fin 8} {A : Fin 8 → Bool} (h : ro_I E U v 8 A) : cs_C E U A v := by
  refine ⟨h.1, h.2.1, ?_, h.2.2.1⟩
  rcases h.2.2.2 with u | u
  · exact u
  · have := fc_le A; omega
/-- a set between one round's and the whole component -/
theorem ro_mid {E : Fin 8 → Fin 8 → Bool} {U : Fin 8 → Bool} {v : Fin 8} {i : Nat} {A A' : Fin 8 → Bool} (h : ro_I E U v i A) (h1 : ∀ x, A x = true → A' x = true) (h2 : ∀ x, A' x = true → U x = true)
    (h3 : ∀ T : Fin 8 → Bool, T v = true → (∀ x y, T x = true → U y = true → E x y = true → T y = true) → ∀ x, A' x = true → T x = true) (h4 : ∀ x y, A x = true → U y = true → E x y = true → A' y = true) : ro_I E U v (i + 1) A' := by
  refine ⟨h1 v h.1, h2, h3, ?_⟩
  by_cases hc : ∀ x y, A x = true → U y = true → E x y = true → A y = true
  · left
    have hle := h3 A h.1 hc
    intro x y hx hy he
    exact h1 y (hc x y (hle x hx) hy he)
  · right
    have hct : i + 1 ≤ fc_ct A := by
      rcases h.2.2.2 with u | u
      · exact absurd u hc
      · exact u
    have hy : ∃ y, A' y = true ∧ A y = false := by
      apply Classical.byContradiction
      intro hn
      apply hc
      intro x y hx hy he
      cases e : A y
      · exact absurd ⟨y, h4 x y hx hy he, e⟩ hn
      · rfl
    obtain ⟨y, y1, y2⟩ := hy
    have := fc_lt h1 y1 y2
    omega
theorem ro_step {E : Fin 8 → Fin 8 → Bool} {U : Fin 8 → Bool} {v : Fin 8} {i : Nat} {A A' : Fin 8 → Bool} (h : ro_I E U v i A) (hA : ∀ x, A' x = true ↔ ((A x = true ∨ ∃ p, A p = true ∧ E p x = true) ∧ U x = true)) : ro_I E U v (i + 1) A' := by
  refine ro_mid h (fun x hx => (hA x).mpr ⟨Or.inl hx, h.2.1 x hx⟩) (fun x hx => ((hA x).mp hx).2) (fun T hT hc x hx => ?_) (fun x y hx hy he => (hA y).mpr ⟨Or.inr ⟨x, hx, he⟩, hy⟩)
  obtain ⟨u | ⟨p, p1, p2⟩, w⟩ := (hA x).mp hx
  · exact h.2.2.1 T hT hc x u
  · exact hc p x (h.2.2.1 T hT hc p p1) w p2
theorem cs_ex {E : Fin 8 → Fin 8 → Bool} {U : Fin 8 → Bool} {v : Fin 8} (hv : U v = true) : ∃ C, cs_C E U C v := by
  have key : ∀ i, ∃ A, ro_I E U v i A := by
    intro i
    induction i with
    | zero => exact ⟨fun x => decide (x = v), ro_0 hv (fun x => by simp)⟩
    | succ i ih =>
      obtain ⟨A, h⟩ := ih
      refine ⟨fun x => (A x || fc_all.any (fun p => A p && E p x)) && U x, ro_step h (fun x => ?_)⟩
      simp only [Bool.and_eq_true, Bool.or_eq_true, List.any_eq_true]
      exact ⟨fun ⟨a, b⟩ => ⟨a.elim Or.inl (fun ⟨p, _, p2⟩ => Or.inr ⟨p, p2⟩), b⟩, fun ⟨a, b⟩ => ⟨a.elim Or.inl (fun ⟨p, p2⟩ => Or.inr ⟨p, fc_mem p, p2⟩), b⟩⟩
  obtain ⟨A, h⟩ := key 8
  exact ⟨A, ro_end h⟩
theorem lf_least {C : Fin 8 → Bool} : ∀ (n : Nat) (x : Fin 8), x.val ≤ n → C x = true → ∃ y, C y = true ∧ ∀ z, C z = true → y.val ≤ z.val := by
  intro n
  induction n with
  | zero => intro x hx hc; exact ⟨x, hc, fun z _ => by omega⟩
  | succ n ih =>
    intro x hx hc
    by_cases h : ∃ z, C z = true ∧ z.val < x.val
    · obtain ⟨z, z1, z2⟩ := h
      exact ih z (by omega) z1
    · exact ⟨x, hc, fun z hz => Classical.byContradiction (fun e => h ⟨z, hz, by omega⟩)⟩
/-- ld x is the least point of x's component -/
def ld_P (E : Fin 8 → Fin 8 → Bool) (U : Fin 8 → Bool) (ld : Fin 8 → Fin 8) : Prop := ∀ x, U x = true → ∃ C, cs_C E U C x ∧ C (ld x) = true ∧ ∀ y, C y = true → (ld x).val ≤ y.val
theorem ld_ex (E : Fin 8 → Fin 8 → Bool) (U : Fin 8 → Bool) : ∃ ld, ld_P E U ld := by
  have : ∀ x, ∃ l : Fin 8, U x = true → ∃ C, cs_C E U C x ∧ C l = true ∧ ∀ y, C y = true → l.val ≤ y.val := by
    intro x
    by_cases hx : U x = true
    · obtain ⟨C, hC⟩ := cs_ex (E := E) hx
      obtain ⟨y, y1, y2⟩ := lf_least 7 x (by omega) hC.1
      exact ⟨y, fun _ => ⟨C, hC, y1, y2⟩⟩
    · exact ⟨x, fun h => absurd h hx⟩
  obtain ⟨ld, h⟩ := Classical.axiomOfChoice this
  exact ⟨ld, h⟩
theorem ld_same {E : Fin 8 → Fin 8 → Bool} (hs : ∀ a b, E a b = E b a) {U : Fin 8 → Bool} {ld : Fin 8 → Fin 8} (h : ld_P E U ld) {C : Fin 8 → Bool} {x y : Fin 8} (hC : cs_C E U C x) (hy : C y = true) : ld x = ld y := by
  obtain ⟨C1, a1, a2, a3⟩ := h x (hC.2.1 x hC.1)
  obtain ⟨C2, b1, b2, b3⟩ := h y (hC.2.1 y hy)
  have e1 := cs_un a1 hC
  have e2 := cs_un b1 (cs_eq hs hC hy)
  have c1 := a3 (ld y) (by rw [e1, ← e2]; exact b2)
  have c2 := b3 (ld x) (by rw [e2, ← e1]; exact a2)
  exact Fin.ext (by omega)
theorem ld_L {E : Fin 8 → Fin 8 → Bool} (hs : ∀ a b, E a b = E b a) {U : Fin 8 → Bool} {ld : Fin 8 → Fin 8} (h : ld_P E U ld) : cm_L E U ld := by
  refine ⟨fun x y hx hy he => ?_, fun x hx => ?_, fun x y hx hy e T hT => ?_⟩
  · obtain ⟨C, a1, _, _⟩ := h x hx
    exact ld_same hs h a1 (a1.2.2.1 x y a1.1 hy he)
  · obtain ⟨C, a1, a2, _⟩ := h x hx
    exact ⟨a1.2.1 _ a2, (ld_same hs h a1 a2).symm⟩
  · have key : ∀ z, U z = true → T (ld z) = T z := fun z hz => by
      obtain ⟨C, a1, a2, _⟩ := h z hz
      have := a1.2.2.2 (fun w => (T w == T z) && U w) (by simp [hz]) (fun a b ha hb he => by
        simp at ha
        have := hT a b ha.2 hb he
        simp [hb, ← this, ha.1]) (ld z) a2
      simp at this
      exact this.1
    rw [← key x hx, ← key y hy, e]
/-- the count while components are taken away -/
def oi_I (E : Fin 8 → Fin 8 → Bool) (U0 : Fin 8 → Bool) (ld : Fin 8 → Fin 8) (U : Fin 8 → Bool) (n : Nat) : Prop :=
  (∀ x, U x = true → U0 x = true) ∧ (∀ x y, U x = true → U0 y = true → E x y = true → U y = true) ∧
  n = fc_ct (fun w => (U0 w && (decide (ld w = w) && decide (cm_sz U0 ld w % 2 = 1))) && !U w)
theorem oi_ct0 : fc_ct (fun _ => false) = 0 := by rw [fc_sum]; rfl
theorem oi_0 {E : Fin 8 → Fin 8 → Bool} {U0 : Fin 8 → Bool} {ld : Fin 8 → Fin 8} : oi_I E U0 ld U0 0 := by
  refine ⟨fun _ h => h, fun _ _ _ h _ => h, ?_⟩
  rw [← oi_ct0]
  exact fc_cong (fun x => by cases U0 x <;> simp)
theorem oi_end {E : Fin 8 → Fin 8 → Bool} {U0 U : Fin 8 → Bool} {ld : Fin 8 → Fin 8} {n : Nat} (h : oi_I E U0 ld U n) (hU : ∀ x, U x = false) : n = cm_od U0 ld := by
  rw [h.2.2]
  exact fc_cong (fun x => by simp [hU x])
theorem oi_step {E : Fin 8 → Fin 8 → Bool} (hs : ∀ a b, E a b = E b a) {U0 U C : Fin 8 → Bool} {ld : Fin 8 → Fin 8} (hld : ld_P E U0 ld) {n : Nat} (h : oi_I E U0 ld U n) {v : Fin 8} (hv : U v = true) (hmin : ∀ y, U y = true → v.val ≤ y.val)
    (hC : cs_C E U C v) : oi_I E U0 ld (fun x => U x && !C x) (n + fc_ct C % 2) := by
  obtain ⟨h1, h2, h3⟩ := h
  have hC0 : cs_C E U0 C v := ⟨hC.1, fun x hx => h1 x (hC.2.1 x hx), fun x y hx hy he => hC.2.2.1 x y hx (h2 x y (hC.2.1 x hx) hy he) he, fun T hT hc x hx => hC.2.2.2 T hT (fun a b ha hb he => hc a b ha (h1 b hb) he) x hx⟩
  have hlv : ld v = v := by
    obtain ⟨C1, a1, a2, a3⟩ := hld v (h1 v hv)
    have e1 := cs_un a1 hC0
    have c1 := a3 v a1.1
    have c2 := hmin (ld v) (hC.2.1 _ (by rw [← e1]; exact a2))
    exact Fin.ext (by omega)
  have hcl : ∀ x, C x = (U0 x && decide (ld x = v)) := fun x => by
    cases e : C x
    · cases e0 : U0 x
      · simp
      · by_cases el : ld x = v
        · exfalso
          obtain ⟨C1, a1, a2, a3⟩ := hld x e0
          rw [el] at a2
          have e2 := cs_un (cs_eq hs a1 a2) hC0 x
          rw [a1.1, e] at e2; exact absurd e2 (by decide)
        · simp [el]
    · have := ld_same hs hld hC0 e
      rw [hlv] at this
      simp [hC0.2.1 x e, ← this]
  have hsz : cm_sz U0 ld v = fc_ct C := fc_cong (fun x => (hcl x).symm)
  refine ⟨fun x hx => by simp at hx; exact h1 x hx.1, fun x y hx hy he => ?_, ?_⟩
  · simp at hx
    have hUy := h2 x y hx.1 hy he
    cases e : C y
    · simp [hUy, e]
    · have := hC.2.2.1 y x e hx.1 (by rw [hs]; exact he)
      rw [hx.2] at this; exact absurd this (by decide)
  · have e1 : fc_ct (fun w => (U0 w && (decide (ld w = w) && decide (cm_sz U0 ld w % 2 = 1))) && !(U w && !C w)) =
        fc_ct (fun w => ((U0 w && (decide (ld w = w) && decide (cm_sz U0 ld w % 2 = 1))) && !U w) || ((U0 w && (decide (ld w = w) && decide (cm_sz U0 ld w % 2 = 1))) && C w)) := fc_cong (fun w => by
      cases U w <;> cases C w <;> cases (U0 w && (decide (ld w = w) && decide (cm_sz U0 ld w % 2 = 1))) <;> rfl)
    rw [e1, cm_or, ← h3]
    · congr 1
      by_cases ho : fc_ct C % 2 = 1
      · have e2 : fc_ct (fun w => (U0 w && (decide (ld w = w) && decide (cm_sz U0 ld w % 2 = 1))) && C w) = fc_ct (fun w => decide (w = v)) := fc_cong (fun w => by
          by_cases ew : w = v
          · subst ew
            simp [hC.1, hlv, hsz, ho, h1 w hv]
          · rw [hcl w]
            by_cases el : ld w = v
            · have : ¬ v = w := fun e => ew e.symm
              simp [ew, el, this]
            · simp [ew, el])
        rw [e2, fc_rem (P := fun w => decide (w = v)) (b := v) (by simp), ho]
        have e3 : fc_ct (fun x => decide (x = v) && decide (x ≠ v)) = 0 := by
          rw [← oi_ct0]
          exact fc_cong (fun x => by by_cases e : x = v <;> simp [e])
        omega
      · have e2 : fc_ct (fun w => (U0 w && (decide (ld w = w) && decide (cm_sz U0 ld w % 2 = 1))) && C w) = 0 := by
          rw [← oi_ct0]
          exact fc_cong (fun w => by
            rw [hcl w]
            by_cases el : ld w = v
            · by_cases ew : v = w
              · subst ew; rw [hsz]; simp [ho]
              · simp [el, ew]
            · simp [el])
        omega
    · intro x a b
      simp at a b
      have := hC.2.1 x b.2
      rw [a.2] at this; exact absurd this (by decide)
end
section
/-! ## odd and bound -/
theorem od_restF : ∀ s : Fin 256, (255 : Int32) &&& (nI s.val ^^^ (-1)) = nI (255 ^^^ s.val) ∧ 255 ^^^ s.val < 256 ∧ ∀ j : Fin 8, (255 ^^^ s.val).testBit j.val = !s.val.testBit j.val := by decide +kernel
theorem od_lowF : ∀ r : Fin 256, r.val ≠ 0 → ∃ v : Fin 8, nI r.val &&& (-nI r.val) = nI (2 ^ v.val) ∧ r.val.testBit v.val = true ∧ ∀ j : Fin 8, j.val < v.val → r.val.testBit j.val = false := by decide +kernel
theorem od_pow : ∀ v x : Fin 8, (2 ^ v.val).testBit x.val = decide (x = v) := by decide +kernel
def od_m (r l : Nat) : Nat := r &&& (l ^^^ (2 ^ 32 - 1))
theorem od_mi (r l : Nat) : nI r &&& (nI l ^^^ (-1)) = nI (od_m r l) := by
  rw [show (-1 : Int32) = nI (2 ^ 32 - 1) from by decide, bx_xor, bx_and]; rfl
theorem od_mb (r l : Nat) (x : Fin 8) : (od_m r l).testBit x.val = (r.testBit x.val && !l.testBit x.val) := by
  unfold od_m
  rw [Nat.testBit_and, Nat.testBit_xor, Nat.testBit_two_pow_sub_one]
  have : x.val < 32 := by omega
  simp [this]
theorem od_z {r : Nat} (h : r < 256) (hz : ∀ x : Fin 8, r.testBit x.val = false) : r = 0 := mk_ext h (by decide) (fun i => by rw [hz i]; simp)
theorem od_rem {z : Nat} (h : z ≤ 8) : nI z - nI z / 2 * 2 = nI (z % 2) := pk_rem (d := 2) (by omega) (by decide) (by decide)
section
variable {fp fq : Int32} {an am ao af ab aq ai ap a1 : Nat → Int32} {g : Fin 8 → Nat}
theorem ox_wide {post : Int32 → Prop} (hg : nr_G an g) {l : Nat} (hl : l < 256) (hp : ∀ w, w < 256 → (∀ x : Fin 8, w.testBit x.val = true ↔ (l.testBit x.val = true ∨ ∃ p : Fin 8, l.testBit p.val = true ∧ nr_E g 255 p x = true)) → post (nI w)) :
    wpX_wider post (fp, fq, an, am, ao, af, ab, aq, ai, ap, a1) (nI l) := by
  have key : ∀ (c i w : Nat), i + c = 8 → w < 256 → (∀ x : Fin 8, w.testBit x.val = true ↔ (l.testBit x.val = true ∨ ∃ p : Fin 8, p.val < i ∧ l.testBit p.val = true ∧ nr_E g 255 p x = true)) →
      wX_wider_4 post (nI l) fp fq an am ao af ab aq ai ap a1 (c + 1) (nI w) (nI i) := by
    intro c
    induction c with
    | zero =>
      intro i w hi hw hb
      rw [wX_wider_4]
      refine br_t (vx_ge8 (by omega) (by omega)) (hp w hw (fun x => ?_))
      rw [hb x]
      exact ⟨fun h => h.elim Or.inl (fun ⟨p, _, p2⟩ => Or.inr ⟨p, p2⟩), fun h => h.elim Or.inl (fun ⟨p, p2⟩ => Or.inr ⟨p, by omega, p2⟩)⟩
    | succ c ih =>
      intro i w hi hw hb
      have hi8 : i < 8 := by omega
      have hcl : ∀ x : Fin 8, x.val < i + 1 → x = ⟨i, hi8⟩ ∨ x.val < i := fun x hx => by
        by_cases e : x.val = i
        · exact Or.inl (Fin.ext e)
        · exact Or.inr (by omega)
      rw [wX_wider_4, show nI i = vx ⟨i, hi8⟩ from rfl]
      refine br_f (vx_ge _) ?_
      rw [bx_bit hl, vx_cl, (hg.1 ⟨i, hi8⟩).2]
      cases hli : l.testBit i
      · refine br_f (by simp) ?_
        intro x3 e3
        rw [vx_s] at e3
        subst e3
        refine ih (i + 1) w (by omega) hw (fun x => ?_)
        rw [hb x]
        constructor
        · rintro (u | ⟨p, p1, p2⟩)
          · exact Or.inl u
          · exact Or.inr ⟨p, by omega, p2⟩
        · rintro (u | ⟨p, p1, p2⟩)
          · exact Or.inl u
          · rcases hcl p p1 with e | e
            · rw [e] at p2; simp only at p2; rw [hli] at p2; exact absurd p2.1 (by decide)
            · exact Or.inr ⟨p, e, p2⟩
      · refine br_t (by simp) ⟨vx_in _, ?_⟩
        intro x2 e2 x3 e3
        rw [vx_s] at e3
        rw [bx_or] at e2
        subst e3 e2
        refine ih (i + 1) _ (by omega) (Nat.or_lt_two_pow (n := 8) hw (hg.1 ⟨i, hi8⟩).1) (fun x => ?_)
        rw [Nat.testBit_or, Bool.or_eq_true, hb x]
        constructor
        · rintro ((u | ⟨p, p1, p2⟩) | u)
          · exact Or.inl u
          · exact Or.inr ⟨p, by omega, p2⟩
          · exact Or.inr ⟨⟨i, hi8⟩, by simp only; omega, hli, by rw [nr_255]; exact u⟩
        · rintro (u | ⟨p, p1, p2⟩)
          · exact Or.inl (Or.inl u)
          · rcases hcl p p1 with e | e
            · rw [e] at p2
              right
              have := p2.2
              rw [nr_255] at this; exact this
            · exact Or.inl (Or.inr ⟨p, e, p2⟩)
  exact ⟨9, key 8 0 l rfl hl (fun x => by simp)⟩
theorem ox_round {post : Int32 → Prop} {J13 : Int32 → Int32 → Int32 → Prop} (hg : nr_G an g) {r n i : Nat} (hr : r < 256) {v : Fin 8}
    (hJ : ∀ l, l < 256 → cs_C (nr_E g 255) (pc_S r) (pc_S l) v → J13 (nI (od_m r l)) (nI (n + fc_ct (pc_S l) % 2)) (nI (i + 1))) :
    ∀ (c j l : Nat), j + c = 8 → l < 256 → ro_I (nr_E g 255) (pc_S r) v j (pc_S l) → wX_oddParts_33 post J13 (nI r) (nI n) (nI i) fp fq an am ao af ab aq ai ap a1 (c + 1) (nI l) (nI j) := by
  intro c
  induction c with
  | zero =>
    intro j l hj hl hro
    have : j = 8 := by omega
    subst this
    rw [wX_oddParts_33]
    refine br_t (by decide) ?_
    intro x2 e2
    rw [od_mi] at e2
    subst e2
    refine xz_size hl ⟨by decide, ?_⟩
    rw [od_rem (fc_le _)]
    have hj := hJ l hl (ro_end hro)
    by_cases ho : fc_ct (pc_S l) % 2 = 1
    · rw [ho] at hj ⊢
      refine br_t rfl ?_
      intro x3 e3 x4 e4
      rw [nI_1] at e3 e4
      subst e3 e4
      exact hj
    · have ho : fc_ct (pc_S l) % 2 = 0 := by omega
      rw [ho] at hj ⊢
      refine br_f (by decide) ?_
      intro x4 e4
      rw [nI_1] at e4
      subst e4
      exact hj
  | succ c ih =>
    intro j l hj hl hro
    rw [wX_oddParts_33]
    refine br_f (vx_lt8 (by omega)) ?_
    refine ox_wide hg hl (fun w hw hwb => ?_)
    intro x5 e5 x6 e6
    rw [bx_and] at e5
    rw [nI_1] at e6
    subst e5 e6
    refine ih (j + 1) (w &&& r) (by omega) (bx_land hw) (ro_step hro (fun x => ?_))
    unfold pc_S
    rw [Nat.testBit_and, Bool.and_eq_true, hwb x]
theorem ox_loop {post : Int32 → Prop} (hg : nr_G an g) {U0 : Fin 8 → Bool} {ld : Fin 8 → Fin 8} (hld : ld_P (nr_E g 255) U0 ld) (hp : post (nI (cm_od U0 ld))) :
    ∀ (c i r n : Nat), i + c = 8 → r < 256 → fc_ct (pc_S r) ≤ c → oi_I (nr_E g 255) U0 ld (pc_S r) n → wX_oddParts_13 post fp fq an am ao af ab aq ai ap a1 (c + 1) (nI r) (nI n) (nI i) := by
  have fin : ∀ (r n : Nat), oi_I (nr_E g 255) U0 ld (pc_S r) n → (∀ x : Fin 8, r.testBit x.val = false) → post (nI n) := fun r n h hz => by
    rw [oi_end h hz]; exact hp
  intro c
  induction c with
  | zero =>
    intro i r n hi hr hc hoi
    rw [wX_oddParts_13]
    refine br_t (vx_ge8 (by omega) (by omega)) (fin r n hoi (fun x => ?_))
    cases e : r.testBit x.val
    · rfl
    · have := fc_lt (P := fun _ => false) (Q := pc_S r) (fun _ h => absurd h (by decide)) (y := x) e rfl
      omega
  | succ c ih =>
    intro i r n hi hr hc hoi
    rw [wX_oddParts_13]
    refine br_f (vx_lt8 (by omega)) ?_
    by_cases hz : r = 0
    · refine br_t (by rw [hz]; rfl) (fin r n hoi (fun x => by rw [hz]; simp))
    · refine br_f (fun e => hz ((be_z hr).mp e)) ?_
      obtain ⟨v, v1, v2, v3⟩ := od_lowF ⟨r, hr⟩ hz
      simp only at v1 v2 v3
      intro x5 e5
      rw [v1] at e5
      subst e5
      have hmin : ∀ y, pc_S r y = true → v.val ≤ y.val := fun y hy => Classical.byContradiction (fun hn => by
        have := v3 y (by omega)
        rw [show r.testBit y.val = pc_S r y from rfl, hy] at this; exact absurd this (by decide))
      refine ⟨9, ox_round hg hr (fun l hl hC => ?_) 8 0 (2 ^ v.val) rfl (Nat.pow_lt_pow_right (by decide) v.isLt) (ro_0 v2 (fun x => by
        show (2 ^ v.val).testBit x.val = true ↔ x = v
        rw [od_pow]; simp))⟩
      have hst := oi_step (nr_sym hg 255) hld hoi v2 hmin hC
      have hfun : pc_S (od_m r l) = fun x => pc_S r x && !pc_S l x := funext (fun x => od_mb r l x)
      rw [← hfun] at hst
      refine ih (i + 1) (od_m r l) _ (by omega) (bx_land hr) ?_ hst
      have := fc_lt (P := pc_S (od_m r l)) (Q := pc_S r) (fun x hx => by rw [hfun] at hx; simp at hx; exact hx.1) (y := v) v2 (by rw [hfun]; simp [hC.1])
      omega
theorem ox_odd {post : Int32 → Prop} (hg : nr_G an g) {s : Nat} (hs : s < 256) {ld : Fin 8 → Fin 8} (hld : ld_P (nr_E g 255) (fun x => !pc_S s x) ld) (hp : post (nI (cm_od (fun x => !pc_S s x) ld))) :
    wpX_oddParts post (fp, fq, an, am, ao, af, ab, aq, ai, ap, a1) (nI s) := by
  intro x2 e2
  obtain ⟨h1, h2, h3⟩ := od_restF ⟨s, hs⟩
  simp only at h1 h2 h3
  rw [h1] at e2
  subst e2
  have hfun : pc_S (255 ^^^ s) = fun x => !pc_S s x := funext h3
  exact ⟨9, ox_loop hg hld hp 8 0 (255 ^^^ s) 0 rfl h2 (fc_le _) (by rw [hfun]; exact oi_0)⟩
end
/-- the reference's growing: a pass over the points -/
def ps_I (E : Fin 8 → Fin 8 → Bool) (U : Fin 8 → Bool) (v : Fin 8) (j t : Nat) (A : Fin 8 → Bool) : Prop :=
  (∀ x, A x = true → U x = true) ∧ (∀ T : Fin 8 → Bool, T v = true → (∀ x y, T x = true → U y = true → E x y = true → T y = true) → ∀ x, A x = true → T x = true) ∧
  ∃ B, ro_I E U v j B ∧ (∀ x, B x = true → A x = true) ∧ ∀ p y : Fin 8, p.val < t → B p = true → U y = true → E p y = true → A y = true
theorem ps_0 {E : Fin 8 → Fin 8 → Bool} {U : Fin 8 → Bool} {v : Fin 8} {j : Nat} {A : Fin 8 → Bool} (h : ro_I E U v j A) : ps_I E U v j 0 A :=
  ⟨h.2.1, h.2.2.1, A, h, fun _ h => h, fun p y hp => absurd hp (by omega)⟩
theorem ps_8 {E : Fin 8 → Fin 8 → Bool} {U : Fin 8 → Bool} {v : Fin 8} {j : Nat} {A : Fin 8 → Bool} (h : ps_I E U v j 8 A) : ro_I E U v (j + 1) A := by
  obtain ⟨h1, h2, B, h3, h4, h5⟩ := h
  exact ro_mid h3 h4 h1 h2 (fun x y hx hy he => h5 x y x.isLt hx hy he)
theorem ps_step {E : Fin 8 → Fin 8 → Bool} {U : Fin 8 → Bool} {v : Fin 8} {j t : Nat} {A A' : Fin 8 → Bool} (h : ps_I E U v j t A) {p : Fin 8} (hp : p.val = t)
    (hA : ∀ x, A' x = true ↔ (A x = true ∨ (A p = true ∧ E p x = true ∧ U x = true))) : ps_I E U v j (t + 1) A' := by
  obtain ⟨h1, h2, B, h3, h4, h5⟩ := h
  refine ⟨fun x hx => ?_, fun T hT hc x hx => ?_, B, h3, fun x hx => (hA x).mpr (Or.inl (h4 x hx)), fun p' y hp' hB hU he => ?_⟩
  · rcases (hA x).mp hx with u | u
    · exact h1 x u
    · exact u.2.2
  · rcases (hA x).mp hx with u | u
    · exact h2 T hT hc x u
    · exact hc p x (h2 T hT hc p u.1) u.2.2 u.2.1
  · by_cases e : p' = p
    · rw [e] at hB he
      exact (hA y).mpr (Or.inr ⟨h4 p hB, he, hU⟩)
    · have : p'.val ≠ p.val := fun e2 => e (Fin.ext e2)
      exact (hA y).mpr (Or.inl (h5 p' y (by omega) hB hU he))
section
variable {fm : Int32} {an pa aw ad : Nat → Int32} {g : Fin 8 → Nat}
theorem oy_grow {post : Int32 → Prop} {J10 : Int32 → Int32 → Prop} (hg : nr_G an g) {r n : Nat} (hr : r < 256) {v : Fin 8}
    (hJ : ∀ l, l < 256 → cs_C (nr_E g 255) (pc_S r) (pc_S l) v → J10 (nI (od_m r l)) (nI (n + fc_ct (pc_S l) % 2))) :
    ∀ (c i l : Nat), i + c = 64 → l < 256 → ps_I (nr_E g 255) (pc_S r) v (i / 8) (i % 8) (pc_S l) → wY_oddWithout_23 post J10 (nI r) (nI n) fm an pa aw ad (c + 1) (nI l) (nI i) := by
  intro c
  induction c with
  | zero =>
    intro i l hi hl hps
    have : i = 64 := by omega
    subst this
    rw [wY_oddWithout_23]
    refine br_t (by decide) ?_
    refine yb_bits hl ⟨by decide, ?_⟩
    intro x3 e3 x2 e2
    rw [od_rem (fc_le _), nI_add] at e3
    rw [od_mi] at e2
    subst e3 e2
    refine hJ l hl ?_
    obtain ⟨h1, h2, B, h3, h4, h5⟩ := hps
    have hc := ro_end h3
    refine ⟨h4 v hc.1, h1, fun x y hx hy he => ?_, h2⟩
    have hx' := h2 (fun z => B z) hc.1 hc.2.2.1 x hx
    exact h4 y (hc.2.2.1 x y hx' hy he)
  | succ c ih =>
    intro i l hi hl hps
    have hm8 : i % 8 < 8 := Nat.mod_lt _ (by decide)
    have next : ∀ l', l' < 256 → (∀ x, pc_S l' x = true ↔ (pc_S l x = true ∨ (pc_S l ⟨i % 8, hm8⟩ = true ∧ nr_E g 255 ⟨i % 8, hm8⟩ x = true ∧ pc_S r x = true))) →
        wY_oddWithout_23 post J10 (nI r) (nI n) fm an pa aw ad (c + 1) (nI l') (nI (i + 1)) := by
      intro l' hl' hb
      refine ih (i + 1) l' (by omega) hl' ?_
      have hst := ps_step hps (p := ⟨i % 8, hm8⟩) rfl hb
      by_cases e : i % 8 = 7
      · rw [e] at hst
        have h2 := ps_0 (ps_8 hst)
        rw [show (i + 1) / 8 = i / 8 + 1 by omega, show (i + 1) % 8 = 0 by omega]
        exact h2
      · rw [show (i + 1) / 8 = i / 8 by omega, show (i + 1) % 8 = i % 8 + 1 by omega]
        exact hst
    rw [wY_oddWithout_23]
    refine br_f ?_ ⟨by decide, ?_⟩
    · rw [show (64 : Int32) = nI 64 from rfl]; exact nI_ge (by omega) (by decide)
    · intro x6 e6
      rw [show (8 : Int32) = nI 8 from rfl, pk_rem (by omega) (by decide) (by decide), show nI (i % 8) = vx ⟨i % 8, hm8⟩ from rfl] at e6
      subst e6
      rw [bx_bit hl, vx_cl, (hg.1 ⟨i % 8, hm8⟩).2, bx_and]
      cases hb : l.testBit (i % 8)
      · refine br_f (by simp) ?_
        intro x5 e5
        rw [nI_1] at e5
        subst e5
        refine next l hl (fun x => ?_)
        have : pc_S l ⟨i % 8, hm8⟩ = false := hb
        simp [this]
      · refine br_t (by simp) ⟨vx_in _, ?_⟩
        intro x4 e4 x5 e5
        rw [nI_1] at e5
        rw [bx_or] at e4
        subst e4 e5
        refine next _ (Nat.or_lt_two_pow (n := 8) hl (bx_land (hg.1 ⟨i % 8, hm8⟩).1)) (fun x => ?_)
        have : pc_S l ⟨i % 8, hm8⟩ = true := hb
        rw [this, nr_255]
        show (l ||| (g ⟨i % 8, hm8⟩ &&& r)).testBit x.val = true ↔ _
        rw [Nat.testBit_or, Nat.testBit_and]
        simp [pc_S]
theorem oy_loop {post : Int32 → Prop} (hg : nr_G an g) {U0 : Fin 8 → Bool} {ld : Fin 8 → Fin 8} (hld : ld_P (nr_E g 255) U0 ld) (hp : post (nI (cm_od U0 ld))) :
    ∀ (c r n : Nat), r < 256 → fc_ct (pc_S r) ≤ c → oi_I (nr_E g 255) U0 ld (pc_S r) n → wY_oddWithout_10 post fm an pa aw ad (c + 1) (nI r) (nI n) := by
  intro c
  induction c with
  | zero =>
    intro r n hr hc hoi
    have hz : ∀ x : Fin 8, r.testBit x.val = false := fun x => by
      cases e : r.testBit x.val
      · rfl
      · have := fc_lt (P := fun _ => false) (Q := pc_S r) (fun _ h => absurd h (by decide)) (y := x) e rfl
        omega
    rw [wY_oddWithout_10]
    exact br_t (by rw [od_z hr hz]; rfl) (by rw [oi_end hoi hz]; exact hp)
  | succ c ih =>
    intro r n hr hc hoi
    rw [wY_oddWithout_10]
    by_cases hz : r = 0
    · exact br_t (by rw [hz]; rfl) (by rw [oi_end hoi (fun x => by unfold pc_S; rw [hz]; simp)]; exact hp)
    · refine br_f (fun e => hz ((be_z hr).mp e)) ?_
      obtain ⟨v, v1, v2, v3⟩ := od_lowF ⟨r, hr⟩ hz
      simp only at v1 v2 v3
      intro x5 e5
      rw [v1] at e5
      subst e5
      have hmin : ∀ y, pc_S r y = true → v.val ≤ y.val := fun y hy => Classical.byContradiction (fun hn => by
        have := v3 y (by omega)
        rw [show r.testBit y.val = pc_S r y from rfl, hy] at this; exact absurd this (by decide))
      have h0 : ps_I (nr_E g 255) (pc_S r) v (0 / 8) (0 % 8) (pc_S (2 ^ v.val)) := ps_0 (ro_0 v2 (fun x => by
        show (2 ^ v.val).testBit x.val = true ↔ x = v
        rw [od_pow]; simp))
      refine ⟨65, oy_grow hg hr (fun l hl hC => ?_) 64 0 (2 ^ v.val) rfl (Nat.pow_lt_pow_right (by decide) v.isLt) h0⟩
      have hst := oi_step (nr_sym hg 255) hld hoi v2 hmin hC
      have hfun : pc_S (od_m r l) = fun x => pc_S r x && !pc_S l x := funext (fun x => od_mb r l x)
      rw [← hfun] at hst
      refine ih (od_m r l) _ (bx_land hr) ?_ hst
      have := fc_lt (P := pc_S (od_m r l)) (Q := pc_S r) (fun x hx => by rw [hfun] at hx; simp at hx; exact hx.1) (y := v) v2 (by rw [hfun]; simp [hC.1])
      omega
theorem oy_odd {post : Int32 → Prop} (hg : nr_G an g) {s : Nat} (hs : s < 256) {ld : Fin 8 → Fin 8} (hld : ld_P (nr_E g 255) (fun x => !pc_S s x) ld) (hp : post (nI (cm_od (fun x => !pc_S s x) ld))) :
    wpY_oddWithout post (fm, an, pa, aw, ad) (nI s) := by
  intro x2 e2
  obtain ⟨h1, h2, h3⟩ := od_restF ⟨s, hs⟩
  simp only at h1 h2 h3
  rw [h1] at e2
  subst e2
  have hfun : pc_S (255 ^^^ s) = fun x => !pc_S s x := funext h3
  exact ⟨9, oy_loop hg hld hp 8 (255 ^^^ s) 0 h2 (fc_le _) (by rw [hfun]; exact oi_0)⟩
end
theorem i_vc_odd {k : Nat} {u : SX} {v : SY} (I : i_Rel k u v) (hk : k + 3 ≤ 1536) (v1 : Int32) : wpX_odd (fun r => wpY_odd (fun r' => r' = r ∧ i_Rel (k + 3) u v) v v1) u v1 := by
  refine rl_el (P := fun u v => wpX_odd (fun r => wpY_odd (fun r' => r' = r ∧ i_Rel (k + 3) u v) v v1) u v1) ?_ I
  intro fp fq an am ao af ab aq ai ap a1 fm pa aw ad g hg hT
  unfold wpX_odd wpY_odd
  dsimp only
  rcases ix_256 v1 with h1 | ⟨s, hs, rfl⟩
  · exact xs_bad h1 (br_f (by decide) (ys_bad h1 (br_t rfl ⟨rfl, rl_mk hg hT⟩)))
  · obtain ⟨ld, hld⟩ := ld_ex (nr_E g 255) (fun x => !pc_S s x)
    refine xs_ok hs (br_t rfl ?_)
    refine ox_odd hg hs hld ?_
    refine ys_ok hs (br_f (by decide) ?_)
    exact oy_odd hg hs hld ⟨rfl, rl_mk hg hT⟩
/-! bound -/
theorem bd_ct (s : Nat) : fc_ct (fun x => !(!pc_S s x)) = fc_ct (pc_S s) := fc_cong (fun x => by simp)
theorem bd_weak {g : Fin 8 → Nat} (hs : ∀ a b, nr_E g 255 a b = nr_E g 255 b a) {s : Nat} {ld : Fin 8 → Fin 8} (hld : ld_P (nr_E g 255) (fun x => !pc_S s x) ld) {m : Fin 8 → Fin 8} (hm : ma_M (nr_E g 255) m) :
    cm_od (fun x => !pc_S s x) ld ≤ fc_ct (pc_S s) + ma_ms m := by
  have := cm_weak (ld_L hs hld) hm
  rw [bd_ct] at this; exact this
theorem bd_tight {an : Nat → Int32} {g : Fin 8 → Nat} (hg : nr_G an g) {m : Fin 8 → Fin 8} (hm : ma_M (nr_E g 255) m) {Of : Fin 8 → Fin 8 → Bool} (hF : ∀ r, m r = r → ce_F (nr_E g 255) m r (Of r)) {d b : Nat}
    (hd : ∀ x : Fin 8, d.testBit x.val = true ↔ ∃ r, m r = r ∧ Of r x = true) (hd8 : d < 256) (hb : be_is g d b) {ld : Fin 8 → Fin 8} (hld : ld_P (nr_E g 255) (fun x => !pc_S b x) ld) :
    cm_od (fun x => !pc_S b x) ld = fc_ct (pc_S b) + ma_ms m := by
  have hs := nr_sym hg 255
  have h1 := bd_weak hs hld hm
  have h2 := cm_tight hs hm hF (D := pc_S d) (U := fun x => !pc_S b x) hd (fun x => ?_) (ld_L hs hld)
  · rw [bd_ct] at h2; omega
  · have hbx : pc_S b x = (!d.testBit x.val && decide (g x &&& d ≠ 0)) := hb.2 x
    have hnz : (g x &&& d ≠ 0) ↔ ∃ y : Fin 8, d.testBit y.val = true ∧ nr_E g 255 x y = true := by
      constructor
      · intro hne
        apply Classical.byContradiction
        intro hn
        apply hne
        refine od_z (bx_land (hg.1 x).1) (fun y => ?_)
        rw [Nat.testBit_and]
        cases e1 : (g x).testBit y.val
        · rfl
        · cases e2 : d.testBit y.val
          · rfl
          · exact absurd ⟨y, e2, by rw [nr_255]; exact e1⟩ hn
      · rintro ⟨y, y1, y2⟩ e
        rw [nr_255] at y2
        have : (g x &&& d).testBit y.val = true := by rw [Nat.testBit_and, y1, y2]; rfl
        rw [e] at this; simp at this
    show (!pc_S b x) = false ↔ (pc_S d x = false ∧ ∃ y, pc_S d y = true ∧ nr_E g 255 x y = true)
    rw [Bool.not_eq_false', hbx, Bool.and_eq_true, decide_eq_true_eq, hnz, Bool.not_eq_true']
    rfl
section
variable {fm : Int32} {an pa aw ad : Nat → Int32} {g : Fin 8 → Nat}
theorem bd_Y {post : Int32 → Prop} (hg : nr_G an g) {m : Fin 8 → Fin 8} (hm : ma_M (nr_E g 255) m) {b : Nat} (hb8 : b < 256)
    (hb : ∀ ld, ld_P (nr_E g 255) (fun x => !pc_S b x) ld → cm_od (fun x => !pc_S b x) ld = fc_ct (pc_S b) + ma_ms m) (hp : post (nI ((8 - ma_ms m) / 2))) : wpY_bound post (fm, an, pa, aw, ad) := by
  have hms : ma_ms m ≤ 8 := fc_le _
  have hs := nr_sym hg 255
  have key : ∀ (c s L : Nat), s + c = 256 → 8 - ma_ms m ≤ L → L ≤ 100 → (L = 8 - ma_ms m ∨ s ≤ b) → wY_bound_5 post fm an pa aw ad (c + 1) (nI L) (nI s) := by
    intro c
    induction c with
    | zero =>
      intro s L hsc hL hL2 hor
      rw [wY_bound_5]
      refine br_t (by rw [show s = 256 by omega]; decide) ⟨by decide, ?_⟩
      have e : L = 8 - ma_ms m := by omega
      rw [show (2 : Int32) = nI 2 from rfl, pk_div (by omega) (by decide) (by decide), e]
      exact hp
    | succ c ih =>
      intro s L hsc hL hL2 hor
      have hs8 : s < 256 := by omega
      obtain ⟨ld, hld⟩ := ld_ex (nr_E g 255) (fun x => !pc_S s x)
      have hw := bd_weak hs hld hm
      have hz : fc_ct (pc_S s) ≤ 8 := fc_le _
      have hod : cm_od (fun x => !pc_S s x) ld ≤ 8 := fc_le _
      rw [wY_bound_5]
      refine br_f ?_ ?_
      · rw [show (256 : Int32) = nI 256 from rfl]; exact nI_ge (by omega) (by decide)
      · refine yb_bits hs8 ?_
        refine oy_odd hg hs8 hld ?_
        intro x3 e3
        rw [show (8 : Int32) = nI 8 from rfl, nI_add, pk_sub (by omega)] at e3
        subst e3
        have htight : s = b → 8 + fc_ct (pc_S s) - cm_od (fun x => !pc_S s x) ld = 8 - ma_ms m := fun e => by
          subst e
          rw [hb ld hld]; omega
        refine pk_le L (8 + fc_ct (pc_S s) - cm_od (fun x => !pc_S s x) ld) (fun h => ?_) (fun h => ?_)
        · intro x2 e2
          rw [nI_1] at e2
          subst e2
          refine ih (s + 1) L (by omega) hL hL2 ?_
          rcases hor with u | u
          · exact Or.inl u
          · by_cases e : s = b
            · have := htight e
              left; omega
            · right; omega
        · intro x2 e2
          rw [nI_1] at e2
          subst e2
          refine ih (s + 1) _ (by omega) (by omega) (by omega) ?_
          rcases hor with u | u
          · left; omega
          · by_cases e : s = b
            · exact Or.inl (htight e)
            · right; omega
  exact ⟨257, key 256 0 100 rfl (by omega) (by decide) (Or.inr (Nat.zero_le _))⟩
end
theorem i_vc_bound {k : Nat} {u : SX} {v : SY} (I : i_Rel k u v) (hk : k + 3 ≤ 1536) : wpX_bound (fun r u' => wpY_bound (fun r' => r' = r ∧ i_Rel (k + 3) u' v) v) u := by
  refine rl_el (P := fun u v => wpX_bound (fun r u' => wpY_bound (fun r' => r' = r ∧ i_Rel (k + 3) u' v) v) u) ?_ I
  intro fp fq an am ao af ab aq ai ap a1 fm pa aw ad g hg hT
  unfold wpX_bound
  dsimp only
  refine lx_set hg ?_
  intro m Of d fq' am' ao' af' ab' aq' ai' ap' hm hF hd hlo
  refine bx_set hg hlo.1 (fun b hb => ?_)
  refine xz_size hb.1 ?_
  obtain ⟨ld, hld⟩ := ld_ex (nr_E g 255) (fun x => !pc_S b x)
  refine ox_odd hg hb.1 hld ⟨by decide, ?_⟩
  have hms : ma_ms m ≤ 8 := fc_le _
  have hz : fc_ct (pc_S b) ≤ 8 := fc_le _
  have ht := bd_tight hg hm.1 hF hd hlo.1 hb hld
  refine bd_Y hg hm.1 hb.1 (fun ld' hld' => bd_tight hg hm.1 hF hd hlo.1 hb hld') ⟨?_, rl_mk hg hT⟩
  rw [ht, show (8 : Int32) = nI 8 from rfl, show (2 : Int32) = nI 2 from rfl, nI_add, pk_sub (by omega), pk_div (by omega) (by decide) (by decide)]
  congr 2
  omega
end
section
/-! ## partner -/
theorem cq_E {g : Fin 8 → Nat} {s : Nat} {p q : Fin 8} (x y : Fin 8) : nr_E g (dl_s (dl_s s p) q) x y = (nr_E g s x y && (decide (x ≠ p) && decide (x ≠ q) && (decide (y ≠ p) && decide (y ≠ q)))) := by
  unfold nr_E
  rw [dl_b, dl_b, dl_b, dl_b]
  cases (g x).testBit y.val <;> cases s.testBit x.val <;> cases s.testBit y.val <;> simp <;> (try (cases decide (x = p) <;> cases decide (x = q) <;> simp))
theorem cq_E1 {g : Fin 8 → Nat} {s : Nat} {p : Fin 8} (x y : Fin 8) : nr_E g (dl_s s p) x y = (nr_E g s x y && (decide (x ≠ p) && decide (y ≠ p))) := by
  unfold nr_E
  rw [dl_b, dl_b]
  cases (g x).testBit y.val <;> cases s.testBit x.val <;> cases s.testBit y.val <;> simp
theorem nu_ex (E : Fin 8 → Fin 8 → Bool) : ∀ (t : Nat) (m : Fin 8 → Fin 8), ma_M E m → ma_ms m ≤ t → ∃ k, nu_is E k := by
  intro t
  induction t with
  | zero =>
    intro m hm ht
    exact ⟨4, m, ⟨hm, fun n _ => by omega⟩, by omega⟩
  | succ t ih =>
    intro m hm ht
    by_cases h : ∃ n, ma_M E n ∧ ma_ms n < ma_ms m
    · obtain ⟨n, h1, h2⟩ := h
      exact ih n h1 (by omega)
    · have hp := ma_par hm.1
      have h8 : ma_ms m ≤ 8 := fc_le _
      exact ⟨(8 - ma_ms m) / 2, m, ⟨hm, fun n hn => Classical.byContradiction (fun e => h ⟨n, hn, by omega⟩)⟩, by omega⟩
/-- p takes q in a greatest pairing of the set s -/
theorem cq_eq {g : Fin 8 → Nat} {s : Nat} (hsy : ∀ a b, nr_E g s a b = nr_E g s b a) {p q : Fin 8} (hpq : p ≠ q) (he : nr_E g s p q = true) {k k' : Nat} (hk : nu_is (nr_E g s) k) (hk' : nu_is (nr_E g (dl_s (dl_s s p) q)) k')
    {h : Fin 8 → Fin 8} (hM : ma_M (nr_E g s) h) (hms : ma_ms h + 2 * k = 8) (hh : h p = q) : k' + 1 = k := by
  obtain ⟨m, h1, h2⟩ := hk
  obtain ⟨m', h3, h4⟩ := hk'
  have hM' : ma_M (nr_E g s) m' := ⟨h3.1.1, fun x hx => by have := h3.1.2 x hx; rw [cq_E] at this; simp at this; exact this.1⟩
  have hp' : m' p = p := Classical.byContradiction (fun hc => by have := h3.1.2 p hc; rw [cq_E] at this; simp at this)
  have hq' : m' q = q := Classical.byContradiction (fun hc => by have := h3.1.2 q hc; rw [cq_E] at this; simp at this)
  have hM2 := ma_swM hsy hM' hp' hpq he
  have h5 : ma_ms m' = ma_ms (ma_sw m' p q) + 2 := po_two (y := p) (r := q) hp' hq' hpq (fun z => by
    constructor
    · intro hz
      have := ma_swo hpq hz
      refine ⟨?_, this.1, this.2.1⟩
      rcases this.2.2 with u | u
      · exact absurd (u.trans hq') this.2.1
      · exact u
    · rintro ⟨a, b, c⟩
      exact ma_swi b c (Or.inr a))
  have h6 := h1.2 _ hM2
  have hI := hM.1
  have hfq : h q = p := by rw [← hh, hI]
  have hMf : ma_M (nr_E g (dl_s (dl_s s p) q)) (fun x => if x = p ∨ x = q then x else h x) := by
    constructor
    · intro x
      by_cases hx : x = p ∨ x = q
      · simp [hx]
      · have hx2 : ¬ (h x = p ∨ h x = q) := by
          rintro (u | u)
          · exact hx (Or.inr (by rw [← hI x, u, hh]))
          · exact hx (Or.inl (by rw [← hI x, u, hfq]))
        simp only [if_neg hx, if_neg hx2, hI]
    · intro x hx
      by_cases hx1 : x = p ∨ x = q
      · simp [hx1] at hx
      · have hx2 : ¬ (h x = p ∨ h x = q) := by
          rintro (u | u)
          · exact hx1 (Or.inr (by rw [← hI x, u, hh]))
          · exact hx1 (Or.inl (by rw [← hI x, u, hfq]))
        simp only [if_neg hx1] at hx ⊢
        rw [cq_E, hM.2 x hx]
        have a1 : x ≠ p := fun e => hx1 (Or.inl e)
        have a2 : x ≠ q := fun e => hx1 (Or.inr e)
        have a3 : h x ≠ p := fun e => hx2 (Or.inl e)
        have a4 : h x ≠ q := fun e => hx2 (Or.inr e)
        simp [a1, a2, a3, a4]
  have h7 : ma_ms (fun x => if x = p ∨ x = q then x else h x) = ma_ms h + 2 := po_two (y := p) (r := q) (by simp) (by simp) hpq (fun z => by
    constructor
    · intro hz
      have b1 : z ≠ p := fun e => hpq (by rw [e, hh] at hz; exact hz.symm)
      have b2 : z ≠ q := fun e => hpq (by rw [e, hfq] at hz; exact hz)
      exact ⟨by simp [b1, b2, hz], b1, b2⟩
    · rintro ⟨a, b, c⟩
      simpa [b, c] using a)
  have h8 := h3.2 _ hMf
  omega
/-- what is settled before point i -/
def pf_I (g : Fin 8 → Nat) (k i s l : Nat) (ff : Fin 8 → Fin 8) : Prop :=
  (∀ x : Fin 8, x.val < i → s.testBit x.val = false) ∧ (∀ x : Fin 8, s.testBit x.val = true → ff x = x) ∧ (∀ x, ff (ff x) = x) ∧
  (∀ x : Fin 8, ff x ≠ x → (g x).testBit (ff x).val = true ∧ s.testBit x.val = false) ∧ (∀ x : Fin 8, s.testBit x.val = false → i ≤ x.val → (ff x).val < i) ∧
  nu_is (nr_E g s) l ∧ ma_ms ff + 2 * k = 8 + 2 * l ∧
  (∀ h, ma_Mx (nr_E g 255) h → (∀ x : Fin 8, x.val < i → h x = ff x) ∨ ∃ p0 : Fin 8, p0.val < i ∧ (∀ x : Fin 8, x.val < p0.val → h x = ff x) ∧ tb_kd p0.val (ff p0).val < tb_kd p0.val (h p0).val)
theorem pf_sum {P Q R : Fin 8 → Bool} (h : ∀ x, (P x).toNat + (Q x).toNat = 1 + (R x).toNat) : fc_ct P + fc_ct Q = 8 + fc_ct R := by
  rw [fc_sum, fc_sum Q, fc_sum R]
  have := h 0; have := h 1; have := h 2; have := h 3; have := h 4; have := h 5; have := h 6; have := h 7
  omega
/-- a greatest pairing that agrees so far is greatest on the rest -/
theorem pf_rest {g : Fin 8 → Nat} {k i s l : Nat} {ff : Fin 8 → Fin 8} (hI : pf_I g k i s l ff) (hk : nu_is (nr_E g 255) k) {h : Fin 8 → Fin 8} (hh : ma_Mx (nr_E g 255) h) (ha : ∀ x : Fin 8, x.val < i → h x = ff x) :
    (∀ x : Fin 8, s.testBit x.val = false → h x = ff x) ∧ ma_M (nr_E g s) (fun x => if s.testBit x.val = true then h x else x) ∧ ma_ms (fun x => if s.testBit x.val = true then h x else x) + 2 * l = 8 := by
  obtain ⟨h1, h2, h3, h4, h5, h6, h7, h8⟩ := hI
  have e1 : ∀ x : Fin 8, s.testBit x.val = false → h x = ff x := fun x hx => by
    by_cases hlt : x.val < i
    · exact ha x hlt
    · have := ha (ff x) (h5 x hx (by omega))
      rw [h3] at this
      rw [← hh.1.1 (ff x), this]
  have e2 : ∀ x : Fin 8, s.testBit x.val = true → s.testBit (h x).val = true := fun x hx => by
    cases e : s.testBit (h x).val
    · exfalso
      have e3 := e1 (h x) e
      rw [hh.1.1] at e3
      have e4 : ff x = h x := by rw [e3, h3]; exact e3 ▸ rfl
      rw [h2 x hx] at e4
      rw [← e4, hx] at e; exact absurd e (by decide)
    · rfl
  refine ⟨e1, ⟨fun x => ?_, fun x hx => ?_⟩, ?_⟩
  · cases e : s.testBit x.val
    · simp [e]
    · simp [e, e2 x e, hh.1.1]
  · cases e : s.testBit x.val
    · simp [e] at hx
    · simp only [e, if_true] at hx ⊢
      have := hh.1.2 x hx
      rw [nr_255] at this
      unfold nr_E
      rw [this, e, e2 x e]; rfl
  · have hs := pf_sum (P := ma_out (fun x => if s.testBit x.val = true then h x else x)) (Q := ma_out ff) (R := ma_out h) (fun x => by
      unfold ma_out
      cases e : s.testBit x.val
      · rw [← e1 x e]; simp [e]
      · simp [h2 x e, e]; omega)
    obtain ⟨m, m1, m2⟩ := hk
    have a1 := m1.2 h hh.1
    have a2 := hh.2 m m1.1
    unfold ma_ms at *
    omega
/-- the points that the search takes as partners -/
def pf_c (g : Fin 8 → Nat) (s l : Nat) (p q : Fin 8) : Prop := (dl_s s p).testBit q.val = true ∧ (g p).testBit q.val = true ∧ ∃ k', nu_is (nr_E g (dl_s (dl_s s p) q)) k' ∧ k' + 1 = l
theorem pf_cand {g : Fin 8 → Nat} {an : Nat → Int32} (hg : nr_G an g) {s l : Nat} {p q : Fin 8} (hl : nu_is (nr_E g s) l) {h : Fin 8 → Fin 8} (hM : ma_M (nr_E g s) h) (hms : ma_ms h + 2 * l = 8) (hh : h p = q) (hpq : q ≠ p) : pf_c g s l p q := by
  have he := hM.2 p (by rw [hh]; exact hpq)
  rw [hh] at he
  have hin := nr_in he
  have hgp : (g p).testBit q.val = true := by unfold nr_E at he; simp at he; exact he.1
  obtain ⟨k', hk'⟩ := nu_ex (nr_E g (dl_s (dl_s s p) q)) 8 (fun x => x) ⟨fun _ => rfl, fun _ h => absurd rfl h⟩ (fc_le _)
  exact ⟨by rw [dl_b]; simp [hin, hpq], hgp, k', hk', cq_eq (nr_sym hg s) (fun e => hpq e.symm) he hl hk' hM hms hh⟩
section
variable {an : Nat → Int32} {g : Fin 8 → Nat} {k i s l : Nat} {ff : Fin 8 → Fin 8}
theorem pf_skip (hi : i < 8) (hI : pf_I g k i s l ff) (hs : s.testBit i = false) : pf_I g k (i + 1) s l ff := by
  obtain ⟨h1, h2, h3, h4, h5, h6, h7, h8⟩ := hI
  have hcl : ∀ x : Fin 8, x.val < i + 1 → x = ⟨i, hi⟩ ∨ x.val < i := fun x hx => by
    by_cases e : x.val = i
    · exact Or.inl (Fin.ext e)
    · exact Or.inr (by omega)
  refine ⟨fun x hx => ?_, h2, h3, h4, fun x hx hix => ?_, h6, h7, fun h hh => ?_⟩
  · rcases hcl x hx with e | e
    · rw [e]; exact hs
    · exact h1 x e
  · have := h5 x hx (by omega); omega
  · rcases h8 h hh with u | ⟨p0, p1, p2⟩
    · left
      intro x hx
      rcases hcl x hx with e | e
      · have hf := h5 ⟨i, hi⟩ hs (Nat.le_refl _)
        have := u _ hf
        rw [h3] at this
        rw [e, ← hh.1.1 (ff ⟨i, hi⟩), this]
      · exact u x e
    · exact Or.inr ⟨p0, by omega, p2⟩
theorem pf_none (hg : nr_G an g) (hk : nu_is (nr_E g 255) k) (hi : i < 8) (hI : pf_I g k i s l ff) (hs : s.testBit i = true) (hn : ∀ q, ¬ pf_c g s l ⟨i, hi⟩ q) : pf_I g k (i + 1) (dl_s s ⟨i, hi⟩) l ff := by
  have hrest := fun h hh ha => @pf_rest g k i s l ff hI hk h hh ha
  obtain ⟨h1, h2, h3, h4, h5, h6, h7, h8⟩ := hI
  have hcl : ∀ x : Fin 8, x.val < i + 1 → x = ⟨i, hi⟩ ∨ x.val < i := fun x hx => by
    by_cases e : x.val = i
    · exact Or.inl (Fin.ext e)
    · exact Or.inr (by omega)
  refine ⟨fun x hx => ?_, fun x hx => ?_, h3, fun x hx => ?_, fun x hx hix => ?_, ?_, h7, fun h hh => ?_⟩
  · rw [dl_b]
    rcases hcl x hx with e | e
    · simp [e]
    · simp [h1 x e]
  · rw [dl_b] at hx; simp at hx; exact h2 x hx.1
  · have := h4 x hx
    exact ⟨this.1, by rw [dl_b, this.2]; rfl⟩
  · have hne : x ≠ ⟨i, hi⟩ := fun e => by rw [e] at hix; simp only at hix; omega
    rw [dl_b] at hx
    simp [hne] at hx
    have := h5 x hx (by omega); omega
  · obtain ⟨m, m1, m2⟩ := h6
    have hmp : m ⟨i, hi⟩ = ⟨i, hi⟩ := Classical.byContradiction (fun e => hn _ (pf_cand hg ⟨m, m1, m2⟩ m1.1 m2 rfl e))
    refine ⟨m, ⟨⟨m1.1.1, fun x hx => ?_⟩, fun n hn' => m1.2 n ⟨hn'.1, fun x hx => ?_⟩⟩, m2⟩
    · rw [cq_E1, m1.1.2 x hx]
      have a1 : x ≠ ⟨i, hi⟩ := fun e => hx (by rw [e]; exact hmp)
      have a2 : m x ≠ ⟨i, hi⟩ := fun e => hx (by have := m1.1.1 x; rw [e, hmp] at this; rw [← this]; exact hmp)
      simp [a1, a2]
    · have := hn'.2 x hx
      rw [cq_E1] at this; simp at this; exact this.1
  · rcases h8 h hh with u | ⟨p0, p1, p2⟩
    · left
      intro x hx
      rcases hcl x hx with e | e
      · obtain ⟨_, r2, r3⟩ := hrest h hh u
        have hp : (fun x : Fin 8 => if s.testBit x.val = true then h x else x) ⟨i, hi⟩ = ⟨i, hi⟩ := Classical.byContradiction (fun e => hn _ (pf_cand hg h6 r2 r3 rfl e))
        simp [hs] at hp
        rw [e, hp, h2 ⟨i, hi⟩ hs]
      · exact u x e
    · exact Or.inr ⟨p0, by omega, p2⟩
theorem pf_some (hg : nr_G an g) (hk : nu_is (nr_E g 255) k) (hi : i < 8) (hI : pf_I g k i s l ff) (hs : s.testBit i = true) {q : Fin 8} (hq : pf_c g s l ⟨i, hi⟩ q) (hmin : ∀ q', pf_c g s l ⟨i, hi⟩ q' → q.val ≤ q'.val) :
    pf_I g k (i + 1) (dl_s (dl_s s ⟨i, hi⟩) q) (l - 1) (fun x => if x = ⟨i, hi⟩ then q else if x = q then ⟨i, hi⟩ else ff x) := by
  have hrest := fun h hh ha => @pf_rest g k i s l ff hI hk h hh ha
  obtain ⟨h1, h2, h3, h4, h5, h6, h7, h8⟩ := hI
  obtain ⟨q1, q2, k', q3, q4⟩ := id hq
  rw [dl_b] at q1
  simp at q1
  generalize hP : (⟨i, hi⟩ : Fin 8) = p at *
  have hpv : p.val = i := by rw [← hP]
  have hsp : s.testBit p.val = true := by rw [hpv]; exact hs
  have hcl : ∀ x : Fin 8, x.val < i + 1 → x = p ∨ x.val < i := fun x hx => by
    by_cases e : x.val = i
    · exact Or.inl (Fin.ext (by omega))
    · exact Or.inr (by omega)
  have hqp : q ≠ p := q1.2
  have hpq : p ≠ q := fun e => hqp e.symm
  have hqi : i < q.val := by
    apply Classical.byContradiction
    intro hn
    by_cases e : q.val = i
    · exact hqp (Fin.ext (by omega))
    · have := h1 q (by omega)
      rw [q1.1] at this; exact absurd this (by decide)
  have hfp := h2 p hsp
  have hfq := h2 q q1.1
  have hlow : ∀ x : Fin 8, x.val < i → x ≠ p ∧ x ≠ q := fun x hx => ⟨fun e => by rw [e] at hx; omega, fun e => by rw [e] at hx; omega⟩
  refine ⟨fun x hx => ?_, fun x hx => ?_, fun x => ?_, fun x hx => ?_, fun x hx hix => ?_, ?_, ?_, fun h hh => ?_⟩
  · rw [dl_b, dl_b]
    rcases hcl x hx with e | e
    · simp [e]
    · simp [h1 x e]
  · rw [dl_b, dl_b] at hx
    simp at hx
    simp [hx.1.2, hx.2, h2 x hx.1.1]
  · by_cases e1 : x = p
    · simp [e1, hqp]
    · by_cases e2 : x = q
      · simp [e2, hqp]
      · have a1 : ff x ≠ p := fun e => e1 (by rw [← h3 x, e, hfp])
        have a2 : ff x ≠ q := fun e => e2 (by rw [← h3 x, e, hfq])
        simp [e1, e2, a1, a2, h3]
  · rw [dl_b, dl_b]
    by_cases e1 : x = p
    · subst e1; simp [q2]
    · by_cases e2 : x = q
      · subst e2
        simp [e1]
        rw [hg.2.1]; exact q2
      · simp [e1, e2] at hx ⊢
        have := h4 x hx
        simp [this]
  · have hne : x ≠ p := fun e => by rw [e] at hix; omega
    by_cases e2 : x = q
    · simp [e2, hqp]; omega
    · rw [dl_b, dl_b] at hx
      simp [hne, e2] at hx
      have := h5 x hx (by omega)
      simp [hne, e2]; omega
  · rw [show l - 1 = k' by omega]; exact q3
  · have := po_two (m := ff) (m' := fun x => if x = p then q else if x = q then p else ff x) (y := p) (r := q) hfp hfq hpq (fun z => by
      by_cases e1 : z = p
      · simp [e1, hqp]
      · by_cases e2 : z = q
        · simp [e2, hqp, hpq]
        · simp [e1, e2])
    omega
  · have hff : ∀ x : Fin 8, x.val < i → (fun x => if x = p then q else if x = q then p else ff x) x = ff x := fun x hx => by
      simp [hlow x hx]
    rcases h8 h hh with u | ⟨p0, p1, p2, p3⟩
    · by_cases hhp : h p = q
      · left
        intro x hx
        rcases hcl x hx with e | e
        · rw [e]; simp [hhp]
        · rw [hff x e]; exact u x e
      · right
        refine ⟨p, by omega, fun x hx => ?_, ?_⟩
        · rw [hff x (by omega)]; exact u x (by omega)
        · have hkq : tb_kd p.val q.val = q.val := by
            unfold tb_kd; rw [if_neg (fun e => hqp (Fin.ext e))]
          simp only [if_true]
          rw [hkq]
          by_cases hpp : h p = p
          · rw [hpp]; unfold tb_kd; rw [if_pos rfl]; exact q.isLt
          · have hk2 : tb_kd p.val (h p).val = (h p).val := by
              unfold tb_kd; rw [if_neg (fun e => hpp (Fin.ext e))]
            rw [hk2]
            obtain ⟨_, r2, r3⟩ := hrest h hh u
            have hc : pf_c g s l p (h p) := pf_cand hg h6 r2 r3 (by simp [hsp]) hpp
            have := hmin _ hc
            have hne : q.val ≠ (h p).val := fun e => hhp (Fin.ext e.symm)
            omega
    · right
      refine ⟨p0, by omega, fun x hx => ?_, ?_⟩
      · rw [hff x (by omega)]; exact p2 x hx
      · rw [hff p0 p1]; exact p3
end
/-- the first greatest pairing -/
def pr_F (g : Fin 8 → Nat) (ff : Fin 8 → Fin 8) : Prop := ma_Mx (nr_E g 255) ff ∧
  ∀ h, ma_Mx (nr_E g 255) h → (∀ x, h x = ff x) ∨ ∃ p0 : Fin 8, (∀ x : Fin 8, x.val < p0.val → h x = ff x) ∧ tb_kd p0.val (ff p0).val < tb_kd p0.val (h p0).val
theorem pf_end {g : Fin 8 → Nat} {k s l : Nat} {ff : Fin 8 → Fin 8} (hk : nu_is (nr_E g 255) k) (hI : pf_I g k 8 s l ff) : pr_F g ff := by
  obtain ⟨h1, h2, h3, h4, h5, h6, h7, h8⟩ := hI
  have hl : l = 0 := by
    obtain ⟨m, m1, m2⟩ := h6
    have : ma_ms m = 8 := by
      have hid : ∀ x, m x = x := fun x => Classical.byContradiction (fun e => by
        have := (nr_in (m1.1.2 x e)).1
        rw [h1 x x.isLt] at this; exact absurd this (by decide))
      unfold ma_ms
      rw [fc_sum]
      simp [ma_out, hid]
    omega
  have hM : ma_M (nr_E g 255) ff := ⟨h3, fun x hx => by rw [nr_255]; exact (h4 x hx).1⟩
  refine ⟨⟨hM, fun n hn => ?_⟩, fun h hh => ?_⟩
  · obtain ⟨m, m1, m2⟩ := hk
    have := m1.2 n hn
    omega
  · rcases h8 h hh with u | ⟨p0, _, p2⟩
    · exact Or.inl (fun x => u x x.isLt)
    · exact Or.inr ⟨p0, p2⟩
theorem px_sub : ∀ a b : Fin 5, nI a.val = nI b.val - 1 ↔ a.val + 1 = b.val := by decide +kernel
theorem px_n4 : (-4 : Int32) < 0 := by decide
def px_f (g : Fin 8 → Nat) (s l : Nat) (p : Fin 8) (j : Nat) (fo : Option (Fin 8)) : Prop :=
  (fo = none → ∀ q' : Fin 8, j < q'.val → ¬ pf_c g s l p q') ∧ (∀ q, fo = some q → pf_c g s l p q ∧ j < q.val ∧ ∀ q' : Fin 8, j < q'.val → pf_c g s l p q' → q.val ≤ q'.val)
section
variable {an : Nat → Int32} {g : Fin 8 → Nat} {k s l : Nat}
theorem px_in {post : SX → Prop} {J14 : Int32 → Int32 → Int32 → Int32 → Int32 → (Nat → Int32) → (Nat → Int32) → (Nat → Int32) → (Nat → Int32) → (Nat → Int32) → (Nat → Int32) → (Nat → Int32) → (Nat → Int32) → (Nat → Int32) → Prop}
    (hg : nr_G an g) (hs : s < 256) (hl : l ≤ 4) (p : Fin 8) {a1 : Nat → Int32}
    (hJ0 : (∀ q', p.val < q'.val → ¬ pf_c g s l p q') → ∀ fp fq am ao af ab aq ai ap, J14 (nI l) (nI (dl_s s p)) (nI (p.val + 1)) fp fq an am ao af ab aq ai ap (upd a1 p.val (-4)))
    (hJ1 : ∀ q, pf_c g s l p q → p.val < q.val → (∀ q', p.val < q'.val → pf_c g s l p q' → q.val ≤ q'.val) → ∀ fp fq am ao af ab aq ai ap, J14 (nI (l - 1)) (nI (dl_s (dl_s s p) q)) (nI (p.val + 1)) fp fq an am ao af ab aq ai ap (upd (upd a1 p.val (vx q)) q.val (vx p))) :
    ∀ (j : Nat) (fo : Option (Fin 8)) (fp fq : Int32) (am ao af ab aq ai ap : Nat → Int32), j < 8 → p.val ≤ j → px_f g s l p j fo →
      wX_findFirst_45 post J14 (nI l) (nI (dl_s s p)) (vx p) (j + 1) (fo.elim (-4) vx) (nI j) fp fq an am ao af ab aq ai ap a1 := by
  have fin : ∀ (n : Nat) (fo : Option (Fin 8)) (fp fq : Int32) (am ao af ab aq ai ap : Nat → Int32), px_f g s l p p.val fo → wX_findFirst_45 post J14 (nI l) (nI (dl_s s p)) (vx p) (n + 1) (fo.elim (-4) vx) (nI p.val) fp fq an am ao af ab aq ai ap a1 := by
    intro n fo fp fq am ao af ab aq ai ap hf
    rw [wX_findFirst_45]
    refine br_t (Int32.le_refl _) ⟨vx_in p, ?_⟩
    intro a19 e19
    rw [vx_cl] at e19
    cases fo with
    | none =>
      refine br_t px_n4 ?_
      intro x3 e3
      rw [show vx p + 1 = nI (p.val + 1) from nI_1 _] at e3
      subst e3 e19
      exact hJ0 (hf.1 rfl) fp fq am ao af ab aq ai ap
    | some q =>
      obtain ⟨f1, f2, f3⟩ := hf.2 q rfl
      refine br_f (vx_nn q) ⟨vx_in q, ?_⟩
      intro a23 e23 x2 e2 x1 e1 x3 e3
      rw [show vx p + 1 = nI (p.val + 1) from nI_1 _] at e3
      have hl1 : 1 ≤ l := by obtain ⟨_, _, k', _, h⟩ := f1; omega
      have e1' : x1 = nI (l - 1) := by
        rw [e1]
        obtain ⟨l', rfl⟩ : ∃ l', l = l' + 1 := ⟨l - 1, by omega⟩
        exact pk_m1 l'
      have e2' : x2 = nI (dl_s (dl_s s p) q) := by rw [e2]; exact dl_i _ q
      have e23' : a23 = upd a19 q.val (vx p) := by rw [e23, show (Option.elim (some q) (-4) vx) = vx q from rfl, vx_cl]
      subst e3 e1' e2' e23'
      rw [e19]
      exact hJ1 q f1 f2 f3 fp fq am ao af ab aq ai ap
  intro j
  induction j with
  | zero =>
    intro fo fp fq am ao af ab aq ai ap hj hp hf
    have : p.val = 0 := by omega
    have h := fin 0 fo fp fq am ao af ab aq ai ap (by rw [this]; exact hf)
    rw [this] at h; exact h
  | succ j ih =>
    intro fo fp fq am ao af ab aq ai ap hj hp hf
    by_cases e : p.val = j + 1
    · have h := fin (j + 1) fo fp fq am ao af ab aq ai ap (by rw [e]; exact hf)
      rw [e] at h; exact h
    · have hlt : dl_s s p < 256 := dl_lt hs p
      have ej : vx ⟨j + 1, hj⟩ + (-1) = nI j := pk_m1 j
      have hcl : ∀ q' : Fin 8, j < q'.val → q' = ⟨j + 1, hj⟩ ∨ j + 1 < q'.val := fun q' h => by
        by_cases e2 : q'.val = j + 1
        · exact Or.inl (Fin.ext e2)
        · exact Or.inr (by omega)
      -- keeping what was found
      have keep : ¬ pf_c g s l p ⟨j + 1, hj⟩ → px_f g s l p j fo := fun hn => by
        refine ⟨fun hf0 q' hq' hc => ?_, fun q hq => ?_⟩
        · rcases hcl q' hq' with e2 | e2
          · rw [e2] at hc; exact hn hc
          · exact hf.1 hf0 q' e2 hc
        · obtain ⟨a, b, c⟩ := hf.2 q hq
          refine ⟨a, by omega, fun q' hq' hc => ?_⟩
          rcases hcl q' hq' with e2 | e2
          · rw [e2] at hc; exact absurd hc hn
          · exact c q' e2 hc
      have take : pf_c g s l p ⟨j + 1, hj⟩ → px_f g s l p j (some ⟨j + 1, hj⟩) := fun hy => by
        refine ⟨fun h0 => absurd h0 (by simp), fun q hq => ?_⟩
        have : q = ⟨j + 1, hj⟩ := (Option.some.inj hq).symm
        rw [this]
        exact ⟨hy, by simp only; omega, fun q' hq' _ => by simp only; omega⟩
      rw [wX_findFirst_45, show nI (j + 1) = vx ⟨j + 1, hj⟩ from rfl]
      refine br_f ?_ ⟨vx_in p, ?_⟩
      · show ¬ nI (j + 1) ≤ nI p.val
        exact nI_ge (by omega) (by omega)
      · rw [vx_cl, (hg.1 p).2, bx_and]
        have hlow := bx_low (bx_land (b := g p) hlt) ⟨j + 1, hj⟩
        have hbit : (dl_s s p &&& g p).testBit (j + 1) = ((dl_s s p).testBit (j + 1) && (g p).testBit (j + 1)) := Nat.testBit_and _ _ _
        by_cases hb : ((dl_s s p).testBit (j + 1) && (g p).testBit (j + 1)) = true
        · refine br_f (fun e2 => ?_) ?_
          · have := hlow.mp e2
            simp only at this
            rw [hbit, hb] at this; exact absurd this (by decide)
          · rw [dl_i]
            refine po_nu hg (dl_lt hlt ⟨j + 1, hj⟩) ?_
            intro k1 fq' am' ao' af' ab' aq' ai' ap' hk1
            have hk4 := nu_4 hk1
            have hsub := px_sub ⟨k1, by omega⟩ ⟨l, by omega⟩
            simp only at hsub
            rw [Bool.and_eq_true] at hb
            by_cases hkl : k1 + 1 = l
            · refine br_t (hsub.mpr hkl) ?_
              intro x5 e5
              rw [ej] at e5
              subst e5
              exact ih (some ⟨j + 1, hj⟩) _ fq' am' ao' af' ab' aq' ai' ap' (by omega) (by omega) (take ⟨hb.1, hb.2, k1, hk1, hkl⟩)
            · refine br_f (fun e2 => hkl (hsub.mp e2)) ?_
              intro x5 e5
              rw [ej] at e5
              subst e5
              refine ih fo _ fq' am' ao' af' ab' aq' ai' ap' (by omega) (by omega) (keep (fun hc => ?_))
              obtain ⟨_, _, k2, hk2, e3⟩ := hc
              have := nu_un hk2 hk1
              omega
        · refine br_t (hlow.mpr ?_) ?_
          · simp only
            rw [hbit]; simpa using hb
          · intro x5 e5
            rw [ej] at e5
            subst e5
            refine ih fo fp fq am ao af ab aq ai ap (by omega) (by omega) (keep (fun hc => hb ?_))
            rw [Bool.and_eq_true]; exact ⟨hc.1, hc.2.1⟩
theorem px_out {post : SX → Prop} (hg : nr_G an g) (hk : nu_is (nr_E g 255) k)
    (hp : ∀ (ff : Fin 8 → Fin 8) (fp fq : Int32) (am ao af ab aq ai ap a1 : Nat → Int32), pr_F g ff → (∀ x : Fin 8, a1 x.val = if ff x = x then -4 else vx (ff x)) → post (fp, fq, an, am, ao, af, ab, aq, ai, ap, a1)) :
    ∀ (c i s l : Nat) (ff : Fin 8 → Fin 8) (fp fq : Int32) (am ao af ab aq ai ap a1 : Nat → Int32), i + c = 8 → s < 256 → pf_I g k i s l ff → (∀ x : Fin 8, s.testBit x.val = false → a1 x.val = if ff x = x then -4 else vx (ff x)) →
      wX_findFirst_14 post (c + 1) (nI l) (nI s) (nI i) fp fq an am ao af ab aq ai ap a1 := by
  intro c
  induction c with
  | zero =>
    intro i s l ff fp fq am ao af ab aq ai ap a1 hi hs hI ha
    have : i = 8 := by omega
    subst this
    rw [wX_findFirst_14]
    exact br_t (by decide) (hp ff fp fq am ao af ab aq ai ap a1 (pf_end hk hI) (fun x => ha x (hI.1 x x.isLt)))
  | succ c ih =>
    intro i s l ff fp fq am ao af ab aq ai ap a1 hi hs hI ha
    have hi8 : i < 8 := by omega
    rw [wX_findFirst_14, show nI i = vx ⟨i, hi8⟩ from rfl]
    refine br_f (vx_ge _) ?_
    rw [bx_bit hs]
    cases hb : s.testBit i
    · refine br_f (by simp) ?_
      intro x3 e3
      rw [vx_s] at e3
      subst e3
      exact ih (i + 1) s l ff fp fq am ao af ab aq ai ap a1 (by omega) hs (pf_skip hi8 hI hb) ha
    · refine br_t (by simp) ?_
      intro x2 e2
      rw [dl_i] at e2
      subst e2
      have hl4 : l ≤ 4 := nu_4 hI.2.2.2.2.2.1
      have hup : ∀ q : Fin 8, pf_c g s l ⟨i, hi8⟩ q → i < q.val := fun q hc => by
        apply Classical.byContradiction
        intro hn
        have h1 := hc.1
        rw [dl_b] at h1
        simp at h1
        by_cases e : q.val = i
        · exact h1.2 (Fin.ext e)
        · have := hI.1 q (by omega)
          rw [h1.1] at this; exact absurd this (by decide)
      refine ⟨8, px_in hg hs hl4 ⟨i, hi8⟩ (fun hno fp fq am ao af ab aq ai ap => ?_) (fun q hc hlt hmin fp fq am ao af ab aq ai ap => ?_) 7 none fp fq am ao af ab aq ai ap (by decide) (by simp only; omega) ⟨fun _ q' hq' => by omega, fun q hq => by simp at hq⟩⟩
      · refine ih (i + 1) _ l ff fp fq am ao af ab aq ai ap _ (by omega) (dl_lt hs _) (pf_none hg hk hi8 hI hb (fun q hc => hno q (hup q hc) hc)) (fun x hx => ?_)
        have hau := ar_upd (a := a1) (i := ⟨i, hi8⟩) (j := x) (v := -4)
        rw [hau]
        by_cases e : x = ⟨i, hi8⟩
        · rw [if_pos e, e, if_pos (hI.2.1 ⟨i, hi8⟩ hb)]
        · rw [if_neg e]
          rw [dl_b] at hx
          simp [e] at hx
          exact ha x hx
      · refine ih (i + 1) _ (l - 1) _ fp fq am ao af ab aq ai ap _ (by omega) (dl_lt (dl_lt hs _) _) (pf_some hg hk hi8 hI hb hc (fun q' hc' => hmin q' (hup q' hc') hc')) (fun x hx => ?_)
        have hqp : q ≠ ⟨i, hi8⟩ := fun e => by rw [e] at hlt; simp only at hlt; omega
        have hau := ar_upd (a := upd a1 (⟨i, hi8⟩ : Fin 8).val (vx q)) (i := q) (j := x) (v := vx ⟨i, hi8⟩)
        have hau2 := ar_upd (a := a1) (i := ⟨i, hi8⟩) (j := x) (v := vx q)
        rw [hau, hau2]
        by_cases e1 : x = q
        · subst e1
          have : ¬ (⟨i, hi8⟩ : Fin 8) = x := fun e => hqp e.symm
          simp [hqp, this]
        · by_cases e2 : x = ⟨i, hi8⟩
          · subst e2
            simp [e1, hqp]
          · rw [dl_b, dl_b] at hx
            simp [e1, e2] at hx
            simp [e1, e2, ha x hx]
theorem px_first {post : SX → Prop} {fp fq : Int32} {am ao af ab aq ai ap a1 : Nat → Int32} (hg : nr_G an g)
    (hp : ∀ (ff : Fin 8 → Fin 8) (fp fq : Int32) (am ao af ab aq ai ap a1 : Nat → Int32), pr_F g ff → (∀ x : Fin 8, a1 x.val = if ff x = x then -4 else vx (ff x)) → post (fp, fq, an, am, ao, af, ab, aq, ai, ap, a1)) :
    wpX_findFirst post (fp, fq, an, am, ao, af, ab, aq, ai, ap, a1) := by
  unfold wpX_findFirst
  refine po_nu (s := 255) hg (by decide) ?_
  intro k1 fq' am' ao' af' ab' aq' ai' ap' hk1
  refine ⟨9, px_out hg hk1 hp 8 0 255 k1 (fun x => x) _ fq' am' ao' af' ab' aq' ai' ap' a1 rfl (by decide) ⟨fun x h => absurd h (by omega), fun _ _ => rfl, fun _ => rfl, fun x h => absurd rfl h, fun x h => ?_, hk1, ?_, fun h _ => Or.inl (fun x hx => absurd hx (by omega))⟩ (fun x h => ?_)⟩
  · rw [tb_255] at h; exact absurd h (by decide)
  · have : ma_ms (fun x => x) = 8 := by unfold ma_ms; rw [fc_sum]; simp [ma_out]
    omega
  · rw [tb_255] at h; exact absurd h (by decide)
end
section
variable {fm : Int32} {an pa aw ad : Nat → Int32} {g : Fin 8 → Nat}
theorem py_part {post : Int32 → Prop} (hg : nr_G an g) (hT : ∀ n, n < 764 → pa n = nI (tb_tab.getD n 0)) {ff : Fin 8 → Fin 8} (hF : pr_F g ff) (p : Fin 8) (hp : post (if ff p = p then -4 else vx (ff p))) : wpY_partner post (fm, an, pa, aw, ad) (vx p) := by
  refine br_f (vx_nn p) (br_t (yx_p7 p).2 ?_)
  refine yb_most (s := 255) hg hT (by decide) (fun k hk => ?_)
  have hk4 := nu_4 hk
  obtain ⟨nf, n1, n2⟩ := tb_all ff hF.1.1.1
  have hfun : tb_P nf = ff := funext n2
  have hgf : gt_is g nf k := (gt_mx n1 hk).mpr (by rw [hfun]; exact hF.1)
  have key : ∀ (c n : Nat), n + c = nf → wY_partner_22 post (vx p) (nI k) fm an pa aw ad (c + 1) (nI n) := by
    intro c
    induction c with
    | zero =>
      intro n hn
      rw [wY_partner_22]
      dsimp only
      refine yb_great hg hT (by omega) hk4 (fun _ => br_f (by decide) ?_) (fun h => absurd hgf (by rw [show nf = n by omega]; exact h))
      refine yb_part hT (by omega) p ?_
      rw [show n = nf by omega, hfun]
      by_cases e : ff p = p
      · rw [if_pos e] at hp; exact br_t (by rw [e]) hp
      · rw [if_neg e] at hp; exact br_f (fun h => e ((vx_inj _ _).mp h)) hp
    | succ c ih =>
      intro n hn
      rw [wY_partner_22]
      dsimp only
      refine yb_great hg hT (by omega) hk4 (fun hgt => ?_) (fun _ => br_t rfl ?_)
      · exfalso
        have hlt := tb_lt (i := n) (j := nf) (by omega) n1
        have hmx := (gt_mx (by omega) hk).mp hgt
        rw [hfun] at hlt
        rcases hF.2 _ hmx with u | ⟨p0, u1, u2⟩
        · have : tb_P n = ff := funext u
          rw [this] at hlt; omega
        · have := tb_Klt (v := fun p => tb_kd p.val (ff p).val) (v' := fun p => tb_kd p.val (tb_P n p).val) (fun i => tb_kd8 _ _ (ff i).isLt) (fun i => tb_kd8 _ _ (tb_P n i).isLt) p0 (fun i hi => by
            show tb_kd i.val (ff i).val = tb_kd i.val (tb_P n i).val
            rw [u1 i hi]) u2
          omega
      · intro x3 e3
        rw [nI_1] at e3
        subst e3
        exact ih (n + 1) (by omega)
  exact ⟨nf + 1, key nf 0 (by omega)⟩
end
theorem i_vc_partner {k : Nat} {u : SX} {v : SY} (I : i_Rel k u v) (hk : k + 3 ≤ 1536) (v1 : Int32) : wpX_partner (fun r u' => wpY_partner (fun r' => r' = r ∧ i_Rel (k + 3) u' v) v v1) u v1 := by
  refine rl_el (P := fun u v => wpX_partner (fun r u' => wpY_partner (fun r' => r' = r ∧ i_Rel (k + 3) u' v) v v1) u v1) ?_ I
  intro fp fq an am ao af ab aq ai ap a1 fm pa aw ad g hg hT
  unfold wpX_partner
  dsimp only
  rcases ix_8 v1 with h1 | ⟨p, rfl⟩
  · refine xb_bad h1 (br_f (by decide) ?_)
    rcases h1 with h | h
    · exact br_t h ⟨rfl, rl_mk hg hT⟩
    · have := yx_7 h
      exact br_f this.1 (br_f this.2.2 ⟨rfl, rl_mk hg hT⟩)
  · refine xb_ok p (br_t rfl ?_)
    refine px_first hg ?_
    intro ff fp fq am ao af ab aq ai ap a1 hF ha
    refine ⟨vx_in p, ?_⟩
    dsimp only
    rw [vx_cl, ha p]
    exact py_part hg hT hF p ⟨rfl, rl_mk hg hT⟩
end
