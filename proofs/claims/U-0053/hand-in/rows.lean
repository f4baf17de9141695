section
theorem pk_us {f : Nat → Int32} {k : Nat} {x : Int32} : upd f k x k = x := if_pos rfl
theorem pk_un {f : Nat → Int32} {k j : Nat} {x : Int32} (h : j ≠ k) : upd f k x j = f j := if_neg h
theorem pk_sub {a b : Nat} (h : b ≤ a) : nI a - nI b = nI (a - b) := by
  obtain ⟨c, rfl⟩ : ∃ c, a = c + b := ⟨a - b, by omega⟩
  rw [← nI_add, Int32.add_sub_cancel, Nat.add_sub_cancel]
theorem pk_m1 (n : Nat) : nI (n + 1) + (-1) = nI n := by
  rw [← nI_1, Int32.add_assoc, show (1 : Int32) + (-1) = 0 from rfl, Int32.add_zero]
theorem pk_mul (a b : Nat) : nI a * nI b = nI (a * b) := (Int32.ofNat_mul a b).symm
theorem pk_sub_toInt {a b : Nat} (ha : a < 2 ^ 30) (hb : b < 2 ^ 30) : (nI a - nI b).toInt = (a : Int) - b := by
  rw [Int32.toInt_sub, nI_toInt (by omega), nI_toInt (by omega)]
  exact Int.bmod_eq_of_le (by omega) (by omega)
theorem pk_sneg {a b : Nat} (hb : b < 2 ^ 30) (h : a < b) : nI a - nI b < 0 := by
  rw [Int32.lt_iff_toInt_lt, pk_sub_toInt (by omega) hb, show (0 : Int32).toInt = 0 from by decide]
  omega
theorem pk_ix (x : Int32) {n : Nat} (hn : n < 2 ^ 31) : x < 0 ∨ nI n ≤ x ∨ ∃ j : Nat, j < n ∧ x = nI j := by
  by_cases h : x < 0
  · exact Or.inl h
  · obtain ⟨j, hj, rfl⟩ := nI_of h
    by_cases h2 : j < n
    · exact Or.inr (Or.inr ⟨j, h2, rfl⟩)
    · exact Or.inr (Or.inl (nI_le (by omega) hj))
theorem pk_le {x y : Int32} {A B : Prop} (a b : Nat) (f : a ≤ b → A) (g : b < a → B) (hx : x = nI a := by rfl) (hy : y = nI b := by rfl) (ha : a < 2 ^ 31 := by omega) (hb : b < 2 ^ 31 := by omega) : (x ≤ y → A) ∧ (¬ x ≤ y → B) := by
  subst hx hy
  rw [nI_leI ha hb]
  exact ⟨f, fun z => g (by omega)⟩
theorem pk_lt {x y : Int32} {A B : Prop} (a b : Nat) (f : a < b → A) (g : b ≤ a → B) (hx : x = nI a := by rfl) (hy : y = nI b := by rfl) (ha : a < 2 ^ 31 := by omega) (hb : b < 2 ^ 31 := by omega) : (x < y → A) ∧ (¬ x < y → B) := by
  subst hx hy
  rw [nI_ltI ha hb]
  exact ⟨f, fun z => g (by omega)⟩
theorem pk_eq {x y : Int32} {A B : Prop} (a b : Nat) (f : a = b → A) (g : a ≠ b → B) (hx : x = nI a := by rfl) (hy : y = nI b := by rfl) (ha : a < 2 ^ 31 := by omega) (hb : b < 2 ^ 31 := by omega) : (x = y → A) ∧ (¬ x = y → B) := by
  subst hx hy
  rw [nI_eq ha hb]
  exact ⟨f, g⟩
theorem pk_in {x : Int32} (n N : Nat) (h : n < N) (hx : x = nI n := by rfl) (hN : N < 2 ^ 31 := by omega) : vp_in x N := by
  subst hx
  exact vp_in_nI h hN
theorem pk_cl {x : Int32} (n : Nat) (hx : x = nI n := by rfl) (h : n < 2 ^ 31 := by omega) : x.toNatClampNeg = n := by
  subst hx
  exact nI_clamp h
theorem pk_tn {n : Nat} (h : n < 2 ^ 32) : (nI n).toBitVec.toNat = n := Nat.mod_eq_of_lt h
theorem pk_and (x : Int32) {m : Int32} (k : Nat) (hm : m.toBitVec.toNat = 2 ^ k - 1) : x &&& m = nI (x.toBitVec.toNat % 2 ^ k) := by
  apply Int32.toBitVec_inj.mp
  apply BitVec.eq_of_toNat_eq
  rw [Int32.toBitVec_and, BitVec.toNat_and, hm, Nat.and_two_pow_sub_one_eq_mod]
  show _ = (BitVec.ofNat 32 _).toNat
  rw [BitVec.toNat_ofNat]
  exact (Nat.mod_eq_of_lt (Nat.lt_of_le_of_lt (Nat.mod_le _ _) x.toBitVec.isLt)).symm
theorem pk_andE (x : Int32) {m : Int32} (k : Nat) (hm : m.toBitVec.toNat = 2 ^ k - 1) : ∃ j : Nat, j < 2 ^ k ∧ x &&& m = nI j := ⟨_, Nat.mod_lt _ (Nat.two_pow_pos k), pk_and x k hm⟩
theorem pk_andIn (x : Int32) {m : Int32} (k : Nat) (hm : m.toBitVec.toNat = 2 ^ k - 1) (hk : k ≤ 30) : vp_in (x &&& m) (2 ^ k) := by
  obtain ⟨j, hj, e⟩ := pk_andE x k hm
  rw [e]
  exact vp_in_nI hj (Nat.lt_of_le_of_lt (Nat.pow_le_pow_right (by decide) hk) (by decide))
theorem pk_shl (a s : Int32) (k : Nat) (hs : (s.toBitVec.smod 32).toNat = k) : (a <<< s).toBitVec.toNat = a.toBitVec.toNat * 2 ^ k % 2 ^ 32 := by
  show (a.toBitVec <<< (s.toBitVec.smod 32).toNat).toNat = _
  rw [hs, BitVec.toNat_shiftLeft, Nat.shiftLeft_eq]
theorem pk_shlN {n : Nat} (s : Int32) (k : Nat) (hs : (s.toBitVec.smod 32).toNat = k) (h : n * 2 ^ k < 2 ^ 32) : nI n <<< s = nI (n * 2 ^ k) := by
  apply Int32.toBitVec_inj.mp
  apply BitVec.eq_of_toNat_eq
  have hn : n < 2 ^ 32 := Nat.lt_of_le_of_lt (Nat.le_mul_of_pos_right n (Nat.two_pow_pos k)) h
  rw [pk_shl _ _ k hs, pk_tn hn, pk_tn h, Nat.mod_eq_of_lt h]
theorem pk_lT {n : Nat} (h : n < 2 ^ 63) : (lN n).toInt = (n : Int) := lg_ofNat_toInt h
theorem pk_lLT {a b : Nat} (ha : a < 2 ^ 63) (hb : b < 2 ^ 63) : lN a < lN b ↔ a < b := by
  rw [Int64.lt_iff_toInt_lt, pk_lT ha, pk_lT hb]; omega
theorem pk_lLE {a b : Nat} (ha : a < 2 ^ 63) (hb : b < 2 ^ 63) : lN a ≤ lN b ↔ a ≤ b := by
  rw [Int64.le_iff_toInt_le, pk_lT ha, pk_lT hb]; omega
theorem pk_lEQ {a b : Nat} (ha : a < 2 ^ 63) (hb : b < 2 ^ 63) : lN a = lN b ↔ a = b := by
  rw [← Int64.toInt_inj, pk_lT ha, pk_lT hb]; omega
theorem pk_lOf {x : Int64} (h : ¬ x < 0) : ∃ k : Nat, k < 2 ^ 63 ∧ x = lN k := by
  rw [Int64.lt_iff_toInt_lt] at h
  have h0 : (0 : Int64).toInt = 0 := by decide
  have hx := Int64.toInt_lt x
  refine ⟨x.toInt.toNat, by omega, Int64.toInt_inj.mp ?_⟩
  rw [pk_lT (by omega)]
  omega
theorem pk_loop {σ : Type} (W : Nat → Nat → σ → Prop) (I : Nat → σ → Prop) (e i0 : Nat) (s : σ) (hi : i0 ≤ e) (h0 : I i0 s) (hx : ∀ n s, I e s → W (n + 1) e s)
    (hs : ∀ n i s, i < e → I i s → (∀ s', I (i + 1) s' → W n (i + 1) s') → W (n + 1) i s) : ∃ n, W n i0 s :=
  ⟨e + 1, loop_i W I e hx hs (e + 1) i0 s hi (by omega) h0⟩
theorem pk_loopD {σ : Type} (W : Nat → Nat → σ → Prop) (I : Nat → σ → Prop) (hx : ∀ n s, I 0 s → W (n + 1) 0 s)
    (hs : ∀ n i s, I (i + 1) s → (∀ s', I i s' → W n i s') → W (n + 1) (i + 1) s) : ∀ (e : Nat) (s : σ), I e s → W (e + 1) e s := by
  intro e
  induction e with
  | zero => exact fun s h => hx 0 s h
  | succ e ih => exact fun s h => hs (e + 1) e s h (fun s' h' => ih s' h')
theorem pk_least (P : Nat → Prop) (h : ∃ k, P k) : ∃ k, P k ∧ ∀ j, j < k → ¬ P j := by
  obtain ⟨k, hk⟩ := h
  induction k using Nat.strongRecOn with
  | ind k ih =>
    by_cases e : ∃ j, j < k ∧ P j
    · obtain ⟨j, hj, pj⟩ := e
      exact ih j hj pj
    · exact ⟨k, hk, fun j hj pj => e ⟨j, hj, pj⟩⟩
theorem sb_cl0 : (0 : Int32).toNatClampNeg = 0 := by decide
end
section
/-! greedy chunks of a list of entries -/
abbrev ct_E : Type := Int32 × Int32
abbrev ct_N : Type := Int32 → Nat → List ct_E → Prop
def ct_h1 (x : Int32) : Int32 := x ^^^ ((x.toUInt32 >>> ((15 : Int32).toUInt32 &&& Int32.toUInt32 31)).toInt32)
def ct_bd (k : Int32) (lv : Nat) : Bool :=
  decide ((((ct_h1 ((k + (nI lv * (-2048144789))) * (-1640531535)) * 739982445).toUInt32 >>> ((13 : Int32).toUInt32 &&& Int32.toUInt32 31)).toInt32 &&& 3) = 0)
def ct_cut (lv : Nat) (p : List ct_E) (k : Int32) : Bool := decide (6 ≤ p.length) || (decide (2 ≤ p.length) && ct_bd k lv)
def ct_ad (lv : Nat) (s : List (List ct_E) × List ct_E) (e : ct_E) : List (List ct_E) × List ct_E :=
  if ct_cut lv (s.2 ++ [e]) e.1 = true then (s.1 ++ [s.2 ++ [e]], []) else (s.1, s.2 ++ [e])
def ct_go (lv : Nat) (s : List (List ct_E) × List ct_E) (l : List ct_E) : List (List ct_E) × List ct_E := l.foldl (ct_ad lv) s
def ct_gr (lv : Nat) (l : List ct_E) : List (List ct_E) × List ct_E := ct_go lv ([], []) l
def ct_ck (lv : Nat) (l : List ct_E) : List (List ct_E) := if (ct_gr lv l).2 = [] then (ct_gr lv l).1 else (ct_gr lv l).1 ++ [(ct_gr lv l).2]
def ct_cl (lv : Nat) (c : List ct_E) : Prop := ct_gr lv c = ([c], [])
theorem ct_ad_t {lv : Nat} {cs : List (List ct_E)} {p : List ct_E} {e : ct_E} (h : ct_cut lv (p ++ [e]) e.1 = true) : ct_ad lv (cs, p) e = (cs ++ [p ++ [e]], []) := if_pos h
theorem ct_ad_f {lv : Nat} {cs : List (List ct_E)} {p : List ct_E} {e : ct_E} (h : ¬ ct_cut lv (p ++ [e]) e.1 = true) : ct_ad lv (cs, p) e = (cs, p ++ [e]) := if_neg h
theorem ct_go_app (lv : Nat) (s : List (List ct_E) × List ct_E) (a b : List ct_E) : ct_go lv s (a ++ b) = ct_go lv (ct_go lv s a) b := List.foldl_append
theorem ct_go_cons (lv : Nat) (s : List (List ct_E) × List ct_E) (e : ct_E) (b : List ct_E) : ct_go lv s (e :: b) = ct_go lv (ct_ad lv s e) b := rfl
theorem ct_go_pre (lv : Nat) (cs : List (List ct_E)) (l : List ct_E) : ∀ (ds : List (List ct_E)) (p : List ct_E),
    ct_go lv (cs ++ ds, p) l = (cs ++ (ct_go lv (ds, p) l).1, (ct_go lv (ds, p) l).2) := by
  induction l with
  | nil => intro ds p; rfl
  | cons e l ih =>
    intro ds p
    rw [ct_go_cons, ct_go_cons]
    by_cases h : ct_cut lv (p ++ [e]) e.1 = true
    · rw [ct_ad_t h, ct_ad_t h, List.append_assoc]; exact ih _ _
    · rw [ct_ad_f h, ct_ad_f h]; exact ih _ _
theorem ct_gr_app0 {lv : Nat} {a b : List ct_E} (h : (ct_gr lv a).2 = []) : ct_gr lv (a ++ b) = ((ct_gr lv a).1 ++ (ct_gr lv b).1, (ct_gr lv b).2) := by
  unfold ct_gr at *
  rw [ct_go_app]
  generalize ct_go lv ([], []) a = s at *
  obtain ⟨cs, p⟩ := s
  dsimp only at h
  subst h
  have := ct_go_pre lv cs b [] []
  rw [List.append_nil] at this
  exact this
theorem ct_gr_snoc (lv : Nat) (l : List ct_E) (e : ct_E) : ct_gr lv (l ++ [e]) = ct_ad lv (ct_gr lv l) e := by
  unfold ct_gr; rw [ct_go_app]; rfl
theorem ct_gr_nil (lv : Nat) : ct_gr lv [] = ([], []) := rfl
def ct_inv (lv : Nat) (s : List (List ct_E) × List ct_E) : Prop :=
  (∀ c ∈ s.1, ct_cl lv c ∧ 2 ≤ c.length ∧ c.length ≤ 6) ∧ ct_gr lv s.2 = ([], s.2) ∧ s.2.length ≤ 5
theorem ct_inv_ad {lv : Nat} {s : List (List ct_E) × List ct_E} (e : ct_E) (h : ct_inv lv s) : ct_inv lv (ct_ad lv s e) := by
  obtain ⟨cs, p⟩ := s
  obtain ⟨h1, h2, h3⟩ := h
  dsimp only at h1 h2 h3
  have hg : ct_gr lv (p ++ [e]) = ct_ad lv ([], p) e := by rw [ct_gr_snoc, h2]
  by_cases hc : ct_cut lv (p ++ [e]) e.1 = true
  · rw [ct_ad_t hc]
    rw [ct_ad_t hc] at hg
    refine ⟨?_, rfl, by simp⟩
    intro c hm
    rcases List.mem_append.mp hm with hm | hm
    · exact h1 c hm
    · rw [List.mem_singleton] at hm
      subst hm
      refine ⟨hg, ?_, by simp; omega⟩
      unfold ct_cut at hc
      rw [Bool.or_eq_true, Bool.and_eq_true, decide_eq_true_eq, decide_eq_true_eq] at hc
      omega
  · rw [ct_ad_f hc]
    rw [ct_ad_f hc] at hg
    refine ⟨h1, hg, ?_⟩
    unfold ct_cut at hc
    rw [Bool.or_eq_true, decide_eq_true_eq] at hc
    have : ¬ 6 ≤ (p ++ [e]).length := fun z => hc (Or.inl z)
    show (p ++ [e]).length ≤ 5
    omega
theorem ct_inv_go {lv : Nat} (l : List ct_E) : ∀ (s : List (List ct_E) × List ct_E), ct_inv lv s → ct_inv lv (ct_go lv s l) := by
  induction l with
  | nil => exact fun s h => h
  | cons e l ih => exact fun s h => ih _ (ct_inv_ad e h)
theorem ct_inv_gr (lv : Nat) (l : List ct_E) : ct_inv lv (ct_gr lv l) :=
  ct_inv_go l ([], []) ⟨by simp, rfl, by simp⟩
theorem ct_go_flat (lv : Nat) (l : List ct_E) : ∀ (s : List (List ct_E) × List ct_E), (ct_go lv s l).1.flatten ++ (ct_go lv s l).2 = s.1.flatten ++ s.2 ++ l := by
  induction l with
  | nil => intro s; show s.1.flatten ++ s.2 = _; rw [List.append_nil]
  | cons e l ih =>
    intro s
    obtain ⟨cs, p⟩ := s
    rw [ct_go_cons, ih]
    by_cases h : ct_cut lv (p ++ [e]) e.1 = true
    · rw [ct_ad_t h]; simp
    · rw [ct_ad_f h]; simp
theorem ct_gr_flat (lv : Nat) (l : List ct_E) : (ct_gr lv l).1.flatten ++ (ct_gr lv l).2 = l := by
  have := ct_go_flat lv l ([], [])
  unfold ct_gr
  simpa using this
theorem ct_gr_cl {lv : Nat} {cs : List (List ct_E)} (h : ∀ c ∈ cs, ct_cl lv c) : ct_gr lv cs.flatten = (cs, []) := by
  induction cs with
  | nil => rfl
  | cons c cs ih =>
    have hc : ct_gr lv c = ([c], []) := h c (by simp)
    have h2 := ih (fun d hd => h d (by simp [hd]))
    rw [List.flatten_cons, ct_gr_app0 (by rw [hc]), hc, h2]
    rfl
theorem ct_ck_0 {lv : Nat} {l : List ct_E} {cs : List (List ct_E)} (h : ct_gr lv l = (cs, [])) : ct_ck lv l = cs := by
  unfold ct_ck; rw [h]; rfl
theorem ct_ck_1 {lv : Nat} {l p : List ct_E} {cs : List (List ct_E)} (h : ct_gr lv l = (cs, p)) (hp : p ≠ []) : ct_ck lv l = cs ++ [p] := by
  unfold ct_ck; rw [h]; exact if_neg hp
theorem ct_ck_shape (lv : Nat) (l : List ct_E) : ∃ cs p, ct_gr lv l = (cs, p) ∧ (∀ c ∈ cs, ct_cl lv c ∧ 2 ≤ c.length ∧ c.length ≤ 6) ∧ ct_gr lv p = ([], p) ∧ p.length ≤ 5 ∧
    (p = [] ∧ ct_ck lv l = cs ∨ p ≠ [] ∧ ct_ck lv l = cs ++ [p]) := by
  have hi := ct_inv_gr lv l
  generalize hg : ct_gr lv l = s at hi
  obtain ⟨cs, p⟩ := s
  refine ⟨cs, p, rfl, hi.1, hi.2.1, hi.2.2, ?_⟩
  by_cases hp : p = []
  · subst hp; exact Or.inl ⟨rfl, ct_ck_0 hg⟩
  · exact Or.inr ⟨hp, ct_ck_1 hg hp⟩
theorem ct_ck_flat (lv : Nat) (l : List ct_E) : (ct_ck lv l).flatten = l := by
  have hf := ct_gr_flat lv l
  obtain ⟨cs, p, hg, _, _, _, h⟩ := ct_ck_shape lv l
  rw [hg] at hf
  rcases h with ⟨hp, h⟩ | ⟨hp, h⟩
  · rw [h]; subst hp; simpa using hf
  · rw [h]; simpa using hf
theorem ct_ck_nil (lv : Nat) : ct_ck lv [] = [] := rfl
theorem ct_ck_ne {lv : Nat} {l : List ct_E} (h : l ≠ []) : ct_ck lv l ≠ [] := by
  intro z
  have := ct_ck_flat lv l
  rw [z] at this
  exact h this.symm
theorem ct_ck_mem {lv : Nat} {l c : List ct_E} (h : c ∈ ct_ck lv l) : c ≠ [] ∧ c.length ≤ 6 := by
  obtain ⟨cs, p, hg, h1, _, h3, h4⟩ := ct_ck_shape lv l
  have key : ∀ c ∈ cs, c ≠ [] ∧ c.length ≤ 6 := by
    intro c hc
    have := h1 c hc
    exact ⟨by intro z; subst z; simp at this, this.2.2⟩
  rcases h4 with ⟨hp, h4⟩ | ⟨hp, h4⟩
  · rw [h4] at h; exact key c h
  · rw [h4, List.mem_append, List.mem_singleton] at h
    rcases h with h | h
    · exact key c h
    · subst h; exact ⟨hp, by omega⟩
theorem ct_len2 {cs : List (List ct_E)} (h : ∀ c ∈ cs, 2 ≤ c.length) : 2 * cs.length ≤ cs.flatten.length := by
  induction cs with
  | nil => simp
  | cons c cs ih =>
    have := h c (by simp)
    have := ih (fun d hd => h d (by simp [hd]))
    simp only [List.flatten_cons, List.length_append, List.length_cons]
    omega
theorem ct_ck_len (lv : Nat) (l : List ct_E) : 2 * (ct_ck lv l).length ≤ l.length + 1 := by
  have hf := congrArg List.length (ct_gr_flat lv l)
  obtain ⟨cs, p, hg, h1, _, h3, h4⟩ := ct_ck_shape lv l
  rw [hg] at hf
  have := ct_len2 (cs := cs) (fun c hc => (h1 c hc).2.1)
  simp only [List.length_append] at hf
  rcases h4 with ⟨hp, h4⟩ | ⟨hp, h4⟩
  · rw [h4]; omega
  · rw [h4, List.length_append, List.length_singleton]
    have := List.length_pos_iff.mpr hp
    omega
theorem ct_gr_len (lv : Nat) (l : List ct_E) : 2 * (ct_gr lv l).1.length + (ct_gr lv l).2.length ≤ l.length := by
  have hf := congrArg List.length (ct_gr_flat lv l)
  obtain ⟨cs, p, hg, h1, _, h3, h4⟩ := ct_ck_shape lv l
  rw [hg] at hf ⊢
  have := ct_len2 (cs := cs) (fun c hc => (h1 c hc).2.1)
  simp only [List.length_append] at hf ⊢
  omega
theorem ct_ck_app {lv : Nat} {a b : List ct_E} (h : (ct_gr lv a).2 = []) : ct_ck lv (a ++ b) = (ct_gr lv a).1 ++ ct_ck lv b := by
  have hg := ct_gr_app0 (b := b) h
  obtain ⟨cs, p, hb, _, _, _, h4⟩ := ct_ck_shape lv b
  rw [hb] at hg
  rcases h4 with ⟨hp, h4⟩ | ⟨hp, h4⟩
  · subst hp; rw [ct_ck_0 hg, h4]
  · rw [ct_ck_1 hg hp, h4, List.append_assoc]
theorem ct_ck_split {lv : Nat} {l : List ct_E} {cs1 cs2 : List (List ct_E)} (h : ct_ck lv l = cs1 ++ cs2) (h2 : cs2 ≠ []) :
    ct_gr lv cs1.flatten = (cs1, []) ∧ ct_ck lv cs2.flatten = cs2 := by
  obtain ⟨cs, p, hg, hc, hp0, _, h4⟩ := ct_ck_shape lv l
  rcases h4 with ⟨hp, h4⟩ | ⟨hp, h4⟩
  · rw [h4] at h
    subst h
    exact ⟨ct_gr_cl (fun c hm => (hc c (by simp [hm])).1), ct_ck_0 (ct_gr_cl (fun c hm => (hc c (by simp [hm])).1))⟩
  · rw [h4] at h
    obtain ⟨ds, d, rfl⟩ : ∃ ds d, cs2 = ds ++ [d] := ⟨_, _, (List.dropLast_concat_getLast h2).symm⟩
    rw [← List.append_assoc] at h
    obtain ⟨e1, e2⟩ := List.append_inj' h rfl
    have e3 : p = d := by simpa using e2
    subst e1 e3
    refine ⟨ct_gr_cl (fun c hm => (hc c (by simp [hm])).1), ?_⟩
    have a1 : ct_gr lv ds.flatten = (ds, []) := ct_gr_cl (fun c hm => (hc c (by simp [hm])).1)
    rw [List.flatten_append, ct_ck_app (by rw [a1]), a1]
    simp only [List.flatten_cons, List.flatten_nil, List.append_nil]
    rw [ct_ck_1 hp0 hp]
    rfl
theorem ct_ck_single {lv : Nat} {l c : List ct_E} (h : ct_ck lv l = [c]) : l = c := by
  have := ct_ck_flat lv l
  rw [h] at this
  simpa using this.symm
end
section
/-! levels of a tree over a node relation N (id, level, content) -/
def ct_up (N : ct_N) (lv : Nat) : List (List ct_E) → List ct_E → Prop
  | [], [] => True
  | c :: cs, e :: es => N e.2 lv c ∧ (∃ c0 v, c = c0 ++ [(e.1, v)]) ∧ ct_up N lv cs es
  | [], _ :: _ => False
  | _ :: _, [] => False
def ct_fn (N : ct_N) : Prop := ∀ x l c l' c', N x l c → N x l' c' → l = l' ∧ c = c'
def ct_in (N : ct_N) : Prop := ∀ x x' l c, N x l c → N x' l c → x = x'
def ct_kd (N : ct_N) : Prop := ∀ x l c, N x (l + 1) c → ∃ cs, ct_up N l cs c
def ct_nz (N : ct_N) : Prop := ∀ x l c, N x l c → x ≠ 0
theorem ct_up_len {N : ct_N} {lv : Nat} : ∀ {cs : List (List ct_E)} {es : List ct_E}, ct_up N lv cs es → cs.length = es.length
  | [], [], _ => rfl
  | _ :: _, _ :: _, h => by rw [List.length_cons, List.length_cons, ct_up_len h.2.2]
  | [], _ :: _, h => h.elim
  | _ :: _, [], h => h.elim
theorem ct_up_app {N : ct_N} {lv : Nat} : ∀ {cs : List (List ct_E)} {es : List ct_E} {cs2 : List (List ct_E)} {es2 : List ct_E}, ct_up N lv cs es → ct_up N lv cs2 es2 → ct_up N lv (cs ++ cs2) (es ++ es2)
  | [], [], _, _, _, h => h
  | _ :: _, _ :: _, _, _, h, h2 => ⟨h.1, h.2.1, ct_up_app h.2.2 h2⟩
  | [], _ :: _, _, _, h, _ => h.elim
  | _ :: _, [], _, _, h, _ => h.elim
theorem ct_up_inv {N : ct_N} {lv : Nat} : ∀ {es : List ct_E} {cs : List (List ct_E)} {es2 : List ct_E}, ct_up N lv cs (es ++ es2) → ∃ cs1 cs2, cs = cs1 ++ cs2 ∧ ct_up N lv cs1 es ∧ ct_up N lv cs2 es2
  | [], cs, _, h => ⟨[], cs, rfl, trivial, h⟩
  | _ :: _, c :: cs, _, h => by
    obtain ⟨cs1, cs2, e, h1, h2⟩ := ct_up_inv h.2.2
    exact ⟨c :: cs1, cs2, by rw [e]; rfl, ⟨h.1, h.2.1, h1⟩, h2⟩
  | _ :: _, [], _, h => h.elim
theorem ct_up_cons {N : ct_N} {lv : Nat} {e : ct_E} {es : List ct_E} : ∀ {cs : List (List ct_E)}, ct_up N lv cs (e :: es) → ∃ c cs', cs = c :: cs' ∧ N e.2 lv c ∧ (∃ c0 v, c = c0 ++ [(e.1, v)]) ∧ ct_up N lv cs' es
  | [], h => h.elim
  | c :: cs, h => ⟨c, cs, rfl, h⟩
theorem ct_up_nil {N : ct_N} {lv : Nat} : ∀ {cs : List (List ct_E)}, ct_up N lv cs [] → cs = []
  | [], _ => rfl
  | _ :: _, h => h.elim
theorem ct_up_nil' {N : ct_N} {lv : Nat} : ∀ {es : List ct_E}, ct_up N lv [] es → es = []
  | [], _ => rfl
  | _ :: _, h => h.elim
theorem ct_up_of {N N' : ct_N} {lv : Nat} : ∀ {cs : List (List ct_E)} {es : List ct_E}, ct_up N lv cs es → (∀ e ∈ es, ∀ c, N e.2 lv c → N' e.2 lv c) → ct_up N' lv cs es
  | [], [], _, _ => trivial
  | _ :: _, e :: _, h, g => ⟨g e (by simp) _ h.1, h.2.1, ct_up_of h.2.2 (fun e' he' => g e' (by simp [he']))⟩
  | [], _ :: _, h, _ => h.elim
  | _ :: _, [], h, _ => h.elim
theorem ct_up_fn {N : ct_N} {lv : Nat} (hf : ct_fn N) : ∀ {cs cs' : List (List ct_E)} {es : List ct_E}, ct_up N lv cs es → ct_up N lv cs' es → cs = cs'
  | [], [], [], _, _ => rfl
  | _ :: _, _ :: _, _ :: _, h, g => by rw [(hf _ _ _ _ _ h.1 g.1).2, ct_up_fn hf h.2.2 g.2.2]
  | [], _ :: _, [], _, g => g.elim
  | [], _, _ :: _, h, _ => h.elim
  | _ :: _, _, [], h, _ => h.elim
  | _ :: _, [], _ :: _, _, g => g.elim
theorem ct_up_in {N : ct_N} {lv : Nat} (hi : ct_in N) : ∀ {cs : List (List ct_E)} {es es' : List ct_E}, ct_up N lv cs es → ct_up N lv cs es' → es = es'
  | [], [], [], _, _ => rfl
  | _ :: _, e :: _, e' :: _, h, g => by
    have h2 : e.2 = e'.2 := hi _ _ _ _ h.1 g.1
    obtain ⟨c0, v, h3⟩ := h.2.1
    obtain ⟨c1, w, h4⟩ := g.2.1
    have h5 := (List.append_inj' (h3.symm.trans h4) rfl).2
    have h6 : e.1 = e'.1 := by simp at h5; exact h5.1
    rw [Prod.ext h6 h2, ct_up_in hi h.2.2 g.2.2]
  | [], [], _ :: _, _, g => g.elim
  | [], _ :: _, _, h, _ => h.elim
  | _ :: _, [], _, h, _ => h.elim
  | _ :: _, _ :: _, [], _, g => g.elim
theorem ct_up_mem {N : ct_N} {lv : Nat} : ∀ {cs : List (List ct_E)} {es : List ct_E} {e : ct_E}, ct_up N lv cs es → e ∈ es → ∃ c ∈ cs, N e.2 lv c ∧ ∃ c0 v, c = c0 ++ [(e.1, v)]
  | [], [], _, _, m => by simp at m
  | c :: _, a :: _, e, h, m => by
    rcases List.mem_cons.mp m with m | m
    · subst m; exact ⟨c, by simp, h.1, h.2.1⟩
    · obtain ⟨d, hd, h2⟩ := ct_up_mem h.2.2 m
      exact ⟨d, by simp [hd], h2⟩
  | [], _ :: _, _, h, _ => h.elim
  | _ :: _, [], _, h, _ => h.elim
theorem ct_up_mem' {N : ct_N} {lv : Nat} : ∀ {cs : List (List ct_E)} {es : List ct_E} {c : List ct_E}, ct_up N lv cs es → c ∈ cs → ∃ e ∈ es, N e.2 lv c ∧ ∃ c0 v, c = c0 ++ [(e.1, v)]
  | [], [], _, _, m => by simp at m
  | _ :: _, a :: _, c, h, m => by
    rcases List.mem_cons.mp m with m | m
    · subst m; exact ⟨a, by simp, h.1, h.2.1⟩
    · obtain ⟨d, hd, h2⟩ := ct_up_mem' h.2.2 m
      exact ⟨d, by simp [hd], h2⟩
  | [], _ :: _, _, h, _ => h.elim
  | _ :: _, [], _, h, _ => h.elim
def ct_chn (N : ct_N) (Es : Nat → List ct_E) (h : Nat) : Prop := ∀ j, j < h → ct_up N j (ct_ck j (Es j)) (Es (j + 1))
def ct_tree (N : ct_N) (m : List ct_E) (r : Int32) (Es : Nat → List ct_E) (h : Nat) : Prop :=
  1 ≤ h ∧ Es 0 = m ∧ m ≠ [] ∧ ct_chn N Es h ∧ (∃ k, Es h = [(k, r)]) ∧ ∀ j, 0 < j → j < h → 1 < (Es j).length
def ct_rep (N : ct_N) (m : List ct_E) (r : Int32) : Prop := (m = [] ∧ r = 0) ∨ ∃ Es h, ct_tree N m r Es h
theorem ct_chn_len {N : ct_N} {Es : Nat → List ct_E} {h j : Nat} (H : ct_chn N Es h) (hj : j < h) : 2 * (Es (j + 1)).length ≤ (Es j).length + 1 := by
  have h1 := ct_up_len (H j hj)
  have h2 := ct_ck_len j (Es j)
  omega
theorem ct_chn_ne {N : ct_N} {Es : Nat → List ct_E} {h j : Nat} (H : ct_chn N Es h) (hj : j < h) (hn : Es j ≠ []) : Es (j + 1) ≠ [] := by
  have h1 := ct_up_len (H j hj)
  have h2 := List.length_pos_iff.mpr (ct_ck_ne (lv := j) hn)
  exact List.length_pos_iff.mp (by omega)
theorem ct_tree_top {N : ct_N} {m : List ct_E} {r : Int32} {Es : Nat → List ct_E} {h : Nat} (H : ct_tree N m r Es h) : N r (h - 1) (Es (h - 1)) := by
  obtain ⟨h1, h2, h3, h4, ⟨k, h5⟩, h6⟩ := H
  have h7 := h4 (h - 1) (by omega)
  rw [show h - 1 + 1 = h by omega, h5] at h7
  obtain ⟨c, cs', e1, e2, _, e3⟩ := ct_up_cons h7
  have e4 := ct_up_nil e3
  subst e4
  have := ct_ck_single e1
  rw [this]
  exact e2
theorem ct_tree_5 {N : ct_N} {m : List ct_E} {r : Int32} {Es : Nat → List ct_E} {h : Nat} (H : ct_tree N m r Es h) (hm : m.length ≤ 32) : h ≤ 5 := by
  obtain ⟨h1, h2, h3, h4, h5, h6⟩ := H
  apply Classical.byContradiction
  intro z
  have a0 := ct_chn_len h4 (j := 0) (by omega)
  have a1 := ct_chn_len h4 (j := 1) (by omega)
  have a2 := ct_chn_len h4 (j := 2) (by omega)
  have a3 := ct_chn_len h4 (j := 3) (by omega)
  have a4 := ct_chn_len h4 (j := 4) (by omega)
  have a5 := h6 5 (by omega) (by omega)
  rw [h2] at a0
  simp only [Nat.zero_add, Nat.reduceAdd] at a0 a1 a2 a3 a4
  omega
theorem ct_rep_uniq {N : ct_N} (hi : ct_in N) {m : List ct_E} {r r' : Int32} (H : ct_rep N m r) (H' : ct_rep N m r') : r = r' := by
  rcases H with ⟨a, b⟩ | ⟨Es, h, h1, h2, h3, h4, ⟨k, h5⟩, h6⟩
  · rcases H' with ⟨a', b'⟩ | ⟨Es', h', g1, g2, g3, g4, ⟨k', g5⟩, g6⟩
    · rw [b, b']
    · exact absurd a g3
  · rcases H' with ⟨a', b'⟩ | ⟨Es', h', g1, g2, g3, g4, ⟨k', g5⟩, g6⟩
    · exact absurd a' h3
    · have key : ∀ j, j ≤ h → j ≤ h' → Es j = Es' j := by
        intro j
        induction j with
        | zero => intro _ _; rw [h2, g2]
        | succ j ih =>
          intro a b
          have e := ih (by omega) (by omega)
          have u1 := h4 j (by omega)
          have u2 := g4 j (by omega)
          rw [e] at u1
          exact ct_up_in hi u1 u2
      have hh : h = h' := by
        apply Classical.byContradiction
        intro z
        by_cases q : h < h'
        · have := g6 h (by omega) q
          rw [← key h (by omega) (by omega), h5] at this
          simp at this
        · have := h6 h' (by omega) (by omega)
          rw [key h' (by omega) (by omega), g5] at this
          simp at this
      subst hh
      have e := key h (by omega) (by omega)
      rw [h5, g5] at e
      simp at e
      exact e.2
theorem ct_rep_inv {N : ct_N} (hf : ct_fn N) (hz : ct_nz N) {m m' : List ct_E} {r : Int32} (H : ct_rep N m r) (H' : ct_rep N m' r) : m = m' := by
  rcases H with ⟨a, b⟩ | ⟨Es, h, T⟩
  · rcases H' with ⟨a', b'⟩ | ⟨Es', h', T'⟩
    · rw [a, a']
    · exact absurd b (hz _ _ _ (ct_tree_top T'))
  · rcases H' with ⟨a', b'⟩ | ⟨Es', h', T'⟩
    · exact absurd b' (hz _ _ _ (ct_tree_top T))
    · obtain ⟨e1, e2⟩ := hf _ _ _ _ _ (ct_tree_top T) (ct_tree_top T')
      obtain ⟨h1, h2, h3, h4, h5, h6⟩ := T
      obtain ⟨g1, g2, g3, g4, g5, g6⟩ := T'
      have hh : h = h' := by omega
      subst hh
      have key : ∀ d, d ≤ h - 1 → Es (h - 1 - d) = Es' (h - 1 - d) := by
        intro d
        induction d with
        | zero => intro _; exact e2
        | succ d ih =>
          intro hd
          have e := ih (by omega)
          have u1 := h4 (h - 1 - (d + 1)) (by omega)
          have u2 := g4 (h - 1 - (d + 1)) (by omega)
          rw [show h - 1 - (d + 1) + 1 = h - 1 - d by omega] at u1 u2
          rw [e] at u1
          have := congrArg List.flatten (ct_up_fn hf u1 u2)
          rw [ct_ck_flat, ct_ck_flat] at this
          exact this
      have := key (h - 1) (by omega)
      rw [show h - 1 - (h - 1) = 0 by omega, h2, g2] at this
      exact this
theorem ct_rep_nodes {N : ct_N} (hf : ct_fn N) {m : List ct_E} {r : Int32} (H : ct_rep N m r) (hm : m.length ≤ 32) :
    ∃ Ls : List Int32, Ls.length ≤ 31 ∧ (r = 0 ∨ r ∈ Ls) ∧ ∀ x ∈ Ls, ∀ l c, N x (l + 1) c → ∀ e ∈ c, e.2 ∈ Ls := by
  rcases H with ⟨a, b⟩ | ⟨Es, h, T⟩
  · exact ⟨[], by simp, Or.inl b, by simp⟩
  · have h5 := ct_tree_5 T hm
    obtain ⟨h1, h2, h3, h4, ⟨k, hk⟩, h6⟩ := T
    have hin : ∀ x, x ∈ (List.range' 1 h).flatMap (fun j => (Es j).map (·.2)) ↔ ∃ j, 1 ≤ j ∧ j ≤ h ∧ ∃ e ∈ Es j, e.2 = x := by
      intro x
      rw [List.mem_flatMap]
      constructor
      · rintro ⟨j, hj, hx⟩
        rw [List.mem_range'_1] at hj
        rw [List.mem_map] at hx
        exact ⟨j, by omega, by omega, hx⟩
      · rintro ⟨j, a, b, hx⟩
        exact ⟨j, List.mem_range'_1.mpr (by omega), List.mem_map.mpr hx⟩
    refine ⟨(List.range' 1 h).flatMap (fun j => (Es j).map (·.2)), ?_, Or.inr ((hin r).mpr ⟨h, h1, Nat.le_refl h, (k, r), by rw [hk]; simp, rfl⟩), ?_⟩
    · have a0 := fun z => ct_chn_len h4 (j := 0) z
      have a1 := fun z => ct_chn_len h4 (j := 1) z
      have a2 := fun z => ct_chn_len h4 (j := 2) z
      have a3 := fun z => ct_chn_len h4 (j := 3) z
      have a4 := fun z => ct_chn_len h4 (j := 4) z
      rw [h2] at a0
      simp only [Nat.zero_add, Nat.reduceAdd] at a0 a1 a2 a3 a4
      have hc : h = 1 ∨ h = 2 ∨ h = 3 ∨ h = 4 ∨ h = 5 := by omega
      rcases hc with hc | hc | hc | hc | hc <;> subst hc <;> simp [List.range'] <;> omega
    · intro x hx l c hn e he
      obtain ⟨j, j1, j2, e', he', ex⟩ := (hin x).mp hx
      have u := h4 (j - 1) (by omega)
      rw [show j - 1 + 1 = j by omega] at u
      obtain ⟨c', hc', hn', _⟩ := ct_up_mem u he'
      rw [ex] at hn'
      obtain ⟨e1, e2⟩ := hf _ _ _ _ _ hn hn'
      refine (hin e.2).mpr ⟨j - 1, by omega, by omega, e, ?_, rfl⟩
      have := ct_ck_flat (j - 1) (Es (j - 1))
      rw [← this, List.mem_flatten]
      exact ⟨c', hc', by rw [← e2]; exact he⟩
theorem ct_rep_mono {N N' : ct_N} (hs : ∀ x l c, N x l c → N' x l c) {m : List ct_E} {r : Int32} (H : ct_rep N m r) : ct_rep N' m r := by
  rcases H with H | ⟨Es, h, h1, h2, h3, h4, h5, h6⟩
  · exact Or.inl H
  · exact Or.inr ⟨Es, h, h1, h2, h3, fun j hj => ct_up_of (h4 j hj) (fun e _ c hc => hs _ _ _ hc), h5, h6⟩
theorem ct_rep_sub {N N' : ct_N} (hs : ∀ x l c, N' x l c → N x l c) (hf : ct_fn N) (hk : ct_kd N') {m : List ct_E} {r : Int32} (H : ct_rep N m r)
    (hr : r = 0 ∨ ∃ l c, N' r l c) (hz : ct_nz N) : ct_rep N' m r := by
  rcases H with H | ⟨Es, h, T⟩
  · exact Or.inl H
  · have ht := ct_tree_top T
    have hr2 : ∃ l c, N' r l c := by
      rcases hr with z | z
      · exact absurd z (hz _ _ _ ht)
      · exact z
    obtain ⟨l0, c0, hr3⟩ := hr2
    obtain ⟨h1, h2, h3, h4, ⟨k, h5⟩, h6⟩ := T
    have e0 := hf _ _ _ _ _ ht (hs _ _ _ hr3)
    have key : ∀ d, d + 1 ≤ h → ∀ e ∈ Es (h - d), ∃ c, N' e.2 (h - d - 1) c := by
      intro d
      induction d with
      | zero =>
        intro _ e he
        rw [Nat.sub_zero, h5, List.mem_singleton] at he
        subst he
        exact ⟨c0, by rw [Nat.sub_zero, e0.1]; exact hr3⟩
      | succ d ih =>
        intro hd e he
        have u := h4 (h - (d + 1)) (by omega)
        rw [show h - (d + 1) + 1 = h - d by omega] at u
        rw [← ct_ck_flat (h - (d + 1)) (Es (h - (d + 1))), List.mem_flatten] at he
        obtain ⟨c, hc, he⟩ := he
        obtain ⟨e', he', hn, _⟩ := ct_up_mem' u hc
        obtain ⟨c', hn'⟩ := ih (by omega) e' he'
        rw [show h - d - 1 = h - (d + 1) by omega] at hn'
        obtain ⟨_, ec⟩ := hf _ _ _ _ _ hn (hs _ _ _ hn')
        rw [show h - (d + 1) = h - (d + 1) - 1 + 1 by omega, ← ec] at hn'
        obtain ⟨ks, hks⟩ := hk _ _ _ hn'
        obtain ⟨c2, _, hc2, _⟩ := ct_up_mem hks he
        exact ⟨c2, hc2⟩
    refine Or.inr ⟨Es, h, h1, h2, h3, fun j hj => ct_up_of (h4 j hj) (fun e he c hc => ?_), ⟨k, h5⟩, h6⟩
    obtain ⟨c', hc'⟩ := key (h - (j + 1)) (by omega) e (by rw [show h - (h - (j + 1)) = j + 1 by omega]; exact he)
    rw [show h - (h - (j + 1)) - 1 = j by omega] at hc'
    rw [(hf _ _ _ _ _ hc (hs _ _ _ hc')).2]
    exact hc'
end
section
/-! sorted lists of keyed entries; look-ups; a range replaced -/
def ct_srt {β : Type} (l : List (Int32 × β)) : Prop := l.Pairwise (fun a b => a.1 < b.1)
theorem ct_srt_nodup {β : Type} {l : List (Int32 × β)} (h : ct_srt l) : l.Nodup :=
  List.Pairwise.imp (fun {a b} hab => by intro z; subst z; exact Int32.lt_irrefl hab) h
theorem ct_srt_ext {β : Type} {l l' : List (Int32 × β)} (h : ct_srt l) (h' : ct_srt l') (e : ∀ x, x ∈ l ↔ x ∈ l') : l = l' :=
  List.Perm.eq_of_pairwise (le := fun a b : Int32 × β => a.1 < b.1) (fun _ _ _ _ h1 h2 => absurd h2 (Int32.lt_asymm h1)) h h'
    ((List.perm_ext_iff_of_nodup (ct_srt_nodup h) (ct_srt_nodup h')).mpr e)
theorem ct_srt_key {β : Type} {l : List (Int32 × β)} (h : ct_srt l) {a b : Int32 × β} (ha : a ∈ l) (hb : b ∈ l) (e : a.1 = b.1) : a = b := by
  induction l with
  | nil => simp at ha
  | cons c l ih =>
    have h1 := List.pairwise_cons.mp h
    rcases List.mem_cons.mp ha with ha1 | ha1
    · rcases List.mem_cons.mp hb with hb1 | hb1
      · rw [ha1, hb1]
      · have := h1.1 b hb1
        rw [← ha1, e] at this
        exact absurd this Int32.lt_irrefl
    · rcases List.mem_cons.mp hb with hb1 | hb1
      · have := h1.1 a ha1
        rw [← hb1, e] at this
        exact absurd this Int32.lt_irrefl
      · exact ih h1.2 ha1 hb1
def ct_get : List ct_E → Int32 → Int32
  | [], _ => 0
  | e :: m, k => if e.1 = k then e.2 else ct_get m k
theorem ct_get_none {m : List ct_E} {k : Int32} (h : ∀ e ∈ m, e.1 ≠ k) : ct_get m k = 0 := by
  induction m with
  | nil => rfl
  | cons e m ih =>
    show (if e.1 = k then e.2 else ct_get m k) = 0
    rw [if_neg (h e (by simp))]
    exact ih (fun a ha => h a (by simp [ha]))
theorem ct_get_app {a b : List ct_E} {k : Int32} (h : ∀ e ∈ a, e.1 ≠ k) : ct_get (a ++ b) k = ct_get b k := by
  induction a with
  | nil => rfl
  | cons e m ih =>
    show (if e.1 = k then e.2 else ct_get (m ++ b) k) = _
    rw [if_neg (h e (by simp))]
    exact ih (fun a ha => h a (by simp [ha]))
theorem ct_get_app' {a b : List ct_E} {k : Int32} (h : ∀ e ∈ b, e.1 ≠ k) : ct_get (a ++ b) k = ct_get a k := by
  induction a with
  | nil => exact ct_get_none h
  | cons e m ih =>
    show (if e.1 = k then e.2 else ct_get (m ++ b) k) = (if e.1 = k then e.2 else ct_get m k)
    rw [ih]
theorem ct_get_cons {m : List ct_E} {e : ct_E} {k : Int32} (h : e.1 = k) : ct_get (e :: m) k = e.2 := if_pos h
theorem ct_get_cons' {m : List ct_E} {e : ct_E} {k : Int32} (h : e.1 ≠ k) : ct_get (e :: m) k = ct_get m k := if_neg h
theorem ct_get_mem {m : List ct_E} (h : ct_srt m) {k v : Int32} (hm : (k, v) ∈ m) : ct_get m k = v := by
  induction m with
  | nil => simp at hm
  | cons e m ih =>
    have h1 := List.pairwise_cons.mp h
    rcases List.mem_cons.mp hm with hm | hm
    · subst hm; exact if_pos rfl
    · have h2 := h1.1 _ hm
      rw [ct_get_cons' (Int32.ne_of_lt h2)]
      exact ih h1.2 hm
theorem ct_mem_get {m : List ct_E} {k : Int32} (h : ct_get m k ≠ 0) : (k, ct_get m k) ∈ m := by
  induction m with
  | nil => exact absurd rfl h
  | cons e m ih =>
    by_cases he : e.1 = k
    · rw [ct_get_cons he]
      subst he
      simp
    · rw [ct_get_cons' he] at h ⊢
      exact List.mem_cons_of_mem _ (ih h)
def ct_map (m : List ct_E) : Prop := ct_srt m ∧ ∀ e ∈ m, 0 ≤ e.1 ∧ 0 < e.2
theorem ct_map_nz {m : List ct_E} (h : ct_map m) {e : ct_E} (he : e ∈ m) : e.2 ≠ 0 := fun z => by
  have := (h.2 e he).2
  rw [z] at this
  exact Int32.lt_irrefl this
theorem ct_map_mem {m : List ct_E} (h : ct_map m) {k v : Int32} : (k, v) ∈ m ↔ v ≠ 0 ∧ ct_get m k = v := by
  constructor
  · exact fun hm => ⟨ct_map_nz h hm, ct_get_mem h.1 hm⟩
  · rintro ⟨a, b⟩
    have := ct_mem_get (m := m) (k := k) (by rw [b]; exact a)
    rw [b] at this
    exact this
theorem ct_map_ext {m m' : List ct_E} (h : ct_map m) (h' : ct_map m') (e : ∀ k, ct_get m k = ct_get m' k) : m = m' :=
  ct_srt_ext h.1 h'.1 (fun x => by obtain ⟨k, v⟩ := x; rw [ct_map_mem h, ct_map_mem h', e])
theorem ct_get_nn {m : List ct_E} (h : ct_map m) (k : Int32) : 0 ≤ ct_get m k := by
  by_cases z : ct_get m k = 0
  · rw [z]; exact Int32.le_refl 0
  · exact Int32.le_of_lt (h.2 _ (ct_mem_get z)).2
theorem ct_get_neg {m : List ct_E} (h : ct_map m) {k : Int32} (hk : k < 0) : ct_get m k = 0 := by
  apply ct_get_none
  intro e he z
  have := (h.2 e he).1
  rw [z] at this
  exact Int32.not_le.mpr hk this
theorem ct_map_nil : ct_map [] := ⟨List.Pairwise.nil, by simp⟩
/-- low .. high replaced by I -/
def ct_rng (m : List ct_E) (lo hi : Int32) (I : List ct_E) : List ct_E := m.filter (fun e => decide (e.1 < lo)) ++ I ++ m.filter (fun e => decide (hi < e.1))
theorem ct_rng_map {m : List ct_E} {lo hi : Int32} {I : List ct_E} (h : ct_map m) (hI : ct_map I) (hk : ∀ e ∈ I, lo ≤ e.1 ∧ e.1 ≤ hi) (hlh : lo ≤ hi) : ct_map (ct_rng m lo hi I) := by
  refine ⟨?_, ?_⟩
  · unfold ct_srt ct_rng
    rw [List.pairwise_append, List.pairwise_append]
    refine ⟨⟨h.1.filter _, hI.1, ?_⟩, h.1.filter _, ?_⟩
    · intro a ha b hb
      rw [List.mem_filter, decide_eq_true_eq] at ha
      exact Int32.lt_of_lt_of_le ha.2 (hk b hb).1
    · intro a ha b hb
      rw [List.mem_filter, decide_eq_true_eq] at hb
      rcases List.mem_append.mp ha with ha | ha
      · rw [List.mem_filter, decide_eq_true_eq] at ha
        exact Int32.lt_trans (Int32.lt_of_lt_of_le ha.2 hlh) hb.2
      · exact Int32.lt_of_le_of_lt (hk a ha).2 hb.2
  · intro e he
    unfold ct_rng at he
    rcases List.mem_append.mp he with he | he
    · rcases List.mem_append.mp he with he | he
      · exact h.2 e (List.mem_filter.mp he).1
      · exact hI.2 e he
    · exact h.2 e (List.mem_filter.mp he).1
theorem ct_get_filter {m : List ct_E} {k : Int32} {p : ct_E → Bool} (h : ∀ v, p (k, v) = true) : ct_get (m.filter p) k = ct_get m k := by
  induction m with
  | nil => rfl
  | cons e m ih =>
    obtain ⟨a, v⟩ := e
    by_cases ha : a = k
    · subst ha
      rw [List.filter_cons_of_pos (h v), ct_get_cons rfl, ct_get_cons rfl]
    · rw [ct_get_cons' (e := (a, v)) ha]
      by_cases hp : p (a, v) = true
      · rw [List.filter_cons_of_pos hp, ct_get_cons' (e := (a, v)) ha, ih]
      · rw [List.filter_cons_of_neg hp, ih]
theorem ct_get_filter0 {m : List ct_E} {k : Int32} {p : ct_E → Bool} (h : ∀ v, ¬ p (k, v) = true) : ct_get (m.filter p) k = 0 := by
  apply ct_get_none
  intro e he z
  obtain ⟨a, v⟩ := e
  rw [List.mem_filter] at he
  dsimp only at z
  subst z
  exact h v he.2
theorem ct_rng_get {m : List ct_E} {lo hi : Int32} {I : List ct_E} (hk : ∀ e ∈ I, lo ≤ e.1 ∧ e.1 ≤ hi) (hlh : lo ≤ hi) (k : Int32) :
    ct_get (ct_rng m lo hi I) k = if lo ≤ k ∧ k ≤ hi then ct_get I k else ct_get m k := by
  unfold ct_rng
  by_cases c1 : k < lo
  · have n : ¬ (lo ≤ k ∧ k ≤ hi) := fun z => Int32.not_le.mpr c1 z.1
    rw [if_neg n, List.append_assoc, ct_get_app', ct_get_filter]
    · intro v; exact decide_eq_true c1
    · intro e he z
      rcases List.mem_append.mp he with he | he
      · have := (hk e he).1
        rw [z] at this
        exact Int32.not_le.mpr c1 this
      · rw [List.mem_filter, decide_eq_true_eq] at he
        have := he.2
        rw [z] at this
        exact Int32.lt_asymm (Int32.lt_of_lt_of_le c1 hlh) this
  · have c1' := Int32.not_lt.mp c1
    by_cases c2 : hi < k
    · have n : ¬ (lo ≤ k ∧ k ≤ hi) := fun z => Int32.not_le.mpr c2 z.2
      rw [if_neg n, ct_get_app, ct_get_filter]
      · intro v; exact decide_eq_true c2
      · intro e he z
        rcases List.mem_append.mp he with he | he
        · rw [List.mem_filter, decide_eq_true_eq, z] at he
          exact c1 he.2
        · have := (hk e he).2
          rw [z] at this
          exact Int32.not_le.mpr c2 this
    · rw [if_pos ⟨c1', Int32.not_lt.mp c2⟩, List.append_assoc, ct_get_app, ct_get_app']
      · intro e he z
        rw [List.mem_filter, decide_eq_true_eq, z] at he
        exact c2 he.2
      · intro e he z
        rw [List.mem_filter, decide_eq_true_eq, z] at he
        exact c1 he.2
def ct_one (k v : Int32) : List ct_E := if v = 0 then [] else [(k, v)]
theorem ct_one_map {k v : Int32} (hk : 0 ≤ k) (hv : 0 ≤ v) : ct_map (ct_one k v) ∧ ∀ e ∈ ct_one k v, k ≤ e.1 ∧ e.1 ≤ k := by
  unfold ct_one
  by_cases z : v = 0
  · rw [if_pos z]; exact ⟨ct_map_nil, by simp⟩
  · rw [if_neg z]
    refine ⟨⟨List.pairwise_singleton _ _, ?_⟩, ?_⟩
    · intro e he
      rw [List.mem_singleton] at he
      subst he
      exact ⟨hk, Int32.lt_of_le_of_ne hv (Ne.symm z)⟩
    · intro e he
      rw [List.mem_singleton] at he
      subst he
      exact ⟨Int32.le_refl _, Int32.le_refl _⟩
theorem ct_one_get (k v : Int32) : ct_get (ct_one k v) k = v := by
  unfold ct_one
  by_cases z : v = 0
  · rw [if_pos z, z]; rfl
  · rw [if_neg z]; exact if_pos rfl
def ct_set (m : List ct_E) (k v : Int32) : List ct_E := ct_rng m k k (ct_one k v)
theorem ct_set_map {m : List ct_E} {k v : Int32} (h : ct_map m) (hk : 0 ≤ k) (hv : 0 ≤ v) : ct_map (ct_set m k v) :=
  ct_rng_map h (ct_one_map hk hv).1 (ct_one_map hk hv).2 (Int32.le_refl k)
theorem ct_set_get {m : List ct_E} {k v : Int32} (hk : 0 ≤ k) (hv : 0 ≤ v) (j : Int32) : ct_get (ct_set m k v) j = if j = k then v else ct_get m j := by
  unfold ct_set
  rw [ct_rng_get (ct_one_map hk hv).2 (Int32.le_refl k)]
  by_cases e : j = k
  · subst e
    rw [if_pos ⟨Int32.le_refl j, Int32.le_refl j⟩, if_pos rfl, ct_one_get]
  · rw [if_neg e, if_neg (fun z => e (Int32.le_antisymm z.2 z.1))]
theorem ct_set_same {m : List ct_E} {k v : Int32} (h : ct_map m) (hk : 0 ≤ k) (hv : 0 ≤ v) (e : ct_get m k = v) : ct_set m k v = m := by
  apply ct_map_ext (ct_set_map h hk hv) h
  intro j
  rw [ct_set_get hk hv]
  by_cases q : j = k
  · rw [if_pos q, q, e]
  · rw [if_neg q]
/-- the first entry above b -/
def ct_si (b : Int32) (c : List ct_E) : Nat := c.findIdx (fun e => decide (b < e.1))
theorem ct_si_le (b : Int32) (c : List ct_E) : ct_si b c ≤ c.length := List.findIdx_le_length
theorem ct_si_cons (b : Int32) (e : ct_E) (c : List ct_E) : ct_si b (e :: c) = if b < e.1 then 0 else ct_si b c + 1 := by
  unfold ct_si
  rw [List.findIdx_cons]
  by_cases h : b < e.1
  · rw [if_pos h, decide_eq_true h]; rfl
  · rw [if_neg h, decide_eq_false h]; rfl
theorem ct_si_take (b : Int32) (c : List ct_E) : ∀ e ∈ c.take (ct_si b c), e.1 ≤ b := by
  induction c with
  | nil => simp
  | cons a c ih =>
    intro e he
    rw [ct_si_cons] at he
    by_cases h : b < a.1
    · rw [if_pos h] at he; simp at he
    · rw [if_neg h, List.take_succ_cons] at he
      rcases List.mem_cons.mp he with he | he
      · subst he; exact Int32.not_lt.mp h
      · exact ih e he
theorem ct_si_drop {b : Int32} {c : List ct_E} (hs : ct_srt c) : ∀ e ∈ c.drop (ct_si b c), b < e.1 := by
  induction c with
  | nil => simp
  | cons a c ih =>
    intro e he
    have h1 := List.pairwise_cons.mp hs
    rw [ct_si_cons] at he
    by_cases h : b < a.1
    · rw [if_pos h, List.drop_zero] at he
      rcases List.mem_cons.mp he with he | he
      · subst he; exact h
      · exact Int32.lt_trans h (h1.1 e he)
    · rw [if_neg h, List.drop_succ_cons] at he
      exact ih h1.2 e he
theorem ct_filter_split {P R : List ct_E} {b : Int32} (hP : ∀ e ∈ P, e.1 ≤ b) (hR : ∀ e ∈ R, b < e.1) :
    (P ++ R).filter (fun e => decide (b < e.1)) = R ∧ (P ++ R).filter (fun e => decide (e.1 ≤ b)) = P := by
  constructor
  · rw [List.filter_append, List.filter_eq_nil_iff.mpr, List.filter_eq_self.mpr]
    · rfl
    · intro e he; exact decide_eq_true (hR e he)
    · intro e he; rw [decide_eq_true_eq]; exact Int32.not_lt.mpr (hP e he)
  · rw [List.filter_append, List.filter_eq_self.mpr, List.filter_eq_nil_iff.mpr]
    · exact List.append_nil P
    · intro e he; rw [decide_eq_true_eq]; exact Int32.not_le.mpr (hR e he)
    · intro e he; exact decide_eq_true (hP e he)
end
section
/-! sorted levels, flattening, positions of a bound -/
theorem ct_last_le {c c0 : List ct_E} {k v : Int32} (hs : ct_srt c) (hc : c = c0 ++ [(k, v)]) : ∀ a ∈ c, a.1 ≤ k := by
  intro a ha
  subst hc
  rcases List.mem_append.mp ha with ha | ha
  · exact Int32.le_of_lt ((List.pairwise_append.mp hs).2.2 a ha (k, v) (by simp))
  · rw [List.mem_singleton] at ha
    subst ha
    exact Int32.le_refl _
theorem ct_up_srt {N : ct_N} {lv : Nat} : ∀ {cs : List (List ct_E)} {es : List ct_E}, ct_srt cs.flatten → ct_up N lv cs es → ct_srt es
  | [], [], _, _ => List.Pairwise.nil
  | c :: cs, e :: es, hs, h => by
    rw [List.flatten_cons] at hs
    have h1 := List.pairwise_append.mp hs
    refine List.pairwise_cons.mpr ⟨?_, ct_up_srt h1.2.1 h.2.2⟩
    intro e' he'
    obtain ⟨c', hc', _, c1, v1, h3⟩ := ct_up_mem h.2.2 he'
    obtain ⟨c0, v, h4⟩ := h.2.1
    exact h1.2.2 (e.1, v) (by rw [h4]; simp) (e'.1, v1) (List.mem_flatten.mpr ⟨c', hc', by rw [h3]; simp⟩)
  | [], _ :: _, _, h => h.elim
  | _ :: _, [], _, h => h.elim
theorem ct_chn_srt {N : ct_N} {Es : Nat → List ct_E} {h : Nat} (H : ct_chn N Es h) (hs : ct_srt (Es 0)) : ∀ j, j ≤ h → ct_srt (Es j) := by
  intro j
  induction j with
  | zero => exact fun _ => hs
  | succ j ih =>
    intro hj
    have h1 := H j (by omega)
    exact ct_up_srt (by rw [ct_ck_flat]; exact ih (by omega)) h1
theorem ct_chn_ne' {N : ct_N} {Es : Nat → List ct_E} {h : Nat} (H : ct_chn N Es h) (hn : Es 0 ≠ []) : ∀ j, j ≤ h → Es j ≠ [] := by
  intro j
  induction j with
  | zero => exact fun _ => hn
  | succ j ih => exact fun hj => ct_chn_ne H (by omega) (ih (by omega))
def ct_fd (N : ct_N) (l : Nat) : Nat → List ct_E → List ct_E → Prop
  | 0, L, M => M = L
  | d + 1, L, M => ∃ cs, ct_up N (l + d) cs L ∧ ct_fd N l d cs.flatten M
theorem ct_fd_app {N : ct_N} {l : Nat} : ∀ {d : Nat} {L M L2 M2 : List ct_E}, ct_fd N l d L M → ct_fd N l d L2 M2 → ct_fd N l d (L ++ L2) (M ++ M2)
  | 0, _, _, _, _, h, g => by rw [show _ = _ from h, show _ = _ from g]; exact rfl
  | d + 1, _, _, _, _, h, g => by
    obtain ⟨cs, h1, h2⟩ := h
    obtain ⟨ds, g1, g2⟩ := g
    exact ⟨cs ++ ds, ct_up_app h1 g1, by rw [List.flatten_append]; exact ct_fd_app h2 g2⟩
theorem ct_fd_inv {N : ct_N} {l : Nat} : ∀ {d : Nat} {L L2 M : List ct_E}, ct_fd N l d (L ++ L2) M → ∃ M1 M2, M = M1 ++ M2 ∧ ct_fd N l d L M1 ∧ ct_fd N l d L2 M2
  | 0, L, L2, _, h => ⟨L, L2, h, rfl, rfl⟩
  | d + 1, _, _, _, h => by
    obtain ⟨cs, h1, h2⟩ := h
    obtain ⟨cs1, cs2, e, u1, u2⟩ := ct_up_inv h1
    rw [e, List.flatten_append] at h2
    obtain ⟨M1, M2, e2, g1, g2⟩ := ct_fd_inv h2
    exact ⟨M1, M2, e2, ⟨cs1, u1, g1⟩, ⟨cs2, u2, g2⟩⟩
theorem ct_fd_fn {N : ct_N} {l : Nat} (hf : ct_fn N) : ∀ {d : Nat} {L M M' : List ct_E}, ct_fd N l d L M → ct_fd N l d L M' → M = M'
  | 0, _, _, _, h, g => by rw [show _ = _ from h, show _ = _ from g]
  | d + 1, _, _, _, h, g => by
    obtain ⟨cs, h1, h2⟩ := h
    obtain ⟨ds, g1, g2⟩ := g
    rw [ct_up_fn hf h1 g1] at h2
    exact ct_fd_fn hf h2 g2
theorem ct_fd_nil {N : ct_N} {l : Nat} : ∀ {d : Nat} {M : List ct_E}, ct_fd N l d [] M → M = []
  | 0, _, h => h
  | d + 1, _, h => by
    obtain ⟨cs, h1, h2⟩ := h
    rw [ct_up_nil h1] at h2
    exact ct_fd_nil h2
theorem ct_fd_mono {N N' : ct_N} (hs : ∀ x l c, N x l c → N' x l c) {l : Nat} : ∀ {d : Nat} {L M : List ct_E}, ct_fd N l d L M → ct_fd N' l d L M
  | 0, _, _, h => h
  | d + 1, _, _, h => by
    obtain ⟨cs, h1, h2⟩ := h
    exact ⟨cs, ct_up_of h1 (fun e _ c hc => hs _ _ _ hc), ct_fd_mono hs h2⟩
theorem ct_fd_low {N : ct_N} {j : Nat} : ∀ {d : Nat} {L M : List ct_E} {cs : List (List ct_E)}, ct_fd N (j + 1) d L M → ct_up N j cs M → ct_fd N j (d + 1) L cs.flatten
  | 0, _, _, cs, h, u => by
    rw [show _ = _ from h] at u
    exact ⟨cs, u, rfl⟩
  | d + 1, _, _, cs, h, u => by
    obtain ⟨ds, h1, h2⟩ := h
    have h3 := ct_fd_low h2 u
    rw [show j + 1 + d = j + (d + 1) by omega] at h1
    exact ⟨ds, h1, h3⟩
theorem ct_chn_fd {N : ct_N} {Es : Nat → List ct_E} {h : Nat} (H : ct_chn N Es h) : ∀ j, j ≤ h → ct_fd N 0 j (Es j) (Es 0) := by
  intro j
  induction j with
  | zero => exact fun _ => rfl
  | succ j ih =>
    intro hj
    refine ⟨ct_ck j (Es j), ?_, ?_⟩
    · rw [Nat.zero_add]; exact H j (by omega)
    · rw [ct_ck_flat]; exact ih (by omega)
theorem ct_kd_flat {N : ct_N} (hk : ct_kd N) {l : Nat} : ∀ {cs : List (List ct_E)} {t : List ct_E}, ct_up N (l + 1) cs t → ∃ cs', ct_up N l cs' cs.flatten
  | [], [], _ => ⟨[], trivial⟩
  | c :: cs, e :: t, h => by
    obtain ⟨d1, h1⟩ := hk _ _ _ h.1
    obtain ⟨d2, h2⟩ := ct_kd_flat hk h.2.2
    exact ⟨d1 ++ d2, by rw [List.flatten_cons]; exact ct_up_app h1 h2⟩
  | [], _ :: _, h => h.elim
  | _ :: _, [], h => h.elim
theorem ct_kd_fd {N : ct_N} (hk : ct_kd N) : ∀ {d : Nat} {L : List ct_E} {cs : List (List ct_E)}, ct_up N d cs L → ∃ M, ct_fd N 0 (d + 1) L M
  | 0, _, cs, h => ⟨cs.flatten, cs, by rw [Nat.zero_add]; exact h, rfl⟩
  | d + 1, _, cs, h => by
    obtain ⟨cs', h1⟩ := ct_kd_flat hk h
    obtain ⟨M, hM⟩ := ct_kd_fd hk h1
    exact ⟨M, cs, by rw [Nat.zero_add]; exact h, hM⟩
/-- the place of a bound in each level -/
def ct_p (Es : Nat → List ct_E) (b : Int32) (l : Nat) : Nat := if l = 0 then ct_si b (Es 0) else min (ct_si b (Es l)) ((Es l).length - 1)
def ct_xe (Es : Nat → List ct_E) (b : Int32) (l : Nat) : ct_E := (Es (l + 1)).getD (ct_p Es b (l + 1)) (0, 0)
def ct_xc (Es : Nat → List ct_E) (b : Int32) (l : Nat) : List ct_E := (ct_ck l (Es l)).getD (ct_p Es b (l + 1)) []
def ct_xi (Es : Nat → List ct_E) (b : Int32) (l : Nat) : Nat := if l = 0 then ct_si b (ct_xc Es b l) else min (ct_si b (ct_xc Es b l)) ((ct_xc Es b l).length - 1)
theorem ct_si_app {b : Int32} {F X : List ct_E} (h : ∀ a ∈ F, a.1 ≤ b) : ct_si b (F ++ X) = F.length + ct_si b X := by
  induction F with
  | nil => simp
  | cons a F ih =>
    rw [List.cons_append, ct_si_cons, if_neg (Int32.not_lt.mpr (h a (by simp))), ih (fun e he => h e (by simp [he])), List.length_cons]
    omega
theorem ct_si_app' {b : Int32} {c X : List ct_E} (h : ct_si b c < c.length) : ct_si b (c ++ X) = ct_si b c := by
  induction c with
  | nil => simp at h
  | cons a c ih =>
    rw [List.cons_append, ct_si_cons, ct_si_cons]
    by_cases q : b < a.1
    · rw [if_pos q, if_pos q]
    · rw [ct_si_cons, if_neg q, List.length_cons] at h
      rw [if_neg q, if_neg q, ih (by omega)]
theorem ct_si_all {b : Int32} {c : List ct_E} (h : ∀ a ∈ c, a.1 ≤ b) : ct_si b c = c.length := by
  have := ct_si_app (X := []) h
  rw [List.append_nil] at this
  rw [this]
  rfl
theorem ct_si_lt {b : Int32} {c : List ct_E} {a : ct_E} (ha : a ∈ c) (h : b < a.1) : ct_si b c < c.length := by
  unfold ct_si
  exact List.findIdx_lt_length_of_exists ⟨a, ha, decide_eq_true h⟩
theorem ct_si_get {b : Int32} {c : List ct_E} (h : ct_si b c < c.length) : b < (c[ct_si b c]).1 := by
  have := List.findIdx_getElem (p := fun e : ct_E => decide (b < e.1)) (xs := c) (w := h)
  exact of_decide_eq_true this
theorem ct_split_at {α : Type} {l : List α} {q : Nat} (h : q < l.length) (d : α) : l = l.take q ++ l.getD q d :: l.drop (q + 1) := by
  rw [List.getD_eq_getElem?_getD, List.getElem?_eq_getElem h, Option.getD_some]
  rw [← List.drop_eq_getElem_cons h, List.take_append_drop]
theorem ct_pos {N : ct_N} {Es : Nat → List ct_E} {h l : Nat} (b : Int32) (H : ct_chn N Es h) (hs : ct_srt (Es 0)) (hn : Es 0 ≠ []) (hl : l < h) :
    ∃ t cs1 cs2, ct_p Es b (l + 1) < (Es (l + 1)).length ∧ Es (l + 1) = (Es (l + 1)).take (ct_p Es b (l + 1)) ++ ct_xe Es b l :: t
      ∧ ct_ck l (Es l) = cs1 ++ ct_xc Es b l :: cs2 ∧ ct_up N l cs1 ((Es (l + 1)).take (ct_p Es b (l + 1))) ∧ ct_up N l (ct_xc Es b l :: cs2) (ct_xe Es b l :: t)
      ∧ (Es l).take (ct_p Es b l) = cs1.flatten ++ (ct_xc Es b l).take (ct_xi Es b l) ∧ (Es l).drop (ct_p Es b l) = (ct_xc Es b l).drop (ct_xi Es b l) ++ cs2.flatten
      ∧ ct_p Es b l = cs1.flatten.length + ct_xi Es b l ∧ ct_srt (ct_xc Es b l) ∧ (ct_si b (ct_xc Es b l) = (ct_xc Es b l).length ↔ ct_si b (Es l) = (Es l).length)
      ∧ (∀ a ∈ cs1.flatten, a.1 ≤ b) ∧ ct_xc Es b l ≠ [] ∧ (ct_si b (ct_xc Es b l) = (ct_xc Es b l).length → t = [])
      ∧ (ct_si b (Es l) = (Es l).length ↔ ct_si b (Es (l + 1)) = (Es (l + 1)).length) := by
  have hu := H l hl
  have hsl := ct_chn_srt H hs l (by omega)
  have hnl := List.length_pos_iff.mpr (ct_chn_ne' H hn l (by omega))
  have hn1 := List.length_pos_iff.mpr (ct_chn_ne' H hn (l + 1) (by omega))
  have hq : ct_p Es b (l + 1) = min (ct_si b (Es (l + 1))) ((Es (l + 1)).length - 1) := by unfold ct_p; rw [if_neg (by omega)]
  have hql : ct_p Es b (l + 1) < (Es (l + 1)).length := by omega
  have hlen := ct_up_len hu
  have hE := ct_split_at hql ((0 : Int32), (0 : Int32))
  have hK := ct_split_at (l := ct_ck l (Es l)) (q := ct_p Es b (l + 1)) (by omega) []
  have hu2 := hu
  rw [hE, hK] at hu2
  obtain ⟨cs1, cs2', e12, u1, u2⟩ := ct_up_inv hu2
  have el : cs1.length = ((ct_ck l (Es l)).take (ct_p Es b (l + 1))).length := by
    rw [ct_up_len u1, List.length_take, List.length_take]; omega
  obtain ⟨e1, e2⟩ := List.append_inj e12.symm el
  subst e1 e2
  clear e12 hu2 el
  have hx : (Es (l + 1)).getD (ct_p Es b (l + 1)) (0, 0) = ct_xe Es b l := rfl
  have hc : (ct_ck l (Es l)).getD (ct_p Es b (l + 1)) [] = ct_xc Es b l := rfl
  rw [hx] at hE u2
  rw [hc] at hK u2
  have hfl := ct_ck_flat l (Es l)
  rw [hK, List.flatten_append, List.flatten_cons] at hfl
  generalize (ct_ck l (Es l)).take (ct_p Es b (l + 1)) = cs1 at *
  generalize (ct_ck l (Es l)).drop (ct_p Es b (l + 1) + 1) = cs2 at *
  generalize hP : (Es (l + 1)).take (ct_p Es b (l + 1)) = P at *
  generalize (Es (l + 1)).drop (ct_p Es b (l + 1) + 1) = t at *
  have hxi : ct_xi Es b l = if l = 0 then ct_si b (ct_xc Es b l) else min (ct_si b (ct_xc Es b l)) ((ct_xc Es b l).length - 1) := rfl
  have hpl : ct_p Es b l = if l = 0 then ct_si b (Es l) else min (ct_si b (Es l)) ((Es l).length - 1) := by
    unfold ct_p
    by_cases z : l = 0
    · rw [if_pos z, if_pos z, z]
    · rw [if_neg z, if_neg z]
  generalize hci : ct_xc Es b l = c at *
  generalize hei : ct_xe Es b l = e at *
  have hsE : ct_srt (cs1.flatten ++ (c ++ cs2.flatten)) := by rw [hfl]; exact hsl
  have s1 := List.pairwise_append.mp hsE
  have s2 := List.pairwise_append.mp s1.2.1
  obtain ⟨hn0, ⟨c0, v, hcl⟩, u3⟩ := u2
  have hcne : c ≠ [] := by rw [hcl]; simp
  have hcpos := List.length_pos_iff.mpr hcne
  have hPb : ∀ a ∈ P, a.1 ≤ b := by
    intro a ha
    apply ct_si_take b (Es (l + 1))
    rw [← hP, hq] at ha
    exact List.mem_of_mem_take (i := ct_p Es b (l + 1)) (by rw [hq, List.take_take, Nat.min_eq_left (Nat.min_le_left _ _)]; exact ha)
  have hF : ∀ a ∈ cs1.flatten, a.1 ≤ b := by
    intro a ha
    rw [List.mem_flatten] at ha
    obtain ⟨ci, hci1, hai⟩ := ha
    obtain ⟨ei, he1, _, c1, v1, h3⟩ := ct_up_mem' u1 hci1
    have hsci : ct_srt ci := by
      refine List.Pairwise.sublist ?_ s1.1
      exact List.sublist_flatten_of_mem hci1
    exact Int32.le_trans (ct_last_le hsci h3 a hai) (hPb ei he1)
  have hsi : ct_si b (Es l) = cs1.flatten.length + ct_si b (c ++ cs2.flatten) := by rw [← hfl, ct_si_app hF]
  have hlE : (Es l).length = cs1.flatten.length + (c.length + cs2.flatten.length) := by rw [← hfl]; simp
  have hsle := ct_si_le b c
  by_cases hA : ct_si b (Es (l + 1)) < (Es (l + 1)).length
  · have hq2 : ct_p Es b (l + 1) = ct_si b (Es (l + 1)) := by omega
    have hbe : b < e.1 := by
      have h1 := ct_si_get hA
      have h2 : e = (Es (l + 1))[ct_si b (Es (l + 1))] := by
        rw [← hei]
        unfold ct_xe
        rw [hq2, List.getD_eq_getElem?_getD, List.getElem?_eq_getElem hA, Option.getD_some]
      rw [h2]
      exact h1
    have hlt : ct_si b c < c.length := ct_si_lt (a := (e.1, v)) (by rw [hcl]; simp) hbe
    have hsi2 : ct_si b (Es l) = cs1.flatten.length + ct_si b c := by rw [hsi, ct_si_app' hlt]
    have hi : ct_xi Es b l = ct_si b c := by
      rw [hxi]
      by_cases z : l = 0
      · rw [if_pos z]
      · rw [if_neg z]; omega
    have hp : ct_p Es b l = cs1.flatten.length + ct_si b c := by
      rw [hpl]
      by_cases z : l = 0
      · rw [if_pos z]; omega
      · rw [if_neg z]; omega
    refine ⟨t, cs1, cs2, hql, hE, hK, u1, ⟨hn0, ⟨c0, v, hcl⟩, u3⟩, ?_, ?_, by omega, s2.1, ?_, hF, hcne, fun z => by omega, ⟨fun z => by omega, fun z => by omega⟩⟩
    · rw [hp, hi, ← hfl, List.take_length_add_append, List.take_append_of_le_length (by omega)]
    · rw [hp, hi, ← hfl, List.drop_length_add_append, List.drop_append_of_le_length (by omega)]
    · constructor
      · intro z; omega
      · intro z; omega
  · have hall : ct_si b (Es (l + 1)) = (Es (l + 1)).length := by have := ct_si_le b (Es (l + 1)); omega
    have hlast : ct_p Es b (l + 1) = (Es (l + 1)).length - 1 := by omega
    have ht : t = [] := by
      have := congrArg List.length hE
      rw [List.length_append, List.length_cons, ← hP, List.length_take] at this
      exact List.length_eq_zero_iff.mp (by omega)
    subst ht
    have h2 := ct_up_nil u3
    subst h2
    have hbe : e.1 ≤ b := by
      apply ct_si_take b (Es (l + 1))
      rw [hall, List.take_length, hE]
      simp
    have hcb : ∀ a ∈ c, a.1 ≤ b := fun a ha => Int32.le_trans (ct_last_le s2.1 hcl a ha) hbe
    have hsc := ct_si_all hcb
    have hsi2 : ct_si b (Es l) = (Es l).length := by
      rw [hsi, List.flatten_nil, List.append_nil, hsc, hlE]; simp
    rw [List.flatten_nil, List.length_nil, Nat.add_zero] at hlE
    rw [List.flatten_nil, List.append_nil] at hfl
    have hp : ct_p Es b l = cs1.flatten.length + ct_xi Es b l := by
      rw [hpl, hxi]
      by_cases z : l = 0
      · rw [if_pos z, if_pos z]; omega
      · rw [if_neg z, if_neg z]; omega
    have hi : ct_xi Es b l ≤ c.length := by
      rw [hxi]
      by_cases z : l = 0
      · rw [if_pos z]; omega
      · rw [if_neg z]; omega
    refine ⟨[], cs1, [], hql, hE, hK, u1, ⟨hn0, ⟨c0, v, hcl⟩, u3⟩, ?_, ?_, hp, s2.1, ?_, hF, hcne, fun _ => rfl, ⟨fun _ => hall, fun _ => hsi2⟩⟩
    · rw [hp, ← hfl, List.take_length_add_append]
    · rw [hp, ← hfl, List.drop_length_add_append, List.flatten_nil, List.append_nil]
    · exact ⟨fun _ => hsi2, fun _ => hsc⟩
end
section
/-! a cursor: what is left of each level -/
def ct_cr (N : ct_N) (h : Nat) (nd ix : Nat → Int32) (l0 : Nat) (R : Nat → List ct_E) : Prop :=
  ∀ l, l0 ≤ l → l < h → ∃ e t c i cs, R (l + 1) = e :: t ∧ nd l = e.2 ∧ ct_up N l (c :: cs) (e :: t) ∧ ix l = nI i ∧ i < c.length ∧ R l = c.drop i ++ cs.flatten
theorem ct_cr_mono {N N' : ct_N} (hs : ∀ x l c, N x l c → N' x l c) {h : Nat} {nd ix : Nat → Int32} {l0 : Nat} {R : Nat → List ct_E} (H : ct_cr N h nd ix l0 R) : ct_cr N' h nd ix l0 R := by
  intro l a b
  obtain ⟨e, t, c, i, cs, h1, h2, h3, h4⟩ := H l a b
  exact ⟨e, t, c, i, cs, h1, h2, ct_up_of h3 (fun e _ c hc => hs _ _ _ hc), h4⟩
theorem ct_cr_up {N : ct_N} {h : Nat} {nd ix : Nat → Int32} {l0 l1 : Nat} {R : Nat → List ct_E} (H : ct_cr N h nd ix l0 R) (hl : l0 ≤ l1) : ct_cr N h nd ix l1 R :=
  fun l a b => H l (by omega) b
theorem ct_cr_seek {N : ct_N} {Es : Nat → List ct_E} {h : Nat} (b : Int32) (H : ct_chn N Es h) (hs : ct_srt (Es 0)) (hn : Es 0 ≠ []) (hb : ct_si b (Es 0) ≠ (Es 0).length)
    {nd ix : Nat → Int32} (hnd : ∀ l, l < h → nd l = (ct_xe Es b l).2 ∧ ix l = nI (ct_xi Es b l)) : ct_cr N h nd ix 0 (fun l => (Es l).drop (ct_p Es b l)) := by
  have hall : ∀ l, l ≤ h → ct_si b (Es l) ≠ (Es l).length := by
    intro l
    induction l with
    | zero => exact fun _ => hb
    | succ l ih =>
      intro hl z
      obtain ⟨t, cs1, cs2, _, _, _, _, _, _, _, _, _, _, _, _, _, q⟩ := ct_pos b H hs hn (l := l) (by omega)
      exact ih (by omega) (q.mpr z)
  intro l _ hl
  obtain ⟨t, cs1, cs2, q1, q2, q3, q4, q5, q6, q7, q8, q9, q10, q11, q12, q13, q14⟩ := ct_pos b H hs hn hl
  refine ⟨ct_xe Es b l, t, ct_xc Es b l, ct_xi Es b l, cs2, ?_, (hnd l hl).1, q5, (hnd l hl).2, ?_, q7⟩
  · have := congrArg (List.drop (ct_p Es b (l + 1))) q2
    rw [List.drop_left' (by rw [List.length_take]; omega)] at this
    exact this
  · have h1 := hall l (by omega)
    have h2 : ct_si b (ct_xc Es b l) ≠ (ct_xc Es b l).length := fun z => h1 (q10.mp z)
    have h3 := ct_si_le b (ct_xc Es b l)
    have h4 := List.length_pos_iff.mpr q12
    unfold ct_xi
    by_cases z : l = 0
    · rw [if_pos z]; omega
    · rw [if_neg z]; omega
def ct_i1 (N : ct_N) (R : Nat → List ct_E) (lv up : Nat) : Prop := ∀ j, lv < j → j ≤ up → ct_fd N j (up - j) (R up).tail (R j).tail
theorem ct_i1_0 (N : ct_N) (R : Nat → List ct_E) (lv : Nat) : ct_i1 N R lv (lv + 1) := by
  intro j a b
  have : j = lv + 1 := by omega
  subst this
  rw [Nat.sub_self]
  exact rfl
theorem ct_i1_s {N : ct_N} {R : Nat → List ct_E} {lv up i : Nat} {e : ct_E} {t c : List ct_E} {cs : List (List ct_E)} (hl : lv < up) (H : ct_i1 N R lv up)
    (h1 : R (up + 1) = e :: t) (h3 : ct_up N up (c :: cs) (e :: t)) (hi : i + 1 = c.length) (h6 : R up = c.drop i ++ cs.flatten) : ct_i1 N R lv (up + 1) := by
  have hd : (R up).tail = cs.flatten := by
    rw [h6, List.drop_eq_getElem_cons (by omega), List.drop_eq_nil_of_le (by omega)]
    rfl
  intro j a b
  by_cases z : j = up + 1
  · subst z; rw [Nat.sub_self]; exact rfl
  · have h7 := H j a (by omega)
    rw [show up + 1 - j = up - j + 1 by omega, h1]
    refine ⟨cs, ?_, ?_⟩
    · rw [show j + (up - j) = up by omega]; exact h3.2.2
    · rw [hd] at h7; exact h7
theorem ct_i1_done {N : ct_N} {R : Nat → List ct_E} {lv h : Nat} (H : ct_i1 N R lv h) (hl : lv < h) (hR : (R h).tail = []) : (R (lv + 1)).tail = [] := by
  have := H (lv + 1) (by omega) (by omega)
  rw [hR] at this
  exact ct_fd_nil this
/-- one level down: the next node is the first of what is left -/
theorem ct_dn {N : ct_N} (hk : ct_kd N) {h d : Nat} {nd ix : Nat → Int32} {R : Nat → List ct_E} (H : ct_cr N h nd ix (d + 1) R) (hd : d + 1 < h) :
    ∃ e' t' c' cs', R (d + 1) = e' :: t' ∧ ct_up N d (c' :: cs') (e' :: t') ∧ ∀ nd' ix' : Nat → Int32, (∀ j, d < j → nd' j = nd j ∧ ix' j = ix j) → nd' d = e'.2 → ix' d = 0 →
      ct_cr N h nd' ix' d (fun j => if j = d then (c' :: cs').flatten else R j) := by
  obtain ⟨e, t, c, i, cs, h1, h2, h3, h4, h5, h6⟩ := H (d + 1) (Nat.le_refl _) hd
  obtain ⟨ks, hks⟩ := ct_kd_flat hk h3
  rw [List.flatten_cons, ← List.take_append_drop i c, List.append_assoc, ← h6] at hks
  obtain ⟨ks1, ks2, _, _, hks2⟩ := ct_up_inv hks
  have hne : R (d + 1) = c[i] :: (c.drop (i + 1) ++ cs.flatten) := by rw [h6, List.drop_eq_getElem_cons h5]; rfl
  rw [hne] at hks2
  obtain ⟨c', cs', e1, e2, e3, e4⟩ := ct_up_cons hks2
  refine ⟨_, _, c', cs', hne, ⟨e2, e3, e4⟩, ?_⟩
  intro nd' ix' hj hn hi l hl hlh
  by_cases z : l = d
  · subst z
    refine ⟨_, _, c', 0, cs', ?_, hn, ⟨e2, e3, e4⟩, hi, ?_, ?_⟩
    · dsimp only; rw [if_neg (by omega)]; exact hne
    · obtain ⟨c0, v, e5⟩ := e3; rw [e5]; simp
    · dsimp only; rw [if_pos rfl]; rfl
  · obtain ⟨e, t, c, i, cs, h1, h2, h3, h4, h5, h6⟩ := H l (by omega) hlh
    refine ⟨e, t, c, i, cs, ?_, ?_, h3, ?_, h5, ?_⟩
    · dsimp only; rw [if_neg (by omega)]; exact h1
    · rw [(hj l (by omega)).1]; exact h2
    · rw [(hj l (by omega)).2]; exact h4
    · dsimp only; rw [if_neg z]; exact h6
def ct_l6 (N : ct_N) : Prop := ∀ x l c, N x l c → c ≠ [] ∧ c.length ≤ 6
theorem ct_cr_lf {N : ct_N} (h6' : ct_l6 N) {h : Nat} {nd ix : Nat → Int32} {R : Nat → List ct_E} (H : ct_cr N h nd ix 0 R) : ∀ b, b < h → (∀ j, j ≤ b → ix j = 0) → ct_fd N 0 (b + 1) (R (b + 1)) (R 0) := by
  intro b
  induction b with
  | zero =>
    intro hb hz
    obtain ⟨e, t, c, i, cs, h1, h2, h3, h4, h5, h6⟩ := H 0 (Nat.le_refl _) hb
    rw [hz 0 (Nat.le_refl _), ← nI_0] at h4
    have hi : i = 0 := by
      have := (h6' _ _ _ h3.1).2
      exact ((nI_eq (by omega) (by omega)).mp h4).symm
    subst hi
    rw [h1]
    exact ⟨c :: cs, by rw [Nat.zero_add]; exact h3, by rw [h6]; rfl⟩
  | succ b ih =>
    intro hb hz
    have h7 := ih (by omega) (fun j hj => hz j (by omega))
    obtain ⟨e, t, c, i, cs, h1, h2, h3, h4, h5, h6⟩ := H (b + 1) (by omega) hb
    rw [hz (b + 1) (Nat.le_refl _), ← nI_0] at h4
    have hi : i = 0 := by
      have := (h6' _ _ _ h3.1).2
      exact ((nI_eq (by omega) (by omega)).mp h4).symm
    subst hi
    rw [h1]
    refine ⟨c :: cs, by rw [Nat.zero_add]; exact h3, ?_⟩
    rw [h6] at h7
    exact h7
/-- one level cut anew -/
theorem ct_rc {N N' : ct_N} (hf : ct_fn N) (hs : ∀ x l c, N x l c → N' x l c) {Es : Nat → List ct_E} {lv : Nat} {P Q R' X G O : List ct_E} {c0 : List ct_E} {cs1 cs2 : List (List ct_E)}
    (hu : ct_up N lv (ct_ck lv (Es lv)) (Es (lv + 1))) (u1 : ct_up N lv cs1 P) (hk : ct_ck lv (Es lv) = cs1 ++ c0 :: cs2) (hR : Es (lv + 1) = Q ++ R')
    (hG : (R' = [] ∧ G = []) ∨ ((ct_gr lv X).2 = [] ∧ ∃ ds, ct_up N lv ds R' ∧ G = ds.flatten)) (hO : ct_up N' lv (ct_ck lv X) O) :
    ct_up N' lv (ct_ck lv (cs1.flatten ++ X ++ G)) (P ++ O ++ R') := by
  have a1 := (ct_ck_split hk (by simp)).1
  have u1' : ct_up N' lv cs1 P := ct_up_of u1 (fun e _ c hc => hs _ _ _ hc)
  rw [List.append_assoc, ct_ck_app (by rw [a1]), a1, List.append_assoc]
  refine ct_up_app u1' ?_
  rcases hG with ⟨g1, g2⟩ | ⟨g1, ds, g2, g3⟩
  · subst g1 g2
    rw [List.append_nil, List.append_nil]
    exact hO
  · have hX : ct_ck lv X = (ct_gr lv X).1 := by unfold ct_ck; rw [if_pos g1]
    rw [ct_ck_app g1, ← hX]
    refine ct_up_app hO ?_
    have g2' : ct_up N' lv ds R' := ct_up_of g2 (fun e _ c hc => hs _ _ _ hc)
    have : ct_ck lv G = ds := by
      rw [hR] at hu
      obtain ⟨q1, q2, e1, e2, e3⟩ := ct_up_inv hu
      have e4 := ct_up_fn hf e3 g2
      subst e4
      rw [g3]
      by_cases z : q2 = []
      · subst z; rfl
      · exact (ct_ck_split e1 z).2
    rw [this]
    exact g2'
end
section
/-! the arena: live nodes lv, external references X -/
def ct_en (ks vs cn : Nat → Int32) (n : Nat) : List ct_E := (List.range (cn n).toNatClampNeg).map (fun i => (ks (n * 8 + i), vs (n * 8 + i)))
def ct_ch (nx : Nat → Int32) : Int32 → List Nat → Prop
  | h, [] => h = 0
  | h, n :: l => h = nI n ∧ ct_ch nx (nx n) l
def ct_hs (x : Int32) (e : ct_E) : Int32 := ct_h1 ((((x * 31) + e.1) * (-1640531535)) + e.2)
def ct_b8 (x : Int32) : Int32 := (x ^^^ ((x.toUInt32 >>> ((8 : Int32).toUInt32 &&& Int32.toUInt32 31)).toInt32)) &&& 255
def ct_bk (l : Nat) (c : List ct_E) : Int32 := ct_b8 (c.foldl ct_hs (nI l))
def ct_kids (ks vs cn lvl : Nat → Int32) (p : Nat) : List Int32 := if lvl p = 0 then [] else (ct_en ks vs cn p).map (·.2)
def ct_ed (ks vs cn lvl : Nat → Int32) (lv : List Nat) : List Int32 := lv.flatMap (ct_kids ks vs cn lvl)
def ct_Nd (ks vs cn lvl : Nat → Int32) (lv : List Nat) : ct_N := fun x l c => ∃ n, n ∈ lv ∧ x = nI n ∧ lvl n = nI l ∧ l < 8 ∧ c = ct_en ks vs cn n
def ct_pl (fh : Int32) (nx bu bo : Nat → Int32) (lv : List Nat) : Prop :=
  ∃ (fr : List Nat) (ch : Nat → List Nat), (fr ++ lv).Perm (List.range' 1 319) ∧ ct_ch nx fh fr ∧ ∀ b, b < 256 → ct_ch nx (bu b) (ch b) ∧ (ch b).Nodup ∧ ∀ n, n ∈ ch b ↔ n ∈ lv ∧ bo n = nI b
def ct_sum (tot : Nat → Int32) (c : List ct_E) : Int32 := c.foldl (fun s e => s + tot e.2.toNatClampNeg) 0
def ct_no (ks vs cn lvl tot bo : Nat → Int32) (lv : List Nat) : Prop :=
  ∀ n ∈ lv, ∃ l, lvl n = nI l ∧ l < 8 ∧ (∃ k, cn n = nI k ∧ 1 ≤ k ∧ k ≤ 6) ∧ bo n = ct_bk l (ct_en ks vs cn n) ∧ (l = 0 → tot n = cn n)
    ∧ (∀ l', l = l' + 1 → tot n = ct_sum tot (ct_en ks vs cn n) ∧ ∃ cs, ct_up (ct_Nd ks vs cn lvl lv) l' cs (ct_en ks vs cn n))
def ct_iu (ks vs cn lvl : Nat → Int32) (lv : List Nat) : Prop := ∀ n ∈ lv, ∀ n' ∈ lv, lvl n = lvl n' → ct_en ks vs cn n = ct_en ks vs cn n' → n = n'
def ct_rf (ks vs cn lvl rf : Nat → Int32) (lv : List Nat) (X : List Int32) : Prop :=
  (∀ n ∈ lv, rf n = nI ((ct_ed ks vs cn lvl lv ++ X).count (nI n))) ∧ ∀ x ∈ X, x = 0 ∨ ∃ n ∈ lv, x = nI n
def ct_H0 (fh : Int32) (ks vs cn lvl tot rf bo nx bu : Nat → Int32) (lv : List Nat) (X : List Int32) : Prop :=
  ct_pl fh nx bu bo lv ∧ ct_no ks vs cn lvl tot bo lv ∧ ct_iu ks vs cn lvl lv ∧ ct_rf ks vs cn lvl rf lv X ∧ cn 0 = 0 ∧ lvl 0 = 0 ∧ tot 0 = 0
def ct_HI (fh : Int32) (ks vs cn lvl tot rf bo nx bu : Nat → Int32) (N : ct_N) (X : List Int32) (B : Nat) : Prop :=
  ∃ lv, ct_H0 fh ks vs cn lvl tot rf bo nx bu lv X ∧ N = ct_Nd ks vs cn lvl lv ∧ lv.length ≤ B
section
variable {fh : Int32} {ks vs cn lvl tot rf bo nx bu : Nat → Int32} {lv : List Nat} {X : List Int32}
theorem ct_pl_in (H : ct_pl fh nx bu bo lv) {n : Nat} (hn : n ∈ lv) : 1 ≤ n ∧ n < 320 := by
  obtain ⟨fr, ch, hp, _⟩ := H
  have := hp.mem_iff.mp (List.mem_append_right fr hn)
  rw [List.mem_range'_1] at this
  omega
theorem ct_pl_nodup (H : ct_pl fh nx bu bo lv) : lv.Nodup := by
  obtain ⟨fr, ch, hp, _⟩ := H
  exact (List.nodup_append.mp (hp.symm.nodup List.nodup_range')).2.1
theorem ct_ch_congr {nx' : Nat → Int32} : ∀ {l : List Nat} {h : Int32}, (∀ m ∈ l, nx' m = nx m) → ct_ch nx h l → ct_ch nx' h l
  | [], _, _, h => h
  | n :: l, _, g, h => ⟨h.1, by rw [g n (by simp)]; exact ct_ch_congr (fun m hm => g m (by simp [hm])) h.2⟩
theorem ct_en_len {n k : Nat} (h : cn n = nI k) (hk : k ≤ 6) : (ct_en ks vs cn n).length = k := by
  unfold ct_en
  rw [List.length_map, List.length_range, h, nI_clamp (by omega)]
theorem ct_en_get {n i : Nat} (h : i < (ct_en ks vs cn n).length) : (ct_en ks vs cn n)[i] = (ks (n * 8 + i), vs (n * 8 + i)) := by
  revert h
  unfold ct_en
  intro h
  rw [List.getElem_map, List.getElem_range]
theorem ct_Nd_fn (H : ct_H0 fh ks vs cn lvl tot rf bo nx bu lv X) : ct_fn (ct_Nd ks vs cn lvl lv) := by
  rintro x l c l' c' ⟨n, hn, e1, e2, e3, e4⟩ ⟨n', hn', e1', e2', e3', e4'⟩
  have a := ct_pl_in H.1 hn
  have a' := ct_pl_in H.1 hn'
  have : n = n' := (nI_eq (by omega) (by omega)).mp (e1.symm.trans e1')
  subst this
  exact ⟨(nI_eq (by omega) (by omega)).mp (e2.symm.trans e2'), e4.trans e4'.symm⟩
theorem ct_Nd_in (H : ct_H0 fh ks vs cn lvl tot rf bo nx bu lv X) : ct_in (ct_Nd ks vs cn lvl lv) := by
  rintro x x' l c ⟨n, hn, e1, e2, e3, e4⟩ ⟨n', hn', e1', e2', e3', e4'⟩
  have := H.2.2.1 n hn n' hn' (e2.trans e2'.symm) (e4.symm.trans e4')
  rw [e1, e1', this]
theorem ct_Nd_nz (H : ct_H0 fh ks vs cn lvl tot rf bo nx bu lv X) : ct_nz (ct_Nd ks vs cn lvl lv) := by
  rintro x l c ⟨n, hn, e1, _⟩
  have a := ct_pl_in H.1 hn
  rw [e1]
  exact nI_ne0 (by omega) (by omega)
theorem ct_Nd_l6 (H : ct_H0 fh ks vs cn lvl tot rf bo nx bu lv X) : ct_l6 (ct_Nd ks vs cn lvl lv) := by
  rintro x l c ⟨n, hn, e1, _, _, e4⟩
  obtain ⟨l0, _, _, ⟨k, hk, k1, k2⟩, _⟩ := H.2.1 n hn
  have := ct_en_len (ks := ks) (vs := vs) hk k2
  rw [← e4] at this
  exact ⟨List.length_pos_iff.mp (by omega), by omega⟩
theorem ct_Nd_kd (H : ct_H0 fh ks vs cn lvl tot rf bo nx bu lv X) : ct_kd (ct_Nd ks vs cn lvl lv) := by
  rintro x l c ⟨n, hn, e1, e2, e3, e4⟩
  obtain ⟨l0, h1, h2, _, _, _, h6⟩ := H.2.1 n hn
  have : l0 = l + 1 := (nI_eq (by omega) (by omega)).mp (h1.symm.trans e2)
  rw [e4]
  exact (h6 l this).2
theorem ct_Nd_rd (H : ct_H0 fh ks vs cn lvl tot rf bo nx bu lv X) {x : Int32} {l : Nat} {c : List ct_E} (hN : ct_Nd ks vs cn lvl lv x l c) :
    ∃ n, n ∈ lv ∧ x = nI n ∧ 1 ≤ n ∧ n < 320 ∧ lvl n = nI l ∧ l < 8 ∧ cn n = nI c.length ∧ 1 ≤ c.length ∧ c.length ≤ 6
      ∧ (∀ i (h : i < c.length), ks (n * 8 + i) = (c[i]).1 ∧ vs (n * 8 + i) = (c[i]).2) ∧ (l = 0 → tot n = nI c.length) ∧ (0 < l → tot n = ct_sum tot c) := by
  have h6 := ct_Nd_l6 H _ _ _ hN
  obtain ⟨n, hn, e1, e2, e3, e4⟩ := hN
  have a := ct_pl_in H.1 hn
  obtain ⟨l0, h1, h2, ⟨k, hk, k1, k2⟩, _, h5, h7⟩ := H.2.1 n hn
  have : l0 = l := (nI_eq (by omega) (by omega)).mp (h1.symm.trans e2)
  subst this
  have hl := ct_en_len (ks := ks) (vs := vs) hk k2
  rw [← e4] at hl
  refine ⟨n, hn, e1, a.1, a.2, e2, h2, by rw [hl]; exact hk, by omega, by omega, ?_, ?_, ?_⟩
  · intro i hi
    subst e4
    rw [ct_en_get hi]
    exact ⟨rfl, rfl⟩
  · intro z; rw [h5 z, hk, hl]
  · intro z; rw [(h7 (l0 - 1) (by omega)).1, e4]
theorem ct_H0_perm {X' : List Int32} (H : ct_H0 fh ks vs cn lvl tot rf bo nx bu lv X) (hp : X.Perm X') : ct_H0 fh ks vs cn lvl tot rf bo nx bu lv X' := by
  refine ⟨H.1, H.2.1, H.2.2.1, ⟨?_, ?_⟩, H.2.2.2.2⟩
  · intro n hn
    rw [H.2.2.2.1.1 n hn, (hp.append_left _).count_eq]
  · intro x hx
    exact H.2.2.2.1.2 x (hp.mem_iff.mpr hx)
theorem ct_H0_drop0 (H : ct_H0 fh ks vs cn lvl tot rf bo nx bu lv (0 :: X)) : ct_H0 fh ks vs cn lvl tot rf bo nx bu lv X := by
  refine ⟨H.1, H.2.1, H.2.2.1, ⟨?_, ?_⟩, H.2.2.2.2⟩
  · intro n hn
    have a := ct_pl_in H.1 hn
    have hne : ¬ (0 : Int32) = nI n := fun z => nI_ne0 (n := n) (by omega) (by omega) z.symm
    rw [H.2.2.2.1.1 n hn, List.count_append, List.count_append, List.count_cons_of_ne hne]
  · intro x hx
    exact H.2.2.2.1.2 x (List.mem_cons_of_mem _ hx)
theorem ct_H0_inc0 (x : Int32) (H : ct_H0 fh ks vs cn lvl tot rf bo nx bu lv X) : ct_H0 fh ks vs cn lvl tot (upd rf 0 x) bo nx bu lv (0 :: X) := by
  refine ⟨H.1, H.2.1, H.2.2.1, ⟨?_, ?_⟩, H.2.2.2.2⟩
  · intro n hn
    have a := ct_pl_in H.1 hn
    have hne : ¬ (0 : Int32) = nI n := fun z => nI_ne0 (n := n) (by omega) (by omega) z.symm
    rw [pk_un (by omega), H.2.2.2.1.1 n hn, List.count_append, List.count_append, List.count_cons_of_ne hne]
  · intro y hy
    rcases List.mem_cons.mp hy with hy | hy
    · exact Or.inl hy
    · exact H.2.2.2.1.2 y hy
theorem ct_H0_inc {n : Nat} (hn : n ∈ lv) (H : ct_H0 fh ks vs cn lvl tot rf bo nx bu lv X) : ct_H0 fh ks vs cn lvl tot (upd rf n (rf n + 1)) bo nx bu lv (nI n :: X) := by
  refine ⟨H.1, H.2.1, H.2.2.1, ⟨?_, ?_⟩, H.2.2.2.2⟩
  · intro m hm
    have a := ct_pl_in H.1 hn
    have a' := ct_pl_in H.1 hm
    by_cases z : m = n
    · subst z
      rw [pk_us, H.2.2.2.1.1 m hm, List.count_append, List.count_append, List.count_cons_self, nI_1]
      rfl
    · rw [pk_un z, H.2.2.2.1.1 m hm, List.count_append, List.count_append, List.count_cons_of_ne]
      intro q
      exact z ((nI_eq (by omega) (by omega)).mp q).symm
  · intro y hy
    rcases List.mem_cons.mp hy with hy | hy
    · exact Or.inr ⟨n, hn, hy⟩
    · exact H.2.2.2.1.2 y hy
theorem ct_H0_dec {n : Nat} (hn : n ∈ lv) (H : ct_H0 fh ks vs cn lvl tot rf bo nx bu lv (nI n :: X)) : ct_H0 fh ks vs cn lvl tot (upd rf n (rf n - 1)) bo nx bu lv X := by
  refine ⟨H.1, H.2.1, H.2.2.1, ⟨?_, ?_⟩, H.2.2.2.2⟩
  · intro m hm
    have a := ct_pl_in H.1 hn
    have a' := ct_pl_in H.1 hm
    by_cases z : m = n
    · subst z
      rw [pk_us, H.2.2.2.1.1 m hm, List.count_append, List.count_append, List.count_cons_self, ← Nat.add_assoc, nI_pred]
    · rw [pk_un z, H.2.2.2.1.1 m hm, List.count_append, List.count_append, List.count_cons_of_ne]
      intro q
      exact z ((nI_eq (by omega) (by omega)).mp q).symm
  · intro y hy
    exact H.2.2.2.1.2 y (List.mem_cons_of_mem _ hy)
end
end
section
/-! a node taken, a node given back -/
theorem ct_fm_congr {α β : Type} {l : List α} {f g : α → List β} (h : ∀ a ∈ l, f a = g a) : l.flatMap f = l.flatMap g := by
  induction l with
  | nil => rfl
  | cons a l ih => rw [List.flatMap_cons, List.flatMap_cons, h a (by simp), ih (fun b hb => h b (by simp [hb]))]
section
variable {fh : Int32} {ks vs cn lvl tot rf bo nx bu : Nat → Int32} {lv : List Nat} {X : List Int32}
variable {fh' : Int32} {ks' vs' cn' lvl' tot' rf' bo' nx' bu' : Nat → Int32}
theorem ct_pl_pop (H : ct_pl fh nx bu bo lv) (hl : lv.length ≤ 318) :
    ∃ n, fh = nI n ∧ 1 ≤ n ∧ n < 320 ∧ n ∉ lv ∧ ∀ b, b < 256 → ct_pl (nx n) (upd nx n (bu b)) (upd bu b (nI n)) (upd bo n (nI b)) (n :: lv) := by
  obtain ⟨fr, ch, hp, hf, hb⟩ := H
  have hlen := hp.length_eq
  rw [List.length_append, List.length_range'] at hlen
  have hnd := hp.symm.nodup List.nodup_range'
  match fr, hp, hf, hlen, hnd with
  | [], _, _, hlen, _ => rw [List.length_nil] at hlen; omega
  | n :: fr, hp, hf, _, hnd =>
    have hin := hp.mem_iff.mp (List.mem_append_left lv (List.mem_cons_self (a := n)))
    rw [List.mem_range'_1] at hin
    rw [List.cons_append, List.nodup_cons] at hnd
    have n1 : n ∉ fr := fun z => hnd.1 (List.mem_append_left _ z)
    have n2 : n ∉ lv := fun z => hnd.1 (List.mem_append_right _ z)
    refine ⟨n, hf.1, hin.1, by omega, n2, ?_⟩
    intro b hbl
    have n3 : ∀ b', b' < 256 → n ∉ ch b' := fun b' h' z => n2 (((hb b' h').2.2 n).mp z).1
    have cg : ∀ (l : List Nat), n ∉ l → ∀ m ∈ l, upd nx n (bu b) m = nx m := fun l hl m hm => pk_un (fun z => hl (z ▸ hm))
    refine ⟨fr, fun b' => if b' = b then n :: ch b else ch b', ?_, ct_ch_congr (cg fr n1) hf.2, ?_⟩
    · exact List.perm_middle.trans hp
    · intro b' hb'
      dsimp only
      by_cases z : b' = b
      · subst z
        rw [if_pos rfl]
        obtain ⟨h1, h2, h3⟩ := hb b' hb'
        refine ⟨⟨pk_us, ?_⟩, List.nodup_cons.mpr ⟨n3 b' hb', h2⟩, ?_⟩
        · rw [pk_us]; exact ct_ch_congr (cg _ (n3 b' hb')) h1
        · intro m
          by_cases q : m = n
          · subst q
            rw [pk_us]
            simp
          · rw [pk_un q, List.mem_cons, List.mem_cons, h3 m]
            simp [q]
      · rw [if_neg z, pk_un z]
        obtain ⟨h1, h2, h3⟩ := hb b' hb'
        refine ⟨ct_ch_congr (cg _ (n3 b' hb')) h1, h2, ?_⟩
        intro m
        by_cases q : m = n
        · subst q
          rw [pk_us]
          constructor
          · intro w; exact absurd w (n3 b' hb')
          · intro w; exact absurd ((nI_eq (by omega) (by omega)).mp w.2).symm z
        · rw [pk_un q, List.mem_cons, h3 m]
          simp [q]
theorem ct_ed_in (H : ct_no ks vs cn lvl tot bo lv) {p : Nat} (hp : p ∈ lv) {x : Int32} (hx : x ∈ ct_kids ks vs cn lvl p) : ∃ m ∈ lv, x = nI m := by
  obtain ⟨l, h1, h2, _, _, _, h6⟩ := H p hp
  unfold ct_kids at hx
  by_cases z : lvl p = 0
  · rw [if_pos z] at hx; simp at hx
  · rw [if_neg z, List.mem_map] at hx
    obtain ⟨e, he, rfl⟩ := hx
    match l, h1, h6 with
    | 0, h1, _ => exact absurd h1 z
    | l + 1, _, h6 =>
      obtain ⟨cs, hcs⟩ := (h6 l rfl).2
      obtain ⟨c, _, ⟨m, hm, e1, _⟩, _⟩ := ct_up_mem hcs he
      exact ⟨m, hm, e1⟩
theorem ct_ed_in' (H : ct_no ks vs cn lvl tot bo lv) {x : Int32} (hx : x ∈ ct_ed ks vs cn lvl lv) : ∃ m ∈ lv, x = nI m := by
  unfold ct_ed at hx
  rw [List.mem_flatMap] at hx
  obtain ⟨p, hp, hx⟩ := hx
  exact ct_ed_in H hp hx
theorem ct_sum_congr {c : List ct_E} (h : ∀ e ∈ c, tot' e.2.toNatClampNeg = tot e.2.toNatClampNeg) : ct_sum tot' c = ct_sum tot c := by
  unfold ct_sum
  generalize (0 : Int32) = s
  induction c generalizing s with
  | nil => rfl
  | cons e c ih =>
    rw [List.foldl_cons, List.foldl_cons, h e (by simp)]
    exact ih (fun a ha => h a (by simp [ha])) _
theorem ct_alloc {n l : Nat} {p : List ct_E} (H : ct_H0 fh ks vs cn lvl tot rf bo nx bu lv X) (hnl : n ∉ lv) (hn1 : 1 ≤ n) (hn2 : n < 320) (pl' : ct_pl fh' nx' bu' bo' (n :: lv))
    (hb : bo' n = ct_bk l p) (hbo : ∀ m, m ≠ n → bo' m = bo m) (hks : ∀ j, (j < n * 8 ∨ n * 8 + 8 ≤ j) → ks' j = ks j) (hvs : ∀ j, (j < n * 8 ∨ n * 8 + 8 ≤ j) → vs' j = vs j)
    (hcn : cn' n = nI p.length) (hcn' : ∀ m, m ≠ n → cn' m = cn m) (hlv : lvl' n = nI l) (hlv' : ∀ m, m ≠ n → lvl' m = lvl m) (hp1 : 1 ≤ p.length) (hp6 : p.length ≤ 6) (hl : l < 8)
    (hen : ∀ i (h : i < p.length), ks' (n * 8 + i) = (p[i]).1 ∧ vs' (n * 8 + i) = (p[i]).2) (htot : ∀ m, m ≠ n → tot' m = tot m) (ht0 : l = 0 → tot' n = nI p.length) (ht1 : 0 < l → tot' n = ct_sum tot p)
    (hrf : ∀ m, m < 320 → m ≠ n → rf' m = rf m + nI (if l = 0 then 0 else (p.map (·.2)).count (nI m))) (hrf0 : rf' n = 0)
    (hkids : ∀ l', l = l' + 1 → ∃ cs, ct_up (ct_Nd ks vs cn lvl lv) l' cs p) (hnew : ∀ x, ¬ ct_Nd ks vs cn lvl lv x l p) :
    ct_H0 fh' ks' vs' cn' lvl' tot' rf' bo' nx' bu' (n :: lv) X ∧ ∀ x j c, ct_Nd ks' vs' cn' lvl' (n :: lv) x j c ↔ ct_Nd ks vs cn lvl lv x j c ∨ (x = nI n ∧ j = l ∧ c = p) := by
  obtain ⟨hpl, hno, hiu, hrfs, z1, z2, z3⟩ := H
  have hne : ∀ m ∈ lv, m ≠ n := fun m hm z => hnl (z ▸ hm)
  have eo : ∀ m ∈ lv, ct_en ks' vs' cn' m = ct_en ks vs cn m := by
    intro m hm
    obtain ⟨l0, _, _, ⟨k, hk, k1, k2⟩, _⟩ := hno m hm
    have hmn := hne m hm
    unfold ct_en
    rw [hcn' m hmn, hk, nI_clamp (by omega)]
    apply List.map_congr_left
    intro i hi
    rw [List.mem_range] at hi
    rw [hks (m * 8 + i) (by omega), hvs (m * 8 + i) (by omega)]
  have enw : ct_en ks' vs' cn' n = p := by
    have hlen : (ct_en ks' vs' cn' n).length = p.length := ct_en_len hcn hp6
    apply List.ext_getElem hlen
    intro i h1 h2
    rw [ct_en_get h1, (hen i h2).1, (hen i h2).2]
  have hNd : ∀ x j c, ct_Nd ks' vs' cn' lvl' (n :: lv) x j c ↔ ct_Nd ks vs cn lvl lv x j c ∨ (x = nI n ∧ j = l ∧ c = p) := by
    intro x j c
    constructor
    · rintro ⟨m, hm, e1, e2, e3, e4⟩
      rcases List.mem_cons.mp hm with hm | hm
      · subst hm
        rw [hlv] at e2
        exact Or.inr ⟨e1, ((nI_eq (by omega) (by omega)).mp e2).symm, by rw [e4, enw]⟩
      · rw [hlv' m (hne m hm)] at e2
        rw [eo m hm] at e4
        exact Or.inl ⟨m, hm, e1, e2, e3, e4⟩
    · rintro (⟨m, hm, e1, e2, e3, e4⟩ | ⟨e1, e2, e3⟩)
      · exact ⟨m, List.mem_cons_of_mem _ hm, e1, by rw [hlv' m (hne m hm)]; exact e2, e3, by rw [eo m hm]; exact e4⟩
      · exact ⟨n, List.mem_cons_self, e1, by rw [e2]; exact hlv, by omega, by rw [e3, enw]⟩
  have hsub : ∀ x j c, ct_Nd ks vs cn lvl lv x j c → ct_Nd ks' vs' cn' lvl' (n :: lv) x j c := fun x j c h => (hNd x j c).mpr (Or.inl h)
  have hts : ∀ (j : Nat) (c : List ct_E) (cs : List (List ct_E)), ct_up (ct_Nd ks vs cn lvl lv) j cs c → ct_sum tot' c = ct_sum tot c := by
    intro j c cs hc
    apply ct_sum_congr
    intro e he
    obtain ⟨d, _, ⟨m, hm, e1, _⟩, _⟩ := ct_up_mem hc he
    have := ct_pl_in hpl hm
    rw [e1, nI_clamp (by omega)]
    exact htot m (hne m hm)
  have hkn : ∀ m ∈ lv, ct_kids ks' vs' cn' lvl' m = ct_kids ks vs cn lvl m := by
    intro m hm
    unfold ct_kids
    rw [hlv' m (hne m hm), eo m hm]
  have hkk : ct_kids ks' vs' cn' lvl' n = if l = 0 then [] else p.map (·.2) := by
    unfold ct_kids
    rw [hlv, enw]
    by_cases z : l = 0
    · subst z; rfl
    · rw [if_neg z, if_neg (nI_ne0 (by omega) (by omega))]
  have hed : ct_ed ks' vs' cn' lvl' (n :: lv) = (if l = 0 then [] else p.map (·.2)) ++ ct_ed ks vs cn lvl lv := by
    unfold ct_ed
    rw [List.flatMap_cons, hkk]
    congr 1
    exact ct_fm_congr hkn
  have hkin : ∀ x ∈ (if l = 0 then [] else p.map (·.2)), ∃ m ∈ lv, x = nI m := by
    intro x hx
    by_cases z : l = 0
    · rw [if_pos z] at hx; simp at hx
    · rw [if_neg z, List.mem_map] at hx
      obtain ⟨e, he, rfl⟩ := hx
      obtain ⟨cs, hcs⟩ := hkids (l - 1) (by omega)
      obtain ⟨d, _, ⟨m, hm, e1, _⟩, _⟩ := ct_up_mem hcs he
      exact ⟨m, hm, e1⟩
  have hnn : ∀ x, (∃ m ∈ lv, x = nI m) → x ≠ nI n := by
    rintro x ⟨m, hm, rfl⟩ z
    have := ct_pl_in hpl hm
    exact hne m hm ((nI_eq (by omega) (by omega)).mp z)
  refine ⟨⟨pl', ?_, ?_, ⟨?_, ?_⟩, ?_, ?_, ?_⟩, hNd⟩
  · intro m hm
    rcases List.mem_cons.mp hm with hm | hm
    · subst hm
      refine ⟨l, hlv, hl, ⟨p.length, hcn, hp1, hp6⟩, by rw [enw]; exact hb, fun z => by rw [ht0 z, hcn], ?_⟩
      intro l' hl'
      obtain ⟨cs, hcs⟩ := hkids l' hl'
      rw [enw]
      exact ⟨by rw [ht1 (by omega), hts l' p cs hcs], cs, ct_up_of hcs (fun e _ c hc => hsub _ _ _ hc)⟩
    · obtain ⟨l0, g1, g2, g3, g4, g5, g6⟩ := hno m hm
      have hmn := hne m hm
      refine ⟨l0, by rw [hlv' m hmn]; exact g1, g2, by rw [hcn' m hmn]; exact g3, by rw [hbo m hmn, eo m hm]; exact g4, fun z => by rw [htot m hmn, hcn' m hmn]; exact g5 z, ?_⟩
      intro l' hl'
      obtain ⟨q1, cs, hcs⟩ := g6 l' hl'
      rw [eo m hm, htot m hmn]
      exact ⟨by rw [q1, hts l' _ cs hcs], cs, ct_up_of hcs (fun e _ c hc => hsub _ _ _ hc)⟩
  · intro m hm m' hm' e1 e2
    rcases List.mem_cons.mp hm with a1 | a1
    · rcases List.mem_cons.mp hm' with b1 | b1
      · rw [a1, b1]
      · rw [a1, hlv, hlv' m' (hne m' b1)] at e1
        rw [a1, enw, eo m' b1] at e2
        exact absurd ⟨m', b1, rfl, e1.symm, hl, e2⟩ (hnew (nI m'))
    · rcases List.mem_cons.mp hm' with b1 | b1
      · rw [b1, hlv, hlv' m (hne m a1)] at e1
        rw [b1, enw, eo m a1] at e2
        exact absurd ⟨m, a1, rfl, e1, hl, e2.symm⟩ (hnew (nI m))
      · rw [hlv' m (hne m a1), hlv' m' (hne m' b1)] at e1
        rw [eo m a1, eo m' b1] at e2
        exact hiu m a1 m' b1 e1 e2
  · intro m hm
    rw [hed]
    rcases List.mem_cons.mp hm with hm | hm
    · subst hm
      rw [hrf0, List.count_eq_zero.mpr]
      · rfl
      · intro w
        rcases List.mem_append.mp w with w | w
        · rcases List.mem_append.mp w with w | w
          · exact hnn _ (hkin _ w) rfl
          · exact hnn _ (ct_ed_in' hno w) rfl
        · rcases hrfs.2 _ w with w | w
          · exact nI_ne0 (by omega) (by omega) w
          · exact hnn _ w rfl
    · rw [hrf m (ct_pl_in hpl hm).2 (hne m hm), hrfs.1 m hm, nI_add]
      congr 1
      simp only [List.count_append]
      by_cases z : l = 0
      · rw [if_pos z, if_pos z, List.count_nil]; omega
      · rw [if_neg z, if_neg z]; omega
  · intro x hx
    rcases hrfs.2 x hx with h | ⟨m, hm, h⟩
    · exact Or.inl h
    · exact Or.inr ⟨m, List.mem_cons_of_mem _ hm, h⟩
  · rw [hcn' 0 (by omega)]; exact z1
  · rw [hlv' 0 (by omega)]; exact z2
  · rw [htot 0 (by omega)]; exact z3
theorem ct_ch_cut {n q : Nat} {l2 : List Nat} {y : Int32} : ∀ {l0 : List Nat} {h : Int32}, ct_ch nx h (l0 ++ q :: n :: l2) → (l0 ++ q :: n :: l2).Nodup → ct_ch (upd (upd nx q (nx n)) n y) h (l0 ++ q :: l2)
  | [], h, H, D => by
    simp only [List.nil_append] at H D ⊢
    rw [List.nodup_cons, List.nodup_cons, List.mem_cons] at D
    have hqn : q ≠ n := fun z => D.1 (Or.inl z)
    refine ⟨H.1, ?_⟩
    rw [pk_un hqn, pk_us]
    refine ct_ch_congr ?_ H.2.2
    intro m hm
    have m1 : m ≠ n := fun z => D.2.1 (z ▸ hm)
    have m2 : m ≠ q := fun z => D.1 (Or.inr (z ▸ hm))
    rw [pk_un m1, pk_un m2]
  | a :: l0, h, H, D => by
    rw [List.cons_append] at H D ⊢
    rw [List.nodup_cons] at D
    have a1 : a ≠ n := fun z => D.1 (by rw [z]; simp)
    have a2 : a ≠ q := fun z => D.1 (by rw [z]; simp)
    refine ⟨H.1, ?_⟩
    rw [pk_un a1, pk_un a2]
    exact ct_ch_cut H.2 D.2
theorem ct_pl_free (H : ct_pl fh nx bu bo lv) {n b : Nat} (hn : n ∈ lv) (hb : b < 256) (hbo : bo n = nI b) :
    ∃ l1 l2, ct_ch nx (bu b) (l1 ++ n :: l2) ∧ (l1 ++ n :: l2).Nodup ∧ (∀ m ∈ l1 ++ n :: l2, 1 ≤ m ∧ m < 320) ∧ (l1 = [] → ct_pl (nI n) (upd nx n fh) (upd bu b (nx n)) bo (lv.erase n))
      ∧ (∀ l0 q, l1 = l0 ++ [q] → ct_pl (nI n) (upd (upd nx q (nx n)) n fh) bu bo (lv.erase n)) := by
  have hin := fun m (hm : m ∈ lv) => ct_pl_in H hm
  have hlnd := ct_pl_nodup H
  obtain ⟨fr, ch, hp, hf, hc⟩ := H
  have hnd := List.nodup_append.mp (hp.symm.nodup List.nodup_range')
  obtain ⟨l1, l2, hs⟩ := List.append_of_mem (((hc b hb).2.2 n).mpr ⟨hn, hbo⟩)
  obtain ⟨c1, c2, c3⟩ := hc b hb
  rw [hs] at c1 c2 c3
  have c2' := List.nodup_append.mp c2
  have c2'' := List.nodup_cons.mp c2'.2.1
  have hfr : ∀ m ∈ fr, ∀ q ∈ lv, m ≠ q := fun m hm q hq => hnd.2.2 m hm q hq
  have hperm : (n :: fr ++ lv.erase n).Perm (List.range' 1 319) :=
    (List.perm_middle.symm.trans ((List.perm_cons_erase hn).symm.append_left fr)).trans hp
  have hmem : ∀ m, m ∈ l1 ++ l2 ↔ m ∈ lv.erase n ∧ bo m = nI b := by
    intro m
    rw [hlnd.mem_erase_iff]
    have h3 := c3 m
    constructor
    · intro hm
      have hmn : m ≠ n := by
        intro z
        subst z
        rcases List.mem_append.mp hm with hm | hm
        · exact c2'.2.2 m hm m (by simp) rfl
        · exact c2''.1 hm
      have : m ∈ l1 ++ n :: l2 := by
        rcases List.mem_append.mp hm with hm | hm
        · simp [hm]
        · simp [hm]
      exact ⟨⟨hmn, (h3.mp this).1⟩, (h3.mp this).2⟩
    · rintro ⟨⟨a1, a2⟩, a3⟩
      have := h3.mpr ⟨a2, a3⟩
      simp only [List.mem_append, List.mem_cons] at this ⊢
      rcases this with t | t | t
      · exact Or.inl t
      · exact absurd t a1
      · exact Or.inr t
  have hnd12 : (l1 ++ l2).Nodup := List.Nodup.sublist (List.Sublist.append_left (List.sublist_cons_self n l2) l1) c2
  have hother : ∀ b', b' < 256 → b' ≠ b → ∀ m, m ∈ ch b' → bo m ≠ nI b := by
    intro b' hb' hne m hm z
    have := ((hc b' hb').2.2 m).mp hm
    rw [this.2] at z
    exact hne ((nI_eq (by omega) (by omega)).mp z)
  refine ⟨l1, l2, c1, c2, fun m hm => hin m ((c3 m).mp hm).1, ?_, ?_⟩
  · intro z
    subst z
    have cg : ∀ l : List Nat, n ∉ l → ∀ m ∈ l, upd nx n fh m = nx m := fun l hl m hm => pk_un (fun z => hl (z ▸ hm))
    refine ⟨n :: fr, fun b' => if b' = b then [] ++ l2 else ch b', hperm, ⟨rfl, ?_⟩, ?_⟩
    · rw [pk_us]; exact ct_ch_congr (cg fr (fun w => hfr n w n hn rfl)) hf
    · intro b' hb'
      dsimp only
      by_cases z : b' = b
      · subst z
        rw [if_pos rfl, pk_us]
        exact ⟨ct_ch_congr (cg l2 c2''.1) c1.2, hnd12, hmem⟩
      · rw [if_neg z, pk_un z]
        obtain ⟨h1, h2, h3⟩ := hc b' hb'
        have hnb : n ∉ ch b' := fun w => hother b' hb' z n w hbo
        refine ⟨ct_ch_congr (cg _ hnb) h1, h2, ?_⟩
        intro m
        rw [hlnd.mem_erase_iff, h3 m]
        constructor
        · rintro ⟨a1, a2⟩
          refine ⟨⟨?_, a1⟩, a2⟩
          intro w
          subst w
          exact hnb ((h3 m).mpr ⟨a1, a2⟩)
        · rintro ⟨⟨_, a1⟩, a2⟩
          exact ⟨a1, a2⟩
  · intro l0 q z
    subst z
    have hq : q ∈ lv ∧ bo q = nI b := (c3 q).mp (by simp)
    have cg : ∀ l : List Nat, n ∉ l → q ∉ l → ∀ m ∈ l, upd (upd nx q (nx n)) n fh m = nx m := fun l hl hl2 m hm => by
      have a1 : m ≠ n := fun z => hl (z ▸ hm)
      have a2 : m ≠ q := fun z => hl2 (z ▸ hm)
      rw [pk_un a1, pk_un a2]
    refine ⟨n :: fr, fun b' => if b' = b then l0 ++ [q] ++ l2 else ch b', hperm, ⟨rfl, ?_⟩, ?_⟩
    · rw [pk_us]; exact ct_ch_congr (cg fr (fun w => hfr n w n hn rfl) (fun w => hfr q w q hq.1 rfl)) hf
    · intro b' hb'
      dsimp only
      by_cases z : b' = b
      · subst z
        rw [if_pos rfl]
        refine ⟨?_, hnd12, hmem⟩
        rw [List.append_assoc] at c1 c2 ⊢
        exact ct_ch_cut c1 c2
      · rw [if_neg z]
        obtain ⟨h1, h2, h3⟩ := hc b' hb'
        have hnb : n ∉ ch b' := fun w => hother b' hb' z n w hbo
        have hqb : q ∉ ch b' := fun w => hother b' hb' z q w hq.2
        refine ⟨ct_ch_congr (cg _ hnb hqb) h1, h2, ?_⟩
        intro m
        rw [hlnd.mem_erase_iff, h3 m]
        constructor
        · rintro ⟨a1, a2⟩
          refine ⟨⟨?_, a1⟩, a2⟩
          intro w
          subst w
          exact hnb ((h3 m).mpr ⟨a1, a2⟩)
        · rintro ⟨⟨_, a1⟩, a2⟩
          exact ⟨a1, a2⟩
theorem ct_free {n : Nat} (H : ct_H0 fh ks vs cn lvl tot rf bo nx bu lv X) (hn : n ∈ lv) (pl' : ct_pl fh' nx' bu' bo (lv.erase n)) (h0 : (ct_ed ks vs cn lvl lv ++ X).count (nI n) = 0) :
    ct_H0 fh' ks vs cn lvl tot rf bo nx' bu' (lv.erase n) (ct_kids ks vs cn lvl n ++ X) ∧ ∀ x j c, ct_Nd ks vs cn lvl (lv.erase n) x j c ↔ ct_Nd ks vs cn lvl lv x j c ∧ x ≠ nI n := by
  obtain ⟨hpl, hno, hiu, hrfs, z⟩ := H
  have hnd := ct_pl_nodup hpl
  have hp := List.perm_cons_erase hn
  have hed : (ct_ed ks vs cn lvl lv).Perm (ct_kids ks vs cn lvl n ++ ct_ed ks vs cn lvl (lv.erase n)) := hp.flatMap_right _
  rw [List.count_eq_zero] at h0
  have h1 : ∀ m ∈ lv, ∀ x ∈ ct_kids ks vs cn lvl m, x ≠ nI n := by
    intro m hm x hx w
    subst w
    exact h0 (List.mem_append_left _ (List.mem_flatMap.mpr ⟨m, hm, hx⟩))
  have hNd : ∀ x j c, ct_Nd ks vs cn lvl (lv.erase n) x j c ↔ ct_Nd ks vs cn lvl lv x j c ∧ x ≠ nI n := by
    intro x j c
    constructor
    · rintro ⟨m, hm, e1, e2⟩
      rw [hnd.mem_erase_iff] at hm
      have a := ct_pl_in hpl hm.2
      have a' := ct_pl_in hpl hn
      exact ⟨⟨m, hm.2, e1, e2⟩, fun w => hm.1 ((nI_eq (by omega) (by omega)).mp (e1.symm.trans w))⟩
    · rintro ⟨⟨m, hm, e1, e2⟩, w⟩
      exact ⟨m, hnd.mem_erase_iff.mpr ⟨fun q => w (by rw [e1, q]), hm⟩, e1, e2⟩
  refine ⟨⟨pl', ?_, ?_, ⟨?_, ?_⟩, z⟩, hNd⟩
  · intro m hm
    rw [hnd.mem_erase_iff] at hm
    obtain ⟨l0, g1, g2, g3, g4, g5, g6⟩ := hno m hm.2
    refine ⟨l0, g1, g2, g3, g4, g5, ?_⟩
    intro l' hl'
    obtain ⟨q1, cs, hcs⟩ := g6 l' hl'
    refine ⟨q1, cs, ct_up_of hcs (fun e he c hc => (hNd _ _ _).mpr ⟨hc, ?_⟩)⟩
    apply h1 m hm.2
    unfold ct_kids
    rw [if_neg (by rw [g1]; exact nI_ne0 (by omega) (by omega)), List.mem_map]
    exact ⟨e, he, rfl⟩
  · intro m hm m' hm' e1 e2
    rw [hnd.mem_erase_iff] at hm hm'
    exact hiu m hm.2 m' hm'.2 e1 e2
  · intro m hm
    rw [hnd.mem_erase_iff] at hm
    rw [hrfs.1 m hm.2]
    congr 1
    rw [List.count_append, hed.count_eq, List.count_append, List.count_append, List.count_append]
    omega
  · intro x hx
    rcases List.mem_append.mp hx with hx | hx
    · obtain ⟨m, hm, e1⟩ := ct_ed_in hno hn hx
      exact Or.inr ⟨m, hnd.mem_erase_iff.mpr ⟨fun w => h1 n hn x hx (by rw [e1, w]), hm⟩, e1⟩
    · rcases hrfs.2 x hx with h | ⟨m, hm, h⟩
      · exact Or.inl h
      · exact Or.inr ⟨m, hnd.mem_erase_iff.mpr ⟨fun w => h0 (List.mem_append_right _ (by rw [← w, ← h]; exact hx)), hm⟩, h⟩
end
end
section
/-! the arena behind a node relation N -/
theorem cx_ix {x : Int32} {n i : Nat} (hx : x = nI n) (hn : n < 320) (hi : i < 8) : (x <<< ((3 : Int32) &&& 31)) + nI i = nI (n * 8 + i) := by
  subst hx
  rw [pk_shlN _ 3 (by decide) (by omega), nI_add]
theorem cx_ix0 {x : Int32} {n : Nat} (hx : x = nI n) (hn : n < 320) : (x <<< ((3 : Int32) &&& 31)) = nI (n * 8) := by
  subst hx
  rw [pk_shlN _ 3 (by decide) (by omega)]
section
variable {f_minWidth f_maxWidth f_slotCount f_limit f_freeHead f_inCount f_pendCount f_outCount f_difCount f_repCount : Int32} {a_roots a_keys a_vals a_count a_level a_total a_refs a_bucketOf a_nextNode a_buckets a_stack a_curNode a_curIdx a_curHeight a_curDone a_inKey a_inVal a_pendKey a_pendVal a_outKey a_outVal a_difKey a_difA a_difB a_difOurs a_repKey a_repVal : Nat → Int32} {N : ct_N} {X : List Int32} {B : Nat}
theorem ct_HI_fn (H : ct_HI f_freeHead a_keys a_vals a_count a_level a_total a_refs a_bucketOf a_nextNode a_buckets N X B) : ct_fn N := by
  obtain ⟨lv, H0, e, _⟩ := H
  subst e
  exact ct_Nd_fn H0
theorem ct_HI_in (H : ct_HI f_freeHead a_keys a_vals a_count a_level a_total a_refs a_bucketOf a_nextNode a_buckets N X B) : ct_in N := by
  obtain ⟨lv, H0, e, _⟩ := H
  subst e
  exact ct_Nd_in H0
theorem ct_HI_nz (H : ct_HI f_freeHead a_keys a_vals a_count a_level a_total a_refs a_bucketOf a_nextNode a_buckets N X B) : ct_nz N := by
  obtain ⟨lv, H0, e, _⟩ := H
  subst e
  exact ct_Nd_nz H0
theorem ct_HI_l6 (H : ct_HI f_freeHead a_keys a_vals a_count a_level a_total a_refs a_bucketOf a_nextNode a_buckets N X B) : ct_l6 N := by
  obtain ⟨lv, H0, e, _⟩ := H
  subst e
  exact ct_Nd_l6 H0
theorem ct_HI_kd (H : ct_HI f_freeHead a_keys a_vals a_count a_level a_total a_refs a_bucketOf a_nextNode a_buckets N X B) : ct_kd N := by
  obtain ⟨lv, H0, e, _⟩ := H
  subst e
  exact ct_Nd_kd H0
theorem ct_HI_rd (H : ct_HI f_freeHead a_keys a_vals a_count a_level a_total a_refs a_bucketOf a_nextNode a_buckets N X B) {x : Int32} {l : Nat} {c : List ct_E} (hN : N x l c) :
    ∃ n, x = nI n ∧ 1 ≤ n ∧ n < 320 ∧ a_level n = nI l ∧ l < 8 ∧ a_count n = nI c.length ∧ 1 ≤ c.length ∧ c.length ≤ 6
      ∧ (∀ i (h : i < c.length), a_keys (n * 8 + i) = (c[i]).1 ∧ a_vals (n * 8 + i) = (c[i]).2) ∧ (l = 0 → a_total n = nI c.length) ∧ (0 < l → a_total n = ct_sum a_total c) := by
  obtain ⟨lv, H0, e, _⟩ := H
  subst e
  obtain ⟨n, _, h⟩ := ct_Nd_rd H0 hN
  exact ⟨n, h⟩
theorem ct_HI_z (H : ct_HI f_freeHead a_keys a_vals a_count a_level a_total a_refs a_bucketOf a_nextNode a_buckets N X B) : a_count 0 = 0 ∧ a_level 0 = 0 ∧ a_total 0 = 0 := by
  obtain ⟨lv, H0, e, _⟩ := H
  exact H0.2.2.2.2
theorem ct_HI_X (H : ct_HI f_freeHead a_keys a_vals a_count a_level a_total a_refs a_bucketOf a_nextNode a_buckets N X B) {x : Int32} (hx : x ∈ X) : x = 0 ∨ ∃ l c, N x l c := by
  obtain ⟨lv, H0, e, _⟩ := H
  subst e
  rcases H0.2.2.2.1.2 x hx with h | ⟨n, hn, h⟩
  · exact Or.inl h
  · obtain ⟨l, h1, h2, _⟩ := H0.2.1 n hn
    exact Or.inr ⟨l, _, n, hn, h, h1, h2, rfl⟩
theorem ct_HI_perm {X' : List Int32} (H : ct_HI f_freeHead a_keys a_vals a_count a_level a_total a_refs a_bucketOf a_nextNode a_buckets N X B) (hp : X.Perm X') : ct_HI f_freeHead a_keys a_vals a_count a_level a_total a_refs a_bucketOf a_nextNode a_buckets N X' B := by
  obtain ⟨lv, H0, e⟩ := H
  exact ⟨lv, ct_H0_perm H0 hp, e⟩
theorem ct_HI_inc {x : Int32} (H : ct_HI f_freeHead a_keys a_vals a_count a_level a_total a_refs a_bucketOf a_nextNode a_buckets N X B) (hx : x = 0 ∨ ∃ l c, N x l c) : ct_HI f_freeHead a_keys a_vals a_count a_level a_total (upd a_refs x.toNatClampNeg (a_refs x.toNatClampNeg + 1)) a_bucketOf a_nextNode a_buckets N (x :: X) B := by
  obtain ⟨lv, H0, e, hB⟩ := H
  subst e
  rcases hx with hx | ⟨l, c, n, hn, hx, _⟩
  · subst hx
    exact ⟨lv, ct_H0_inc0 _ H0, rfl, hB⟩
  · subst hx
    have := ct_pl_in H0.1 hn
    rw [nI_clamp (by omega)]
    exact ⟨lv, ct_H0_inc hn H0, rfl, hB⟩
theorem ct_HI_drop0 (H : ct_HI f_freeHead a_keys a_vals a_count a_level a_total a_refs a_bucketOf a_nextNode a_buckets N (0 :: X) B) : ct_HI f_freeHead a_keys a_vals a_count a_level a_total a_refs a_bucketOf a_nextNode a_buckets N X B := by
  obtain ⟨lv, H0, e⟩ := H
  exact ⟨lv, ct_H0_drop0 H0, e⟩
theorem ct_HI_B {B' : Nat} (H : ct_HI f_freeHead a_keys a_vals a_count a_level a_total a_refs a_bucketOf a_nextNode a_buckets N X B) (h : B ≤ B') : ct_HI f_freeHead a_keys a_vals a_count a_level a_total a_refs a_bucketOf a_nextNode a_buckets N X B' := by
  obtain ⟨lv, H0, e, hB⟩ := H
  exact ⟨lv, H0, e, by omega⟩
theorem ct_tot_go (H : ct_HI f_freeHead a_keys a_vals a_count a_level a_total a_refs a_bucketOf a_nextNode a_buckets N X B) : ∀ l : Nat, (∀ x c M, N x l c → ct_fd N 0 l c M → a_total x.toNatClampNeg = nI M.length) ∧
    ∀ (cs : List (List ct_E)) (L M : List ct_E), ct_up N l cs L → ct_fd N 0 (l + 1) L M → ∀ s : Nat, L.foldl (fun s e => s + a_total e.2.toNatClampNeg) (nI s) = nI (s + M.length) := by
  have hf := ct_HI_fn H
  have step : ∀ l : Nat, (∀ x c M, N x l c → ct_fd N 0 l c M → a_total x.toNatClampNeg = nI M.length) →
      ∀ (cs : List (List ct_E)) (L M : List ct_E), ct_up N l cs L → ct_fd N 0 (l + 1) L M → ∀ s : Nat, L.foldl (fun s e => s + a_total e.2.toNatClampNeg) (nI s) = nI (s + M.length) := by
    intro l hl cs L
    induction L generalizing cs with
    | nil =>
      intro M _ h2 s
      rw [ct_fd_nil h2]
      rfl
    | cons e L ih =>
      intro M h1 h2 s
      obtain ⟨c, cs', e1, e2, e3, e4⟩ := ct_up_cons h1
      obtain ⟨M1, M2, m1, m2, m3⟩ := ct_fd_inv (L := [e]) (L2 := L) h2
      obtain ⟨ds, d1, d2⟩ := m2
      rw [Nat.zero_add] at d1
      obtain ⟨c', ds', f1, f2, f3, f4⟩ := ct_up_cons d1
      have f5 := ct_up_nil f4
      subst f5 f1
      rw [List.flatten_cons, List.flatten_nil, List.append_nil] at d2
      rw [List.foldl_cons, hl _ _ _ f2 d2, nI_add, ih cs' M2 e4 m3 (s + M1.length), m1, List.length_append, Nat.add_assoc]
  intro l
  induction l with
  | zero =>
    have h0 : ∀ x c M, N x 0 c → ct_fd N 0 0 c M → a_total x.toNatClampNeg = nI M.length := by
      intro x c M hx hM
      obtain ⟨n, e1, n1, n2, _, _, _, _, _, _, e2, _⟩ := ct_HI_rd H hx
      rw [e1, nI_clamp (by omega), e2 rfl, show M = c from hM]
    exact ⟨h0, step 0 h0⟩
  | succ l ih =>
    have h0 : ∀ x c M, N x (l + 1) c → ct_fd N 0 (l + 1) c M → a_total x.toNatClampNeg = nI M.length := by
      intro x c M hx hM
      obtain ⟨n, e1, n1, n2, _, _, _, _, _, _, _, e2⟩ := ct_HI_rd H hx
      obtain ⟨cs, hcs⟩ := ct_HI_kd H _ _ _ hx
      have := ih.2 cs c M hcs hM 0
      rw [Nat.zero_add] at this
      rw [e1, nI_clamp (by omega), e2 (by omega)]
      exact this
    exact ⟨h0, step (l + 1) h0⟩
theorem ct_tot (H : ct_HI f_freeHead a_keys a_vals a_count a_level a_total a_refs a_bucketOf a_nextNode a_buckets N X B) {l : Nat} {x : Int32} {c M : List ct_E} (h1 : N x l c) (h2 : ct_fd N 0 l c M) : a_total x.toNatClampNeg = nI M.length := (ct_tot_go H l).1 x c M h1 h2
theorem ct_rep_tot (H : ct_HI f_freeHead a_keys a_vals a_count a_level a_total a_refs a_bucketOf a_nextNode a_buckets N X B) {m : List ct_E} {r : Int32} (hr : ct_rep N m r) : a_total r.toNatClampNeg = nI m.length := by
  rcases hr with ⟨a, b⟩ | ⟨Es, h, T⟩
  · rw [a, b]; exact (ct_HI_z H).2.2
  · have h1 := ct_tree_top T
    have h2 := ct_chn_fd T.2.2.2.1 (h - 1) (by omega)
    rw [T.2.1] at h2
    exact ct_tot H h1 h2
theorem ct_rep_in (H : ct_HI f_freeHead a_keys a_vals a_count a_level a_total a_refs a_bucketOf a_nextNode a_buckets N X B) {m : List ct_E} {r : Int32} (hr : ct_rep N m r) : ∃ n, r = nI n ∧ n < 320 ∧ vp_in r 320 := by
  rcases hr with ⟨a, b⟩ | ⟨Es, h, T⟩
  · exact ⟨0, b, by omega, by rw [b, ← nI_0]; exact vp_in_nI (by omega) (by omega)⟩
  · obtain ⟨n, e1, n1, n2, _⟩ := ct_HI_rd H (ct_tree_top T)
    exact ⟨n, e1, n2, by rw [e1]; exact vp_in_nI (by omega) (by omega)⟩
end
end
section
/-! walks that only read -/
section
variable {f_minWidth f_maxWidth f_slotCount f_limit f_freeHead f_inCount f_pendCount f_outCount f_difCount f_repCount : Int32} {a_roots a_keys a_vals a_count a_level a_total a_refs a_bucketOf a_nextNode a_buckets a_stack a_curNode a_curIdx a_curHeight a_curDone a_inKey a_inVal a_pendKey a_pendVal a_outKey a_outVal a_difKey a_difA a_difB a_difOurs a_repKey a_repVal : Nat → Int32} {N : ct_N} {X : List Int32} {B : Nat}
theorem cx_height0 {post : Int32 → Prop} (h : post 0) : wpX_height post (f_minWidth, f_maxWidth, f_slotCount, f_limit, f_freeHead, f_inCount, f_pendCount, f_outCount, f_difCount, f_repCount, a_roots, a_keys, a_vals, a_count, a_level, a_total, a_refs, a_bucketOf, a_nextNode, a_buckets, a_stack, a_curNode, a_curIdx, a_curHeight, a_curDone, a_inKey, a_inVal, a_pendKey, a_pendVal, a_outKey, a_outVal, a_difKey, a_difA, a_difB, a_difOurs, a_repKey, a_repVal) 0 := br_t rfl h
theorem cx_height {post : Int32 → Prop} (H : ct_HI f_freeHead a_keys a_vals a_count a_level a_total a_refs a_bucketOf a_nextNode a_buckets N X B) {r : Int32} {l : Nat} {c : List ct_E} (hN : N r l c) (h : post (nI (l + 1))) : wpX_height post (f_minWidth, f_maxWidth, f_slotCount, f_limit, f_freeHead, f_inCount, f_pendCount, f_outCount, f_difCount, f_repCount, a_roots, a_keys, a_vals, a_count, a_level, a_total, a_refs, a_bucketOf, a_nextNode, a_buckets, a_stack, a_curNode, a_curIdx, a_curHeight, a_curDone, a_inKey, a_inVal, a_pendKey, a_pendVal, a_outKey, a_outVal, a_difKey, a_difA, a_difB, a_difOurs, a_repKey, a_repVal) r := by
  obtain ⟨n, e1, n1, n2, e2, _⟩ := ct_HI_rd H hN
  subst e1
  refine br_f (nI_ne0 (by omega) (by omega)) ⟨vp_in_nI (by omega) (by omega), ?_⟩
  rw [nI_clamp (by omega), e2, nI_1]
  exact h
theorem cx_search_17 {post : Int32 → Prop} {b : Int32} {n : Nat} {c : List ct_E} (hn : n < 320) (h6 : c.length ≤ 6) (hk : ∀ i (h : i < c.length), a_keys (n * 8 + i) = (c[i]).1) (hp : post (nI (ct_si b c))) :
    ∀ i, i ≤ c.length → wX_search_17 post (nI n) b f_minWidth f_maxWidth f_slotCount f_limit f_freeHead f_inCount f_pendCount f_outCount f_difCount f_repCount a_roots a_keys a_vals a_count a_level a_total a_refs a_bucketOf a_nextNode a_buckets a_stack a_curNode a_curIdx a_curHeight a_curDone a_inKey a_inVal a_pendKey a_pendVal a_outKey a_outVal a_difKey a_difA a_difB a_difOurs a_repKey a_repVal (i + 1) (nI (i + ct_si b (c.drop i))) (nI i - 1) := by
  intro i
  induction i with
  | zero =>
    intro _
    refine br_t (by decide) ?_
    rw [Nat.zero_add, List.drop_zero]
    exact hp
  | succ i ih =>
    intro hi
    rw [nI_pred]
    have hd : c.drop i = c[i] :: c.drop (i + 1) := List.drop_eq_getElem_cons (by omega)
    have h2 := ih (by omega)
    rw [hd, ct_si_cons] at h2
    have ev : nI i + (-1) = nI i - 1 := by rw [Int32.sub_eq_add_neg]
    have ex := cx_ix (x := nI n) (n := n) (i := i) rfl hn (by omega)
    have hkk := hk i (by omega)
    refine br_f (nI_pos (by omega)) ⟨by rw [ex]; exact vp_in_nI (by omega) (by omega), ?_⟩
    rw [ex, nI_clamp (by omega), hkk]
    by_cases q : b < (c[i]).1
    · rw [if_pos q] at h2
      exact br_f (Int32.not_le.mpr q) (nm_r ev h2)
    · rw [if_neg q] at h2
      refine br_t (Int32.not_lt.mp q) (nm_r ev ?_)
      rw [show i + 1 + ct_si b (c.drop (i + 1)) = i + (ct_si b (c.drop (i + 1)) + 1) by omega]
      exact h2
theorem cx_search {post : Int32 → Prop} (H : ct_HI f_freeHead a_keys a_vals a_count a_level a_total a_refs a_bucketOf a_nextNode a_buckets N X B) {r b : Int32} {l : Nat} {c : List ct_E} (hN : N r l c) (hp : post (nI (ct_si b c))) : wpX_search post (f_minWidth, f_maxWidth, f_slotCount, f_limit, f_freeHead, f_inCount, f_pendCount, f_outCount, f_difCount, f_repCount, a_roots, a_keys, a_vals, a_count, a_level, a_total, a_refs, a_bucketOf, a_nextNode, a_buckets, a_stack, a_curNode, a_curIdx, a_curHeight, a_curDone, a_inKey, a_inVal, a_pendKey, a_pendVal, a_outKey, a_outVal, a_difKey, a_difA, a_difB, a_difOurs, a_repKey, a_repVal) r b := by
  obtain ⟨n, e1, n1, n2, e2, l8, e3, c1, c6, hk, _⟩ := ct_HI_rd H hN
  subst e1
  have hv : vp_in (nI n) 320 := vp_in_nI (by omega) (by omega)
  refine ⟨hv, nm_r (e' := nI (c.length + ct_si b (c.drop c.length))) (by rw [nI_clamp (by omega), e3, List.drop_length]; rfl) ⟨hv, nm_r (e' := nI c.length - 1) (by rw [nI_clamp (by omega), e3]) ⟨c.length + 1, ?_⟩⟩⟩
  exact cx_search_17 n2 c6 (fun i h => (hk i h).1) hp c.length (Nat.le_refl _)
end
end
section
/-! descents: pure facts, look-up -/
theorem ct_pred_toInt {k : Int32} (h : 0 ≤ k) : (k - 1).toInt = k.toInt - 1 := by
  rw [Int32.le_iff_toInt_le, show (0 : Int32).toInt = 0 from by decide] at h
  have := k.toInt_lt
  rw [Int32.toInt_sub, show (1 : Int32).toInt = 1 from by decide]
  exact Int.bmod_eq_of_le (by omega) (by omega)
theorem ct_le_pred {k e : Int32} (h : 0 ≤ k) : e ≤ k - 1 ↔ e < k := by
  rw [Int32.le_iff_toInt_le, Int32.lt_iff_toInt_lt, ct_pred_toInt h]; omega
theorem ct_pred_lt {k e : Int32} (h : 0 ≤ k) : k - 1 < e ↔ k ≤ e := by
  rw [Int32.le_iff_toInt_le, Int32.lt_iff_toInt_lt, ct_pred_toInt h]; omega
theorem ct_xe_top {N : ct_N} {m : List ct_E} {r : Int32} {Es : Nat → List ct_E} {h : Nat} (T : ct_tree N m r Es h) (b : Int32) : (ct_xe Es b (h - 1)).2 = r := by
  obtain ⟨h1, h2, h3, h4, ⟨k, h5⟩, h6⟩ := T
  unfold ct_xe ct_p
  rw [show h - 1 + 1 = h by omega, if_neg (by omega), h5]
  simp
theorem ct_xe_next {N : ct_N} {Es : Nat → List ct_E} {h l : Nat} (b : Int32) (H : ct_chn N Es h) (hs : ct_srt (Es 0)) (hn : Es 0 ≠ []) (hl : l + 1 < h) :
    ∃ hi : ct_xi Es b (l + 1) < (ct_xc Es b (l + 1)).length, ct_xe Es b l = (ct_xc Es b (l + 1))[ct_xi Es b (l + 1)] := by
  obtain ⟨t, cs1, cs2, q1, q2, q3, q4, q5, q6, q7, q8, q9, q10, q11, q12, q13, q14⟩ := ct_pos b H hs hn hl
  obtain ⟨t', ds1, ds2, r1, _⟩ := ct_pos b H hs hn (l := l) (by omega)
  have hx : ct_xi Es b (l + 1) = min (ct_si b (ct_xc Es b (l + 1))) ((ct_xc Es b (l + 1)).length - 1) := by unfold ct_xi; rw [if_neg (by omega)]
  have hpos := List.length_pos_iff.mpr q12
  have hi : ct_xi Es b (l + 1) < (ct_xc Es b (l + 1)).length := by omega
  refine ⟨hi, ?_⟩
  unfold ct_xe
  rw [List.drop_eq_getElem_cons r1, List.drop_eq_getElem_cons hi] at q7
  rw [List.getD_eq_getElem?_getD, List.getElem?_eq_getElem r1, Option.getD_some]
  injection q7
theorem ct_all_le {N : ct_N} {Es : Nat → List ct_E} {h : Nat} (b : Int32) (H : ct_chn N Es h) (hs : ct_srt (Es 0)) (hn : Es 0 ≠ []) :
    ∀ l, l ≤ h → (ct_si b (Es l) = (Es l).length ↔ ct_si b (Es 0) = (Es 0).length) := by
  intro l
  induction l with
  | zero => exact fun _ => Iff.rfl
  | succ l ih =>
    intro hl
    obtain ⟨t, cs1, cs2, _, _, _, _, _, _, _, _, _, _, _, _, _, q⟩ := ct_pos b H hs hn (l := l) (by omega)
    exact q.symm.trans (ih (by omega))
theorem ct_all_get {m : List ct_E} {k : Int32} (hk : 0 ≤ k) (h : ct_si (k - 1) m = m.length) : ct_get m k = 0 := by
  apply ct_get_none
  intro e he z
  have := ct_si_take (k - 1) m e (by rw [h, List.take_length]; exact he)
  rw [ct_le_pred hk, z] at this
  exact Int32.lt_irrefl this
theorem ct_leaf_get {N : ct_N} {Es : Nat → List ct_E} {h : Nat} {k : Int32} (hk : 0 ≤ k) (H : ct_chn N Es h) (hs : ct_srt (Es 0)) (hn : Es 0 ≠ []) (h0 : 0 < h)
    (hi : ct_si (k - 1) (ct_xc Es (k - 1) 0) < (ct_xc Es (k - 1) 0).length) :
    ct_get (Es 0) k = if ((ct_xc Es (k - 1) 0)[ct_si (k - 1) (ct_xc Es (k - 1) 0)]).1 = k then ((ct_xc Es (k - 1) 0)[ct_si (k - 1) (ct_xc Es (k - 1) 0)]).2 else 0 := by
  obtain ⟨t, cs1, cs2, q1, q2, q3, q4, q5, q6, q7, q8, q9, q10, q11, q12, q13, q14⟩ := ct_pos (k - 1) H hs hn h0
  have hxi : ct_xi Es (k - 1) 0 = ct_si (k - 1) (ct_xc Es (k - 1) 0) := rfl
  have hE : Es 0 = (Es 0).take (ct_p Es (k - 1) 0) ++ (Es 0).drop (ct_p Es (k - 1) 0) := (List.take_append_drop _ _).symm
  have hb := ct_si_get hi
  rw [ct_pred_lt hk] at hb
  have hs2 := hs
  rw [hE, q7, hxi, List.drop_eq_getElem_cons hi, List.cons_append] at hs2 ⊢
  generalize (ct_xc Es (k - 1) 0)[ct_si (k - 1) (ct_xc Es (k - 1) 0)] = e at *
  have hs3 := List.pairwise_append.mp hs2
  have hs4 := List.pairwise_cons.mp hs3.2.1
  rw [ct_get_app]
  · by_cases z : e.1 = k
    · rw [if_pos z, ct_get_cons z]
    · rw [if_neg z, ct_get_cons' z]
      apply ct_get_none
      intro a ha w
      have := hs4.1 a ha
      rw [w] at this
      exact Int32.not_le.mpr this hb
  · intro a ha w
    rw [show ct_p Es (k - 1) 0 = ct_si (k - 1) (Es 0) from rfl] at ha
    have := ct_si_take (k - 1) (Es 0) a ha
    rw [ct_le_pred hk, w] at this
    exact Int32.lt_irrefl this
section
variable {f_minWidth f_maxWidth f_slotCount f_limit f_freeHead f_inCount f_pendCount f_outCount f_difCount f_repCount : Int32} {a_roots a_keys a_vals a_count a_level a_total a_refs a_bucketOf a_nextNode a_buckets a_stack a_curNode a_curIdx a_curHeight a_curDone a_inKey a_inVal a_pendKey a_pendVal a_outKey a_outVal a_difKey a_difA a_difB a_difOurs a_repKey a_repVal : Nat → Int32} {N : ct_N} {X : List Int32} {B : Nat}
theorem cx_lookup_s {post : Int32 → Prop} (H : ct_HI f_freeHead a_keys a_vals a_count a_level a_total a_refs a_bucketOf a_nextNode a_buckets N X B) {m : List ct_E} {r : Int32} {Es : Nat → List ct_E} {h : Nat} (T : ct_tree N m r Es h) (hs : ct_srt m) {key : Int32} (hk : 0 ≤ key)
    (hp : post (ct_get m key)) {l f : Nat} (hl : l < h) (hz : l = 0 ∨ ∃ l', l = l' + 1 ∧ wX_lookup_11 post key f_minWidth f_maxWidth f_slotCount f_limit f_freeHead f_inCount f_pendCount f_outCount f_difCount f_repCount a_roots a_keys a_vals a_count a_level a_total a_refs a_bucketOf a_nextNode a_buckets a_stack a_curNode a_curIdx a_curHeight a_curDone a_inKey a_inVal a_pendKey a_pendVal a_outKey a_outVal a_difKey a_difA a_difB a_difOurs a_repKey a_repVal f (ct_xe Es (key - 1) l').2 (nI l')) :
    wX_lookup_11 post key f_minWidth f_maxWidth f_slotCount f_limit f_freeHead f_inCount f_pendCount f_outCount f_difCount f_repCount a_roots a_keys a_vals a_count a_level a_total a_refs a_bucketOf a_nextNode a_buckets a_stack a_curNode a_curIdx a_curHeight a_curDone a_inKey a_inVal a_pendKey a_pendVal a_outKey a_outVal a_difKey a_difA a_difB a_difOurs a_repKey a_repVal (f + 1) (ct_xe Es (key - 1) l).2 (nI l) := by
  obtain ⟨h1, rfl, h3, h4, h5, h6⟩ := T
  obtain ⟨t, cs1, cs2, q1, q2, q3, q4, q5, q6, q7, q8, q9, q10, q11, q12, q13, q14⟩ := ct_pos (key - 1) h4 hs h3 hl
  have hN := q5.1
  obtain ⟨n, e1, n1, n2, e2, l8, e3, c1, c6, hkv, _⟩ := ct_HI_rd H hN
  rw [e1] at hN ⊢
  refine br_f (nI_pos (by omega)) (cx_search H hN ?_)
  refine ⟨vp_in_nI (by omega) (by omega), ?_⟩
  rw [nI_clamp (by omega), e3]
  by_cases hi : ct_si (key - 1) (ct_xc Es (key - 1) l) < (ct_xc Es (key - 1) l).length
  · have hv := vp_in_nI (n := n * 8 + ct_si (key - 1) (ct_xc Es (key - 1) l)) (N := 2560) (by omega) (by omega)
    have hcl := nI_clamp (n := n * 8 + ct_si (key - 1) (ct_xc Es (key - 1) l)) (by omega)
    have hh := hkv _ hi
    refine br_t (nI_lt hi (by omega)) (nm_r (cx_ix rfl n2 (by omega)) ?_)
    rw [hcl, hh.1, hh.2]
    rcases hz with hz | ⟨l', hz, hw⟩
    · subst hz
      have hg := ct_leaf_get hk h4 hs h3 h1 hi
      refine br_t rfl ⟨hv, ?_⟩
      by_cases z : ((ct_xc Es (key - 1) 0)[ct_si (key - 1) (ct_xc Es (key - 1) 0)]).1 = key
      · rw [if_pos z] at hg
        rw [hg] at hp
        exact br_t z ⟨hv, hp⟩
      · rw [if_neg z] at hg
        rw [hg] at hp
        exact br_f z hp
    · subst hz
      obtain ⟨hi', hx⟩ := ct_xe_next (key - 1) h4 hs h3 hl
      have hxi : ct_xi Es (key - 1) (l' + 1) = ct_si (key - 1) (ct_xc Es (key - 1) (l' + 1)) := by
        unfold ct_xi; rw [if_neg (by omega)]; omega
      simp only [hxi] at hx
      rw [hx] at hw
      exact br_f (nI_ne0 (by omega) (by omega)) ⟨hv, nm_e (nm_r (pk_m1 l') hw)⟩
  · have hall : ct_si (key - 1) (ct_xc Es (key - 1) l) = (ct_xc Es (key - 1) l).length := by have := ct_si_le (key - 1) (ct_xc Es (key - 1) l); omega
    have h0 := (ct_all_le (key - 1) h4 hs h3 l (by omega)).mp (q10.mp hall)
    rw [ct_all_get hk h0] at hp
    exact br_f (nI_nlt (by omega) (by omega)) hp
theorem cx_lookup_11 {post : Int32 → Prop} (H : ct_HI f_freeHead a_keys a_vals a_count a_level a_total a_refs a_bucketOf a_nextNode a_buckets N X B) {m : List ct_E} {r : Int32} {Es : Nat → List ct_E} {h : Nat} (T : ct_tree N m r Es h) (hs : ct_srt m) {key : Int32} (hk : 0 ≤ key)
    (hp : post (ct_get m key)) : ∀ l, l < h → wX_lookup_11 post key f_minWidth f_maxWidth f_slotCount f_limit f_freeHead f_inCount f_pendCount f_outCount f_difCount f_repCount a_roots a_keys a_vals a_count a_level a_total a_refs a_bucketOf a_nextNode a_buckets a_stack a_curNode a_curIdx a_curHeight a_curDone a_inKey a_inVal a_pendKey a_pendVal a_outKey a_outVal a_difKey a_difA a_difB a_difOurs a_repKey a_repVal (l + 1) (ct_xe Es (key - 1) l).2 (nI l) := by
  intro l
  induction l with
  | zero => exact fun hl => cx_lookup_s H T hs hk hp hl (Or.inl rfl)
  | succ l ih => exact fun hl => cx_lookup_s H T hs hk hp hl (Or.inr ⟨l, rfl, ih (by omega)⟩)
theorem cx_lookup {post : Int32 → Prop} (H : ct_HI f_freeHead a_keys a_vals a_count a_level a_total a_refs a_bucketOf a_nextNode a_buckets N X B) {m : List ct_E} {r : Int32} (hr : ct_rep N m r) (hm : ct_srt m) {key : Int32} (hk : 0 ≤ key) (hp : post (ct_get m key)) : wpX_lookup post (f_minWidth, f_maxWidth, f_slotCount, f_limit, f_freeHead, f_inCount, f_pendCount, f_outCount, f_difCount, f_repCount, a_roots, a_keys, a_vals, a_count, a_level, a_total, a_refs, a_bucketOf, a_nextNode, a_buckets, a_stack, a_curNode, a_curIdx, a_curHeight, a_curDone, a_inKey, a_inVal, a_pendKey, a_pendVal, a_outKey, a_outVal, a_difKey, a_difA, a_difB, a_difOurs, a_repKey, a_repVal) r key := by
  rcases hr with ⟨a, b⟩ | ⟨Es, h, T⟩
  · subst a b
    unfold wpX_lookup
    dsimp only
    refine cx_height0 ?_
    exact nm_r (e' := -1) (by decide) ⟨1, br_t (by decide) hp⟩
  · have hN := ct_tree_top T
    have h1 := T.1
    unfold wpX_lookup
    dsimp only
    refine cx_height H hN ?_
    refine nm_r (e' := nI (h - 1)) (nI_pred _) ⟨h - 1 + 1, ?_⟩
    rw [← ct_xe_top T (key - 1)]
    exact cx_lookup_11 H T hm hk hp (h - 1) (by omega)
end
end
section
/-! countUpTo and keyAt -/
theorem ct_fd_nil' {N : ct_N} {l : Nat} : ∀ d : Nat, ct_fd N l d [] []
  | 0 => rfl
  | d + 1 => ⟨[], trivial, by rw [List.flatten_nil]; exact ct_fd_nil' d⟩
section
variable {f_minWidth f_maxWidth f_slotCount f_limit f_freeHead f_inCount f_pendCount f_outCount f_difCount f_repCount : Int32} {a_roots a_keys a_vals a_count a_level a_total a_refs a_bucketOf a_nextNode a_buckets a_stack a_curNode a_curIdx a_curHeight a_curDone a_inKey a_inVal a_pendKey a_pendVal a_outKey a_outVal a_difKey a_difA a_difB a_difOurs a_repKey a_repVal : Nat → Int32} {N : ct_N} {X : List Int32} {B : Nat}
theorem cx_cu_41 {post : Int32 → Prop} {J : Int32 → Int32 → Int32 → Prop} {b x5 F : Int32} (H : ct_HI f_freeHead a_keys a_vals a_count a_level a_total a_refs a_bucketOf a_nextNode a_buckets N X B) {n l i : Nat} {c : List ct_E} (hN : N (nI n) (l + 1) c) (n2 : n < 320) (hi : i ≤ c.length)
    (hK1 : ∀ h : i < c.length, J F (c[i]).2 (x5 + (-1))) (hK2 : i = c.length → post F) :
    ∀ d j (s : Int32), j + d = i → ((c.take i).drop j).foldl (fun s e => s + a_total e.2.toNatClampNeg) s = F → wX_countUpTo_41 post J b (nI n) x5 (nI i) f_minWidth f_maxWidth f_slotCount f_limit f_freeHead f_inCount f_pendCount f_outCount f_difCount f_repCount a_roots a_keys a_vals a_count a_level a_total a_refs a_bucketOf a_nextNode a_buckets a_stack a_curNode a_curIdx a_curHeight a_curDone a_inKey a_inVal a_pendKey a_pendVal a_outKey a_outVal a_difKey a_difA a_difB a_difOurs a_repKey a_repVal (d + 1) s (nI j) := by
  obtain ⟨n', e1, n1, n2', e2, l8, e3, c1, c6, hkv, _⟩ := ct_HI_rd H hN
  have : n = n' := (nI_eq (by omega) (by omega)).mp e1
  subst this
  have hk := ct_HI_kd H _ _ _ hN
  obtain ⟨cs, hcs⟩ := hk
  intro d
  induction d with
  | zero =>
    intro j s hj hF
    have : j = i := by omega
    subst this
    rw [List.drop_eq_nil_of_le (by rw [List.length_take]; omega), List.foldl_nil] at hF
    subst hF
    refine br_t (nI_le (by omega) (by omega)) ⟨vp_in_nI (by omega) (by omega), ?_⟩
    rw [nI_clamp (by omega), e3]
    by_cases q : j < c.length
    · have ex := cx_ix (x := nI n) (n := n) (i := j) rfl n2 (by omega)
      refine br_t (nI_lt q (by omega)) ⟨by rw [ex]; exact vp_in_nI (by omega) (by omega), nm_r (e' := (c[j]).2) (by rw [ex, nI_clamp (by omega), (hkv j q).2]) (nm_e (hK1 q))⟩
    · exact br_f (nI_nlt (by omega) (by omega)) (hK2 (by omega))
  | succ d ih =>
    intro j s hj hF
    have q : j < c.length := by omega
    have ex := cx_ix (x := nI n) (n := n) (i := j) rfl n2 (by omega)
    obtain ⟨c', _, hc', _⟩ := ct_up_mem hcs (List.getElem_mem q)
    obtain ⟨n', f1, _, f2, _⟩ := ct_HI_rd H hc'
    have hd : (c.take i).drop j = c[j] :: (c.take i).drop (j + 1) := by
      rw [List.drop_eq_getElem_cons (by rw [List.length_take]; omega), List.getElem_take]
    rw [hd, List.foldl_cons] at hF
    have hx : a_vals ((nI n <<< ((3 : Int32) &&& 31)) + nI j).toNatClampNeg = (c[j]).2 := by rw [ex, nI_clamp (by omega), (hkv j q).2]
    refine br_f (nI_ge (by omega) (by omega)) ⟨by rw [ex]; exact vp_in_nI (by omega) (by omega), by rw [hx, f1]; exact vp_in_nI (by omega) (by omega), nm_r (e' := s + a_total (c[j]).2.toNatClampNeg) (by rw [hx]) (nm_r (nI_1 j) ?_)⟩
    exact ih (j + 1) _ (by omega) hF
theorem cx_cu_s {post : Int32 → Prop} (H : ct_HI f_freeHead a_keys a_vals a_count a_level a_total a_refs a_bucketOf a_nextNode a_buckets N X B) {m : List ct_E} {r : Int32} {Es : Nat → List ct_E} {h : Nat} (T : ct_tree N m r Es h) (hs : ct_srt m) {b : Int32}
    (hp : post (nI (ct_si b m))) {l f s : Nat} (hl : l < h) (hM : ∃ M, ct_fd N 0 (l + 1) ((Es (l + 1)).take (ct_p Es b (l + 1))) M ∧ M.length = s)
    (hz : l = 0 ∨ ∃ l', l = l' + 1 ∧ ∀ s', (∃ M, ct_fd N 0 (l' + 1) ((Es (l' + 1)).take (ct_p Es b (l' + 1))) M ∧ M.length = s') → wX_countUpTo_14 post b f_minWidth f_maxWidth f_slotCount f_limit f_freeHead f_inCount f_pendCount f_outCount f_difCount f_repCount a_roots a_keys a_vals a_count a_level a_total a_refs a_bucketOf a_nextNode a_buckets a_stack a_curNode a_curIdx a_curHeight a_curDone a_inKey a_inVal a_pendKey a_pendVal a_outKey a_outVal a_difKey a_difA a_difB a_difOurs a_repKey a_repVal f (nI s') (ct_xe Es b l').2 (nI l')) :
    wX_countUpTo_14 post b f_minWidth f_maxWidth f_slotCount f_limit f_freeHead f_inCount f_pendCount f_outCount f_difCount f_repCount a_roots a_keys a_vals a_count a_level a_total a_refs a_bucketOf a_nextNode a_buckets a_stack a_curNode a_curIdx a_curHeight a_curDone a_inKey a_inVal a_pendKey a_pendVal a_outKey a_outVal a_difKey a_difA a_difB a_difOurs a_repKey a_repVal (f + 1) (nI s) (ct_xe Es b l).2 (nI l) := by
  obtain ⟨h1, rfl, h3, h4, h5, h6⟩ := T
  obtain ⟨t, cs1, cs2, q1, q2, q3, q4, q5, q6, q7, q8, q9, q10, q11, q12, q13, q14⟩ := ct_pos b h4 hs h3 hl
  have hN := q5.1
  have hf := ct_HI_fn H
  obtain ⟨n, e1, n1, n2, e2, l8, e3, c1, c6, hkv, _⟩ := ct_HI_rd H hN
  obtain ⟨M, hM1, hM2⟩ := hM
  rw [e1] at hN ⊢
  refine br_f (nI_pos (by omega)) (cx_search H hN ?_)
  rcases hz with hz | ⟨l', hz, hw⟩
  · subst hz
    refine br_t rfl ?_
    rw [nI_add]
    obtain ⟨ds, d1, d2⟩ := hM1
    have : ds = cs1 := ct_up_fn hf d1 (by rw [Nat.zero_add]; exact q4)
    subst this
    have hl2 : M = ds.flatten := d2
    have hxi : ct_xi Es b 0 = ct_si b (ct_xc Es b 0) := rfl
    have hpp : ct_p Es b 0 = ct_si b (Es 0) := rfl
    rw [← hM2, hl2, ← hxi, ← q8, hpp]
    exact hp
  · subst hz
    refine br_f (nI_ne0 (by omega) (by omega)) ?_
    have hfd : ∃ M', ct_fd N 0 (l' + 1) (cs1.flatten ++ (ct_xc Es b (l' + 1)).take (ct_si b (ct_xc Es b (l' + 1)))) M' ∧
        ((ct_xc Es b (l' + 1)).take (ct_si b (ct_xc Es b (l' + 1)))).foldl (fun s e => s + a_total e.2.toNatClampNeg) (nI s) = nI M'.length := by
      obtain ⟨ds, d1, d2⟩ := hM1
      have : ds = cs1 := ct_up_fn hf d1 (by rw [Nat.zero_add]; exact q4)
      subst this
      obtain ⟨ks, hks⟩ := ct_HI_kd H _ _ _ hN
      rw [← List.take_append_drop (ct_si b (ct_xc Es b (l' + 1))) (ct_xc Es b (l' + 1))] at hks
      obtain ⟨ks1, ks2, _, hk1, hk2⟩ := ct_up_inv hks
      obtain ⟨M1, hM1⟩ := ct_kd_fd (ct_HI_kd H) hk1
      refine ⟨M ++ M1, ct_fd_app d2 hM1, ?_⟩
      rw [(ct_tot_go H l').2 ks1 _ M1 hk1 hM1 s, List.length_append, hM2]
    obtain ⟨M', hM3, hM4⟩ := hfd
    have hle := ct_si_le b (ct_xc Es b (l' + 1))
    refine ⟨ct_si b (ct_xc Es b (l' + 1)) + 1, cx_cu_41 (l := l') (F := nI M'.length) H hN n2 hle ?_ ?_ (ct_si b (ct_xc Es b (l' + 1))) 0 _ (by omega) (by rw [List.drop_zero]; exact hM4)⟩
    · intro hi
      obtain ⟨hi', hx⟩ := ct_xe_next b h4 hs h3 hl
      have hxi : ct_xi Es b (l' + 1) = ct_si b (ct_xc Es b (l' + 1)) := by
        unfold ct_xi; rw [if_neg (by omega)]; omega
      simp only [hxi] at hx
      rw [← hx, pk_m1]
      refine hw _ ⟨M', ?_, rfl⟩
      rw [q6, hxi]
      exact hM3
    · intro hi
      have ht := q13 hi
      subst ht
      have h0 := (ct_all_le b h4 hs h3 (l' + 1) (by omega)).mp (q10.mp hi)
      have hE := ct_ck_flat (l' + 1) (Es (l' + 1))
      have hcs2 : cs2 = [] := ct_up_nil q5.2.2
      rw [q3, hcs2, List.flatten_append, List.flatten_cons, List.flatten_nil, List.append_nil] at hE
      rw [hi, List.take_length, hE] at hM3
      rw [ct_fd_fn hf hM3 (ct_chn_fd h4 (l' + 1) (by omega)), ← h0]
      exact hp
theorem cx_cu_14 {post : Int32 → Prop} (H : ct_HI f_freeHead a_keys a_vals a_count a_level a_total a_refs a_bucketOf a_nextNode a_buckets N X B) {m : List ct_E} {r : Int32} {Es : Nat → List ct_E} {h : Nat} (T : ct_tree N m r Es h) (hs : ct_srt m) {b : Int32}
    (hp : post (nI (ct_si b m))) : ∀ l, l < h → ∀ s, (∃ M, ct_fd N 0 (l + 1) ((Es (l + 1)).take (ct_p Es b (l + 1))) M ∧ M.length = s) → wX_countUpTo_14 post b f_minWidth f_maxWidth f_slotCount f_limit f_freeHead f_inCount f_pendCount f_outCount f_difCount f_repCount a_roots a_keys a_vals a_count a_level a_total a_refs a_bucketOf a_nextNode a_buckets a_stack a_curNode a_curIdx a_curHeight a_curDone a_inKey a_inVal a_pendKey a_pendVal a_outKey a_outVal a_difKey a_difA a_difB a_difOurs a_repKey a_repVal (l + 1) (nI s) (ct_xe Es b l).2 (nI l) := by
  intro l
  induction l with
  | zero => exact fun hl s hM => cx_cu_s H T hs hp hl hM (Or.inl rfl)
  | succ l ih => exact fun hl s hM => cx_cu_s H T hs hp hl hM (Or.inr ⟨l, rfl, ih (by omega)⟩)
theorem cx_countUpTo {post : Int32 → Prop} (H : ct_HI f_freeHead a_keys a_vals a_count a_level a_total a_refs a_bucketOf a_nextNode a_buckets N X B) {m : List ct_E} {r : Int32} (hr : ct_rep N m r) (hm : ct_srt m) {b : Int32} (hp : post (nI (ct_si b m))) : wpX_countUpTo post (f_minWidth, f_maxWidth, f_slotCount, f_limit, f_freeHead, f_inCount, f_pendCount, f_outCount, f_difCount, f_repCount, a_roots, a_keys, a_vals, a_count, a_level, a_total, a_refs, a_bucketOf, a_nextNode, a_buckets, a_stack, a_curNode, a_curIdx, a_curHeight, a_curDone, a_inKey, a_inVal, a_pendKey, a_pendVal, a_outKey, a_outVal, a_difKey, a_difA, a_difB, a_difOurs, a_repKey, a_repVal) r b := by
  rcases hr with ⟨a, b'⟩ | ⟨Es, h, T⟩
  · subst a b'
    unfold wpX_countUpTo
    dsimp only
    refine cx_height0 ?_
    exact nm_r (e' := -1) (by decide) ⟨1, br_t (by decide) hp⟩
  · have hN := ct_tree_top T
    have h1 := T.1
    unfold wpX_countUpTo
    dsimp only
    refine cx_height H hN ?_
    refine nm_r (e' := nI (h - 1)) (nI_pred _) ⟨h - 1 + 1, ?_⟩
    rw [← ct_xe_top T b]
    refine cx_cu_14 H T hm hp (h - 1) (by omega) 0 ⟨[], ?_, rfl⟩
    have h0 : ct_p Es b (h - 1 + 1) = 0 := by
      obtain ⟨k, hk⟩ := T.2.2.2.2.1
      unfold ct_p
      rw [show h - 1 + 1 = h by omega, if_neg (by omega), hk]
      simp
    rw [h0, List.take_zero]
    exact ⟨[], trivial, by rw [List.flatten_nil]; exact ct_fd_nil' _⟩
end
end
section
/-! keyAt's descent -/
section
variable {f_minWidth f_maxWidth f_slotCount f_limit f_freeHead f_inCount f_pendCount f_outCount f_difCount f_repCount : Int32} {a_roots a_keys a_vals a_count a_level a_total a_refs a_bucketOf a_nextNode a_buckets a_stack a_curNode a_curIdx a_curHeight a_curDone a_inKey a_inVal a_pendKey a_pendVal a_outKey a_outVal a_difKey a_difA a_difB a_difOurs a_repKey a_repVal : Nat → Int32} {N : ct_N} {X : List Int32} {B : Nat}
theorem cx_ka_58 {post : Int32 → Prop} {J : Int32 → Int32 → Int32 → Prop} (H : ct_HI f_freeHead a_keys a_vals a_count a_level a_total a_refs a_bucketOf a_nextNode a_buckets N X B) {n l : Nat} {c : List ct_E} {e0 : ct_E} (hN : N (nI n) (l + 1) c) (n2 : n < 320)
    (hJ : ∀ x d M q, N x l d → ct_fd N 0 l d M → M.length ≤ 32 → M[q]? = some e0 → J x (nI q) (nI l)) :
    ∀ (c2 c1 : List ct_E) (e : ct_E) (M : List ct_E) (q : Nat), c = c1 ++ e :: c2 → ct_fd N 0 (l + 1) (e :: c2) M → M.length ≤ 32 → M[q]? = some e0 →
      wX_keyAt_58 post J (nI n) (nI (l + 1)) f_minWidth f_maxWidth f_slotCount f_limit f_freeHead f_inCount f_pendCount f_outCount f_difCount f_repCount a_roots a_keys a_vals a_count a_level a_total a_refs a_bucketOf a_nextNode a_buckets a_stack a_curNode a_curIdx a_curHeight a_curDone a_inKey a_inVal a_pendKey a_pendVal a_outKey a_outVal a_difKey a_difA a_difB a_difOurs a_repKey a_repVal (c2.length + 1) (nI q) (nI (n * 8 + c1.length)) (nI (c1.length + 1)) := by
  obtain ⟨n', e1, n1, n2', e2, l8, e3, c1', c6, hkv, _⟩ := ct_HI_rd H hN
  have : n = n' := (nI_eq (by omega) (by omega)).mp e1
  subst this
  intro c2
  induction c2 with
  | nil =>
    intro c1 e M q hc hM hM32 hq
    have hlen : c.length = c1.length + 1 := by rw [hc]; simp
    have hx := (hkv c1.length (by omega)).2
    have hg : c[c1.length]'(by omega) = e := by subst hc; simp
    rw [hg] at hx
    obtain ⟨cs, u, hM'⟩ := hM
    rw [Nat.zero_add] at u
    obtain ⟨d, cs', f1, f2, _, f4⟩ := ct_up_cons u
    have f5 := ct_up_nil f4
    subst f5 f1
    rw [List.flatten_cons, List.flatten_nil, List.append_nil] at hM'
    refine ⟨vp_in_nI (by omega) (by omega), br_t ?_ ⟨vp_in_nI (by omega) (by omega), nm_r (e' := e.2) (by rw [nI_clamp (by omega), hx]) (nm_r (pk_m1 l) (hJ _ _ _ _ f2 hM' hM32 hq))⟩⟩
    rw [nI_clamp (by omega), e3, hlen]
    exact nI_le (by omega) (by omega)
  | cons e' c2 ih =>
    intro c1 e M q hc hM hM32 hq
    have hlen : c.length = c1.length + (c2.length + 2) := by rw [hc]; simp
    have hx := (hkv c1.length (by omega)).2
    have hg : c[c1.length]'(by omega) = e := by subst hc; simp
    rw [hg] at hx
    obtain ⟨M1, M2, m1, m2, m3⟩ := ct_fd_inv (L := [e]) (L2 := e' :: c2) hM
    obtain ⟨cs, u, hM'⟩ := m2
    rw [Nat.zero_add] at u
    obtain ⟨d, cs', f1, f2, _, f4⟩ := ct_up_cons u
    have f5 := ct_up_nil f4
    subst f5 f1
    rw [List.flatten_cons, List.flatten_nil, List.append_nil] at hM'
    have ht := ct_tot H f2 hM'
    obtain ⟨k, g1, g2, g3, _⟩ := ct_HI_rd H f2
    have hl1 : M.length = M1.length + M2.length := by rw [m1]; simp
    have hql : q < M.length := by
      apply Classical.byContradiction
      intro z
      rw [List.getElem?_eq_none (by omega)] at hq
      exact absurd hq (by simp)
    have hv := vp_in_nI (n := n * 8 + c1.length) (N := 2560) (by omega) (by omega)
    have hcl := nI_clamp (n := n * 8 + c1.length) (by omega)
    have hv2 : vp_in e.2 320 := by rw [g1]; exact vp_in_nI (by omega) (by omega)
    refine ⟨vp_in_nI (by omega) (by omega), br_f ?_ ?_⟩
    · rw [nI_clamp (by omega), e3, hlen]
      exact nI_ge (by omega) (by omega)
    · rw [hcl, hx, ht]
      refine ⟨hv, hv2, ?_⟩
      by_cases z : q < M1.length
      · refine br_t (nI_lt z (by omega)) ⟨hv, nm_e (nm_r (pk_m1 l) (hJ _ _ M1 _ f2 hM' (by omega) ?_))⟩
        rw [m1, List.getElem?_append_left z] at hq
        exact hq
      · refine br_f (nI_nlt (by omega) (by omega)) ⟨hv, hv2, nm_r (pk_sub (by omega)) (nm_r (nI_1 _) (nm_r (nI_1 _) ?_))⟩
        have h9 := ih (c1 ++ [e]) e' M2 (q - M1.length) (by rw [hc]; simp) m3 (by omega) (by rw [m1, List.getElem?_append_right (by omega)] at hq; exact hq)
        rw [List.length_append, List.length_singleton] at h9
        exact h9
theorem cx_ka_45 {post : Int32 → Prop} (H : ct_HI f_freeHead a_keys a_vals a_count a_level a_total a_refs a_bucketOf a_nextNode a_buckets N X B) {e0 : ct_E} (hp : post e0.1) :
    ∀ l x c M q, N x l c → ct_fd N 0 l c M → M.length ≤ 32 → M[q]? = some e0 → wX_keyAt_45 post f_minWidth f_maxWidth f_slotCount f_limit f_freeHead f_inCount f_pendCount f_outCount f_difCount f_repCount a_roots a_keys a_vals a_count a_level a_total a_refs a_bucketOf a_nextNode a_buckets a_stack a_curNode a_curIdx a_curHeight a_curDone a_inKey a_inVal a_pendKey a_pendVal a_outKey a_outVal a_difKey a_difA a_difB a_difOurs a_repKey a_repVal (l + 1) x (nI q) (nI l) := by
  intro l
  induction l with
  | zero =>
    intro x c M q hN hM hM32 hq
    obtain ⟨n, e1, n1, n2, e2, l8, e3, c1, c6, hkv, _⟩ := ct_HI_rd H hN
    have hM' : M = c := hM
    subst hM' e1
    have hql : q < M.length := by
      apply Classical.byContradiction
      intro z
      rw [List.getElem?_eq_none (by omega)] at hq
      exact absurd hq (by simp)
    have ex := cx_ix (x := nI n) (n := n) (i := q) rfl n2 (by omega)
    rw [List.getElem?_eq_getElem hql, Option.some.injEq] at hq
    refine br_t (by decide) ⟨by rw [ex]; exact vp_in_nI (by omega) (by omega), ?_⟩
    rw [ex, nI_clamp (by omega), (hkv q hql).1, hq]
    exact hp
  | succ l ih =>
    intro x c M q hN hM hM32 hq
    obtain ⟨n, e1, n1, n2, e2, l8, e3, c1, c6, hkv, _⟩ := ct_HI_rd H hN
    subst e1
    refine br_f (nI_nle (by omega) (by omega)) (nm_r (cx_ix0 rfl n2) ?_)
    match c, hN, hM with
    | [], hN, _ => exact absurd rfl (ct_HI_l6 H _ _ _ hN).1
    | e :: c2, hN, hM =>
      exact ⟨c2.length + 1, cx_ka_58 H hN n2 ih c2 [] e M q rfl hM hM32 hq⟩
end
end
section
/-! seek -/
def ct_tr (N : ct_N) (m : List ct_E) (r : Int32) (Es : Nat → List ct_E) (h : Nat) : Prop := (m = [] ∧ r = 0 ∧ h = 0 ∧ Es = fun _ => []) ∨ ct_tree N m r Es h
theorem ct_rep_tr {N : ct_N} {m : List ct_E} {r : Int32} (H : ct_rep N m r) : ∃ Es h, ct_tr N m r Es h := by
  rcases H with ⟨a, b⟩ | ⟨Es, h, T⟩
  · exact ⟨fun _ => [], 0, Or.inl ⟨a, b, rfl, rfl⟩⟩
  · exact ⟨Es, h, Or.inr T⟩
def ct_fc (N : ct_N) (m : List ct_E) (Es : Nat → List ct_E) (h k : Nat) (b : Int32) (cN0 cI0 cD0 cN cI cD : Nat → Int32) : Prop :=
  (∀ j, j < h → cN (8 * k + j) = (ct_xe Es b j).2 ∧ cI (8 * k + j) = nI (ct_xi Es b j)) ∧ (∀ j, (j < 8 * k ∨ 8 * k + h ≤ j) → cN j = cN0 j ∧ cI j = cI0 j)
    ∧ (∀ j, j ≠ k → cD j = cD0 j) ∧ cD k = if ct_si b m = m.length then 1 else cD0 k
section
variable {f_minWidth f_maxWidth f_slotCount f_limit f_freeHead f_inCount f_pendCount f_outCount f_difCount f_repCount : Int32} {a_roots a_keys a_vals a_count a_level a_total a_refs a_bucketOf a_nextNode a_buckets a_stack a_curNode a_curIdx a_curHeight a_curDone a_inKey a_inVal a_pendKey a_pendVal a_outKey a_outVal a_difKey a_difA a_difB a_difOurs a_repKey a_repVal : Nat → Int32} {N : ct_N} {X : List Int32} {B : Nat}
theorem cx_sk_105 {post : SX → Prop} {b : Int32} {n i l k f : Nat} (n2 : n < 320) (i6 : i < 8) (hk : k < 2) (hl : l < 8)
    (h0 : l = 0 → wX_seek_44 post (nI k) b (nI (8 * k)) f_minWidth f_maxWidth f_slotCount f_limit f_freeHead f_inCount f_pendCount f_outCount f_difCount f_repCount f (nI n) (-1) a_roots a_keys a_vals a_count a_level a_total a_refs a_bucketOf a_nextNode a_buckets a_stack (upd a_curNode (8 * k + l) (nI n)) (upd a_curIdx (8 * k + l) (nI i)) a_curHeight a_curDone a_inKey a_inVal a_pendKey a_pendVal a_outKey a_outVal a_difKey a_difA a_difB a_difOurs a_repKey a_repVal)
    (h1 : ∀ l', l = l' + 1 → wX_seek_44 post (nI k) b (nI (8 * k)) f_minWidth f_maxWidth f_slotCount f_limit f_freeHead f_inCount f_pendCount f_outCount f_difCount f_repCount f (a_vals (n * 8 + i)) (nI l') a_roots a_keys a_vals a_count a_level a_total a_refs a_bucketOf a_nextNode a_buckets a_stack (upd a_curNode (8 * k + l) (nI n)) (upd a_curIdx (8 * k + l) (nI i)) a_curHeight a_curDone a_inKey a_inVal a_pendKey a_pendVal a_outKey a_outVal a_difKey a_difA a_difB a_difOurs a_repKey a_repVal) :
    wX_seek_105 post (wX_seek_44 post (nI k) b (nI (8 * k)) f_minWidth f_maxWidth f_slotCount f_limit f_freeHead f_inCount f_pendCount f_outCount f_difCount f_repCount f) (nI k) b (nI (8 * k)) (nI n) (nI l) (nI i) f_minWidth f_maxWidth f_slotCount f_limit f_freeHead f_inCount f_pendCount f_outCount f_difCount f_repCount a_roots a_keys a_vals a_count a_level a_total a_refs a_bucketOf a_nextNode a_buckets a_stack a_curNode a_curIdx a_curHeight a_curDone a_inKey a_inVal a_pendKey a_pendVal a_outKey a_outVal a_difKey a_difA a_difB a_difOurs a_repKey a_repVal := by
  have ea : nI (8 * k) + nI l = nI (8 * k + l) := nI_add _ _
  have hv : vp_in (nI (8 * k) + nI l) 16 := by rw [ea]; exact vp_in_nI (by omega) (by omega)
  have hc : (nI (8 * k) + nI l).toNatClampNeg = 8 * k + l := by rw [ea, nI_clamp (by omega)]
  refine ⟨hv, nm_r (e' := upd a_curNode (8 * k + l) (nI n)) (by rw [hc]) ⟨hv, nm_r (e' := upd a_curIdx (8 * k + l) (nI i)) (by rw [hc]) ?_⟩⟩
  match l, h0, h1 with
  | 0, h0, _ => exact br_t (by decide) (nm_r (e' := -1) (by decide) (h0 rfl))
  | l' + 1, _, h1 =>
    have ex := cx_ix (x := nI n) (n := n) (i := i) rfl n2 i6
    exact br_f (nI_nle (by omega) (by omega)) ⟨by rw [ex]; exact vp_in_nI (by omega) (by omega), nm_r (e' := a_vals (n * 8 + i)) (by rw [ex, nI_clamp (by omega)]) (nm_r (pk_m1 l') (h1 l' rfl))⟩
theorem cx_sk_s {post : SX → Prop} (H : ct_HI f_freeHead a_keys a_vals a_count a_level a_total a_refs a_bucketOf a_nextNode a_buckets N X B) {m : List ct_E} {r : Int32} {Es : Nat → List ct_E} {h : Nat} (T : ct_tree N m r Es h) (hs : ct_srt m) (hh : h ≤ 8) {b : Int32} {k : Nat} (hk : k < 2) {l f : Nat} (hl : l < h)
    (hw : ∀ l', l = l' + 1 → ∀ (a_curNode a_curIdx a_curDone : Nat → Int32), (∀ cN cI cD : Nat → Int32, ct_fc N m Es (l' + 1) k b a_curNode a_curIdx a_curDone cN cI cD → post (f_minWidth, f_maxWidth, f_slotCount, f_limit, f_freeHead, f_inCount, f_pendCount, f_outCount, f_difCount, f_repCount, a_roots, a_keys, a_vals, a_count, a_level, a_total, a_refs, a_bucketOf, a_nextNode, a_buckets, a_stack, cN, cI, a_curHeight, cD, a_inKey, a_inVal, a_pendKey, a_pendVal, a_outKey, a_outVal, a_difKey, a_difA, a_difB, a_difOurs, a_repKey, a_repVal)) → wX_seek_44 post (nI k) b (nI (8 * k)) f_minWidth f_maxWidth f_slotCount f_limit f_freeHead f_inCount f_pendCount f_outCount f_difCount f_repCount (f + 1) (ct_xe Es b l').2 (nI l') a_roots a_keys a_vals a_count a_level a_total a_refs a_bucketOf a_nextNode a_buckets a_stack a_curNode a_curIdx a_curHeight a_curDone a_inKey a_inVal a_pendKey a_pendVal a_outKey a_outVal a_difKey a_difA a_difB a_difOurs a_repKey a_repVal)
    (hp : (∀ cN cI cD : Nat → Int32, ct_fc N m Es (l + 1) k b a_curNode a_curIdx a_curDone cN cI cD → post (f_minWidth, f_maxWidth, f_slotCount, f_limit, f_freeHead, f_inCount, f_pendCount, f_outCount, f_difCount, f_repCount, a_roots, a_keys, a_vals, a_count, a_level, a_total, a_refs, a_bucketOf, a_nextNode, a_buckets, a_stack, cN, cI, a_curHeight, cD, a_inKey, a_inVal, a_pendKey, a_pendVal, a_outKey, a_outVal, a_difKey, a_difA, a_difB, a_difOurs, a_repKey, a_repVal))) : wX_seek_44 post (nI k) b (nI (8 * k)) f_minWidth f_maxWidth f_slotCount f_limit f_freeHead f_inCount f_pendCount f_outCount f_difCount f_repCount (f + 2) (ct_xe Es b l).2 (nI l) a_roots a_keys a_vals a_count a_level a_total a_refs a_bucketOf a_nextNode a_buckets a_stack a_curNode a_curIdx a_curHeight a_curDone a_inKey a_inVal a_pendKey a_pendVal a_outKey a_outVal a_difKey a_difA a_difB a_difOurs a_repKey a_repVal := by
  obtain ⟨h1, rfl, h3, h4, h5, h6⟩ := T
  obtain ⟨t, cs1, cs2, q1, q2, q3, q4, q5, q6, q7, q8, q9, q10, q11, q12, q13, q14⟩ := ct_pos b h4 hs h3 hl
  have hN := q5.1
  obtain ⟨n, e1, n1, n2, e2, l8, e3, c1, c6, hkv, _⟩ := ct_HI_rd H hN
  have hall := ct_all_le b h4 hs h3 l (by omega)
  have hle := ct_si_le b (ct_xc Es b l)
  have hpos := List.length_pos_iff.mpr q12
  -- what follows behind the two stores
  have key : ∀ (cD : Nat → Int32) (i : Nat), i = ct_xi Es b l → i < 8 → (∀ j, j ≠ k → cD j = a_curDone j) → ((cD k = if ct_si b (Es 0) = (Es 0).length then 1 else a_curDone k)) →
      wX_seek_105 post (wX_seek_44 post (nI k) b (nI (8 * k)) f_minWidth f_maxWidth f_slotCount f_limit f_freeHead f_inCount f_pendCount f_outCount f_difCount f_repCount (f + 1)) (nI k) b (nI (8 * k)) (nI n) (nI l) (nI i) f_minWidth f_maxWidth f_slotCount f_limit f_freeHead f_inCount f_pendCount f_outCount f_difCount f_repCount a_roots a_keys a_vals a_count a_level a_total a_refs a_bucketOf a_nextNode a_buckets a_stack a_curNode a_curIdx a_curHeight cD a_inKey a_inVal a_pendKey a_pendVal a_outKey a_outVal a_difKey a_difA a_difB a_difOurs a_repKey a_repVal := by
    intro cD i hi i8 hcD hcDk
    refine cx_sk_105 n2 i8 hk (by omega) ?_ ?_
    · intro z
      subst z
      refine br_t (by decide) (hp _ _ _ ⟨?_, ?_, hcD, hcDk⟩)
      · intro j hj
        have : j = 0 := by omega
        subst this
        rw [pk_us, pk_us, e1, hi]
        exact ⟨rfl, rfl⟩
      · intro j hj
        rw [pk_un (by omega), pk_un (by omega)]
        exact ⟨rfl, rfl⟩
    · intro l' z
      subst z
      obtain ⟨hi', hx⟩ := ct_xe_next b h4 hs h3 hl
      have e9 : a_vals (n * 8 + i) = (ct_xe Es b l').2 := by rw [hx, hi, (hkv _ hi').2]
      rw [e9]
      refine hw l' rfl _ _ _ ?_
      intro cN cI cD' hfc
      obtain ⟨g1, g2, g3, g4⟩ := hfc
      refine hp _ _ _ ⟨?_, ?_, ?_, ?_⟩
      · intro j hj
        by_cases z : j = l' + 1
        · subst z
          obtain ⟨a1, a2⟩ := g2 (8 * k + (l' + 1)) (by omega)
          rw [a1, a2, pk_us, pk_us, e1, hi]
          exact ⟨rfl, rfl⟩
        · exact g1 j (by omega)
      · intro j hj
        obtain ⟨a1, a2⟩ := g2 j (by omega)
        rw [a1, a2, pk_un (by omega), pk_un (by omega)]
        exact ⟨rfl, rfl⟩
      · intro j hj
        rw [g3 j hj, hcD j hj]
      · rw [g4, hcDk]
        by_cases z : ct_si b (Es 0) = (Es 0).length
        · rw [if_pos z, if_pos z]
        · rw [if_neg z, if_neg z]
  rw [e1] at hN ⊢
  refine br_f (nI_pos (by omega)) (cx_search H hN ?_)
  refine ⟨vp_in_nI (by omega) (by omega), ?_⟩
  rw [nI_clamp (n := n) (by omega), e3]
  have hv : vp_in (nI n) 320 := vp_in_nI (by omega) (by omega)
  by_cases hi : ct_si b (ct_xc Es b l) < (ct_xc Es b l).length
  · refine br_t (nI_lt hi (by omega)) ?_
    have hxi : ct_si b (ct_xc Es b l) = ct_xi Es b l := by
      unfold ct_xi
      by_cases z : l = 0
      · rw [if_pos z]
      · rw [if_neg z]; omega
    have hno : ¬ ct_si b (Es 0) = (Es 0).length := fun z => by have := q10.mpr (hall.mpr z); omega
    have K := key a_curDone _ hxi (by omega) (fun _ _ => rfl) (by rw [if_neg hno])
    by_cases z : l = 0
    · exact br_t (by subst z; decide) K
    · refine br_f (nI_nle (by omega) (by omega)) ⟨hv, br_t ?_ K⟩
      rw [nI_clamp (n := n) (by omega), e3]
      exact nI_lt hi (by omega)
  · have hsi : ct_si b (ct_xc Es b l) = (ct_xc Es b l).length := by omega
    have hyes := hall.mp (q10.mp hsi)
    have kv : vp_in (nI k) 2 := vp_in_nI (by omega) (by omega)
    refine br_f (nI_nlt (by omega) (by omega)) ⟨kv, nm_r (e' := upd a_curDone k 1) (by rw [nI_clamp (n := k) (by omega)]; rfl) ?_⟩
    have K := fun i hi1 hi2 => key (upd a_curDone k 1) i hi1 hi2 (fun j hj => pk_un hj) (by rw [if_pos hyes, pk_us])
    by_cases z : l = 0
    · have hxi : ct_si b (ct_xc Es b l) = ct_xi Es b l := by unfold ct_xi; rw [if_pos z]
      exact br_t (by subst z; decide) (K _ hxi (by omega))
    · refine br_f (nI_nle (by omega) (by omega)) ⟨hv, ?_⟩
      rw [nI_clamp (n := n) (by omega), e3]
      have hxi : (ct_xc Es b l).length - 1 = ct_xi Es b l := by unfold ct_xi; rw [if_neg z]; omega
      refine br_f (nI_nlt (by omega) (by omega)) ⟨hv, nm_r (e' := nI ((ct_xc Es b l).length - 1)) (pk_sub (b := 1) (by omega)) (K _ hxi (by omega))⟩
theorem cx_sk_44 {post : SX → Prop} (H : ct_HI f_freeHead a_keys a_vals a_count a_level a_total a_refs a_bucketOf a_nextNode a_buckets N X B) {m : List ct_E} {r : Int32} {Es : Nat → List ct_E} {h : Nat} (T : ct_tree N m r Es h) (hs : ct_srt m) (hh : h ≤ 8) {b : Int32} {k : Nat} (hk : k < 2) :
    ∀ l, l < h → ∀ (a_curNode a_curIdx a_curDone : Nat → Int32), (∀ cN cI cD : Nat → Int32, ct_fc N m Es (l + 1) k b a_curNode a_curIdx a_curDone cN cI cD → post (f_minWidth, f_maxWidth, f_slotCount, f_limit, f_freeHead, f_inCount, f_pendCount, f_outCount, f_difCount, f_repCount, a_roots, a_keys, a_vals, a_count, a_level, a_total, a_refs, a_bucketOf, a_nextNode, a_buckets, a_stack, cN, cI, a_curHeight, cD, a_inKey, a_inVal, a_pendKey, a_pendVal, a_outKey, a_outVal, a_difKey, a_difA, a_difB, a_difOurs, a_repKey, a_repVal)) →
      wX_seek_44 post (nI k) b (nI (8 * k)) f_minWidth f_maxWidth f_slotCount f_limit f_freeHead f_inCount f_pendCount f_outCount f_difCount f_repCount (l + 2) (ct_xe Es b l).2 (nI l) a_roots a_keys a_vals a_count a_level a_total a_refs a_bucketOf a_nextNode a_buckets a_stack a_curNode a_curIdx a_curHeight a_curDone a_inKey a_inVal a_pendKey a_pendVal a_outKey a_outVal a_difKey a_difA a_difB a_difOurs a_repKey a_repVal := by
  intro l
  induction l with
  | zero => exact fun hl _ _ _ hp => cx_sk_s H T hs hh hk hl (fun l' z => absurd z (by omega)) hp
  | succ l ih =>
    intro hl _ _ _ hp
    refine cx_sk_s H T hs hh hk hl ?_ hp
    intro l' z
    have : l = l' := by omega
    subst this
    exact ih (by omega)
theorem cx_seek {post : SX → Prop} (H : ct_HI f_freeHead a_keys a_vals a_count a_level a_total a_refs a_bucketOf a_nextNode a_buckets N X B) {m : List ct_E} {r : Int32} {Es : Nat → List ct_E} {h : Nat} (T : ct_tr N m r Es h) (hs : ct_srt m) (hm : m.length ≤ 32) {b : Int32} {k : Nat} (hk : k < 2)
    (hp : ∀ cN cI cD : Nat → Int32, ct_fc N m Es h k b a_curNode a_curIdx (upd a_curDone k 0) cN cI cD → post (f_minWidth, f_maxWidth, f_slotCount, f_limit, f_freeHead, f_inCount, f_pendCount, f_outCount, f_difCount, f_repCount, a_roots, a_keys, a_vals, a_count, a_level, a_total, a_refs, a_bucketOf, a_nextNode, a_buckets, a_stack, cN, cI, upd a_curHeight k (nI h), cD, a_inKey, a_inVal, a_pendKey, a_pendVal, a_outKey, a_outVal, a_difKey, a_difA, a_difB, a_difOurs, a_repKey, a_repVal)) : wpX_seek post (f_minWidth, f_maxWidth, f_slotCount, f_limit, f_freeHead, f_inCount, f_pendCount, f_outCount, f_difCount, f_repCount, a_roots, a_keys, a_vals, a_count, a_level, a_total, a_refs, a_bucketOf, a_nextNode, a_buckets, a_stack, a_curNode, a_curIdx, a_curHeight, a_curDone, a_inKey, a_inVal, a_pendKey, a_pendVal, a_outKey, a_outVal, a_difKey, a_difA, a_difB, a_difOurs, a_repKey, a_repVal) (nI k) r b := by
  have kv : vp_in (nI k) 2 := vp_in_nI (by omega) (by omega)
  have kc : (nI k).toNatClampNeg = k := nI_clamp (by omega)
  have hb : nI k <<< ((3 : Int32) &&& 31) = nI (8 * k) := by rw [cx_ix0 (x := nI k) (n := k) rfl (by omega), Nat.mul_comm]
  unfold wpX_seek
  dsimp only
  refine nm_r hb ?_
  rcases T with ⟨a1, a2, a3, a4⟩ | T
  · subst a1 a2 a3 a4
    refine cx_height0 ?_
    refine ⟨kv, nm_r (e' := upd a_curHeight k (nI 0)) (by rw [kc]; rfl) (br_t rfl ?_)⟩
    refine ⟨kv, nm_r (e' := upd a_curDone k 1) (by rw [kc]; rfl) ⟨kv, nm_r (e' := -1) (by rw [kc, pk_us]; decide) ⟨1, br_t (by decide) (hp _ _ _ ⟨?_, ?_, ?_, ?_⟩)⟩⟩⟩
    · intro j hj; omega
    · intro j hj; exact ⟨rfl, rfl⟩
    · intro j hj; rw [pk_un hj, pk_un hj]
    · rw [pk_us]; rfl
  · have hN := ct_tree_top T
    have h1 := T.1
    have h5 := ct_tree_5 T hm
    have hr0 : ¬ r = 0 := ct_HI_nz H _ _ _ hN
    refine cx_height H hN ?_
    rw [show h - 1 + 1 = h by omega]
    refine ⟨kv, nm_r (e' := upd a_curHeight k (nI h)) (by rw [kc]) (br_f hr0 ?_)⟩
    refine ⟨kv, nm_r (e' := upd a_curDone k 0) (by rw [kc]; rfl) ⟨kv, nm_r (e' := nI (h - 1)) (by rw [kc, pk_us]; exact pk_sub (b := 1) h1) ⟨h - 1 + 2, ?_⟩⟩⟩
    rw [← ct_xe_top T b]
    refine cx_sk_44 H T hs (by omega) hk (h - 1) (by omega) _ _ _ ?_
    rw [show h - 1 + 1 = h by omega]
    exact hp
end
end
section
/-! discard and release -/
def ct_ref (N : ct_N) (X : List Int32) (x : Int32) : Prop := x ∈ X ∨ ∃ p l c, N p (l + 1) c ∧ x ∈ c.map (·.2)
theorem ct_ch_at {nx : Nat → Int32} {a : Nat} {s : List Nat} : ∀ {p : List Nat} {h : Int32}, ct_ch nx h (p ++ a :: s) → ct_ch nx (nx a) s
  | [], _, H => H.2
  | _ :: p, _, H => ct_ch_at (p := p) H.2
theorem ct_bk_in (l : Nat) (c : List ct_E) : ∃ b, b < 256 ∧ ct_bk l c = nI b := by
  unfold ct_bk ct_b8
  exact pk_andE _ 8 (by decide)
theorem ct_ed_iff {fh : Int32} {ks vs cn lvl tot rf bo nx bu : Nat → Int32} {lv : List Nat} {X : List Int32} (H : ct_H0 fh ks vs cn lvl tot rf bo nx bu lv X) {x : Int32} :
    x ∈ ct_ed ks vs cn lvl lv ↔ ∃ p l c, ct_Nd ks vs cn lvl lv p (l + 1) c ∧ x ∈ c.map (·.2) := by
  unfold ct_ed
  rw [List.mem_flatMap]
  constructor
  · rintro ⟨p, hp, hx⟩
    obtain ⟨l, h1, h2, _⟩ := H.2.1 p hp
    unfold ct_kids at hx
    by_cases z : lvl p = 0
    · rw [if_pos z] at hx; simp at hx
    · rw [if_neg z] at hx
      match l, h1, h2 with
      | 0, h1, _ => exact absurd h1 z
      | l + 1, h1, h2 => exact ⟨nI p, l, _, ⟨p, hp, rfl, h1, h2, rfl⟩, hx⟩
  · rintro ⟨p, l, c, ⟨n, hn, e1, e2, e3, e4⟩, hx⟩
    refine ⟨n, hn, ?_⟩
    unfold ct_kids
    rw [if_neg (by rw [e2]; exact nI_ne0 (by omega) (by omega)), ← e4]
    exact hx
theorem ct_kids_len {fh : Int32} {ks vs cn lvl tot rf bo nx bu : Nat → Int32} {lv : List Nat} {X : List Int32} (H : ct_H0 fh ks vs cn lvl tot rf bo nx bu lv X) : (ct_ed ks vs cn lvl lv).length ≤ 6 * lv.length := by
  have hno := H.2.1
  clear H
  have key : ∀ l : List Nat, (∀ n ∈ l, n ∈ lv) → (ct_ed ks vs cn lvl l).length ≤ 6 * l.length := by
    intro l
    induction l with
    | nil => simp [ct_ed]
    | cons a l ih =>
      intro hl
      have h1 := ih (fun n hn => hl n (by simp [hn]))
      obtain ⟨l0, _, _, ⟨k, hk, _, k6⟩, _⟩ := hno a (hl a (by simp))
      have h2 : (ct_kids ks vs cn lvl a).length ≤ 6 := by
        unfold ct_kids
        by_cases z : lvl a = 0
        · rw [if_pos z]; simp
        · rw [if_neg z, List.length_map, ct_en_len hk k6]; exact k6
      unfold ct_ed at h1 ⊢
      rw [List.flatMap_cons, List.length_append, List.length_cons]
      omega
  exact key lv (fun _ h => h)
theorem ct_lv_len {fh : Int32} {nx bu bo : Nat → Int32} {lv : List Nat} (H : ct_pl fh nx bu bo lv) : lv.length ≤ 319 := by
  obtain ⟨fr, ch, hp, _⟩ := H
  have := hp.length_eq
  rw [List.length_append, List.length_range'] at this
  omega
section
variable {f_minWidth f_maxWidth f_slotCount f_limit f_freeHead f_inCount f_pendCount f_outCount f_difCount f_repCount : Int32} {a_roots a_keys a_vals a_count a_level a_total a_refs a_bucketOf a_nextNode a_buckets a_stack a_curNode a_curIdx a_curHeight a_curDone a_inKey a_inVal a_pendKey a_pendVal a_outKey a_outVal a_difKey a_difA a_difB a_difOurs a_repKey a_repVal : Nat → Int32} {N : ct_N} {X : List Int32} {B : Nat} {lv : List Nat}
theorem cx_disc_80 {post : SX → Prop} {n : Nat} (n2 : n < 320) (h : post (f_minWidth, f_maxWidth, f_slotCount, f_limit, nI n, f_inCount, f_pendCount, f_outCount, f_difCount, f_repCount, a_roots, a_keys, a_vals, a_count, a_level, a_total, a_refs, a_bucketOf, upd a_nextNode n f_freeHead, a_buckets, a_stack, a_curNode, a_curIdx, a_curHeight, a_curDone, a_inKey, a_inVal, a_pendKey, a_pendVal, a_outKey, a_outVal, a_difKey, a_difA, a_difB, a_difOurs, a_repKey, a_repVal)) : wX_discard_80 post (nI n) f_minWidth f_maxWidth f_slotCount f_limit f_freeHead f_inCount f_pendCount f_outCount f_difCount f_repCount a_roots a_keys a_vals a_count a_level a_total a_refs a_bucketOf a_nextNode a_buckets a_stack a_curNode a_curIdx a_curHeight a_curDone a_inKey a_inVal a_pendKey a_pendVal a_outKey a_outVal a_difKey a_difA a_difB a_difOurs a_repKey a_repVal :=
  ⟨vp_in_nI (by omega) (by omega), nm_r (e' := upd a_nextNode n f_freeHead) (by rw [nI_clamp (by omega)]) h⟩
theorem cx_disc_37 {post : SX → Prop} {n : Nat} {l1 l2 : List Nat} (n2 : n < 320) (hin : ∀ m ∈ l1, m < 320) (hnd : (l1 ++ n :: l2).Nodup) (hlen : l1.length ≤ 319)
    (K : ∀ l0 q, l1 = l0 ++ [q] → q < 320 → wX_discard_68 post (nI n) (nI q) f_minWidth f_maxWidth f_slotCount f_limit f_freeHead f_inCount f_pendCount f_outCount f_difCount f_repCount a_roots a_keys a_vals a_count a_level a_total a_refs a_bucketOf a_nextNode a_buckets a_stack a_curNode a_curIdx a_curHeight a_curDone a_inKey a_inVal a_pendKey a_pendVal a_outKey a_outVal a_difKey a_difA a_difB a_difOurs a_repKey a_repVal) :
    ∀ s p a, l1 = p ++ a :: s → ct_ch a_nextNode (a_nextNode a) (s ++ n :: l2) → wX_discard_37 post (nI n) f_minWidth f_maxWidth f_slotCount f_limit f_freeHead f_inCount f_pendCount f_outCount f_difCount f_repCount a_roots a_keys a_vals a_count a_level a_total a_refs a_bucketOf a_nextNode a_buckets a_stack a_curNode a_curIdx a_curHeight a_curDone a_inKey a_inVal a_pendKey a_pendVal a_outKey a_outVal a_difKey a_difA a_difB a_difOurs a_repKey a_repVal (s.length + 1) (nI a) (nI p.length) := by
  intro s
  induction s with
  | nil =>
    intro p a hs hc
    have ha := hin a (by rw [hs]; simp)
    have hl : p.length < 320 := by rw [hs] at hlen; simp at hlen; omega
    refine br_f (nI_ge (b := 320) hl (by omega)) ⟨vp_in_nI (by omega) (by omega), br_t ?_ (K p a hs ha)⟩
    rw [nI_clamp (by omega)]
    exact hc.1
  | cons a' s ih =>
    intro p a hs hc
    have ha := hin a (by rw [hs]; simp)
    have ha' := hin a' (by rw [hs]; simp)
    have hl : p.length < 320 := by rw [hs] at hlen; simp at hlen; omega
    have hne : a' ≠ n := by
      intro z
      subst z
      rw [hs] at hnd
      simp [List.nodup_append, List.nodup_cons] at hnd
    refine br_f (nI_ge (b := 320) hl (by omega)) ⟨vp_in_nI (by omega) (by omega), br_f ?_ ⟨vp_in_nI (by omega) (by omega), nm_r (e' := nI a') ?_ (nm_r (nI_1 _) ?_)⟩⟩
    · rw [nI_clamp (by omega), hc.1]
      exact fun z => hne ((nI_eq (by omega) (by omega)).mp z)
    · rw [nI_clamp (by omega), hc.1]
    · have h9 := ih (p ++ [a]) a' (by rw [hs]; simp) hc.2
      rw [List.length_append, List.length_singleton] at h9
      exact h9
theorem cx_discard {post : SX → Prop} {n b : Nat} (H : ct_pl f_freeHead a_nextNode a_buckets a_bucketOf lv) (hn : n ∈ lv) (hb : b < 256) (hbo : a_bucketOf n = nI b)
    (hp : ∀ (fh : Int32) (nx bu : Nat → Int32), ct_pl fh nx bu a_bucketOf (lv.erase n) → post (f_minWidth, f_maxWidth, f_slotCount, f_limit, fh, f_inCount, f_pendCount, f_outCount, f_difCount, f_repCount, a_roots, a_keys, a_vals, a_count, a_level, a_total, a_refs, a_bucketOf, nx, bu, a_stack, a_curNode, a_curIdx, a_curHeight, a_curDone, a_inKey, a_inVal, a_pendKey, a_pendVal, a_outKey, a_outVal, a_difKey, a_difA, a_difB, a_difOurs, a_repKey, a_repVal)) : wpX_discard post (f_minWidth, f_maxWidth, f_slotCount, f_limit, f_freeHead, f_inCount, f_pendCount, f_outCount, f_difCount, f_repCount, a_roots, a_keys, a_vals, a_count, a_level, a_total, a_refs, a_bucketOf, a_nextNode, a_buckets, a_stack, a_curNode, a_curIdx, a_curHeight, a_curDone, a_inKey, a_inVal, a_pendKey, a_pendVal, a_outKey, a_outVal, a_difKey, a_difA, a_difB, a_difOurs, a_repKey, a_repVal) (nI n) := by
  have n2 := (ct_pl_in H hn).2
  obtain ⟨l1, l2, hc, hnd, hin, k1, k2⟩ := ct_pl_free H hn hb hbo
  have hv : vp_in (nI n) 320 := vp_in_nI (by omega) (by omega)
  have hbv : vp_in (nI b) 256 := vp_in_nI (by omega) (by omega)
  have hcl : (nI n).toNatClampNeg = n := nI_clamp (by omega)
  have hcb : (nI b).toNatClampNeg = b := nI_clamp (by omega)
  have hlen : (l1 ++ n :: l2).length ≤ 319 := by
    have := List.Nodup.length_le_of_subset hnd (l₂ := List.range' 1 319) (by intro m hm; have := hin m hm; rw [List.mem_range'_1]; omega)
    rw [List.length_range'] at this
    exact this
  refine ⟨hv, nm_r (e' := nI b) (by rw [hcl, hbo]) ⟨hbv, ?_⟩⟩
  match l1, hc, hnd, hin, k1, k2, hlen with
  | [], hc, hnd, hin, k1, k2, hlen =>
    refine nm_r (e' := nI n) (by rw [hcb]; exact hc.1) (br_t rfl ⟨hv, hbv, nm_r (e' := upd a_buckets b (a_nextNode n)) (by rw [hcl, hcb]) ?_⟩)
    exact cx_disc_80 n2 (hp _ _ _ (k1 rfl))
  | a :: s, hc, hnd, hin, k1, k2, hlen =>
    have hne : a ≠ n := by
      intro z
      subst z
      simp [List.nodup_cons] at hnd
    have ha := (hin a (by simp)).2
    refine nm_r (e' := nI a) (by rw [hcb]; exact hc.1) (br_f (fun z => hne ((nI_eq (by omega) (by omega)).mp z)) ⟨s.length + 1, ?_⟩)
    refine cx_disc_37 (l1 := a :: s) (l2 := l2) n2 (fun m hm => (hin m (by simp only [List.mem_append]; exact Or.inl hm)).2) hnd (by simp at hlen ⊢; omega) ?_ s [] a rfl hc.2
    intro l0 q hq q2
    refine ⟨hv, vp_in_nI (by omega) (by omega), nm_r (e' := upd a_nextNode q (a_nextNode n)) (by rw [hcl, nI_clamp (by omega)]) ?_⟩
    exact cx_disc_80 n2 (hp _ _ _ (k2 l0 q hq))
end
end
section
/-! release -/
def ct_ri (fh : Int32) (ks vs cn lvl tot rf bo nx bu stk : Nat → Int32) (L t : Nat) (lv : List Nat) (X : List Int32) : Prop :=
  ct_H0 fh ks vs cn lvl tot rf bo nx bu lv ((List.range t).map stk ++ X) ∧ (∀ j, j < t → ∃ n l, n ∈ lv ∧ stk j = nI n ∧ lvl n = nI l ∧ l ≤ L ∧ j ≤ 5 * (L - l))
    ∧ ∀ m ∈ lv, nI m ∈ ct_ed ks vs cn lvl lv ++ ((List.range t).map stk ++ X)
theorem ct_ri_pop {fh : Int32} {ks vs cn lvl tot rf bo nx bu stk : Nat → Int32} {L t : Nat} {lv : List Nat} {X : List Int32} (H : ct_ri fh ks vs cn lvl tot rf bo nx bu stk L (t + 1) lv X) {n : Nat} (hn : n ∈ lv) (hs : stk t = nI n) :
    ct_H0 fh ks vs cn lvl tot (upd rf n (rf n - 1)) bo nx bu lv ((List.range t).map stk ++ X) ∧ ∀ m ∈ lv, m ≠ n → nI m ∈ ct_ed ks vs cn lvl lv ++ ((List.range t).map stk ++ X) := by
  obtain ⟨h1, h2, h3⟩ := H
  have hp : ((List.range (t + 1)).map stk ++ X).Perm (nI n :: ((List.range t).map stk ++ X)) := by
    rw [List.range_succ, List.map_append, List.append_assoc, List.map_singleton, hs]
    exact List.perm_middle
  refine ⟨ct_H0_dec hn (ct_H0_perm h1 hp), ?_⟩
  intro m hm hmn
  have a := ct_pl_in h1.1 hm
  have a' := ct_pl_in h1.1 hn
  rcases List.mem_append.mp (h3 m hm) with w | w
  · exact List.mem_append_left _ w
  · rcases List.mem_cons.mp (hp.mem_iff.mp w) with w | w
    · exact absurd ((nI_eq (by omega) (by omega)).mp w) hmn
    · exact List.mem_append_right _ w
theorem ct_ri_keep {fh : Int32} {ks vs cn lvl tot rf bo nx bu stk : Nat → Int32} {L t : Nat} {lv : List Nat} {X : List Int32} (H : ct_ri fh ks vs cn lvl tot rf bo nx bu stk L (t + 1) lv X) {n : Nat} (hn : n ∈ lv) (hs : stk t = nI n)
    (hc : (ct_ed ks vs cn lvl lv ++ ((List.range t).map stk ++ X)).count (nI n) ≠ 0) : ct_ri fh ks vs cn lvl tot (upd rf n (rf n - 1)) bo nx bu stk L t lv X := by
  obtain ⟨h1, h2⟩ := ct_ri_pop H hn hs
  refine ⟨h1, fun j hj => H.2.1 j (by omega), ?_⟩
  intro m hm
  by_cases z : m = n
  · subst z
    exact List.count_pos_iff.mp (by omega)
  · exact h2 m hm z
theorem ct_ri_free {fh fh' : Int32} {ks vs cn lvl tot rf bo nx bu nx' bu' stk stk' : Nat → Int32} {L t k l : Nat} {lv : List Nat} {X : List Int32} (H : ct_ri fh ks vs cn lvl tot rf bo nx bu stk L (t + 1) lv X) {n : Nat} (hn : n ∈ lv) (hs : stk t = nI n)
    (hc : (ct_ed ks vs cn lvl lv ++ ((List.range t).map stk ++ X)).count (nI n) = 0) (hl : lvl n = nI l) (hl8 : l < 8) (hlL : l ≤ L) (ht : t ≤ 5 * (L - l)) (hk : k = if l = 0 then 0 else (ct_en ks vs cn n).length) (hk6 : k ≤ 6)
    (hs1 : ∀ j, j < t → stk' j = stk j) (hs2 : ∀ j, j < k → stk' (t + j) = vs (n * 8 + j)) (pl' : ct_pl fh' nx' bu' bo (lv.erase n)) :
    ct_ri fh' ks vs cn lvl tot (upd rf n (rf n - 1)) bo nx' bu' stk' L (t + k) (lv.erase n) X ∧ (ct_ed ks vs cn lvl lv).length = k + (ct_ed ks vs cn lvl (lv.erase n)).length := by
  obtain ⟨h1, h2⟩ := ct_ri_pop H hn hs
  obtain ⟨g1, g2⟩ := ct_free h1 hn pl' hc
  have hnd := ct_pl_nodup h1.1
  have hz : lvl n = 0 ↔ l = 0 := by
    constructor
    · intro z
      rw [z] at hl
      exact ((nI_eq (by omega) (by omega)).mp (hl.symm.trans nI_0.symm))
    · intro z; rw [hl, z]; rfl
  have hkids : ct_kids ks vs cn lvl n = (List.range k).map (fun j => vs (n * 8 + j)) := by
    unfold ct_kids
    by_cases z : l = 0
    · rw [if_pos (hz.mpr z), hk, if_pos z]; rfl
    · rw [if_neg (fun w => z (hz.mp w))]
      apply List.ext_getElem
      · rw [List.length_map, List.length_map, List.length_range, hk, if_neg z]
      · intro i i1 i2
        rw [List.getElem_map, List.getElem_map, List.getElem_range, ct_en_get]
  have hst : (List.range (t + k)).map stk' = (List.range t).map stk ++ ct_kids ks vs cn lvl n := by
    rw [hkids, List.range_add, List.map_append, List.map_map]
    congr 1
    · apply List.map_congr_left
      intro j hj
      exact hs1 j (List.mem_range.mp hj)
    · apply List.map_congr_left
      intro j hj
      exact hs2 j (List.mem_range.mp hj)
  have hed : (ct_ed ks vs cn lvl lv).Perm (ct_kids ks vs cn lvl n ++ ct_ed ks vs cn lvl (lv.erase n)) := (List.perm_cons_erase hn).flatMap_right _
  have hkl : (ct_kids ks vs cn lvl n).length = k := by rw [hkids, List.length_map, List.length_range]
  refine ⟨⟨?_, ?_, ?_⟩, ?_⟩
  · refine ct_H0_perm g1 ?_
    rw [hst, ← List.append_assoc]
    exact List.perm_append_comm.append_right X
  · intro j hj
    by_cases z : j < t
    · obtain ⟨m, l', b1, b2, b3⟩ := H.2.1 j (by omega)
      refine ⟨m, l', hnd.mem_erase_iff.mpr ⟨?_, b1⟩, by rw [hs1 j z]; exact b2, b3⟩
      intro w
      subst w
      rw [List.count_eq_zero] at hc
      exact hc (List.mem_append_right _ (List.mem_append_left _ (by rw [← b2]; exact List.mem_map.mpr ⟨j, List.mem_range.mpr z, rfl⟩)))
    · have hl0 : l ≠ 0 := by
        intro w
        rw [if_pos w] at hk
        omega
      have hjk : j - t < k := by omega
      obtain ⟨l0, r1, r2, _, _, _, r6⟩ := h1.2.1 n hn
      have hl0' : l0 = l := (nI_eq (by omega) (by omega)).mp (r1.symm.trans hl)
      subst hl0'
      obtain ⟨cs, hcs⟩ := (r6 (l0 - 1) (by omega)).2
      rw [if_neg hl0] at hk
      obtain ⟨c, _, hN, _⟩ := ct_up_mem hcs (List.getElem_mem (l := ct_en ks vs cn n) (n := j - t) (by omega))
      rw [ct_en_get] at hN
      have hN2 := (g2 _ _ _).mpr ⟨hN, by
        intro w
        rw [List.count_eq_zero] at hc
        apply hc
        refine List.mem_append_left _ (hed.mem_iff.mpr (List.mem_append_left _ ?_))
        rw [hkids, ← w]
        exact List.mem_map.mpr ⟨j - t, List.mem_range.mpr hjk, rfl⟩⟩
      obtain ⟨m, m1, m2, m3, m4, _⟩ := hN2
      refine ⟨m, l0 - 1, m1, ?_, m3, by omega, by omega⟩
      have := hs2 (j - t) hjk
      rw [show t + (j - t) = j by omega] at this
      rw [this]
      exact m2
  · intro m hm
    rw [hnd.mem_erase_iff] at hm
    have := h2 m hm.2 hm.1
    rw [hst]
    rcases List.mem_append.mp this with w | w
    · rcases List.mem_append.mp (hed.mem_iff.mp w) with w | w
      · simp [w]
      · simp [w]
    · rcases List.mem_append.mp w with w | w
      · simp only [List.mem_append]
        exact Or.inr (Or.inl (Or.inl w))
      · simp [w]
  · rw [hed.length_eq, List.length_append, hkl]
section
variable {f_minWidth f_maxWidth f_slotCount f_limit f_freeHead f_inCount f_pendCount f_outCount f_difCount f_repCount : Int32} {a_roots a_keys a_vals a_count a_level a_total a_refs a_bucketOf a_nextNode a_buckets a_stack a_curNode a_curIdx a_curHeight a_curDone a_inKey a_inVal a_pendKey a_pendVal a_outKey a_outVal a_difKey a_difA a_difB a_difOurs a_repKey a_repVal : Nat → Int32} {N : ct_N} {X : List Int32} {B : Nat}
theorem cx_rel_88 {post : SX → Prop} {f n k t ctr b : Nat} {lv : List Nat} (H : ct_pl f_freeHead a_nextNode a_buckets a_bucketOf lv) (hn : n ∈ lv) (hb : b < 256) (hbo : a_bucketOf n = nI b) (hk : k ≤ 6) (ht : t + k ≤ 64) :
    ∀ d i (a_stack : Nat → Int32), i + d = k → (∀ (fh : Int32) (nx bu stk : Nat → Int32), ct_pl fh nx bu a_bucketOf (lv.erase n) → (∀ j, j < t + i → stk j = a_stack j) → (∀ j, i ≤ j → j < k → stk (t + j) = a_vals (n * 8 + j)) →
        wX_release_19 post f (nI (t + k)) (nI (ctr + 1)) f_minWidth f_maxWidth f_slotCount f_limit fh f_inCount f_pendCount f_outCount f_difCount f_repCount a_roots a_keys a_vals a_count a_level a_total a_refs a_bucketOf nx bu stk a_curNode a_curIdx a_curHeight a_curDone a_inKey a_inVal a_pendKey a_pendVal a_outKey a_outVal a_difKey a_difA a_difB a_difOurs a_repKey a_repVal) →
      wX_release_88 post (wX_release_19 post f) (nI ctr) (nI n) (nI k) f_minWidth f_maxWidth f_slotCount f_limit f_freeHead f_inCount f_pendCount f_outCount f_difCount f_repCount (d + 1) (nI (t + i)) (nI i) a_roots a_keys a_vals a_count a_level a_total a_refs a_bucketOf a_nextNode a_buckets a_stack a_curNode a_curIdx a_curHeight a_curDone a_inKey a_inVal a_pendKey a_pendVal a_outKey a_outVal a_difKey a_difA a_difB a_difOurs a_repKey a_repVal := by
  have n2 := (ct_pl_in H hn).2
  intro d
  induction d with
  | zero =>
    intro i a_stack hi K
    have : i = k := by omega
    subst this
    refine br_t (nI_le (by omega) (by omega)) ?_
    refine cx_discard H hn hb hbo ?_
    intro fh nx bu hpl
    exact nm_r (nI_1 ctr) (K fh nx bu a_stack hpl (fun _ _ => rfl) (fun j j1 j2 => by omega))
  | succ d ih =>
    intro i a_stack hi K
    have ex := cx_ix (x := nI n) (n := n) (i := i) rfl n2 (by omega)
    refine br_f (nI_ge (by omega) (by omega)) ⟨by rw [ex]; exact vp_in_nI (by omega) (by omega), vp_in_nI (by omega) (by omega), nm_r (e' := upd a_stack (t + i) (a_vals (n * 8 + i))) (by rw [ex, nI_clamp (by omega), nI_clamp (by omega)]) (nm_r (nI_1 _) (nm_r (nI_1 _) ?_))⟩
    refine ih (i + 1) _ (by omega) ?_
    intro fh nx bu stk hpl s1 s2
    refine K fh nx bu stk hpl ?_ ?_
    · intro j hj
      rw [s1 j (by omega), pk_un (by omega)]
    · intro j j1 j2
      by_cases z : j = i
      · subst z
        rw [s1 (t + j) (by omega), pk_us]
      · exact s2 j (by omega) j2
theorem cx_rel_19 {post : SX → Prop} {L : Nat} (hL : L ≤ 7) (hX : X.length ≤ 100) {lv0 : List Nat}
    (hp : ∀ (lv : List Nat) (fh : Int32) (rf nx bu stk : Nat → Int32), ct_H0 fh a_keys a_vals a_count a_level a_total rf a_bucketOf nx bu lv X → (∀ m ∈ lv, m ∈ lv0) → lv.length ≤ lv0.length → (∀ m ∈ lv, nI m ∈ ct_ed a_keys a_vals a_count a_level lv ++ X) →
      post (f_minWidth, f_maxWidth, f_slotCount, f_limit, fh, f_inCount, f_pendCount, f_outCount, f_difCount, f_repCount, a_roots, a_keys, a_vals, a_count, a_level, a_total, rf, a_bucketOf, nx, bu, stk, a_curNode, a_curIdx, a_curHeight, a_curDone, a_inKey, a_inVal, a_pendKey, a_pendVal, a_outKey, a_outVal, a_difKey, a_difA, a_difB, a_difOurs, a_repKey, a_repVal)) :
    ∀ (f t ctr : Nat) (lv : List Nat) (f_freeHead : Int32) (a_refs a_nextNode a_buckets a_stack : Nat → Int32), ct_ri f_freeHead a_keys a_vals a_count a_level a_total a_refs a_bucketOf a_nextNode a_buckets a_stack L t lv X → t + (ct_ed a_keys a_vals a_count a_level lv).length < f → t + (ct_ed a_keys a_vals a_count a_level lv).length + ctr ≤ 4000 →
      (∀ m ∈ lv, m ∈ lv0) → lv.length ≤ lv0.length → wX_release_19 post f (nI t) (nI ctr) f_minWidth f_maxWidth f_slotCount f_limit f_freeHead f_inCount f_pendCount f_outCount f_difCount f_repCount a_roots a_keys a_vals a_count a_level a_total a_refs a_bucketOf a_nextNode a_buckets a_stack a_curNode a_curIdx a_curHeight a_curDone a_inKey a_inVal a_pendKey a_pendVal a_outKey a_outVal a_difKey a_difA a_difB a_difOurs a_repKey a_repVal := by
  intro f
  induction f with
  | zero => intro t ctr lv _ _ _ _ _ _ h; omega
  | succ f ih =>
    intro t ctr lv f_freeHead a_refs a_nextNode a_buckets a_stack H hf hctr hsub hlen
    refine br_f (nI_ge (b := 4096) (by omega) (by omega)) ?_
    match t, H, hf, hctr with
    | 0, H, _, _ => exact br_t (by decide) (hp lv _ _ _ _ _ H.1 hsub hlen H.2.2)
    | t + 1, H, hf, hctr =>
      obtain ⟨n, l, hn, hst, hl, hlL, htb⟩ := H.2.1 t (by omega)
      have n2 := ct_pl_in H.1.1 hn
      obtain ⟨l0, r1, r2, ⟨kk, hkk, kk1, kk6⟩, r4, _, _⟩ := H.1.2.1 n hn
      have hl0' : l0 = l := (nI_eq (by omega) (by omega)).mp (r1.symm.trans hl)
      subst hl0'
      obtain ⟨b, hb, hbk⟩ := ct_bk_in l0 (ct_en a_keys a_vals a_count n)
      rw [hbk] at r4
      have hv : vp_in (nI n) 320 := vp_in_nI (by omega) (by omega)
      have hcl : (nI n).toNatClampNeg = n := nI_clamp (by omega)
      have Hd := ct_ri_pop H hn hst
      have hrf := Hd.1.2.2.2.1.1 n hn
      have hlt : (ct_ed a_keys a_vals a_count a_level lv ++ ((List.range t).map a_stack ++ X)).count (nI n) < 2 ^ 31 := by
        have h1 := List.count_le_length (a := nI n) (l := ct_ed a_keys a_vals a_count a_level lv ++ ((List.range t).map a_stack ++ X))
        rw [List.length_append, List.length_append, List.length_map, List.length_range] at h1
        omega
      refine br_f (nI_nle (by omega) (by omega)) (nm_r (pk_m1 t) ⟨vp_in_nI (by omega) (by omega), nm_r (e' := nI n) (by rw [nI_clamp (by omega)]; exact hst) ⟨hv, hv, nm_r (e' := upd a_refs n (a_refs n - 1)) (by rw [hcl]) ⟨hv, ?_⟩⟩⟩)
      rw [hcl, hrf]
      by_cases hc : (ct_ed a_keys a_vals a_count a_level lv ++ ((List.range t).map a_stack ++ X)).count (nI n) = 0
      · rw [hc]
        refine br_t rfl ⟨hv, ?_⟩
        have K : ∀ k, k = (if l0 = 0 then 0 else (ct_en a_keys a_vals a_count n).length) → k ≤ 6 → ∃ n88, wX_release_88 post (wX_release_19 post f) (nI ctr) (nI n) (nI k) f_minWidth f_maxWidth f_slotCount f_limit f_freeHead f_inCount f_pendCount f_outCount f_difCount f_repCount n88 (nI t) 0 a_roots a_keys a_vals a_count a_level a_total (upd a_refs n (a_refs n - 1)) a_bucketOf a_nextNode a_buckets a_stack a_curNode a_curIdx a_curHeight a_curDone a_inKey a_inVal a_pendKey a_pendVal a_outKey a_outVal a_difKey a_difA a_difB a_difOurs a_repKey a_repVal := by
          intro k hk k6
          refine ⟨k + 1, cx_rel_88 (t := t) H.1.1 hn hb r4 k6 (by omega) k 0 _ (by omega) ?_⟩
          intro fh nx bu stk hpl s1 s2
          obtain ⟨g1, g2⟩ := ct_ri_free (k := k) H hn hst hc hl r2 hlL htb hk k6 (fun j hj => s1 j (by omega)) (fun j hj => s2 j (by omega) hj) hpl
          refine ih _ _ _ _ _ _ _ _ g1 (by omega) (by omega) ?_ ?_
          · intro m hm; exact hsub m (List.mem_of_mem_erase hm)
          · have := List.length_erase_of_mem hn; omega
        rw [r1]
        by_cases z : l0 = 0
        · refine br_t (by subst z; decide) ?_
          exact K 0 (by rw [if_pos z]) (by omega)
        · refine br_f (nI_nle (by omega) (by omega)) ⟨hv, nm_r (e' := nI kk) hkk ?_⟩
          exact K kk (by rw [if_neg z, ct_en_len hkk kk6]) kk6
      · refine br_f (nI_ne0 (by omega) hlt) (nm_r (nI_1 ctr) ?_)
        exact ih t (ctr + 1) lv _ _ _ _ _ (ct_ri_keep H hn hst hc) (by omega) (by omega) hsub hlen
theorem cx_release {post : SX → Prop} {r : Int32} (H : ct_HI f_freeHead a_keys a_vals a_count a_level a_total a_refs a_bucketOf a_nextNode a_buckets N (r :: X) B) (hX : X.length ≤ 99) (hR : ∀ x l c, N x l c → ct_ref N (r :: X) x)
    (hp : ∀ (fh : Int32) (rf nx bu stk : Nat → Int32) (N' : ct_N), ct_HI fh a_keys a_vals a_count a_level a_total rf a_bucketOf nx bu N' X B → (∀ x l c, N' x l c → N x l c) → (∀ x l c, N' x l c → ct_ref N' X x) →
      post (f_minWidth, f_maxWidth, f_slotCount, f_limit, fh, f_inCount, f_pendCount, f_outCount, f_difCount, f_repCount, a_roots, a_keys, a_vals, a_count, a_level, a_total, rf, a_bucketOf, nx, bu, stk, a_curNode, a_curIdx, a_curHeight, a_curDone, a_inKey, a_inVal, a_pendKey, a_pendVal, a_outKey, a_outVal, a_difKey, a_difA, a_difB, a_difOurs, a_repKey, a_repVal)) : wpX_release post (f_minWidth, f_maxWidth, f_slotCount, f_limit, f_freeHead, f_inCount, f_pendCount, f_outCount, f_difCount, f_repCount, a_roots, a_keys, a_vals, a_count, a_level, a_total, a_refs, a_bucketOf, a_nextNode, a_buckets, a_stack, a_curNode, a_curIdx, a_curHeight, a_curDone, a_inKey, a_inVal, a_pendKey, a_pendVal, a_outKey, a_outVal, a_difKey, a_difA, a_difB, a_difOurs, a_repKey, a_repVal) r := by
  have hrin := ct_HI_X H (x := r) (by simp)
  obtain ⟨lv, H0, rfl, hB⟩ := H
  have hall : ∀ m ∈ lv, nI m ∈ ct_ed a_keys a_vals a_count a_level lv ++ (r :: X) := by
    intro m hm
    obtain ⟨l, h1, h2, _⟩ := H0.2.1 m hm
    rcases hR (nI m) l _ ⟨m, hm, rfl, h1, h2, rfl⟩ with w | w
    · exact List.mem_append_right _ w
    · exact List.mem_append_left _ ((ct_ed_iff H0).mpr w)
  have hlen := ct_lv_len H0.1
  have hpost : ∀ (lv' : List Nat) (fh : Int32) (rf nx bu stk : Nat → Int32), ct_H0 fh a_keys a_vals a_count a_level a_total rf a_bucketOf nx bu lv' X → (∀ m ∈ lv', m ∈ lv) → lv'.length ≤ lv.length → (∀ m ∈ lv', nI m ∈ ct_ed a_keys a_vals a_count a_level lv' ++ X) →
      post (f_minWidth, f_maxWidth, f_slotCount, f_limit, fh, f_inCount, f_pendCount, f_outCount, f_difCount, f_repCount, a_roots, a_keys, a_vals, a_count, a_level, a_total, rf, a_bucketOf, nx, bu, stk, a_curNode, a_curIdx, a_curHeight, a_curDone, a_inKey, a_inVal, a_pendKey, a_pendVal, a_outKey, a_outVal, a_difKey, a_difA, a_difB, a_difOurs, a_repKey, a_repVal) := by
    intro lv' fh rf nx bu stk g1 g2 g3 g4
    refine hp fh rf nx bu stk _ ⟨lv', g1, rfl, by omega⟩ ?_ ?_
    · rintro x l c ⟨n, hn, e⟩
      exact ⟨n, g2 n hn, e⟩
    · rintro x l c ⟨n, hn, e1, e⟩
      rw [e1]
      rcases List.mem_append.mp (g4 n hn) with w | w
      · exact Or.inr ((ct_ed_iff g1).mp w)
      · exact Or.inl w
  unfold wpX_release
  dsimp only
  refine nm_e ?_
  rcases hrin with z | ⟨l, c, n, hn, e1, e2, e3, e4⟩
  · subst z
    refine br_t rfl ⟨1, ?_⟩
    refine br_f (by decide) (br_t (by decide) (hpost lv _ _ _ _ _ (ct_H0_drop0 H0) (fun _ h => h) (Nat.le_refl _) ?_))
    intro m hm
    have a := ct_pl_in H0.1 hm
    rcases List.mem_append.mp (hall m hm) with w | w
    · exact List.mem_append_left _ w
    · rcases List.mem_cons.mp w with w | w
      · exact absurd w (nI_ne0 (by omega) (by omega))
      · exact List.mem_append_right _ w
  · have a := ct_pl_in H0.1 hn
    have hk := ct_kids_len H0
    refine br_f (by rw [e1]; exact nI_ne0 (by omega) (by omega)) ⟨1 + (ct_ed a_keys a_vals a_count a_level lv).length + 1, ?_⟩
    refine cx_rel_19 (L := 7) (by omega) (by omega) hpost _ 1 0 lv _ _ _ _ _ ⟨?_, ?_, ?_⟩ (by omega) (by omega) (fun _ h => h) (Nat.le_refl _)
    · exact H0
    · intro j hj
      have : j = 0 := by omega
      subst this
      exact ⟨n, l, hn, by rw [pk_us]; exact e1, e2, by omega, by omega⟩
    · exact hall
end
end
section
/-! matches, create -/
def ct_ci (n lv : Nat) (p : List ct_E) (i : Nat) (ks0 vs0 tot0 rf0 ks vs tot rf : Nat → Int32) : Prop :=
  (∀ j, (j < n * 8 ∨ n * 8 + 8 ≤ j) → ks j = ks0 j ∧ vs j = vs0 j) ∧ (∀ j (h : j < p.length), j < i → ks (n * 8 + j) = (p[j]).1 ∧ vs (n * 8 + j) = (p[j]).2) ∧ (∀ m, m ≠ n → tot m = tot0 m)
    ∧ (lv = 0 → tot n = nI p.length) ∧ (0 < lv → tot n = ct_sum tot0 (p.take i)) ∧ (∀ m, m < 320 → m ≠ n → rf m = rf0 m + nI (if lv = 0 then 0 else ((p.take i).map (·.2)).count (nI m))) ∧ rf n = 0
section
variable {f_minWidth f_maxWidth f_slotCount f_limit f_freeHead f_inCount f_pendCount f_outCount f_difCount f_repCount : Int32} {a_roots a_keys a_vals a_count a_level a_total a_refs a_bucketOf a_nextNode a_buckets a_stack a_curNode a_curIdx a_curHeight a_curDone a_inKey a_inVal a_pendKey a_pendVal a_outKey a_outVal a_difKey a_difA a_difB a_difOurs a_repKey a_repVal : Nat → Int32} {N : ct_N} {X : List Int32} {B : Nat}
theorem cx_mat_32 {post : Int32 → Prop} {n : Nat} {c p : List ct_E} (n2 : n < 320) (h6 : p.length ≤ 6) (hcp : c.length = p.length) (hkv : ∀ i (h : i < c.length), a_keys (n * 8 + i) = (c[i]).1 ∧ a_vals (n * 8 + i) = (c[i]).2)
    (hpc : f_pendCount = nI p.length) (hpk : ∀ i (h : i < p.length), a_pendKey i = (p[i]).1 ∧ a_pendVal i = (p[i]).2) (h1 : c = p → post 1) (h0 : c ≠ p → post 0) :
    ∀ d i, i + d = p.length → (∀ j (h : j < p.length), j < i → c[j]'(by omega) = p[j]) → wX_matches_32 post (nI (n * 8)) f_minWidth f_maxWidth f_slotCount f_limit f_freeHead f_inCount f_pendCount f_outCount f_difCount f_repCount a_roots a_keys a_vals a_count a_level a_total a_refs a_bucketOf a_nextNode a_buckets a_stack a_curNode a_curIdx a_curHeight a_curDone a_inKey a_inVal a_pendKey a_pendVal a_outKey a_outVal a_difKey a_difA a_difB a_difOurs a_repKey a_repVal (d + 1) (nI i) := by
  subst hpc
  intro d
  induction d with
  | zero =>
    intro i hi hag
    have : i = p.length := by omega
    subst this
    refine br_t (nI_le (by omega) (by omega)) (h1 (List.ext_getElem hcp (fun j j1 j2 => hag j j2 j2)))
  | succ d ih =>
    intro i hi hag
    have q : i < p.length := by omega
    have ex : nI (n * 8) + nI i = nI (n * 8 + i) := nI_add _ _
    have hv : vp_in (nI (n * 8) + nI i) 2560 := by rw [ex]; exact vp_in_nI (by omega) (by omega)
    have hv8 : vp_in (nI i) 8 := vp_in_nI (by omega) (by omega)
    have hc1 := hkv i (by omega)
    have hc2 := hpk i q
    refine br_f (nI_ge (by omega) (by omega)) ⟨hv, hv8, ?_⟩
    rw [ex, nI_clamp (by omega), nI_clamp (by omega), hc1.1, hc1.2, hc2.1, hc2.2]
    by_cases z1 : (c[i]'(by omega)).1 = (p[i]).1
    · rw [← ex]
      refine br_t z1 ⟨hv, hv8, ?_⟩
      by_cases z2 : (c[i]'(by omega)).2 = (p[i]).2
      · refine br_t z2 (nm_r (nI_1 i) (ih (i + 1) (by omega) ?_))
        intro j hj hji
        by_cases z : j = i
        · subst z; exact Prod.ext z1 z2
        · exact hag j hj (by omega)
      · refine br_f z2 (h0 ?_)
        intro w
        subst w
        exact z2 rfl
    · refine br_f z1 (h0 ?_)
      intro w
      subst w
      exact z1 rfl
theorem cx_matches {post : Int32 → Prop} (H : ct_HI f_freeHead a_keys a_vals a_count a_level a_total a_refs a_bucketOf a_nextNode a_buckets N X B) {x : Int32} {l lv : Nat} {c p : List ct_E} (hN : N x l c) (hlv : lv < 8) (hpc : f_pendCount = nI p.length) (h6 : p.length ≤ 6)
    (hpk : ∀ i (h : i < p.length), a_pendKey i = (p[i]).1 ∧ a_pendVal i = (p[i]).2) (h1 : l = lv ∧ c = p → post 1) (h0 : ¬ (l = lv ∧ c = p) → post 0) : wpX_matches post (f_minWidth, f_maxWidth, f_slotCount, f_limit, f_freeHead, f_inCount, f_pendCount, f_outCount, f_difCount, f_repCount, a_roots, a_keys, a_vals, a_count, a_level, a_total, a_refs, a_bucketOf, a_nextNode, a_buckets, a_stack, a_curNode, a_curIdx, a_curHeight, a_curDone, a_inKey, a_inVal, a_pendKey, a_pendVal, a_outKey, a_outVal, a_difKey, a_difA, a_difB, a_difOurs, a_repKey, a_repVal) x (nI lv) := by
  obtain ⟨n, e1, n1, n2, e2, l8, e3, c1, c6, hkv, _⟩ := ct_HI_rd H hN
  subst e1
  have hv : vp_in (nI n) 320 := vp_in_nI (by omega) (by omega)
  refine ⟨hv, ?_⟩
  rw [nI_clamp (by omega), e2, e3]
  by_cases z1 : l = lv
  · refine br_t (by rw [z1]) ⟨hv, ?_⟩
    by_cases z2 : c.length = p.length
    · refine br_t (by rw [hpc, z2]) (nm_r (cx_ix0 rfl n2) ⟨p.length + 1, ?_⟩)
      exact cx_mat_32 n2 h6 z2 hkv hpc hpk (fun w => h1 ⟨z1, w⟩) (fun w => h0 (fun y => w y.2)) p.length 0 (by omega) (fun j _ hj => by omega)
    · refine br_f ?_ (h0 ?_)
      · rw [hpc]
        exact fun w => z2 ((nI_eq (by omega) (by omega)).mp w)
      · rintro ⟨_, w⟩
        exact z2 (by rw [w])
  · refine br_f (fun w => z1 ((nI_eq (by omega) (by omega)).mp w)) (h0 (fun w => z1 w.1))
theorem cx_cre_86 {post : Int32 → SX → Prop} {n lv : Nat} {p : List ct_E} {ks0 vs0 tot0 rf0 : Nat → Int32} (n2 : n < 320) (hlv : lv < 8) (h6 : p.length ≤ 6) (hpc : f_pendCount = nI p.length)
    (hpk : ∀ i (h : i < p.length), a_pendKey i = (p[i]).1 ∧ a_pendVal i = (p[i]).2) (hch : 0 < lv → ∀ e ∈ p, ∃ m, e.2 = nI m ∧ m < 320 ∧ m ≠ n)
    (hp : ∀ ks vs tot rf, ct_ci n lv p p.length ks0 vs0 tot0 rf0 ks vs tot rf → post (nI n) (f_minWidth, f_maxWidth, f_slotCount, f_limit, f_freeHead, f_inCount, f_pendCount, f_outCount, f_difCount, f_repCount, a_roots, ks, vs, a_count, a_level, tot, rf, a_bucketOf, a_nextNode, a_buckets, a_stack, a_curNode, a_curIdx, a_curHeight, a_curDone, a_inKey, a_inVal, a_pendKey, a_pendVal, a_outKey, a_outVal, a_difKey, a_difA, a_difB, a_difOurs, a_repKey, a_repVal)) :
    ∀ d i (a_keys a_vals a_total a_refs : Nat → Int32), i + d = p.length → ct_ci n lv p i ks0 vs0 tot0 rf0 a_keys a_vals a_total a_refs → wX_create_86 post (nI lv) (nI n) f_minWidth f_maxWidth f_slotCount f_limit f_freeHead f_inCount f_pendCount f_outCount f_difCount f_repCount (d + 1) (nI i) a_roots a_keys a_vals a_count a_level a_total a_refs a_bucketOf a_nextNode a_buckets a_stack a_curNode a_curIdx a_curHeight a_curDone a_inKey a_inVal a_pendKey a_pendVal a_outKey a_outVal a_difKey a_difA a_difB a_difOurs a_repKey a_repVal := by
  subst hpc
  intro d
  induction d with
  | zero =>
    intro i a_keys a_vals a_total a_refs hi hI
    have : i = p.length := by omega
    subst this
    exact br_t (nI_le (by omega) (by omega)) (hp _ _ _ _ hI)
  | succ d ih =>
    intro i a_keys a_vals a_total a_refs hi hI
    have q : i < p.length := by omega
    have ex := cx_ix (x := nI n) (n := n) (i := i) rfl n2 (by omega)
    have hv : vp_in ((nI n <<< ((3 : Int32) &&& 31)) + nI i) 2560 := by rw [ex]; exact vp_in_nI (by omega) (by omega)
    have hcl : ((nI n <<< ((3 : Int32) &&& 31)) + nI i).toNatClampNeg = n * 8 + i := by rw [ex, nI_clamp (by omega)]
    have hv8 : vp_in (nI i) 8 := vp_in_nI (by omega) (by omega)
    have hci : (nI i).toNatClampNeg = i := nI_clamp (by omega)
    obtain ⟨g1, g2, g3, g4, g5, g6, g7⟩ := hI
    have f1 : ∀ j, (j < n * 8 ∨ n * 8 + 8 ≤ j) → upd a_keys (n * 8 + i) (p[i]).1 j = ks0 j ∧ upd a_vals (n * 8 + i) (p[i]).2 j = vs0 j := by
      intro j hj
      rw [pk_un (by omega), pk_un (by omega)]
      exact g1 j hj
    have f2 : ∀ j (h : j < p.length), j < i + 1 → upd a_keys (n * 8 + i) (p[i]).1 (n * 8 + j) = (p[j]).1 ∧ upd a_vals (n * 8 + i) (p[i]).2 (n * 8 + j) = (p[j]).2 := by
      intro j hj hji
      by_cases z : j = i
      · subst z; rw [pk_us, pk_us]; exact ⟨rfl, rfl⟩
      · rw [pk_un (by omega), pk_un (by omega)]
        exact g2 j hj (by omega)
    have htk : p.take (i + 1) = p.take i ++ [p[i]] := by rw [List.take_succ_eq_append_getElem q]
    refine br_f (nI_ge (by omega) (by omega)) ⟨hv8, hv, nm_r (e' := upd a_keys (n * 8 + i) (p[i]).1) (by rw [hcl, hci, (hpk i q).1]) ⟨hv8, hv, nm_r (e' := upd a_vals (n * 8 + i) (p[i]).2) (by rw [hcl, hci, (hpk i q).2]) ?_⟩⟩
    by_cases z : lv = 0
    · refine br_t (by rw [z]; decide) (nm_r (nI_1 i) (ih (i + 1) _ _ _ _ (by omega) ⟨f1, f2, g3, g4, fun w => by omega, ?_, g7⟩))
      intro m m1 m2
      rw [g6 m m1 m2, if_pos z, if_pos z]
    · obtain ⟨m, hm1, hm2, hm3⟩ := hch (by omega) (p[i]) (List.getElem_mem q)
      have hpv : a_pendVal (nI i).toNatClampNeg = nI m := by rw [hci, (hpk i q).2, hm1]
      have hcm : (nI m).toNatClampNeg = m := nI_clamp (by omega)
      have hcn : (nI n).toNatClampNeg = n := nI_clamp (by omega)
      have hvm : vp_in (a_pendVal (nI i).toNatClampNeg) 320 := by rw [hpv]; exact vp_in_nI (by omega) (by omega)
      have hvn : vp_in (nI n) 320 := vp_in_nI (by omega) (by omega)
      refine br_f (nI_nle (by omega) (by omega)) ⟨hv8, hvm, hvm, nm_r (e' := upd a_refs m (a_refs m + 1)) (by rw [hpv, hcm]) ⟨hvn, hv8, hvm, hvn, nm_r (e' := upd a_total n (a_total n + a_total m)) (by rw [hpv, hcm, hcn]) (nm_r (nI_1 i) (ih (i + 1) _ _ _ _ (by omega) ⟨f1, f2, ?_, fun w => by omega, ?_, ?_, ?_⟩))⟩⟩
      · intro j hj
        rw [pk_un hj]
        exact g3 j hj
      · intro _
        rw [pk_us, htk]
        unfold ct_sum
        rw [List.foldl_append, List.foldl_cons, List.foldl_nil, g5 (by omega), hm1, hcm, g3 m hm3]
        rfl
      · intro j j1 j2
        rw [if_neg z, htk, List.map_append, List.count_append, List.map_singleton, hm1]
        by_cases w : j = m
        · subst w
          rw [pk_us, g6 j j1 j2, if_neg z, List.count_singleton_self, Int32.add_assoc, ← nI_1]
        · rw [pk_un w, g6 j j1 j2, if_neg z, List.count_singleton]
          have : ¬ (nI m == nI j) = true := by
            rw [beq_iff_eq]
            exact fun y => w ((nI_eq (by omega) (by omega)).mp y).symm
          rw [if_neg this, Nat.add_zero]
      · rw [pk_un (Ne.symm hm3)]
        exact g7
end
end
section
/-! create, intern -/
section
variable {f_minWidth f_maxWidth f_slotCount f_limit f_freeHead f_inCount f_pendCount f_outCount f_difCount f_repCount : Int32} {a_roots a_keys a_vals a_count a_level a_total a_refs a_bucketOf a_nextNode a_buckets a_stack a_curNode a_curIdx a_curHeight a_curDone a_inKey a_inVal a_pendKey a_pendVal a_outKey a_outVal a_difKey a_difA a_difB a_difOurs a_repKey a_repVal : Nat → Int32} {N : ct_N} {X : List Int32} {B : Nat}
theorem cx_create {post : Int32 → SX → Prop} (H : ct_HI f_freeHead a_keys a_vals a_count a_level a_total a_refs a_bucketOf a_nextNode a_buckets N X B) (hB : B ≤ 318) {lv b : Nat} {p : List ct_E} (hlv : lv < 8) (hpc : f_pendCount = nI p.length) (h1 : 1 ≤ p.length) (h6 : p.length ≤ 6)
    (hpk : ∀ i (h : i < p.length), a_pendKey i = (p[i]).1 ∧ a_pendVal i = (p[i]).2) (hb : b < 256) (hbk : ct_bk lv p = nI b) (hkids : ∀ l', lv = l' + 1 → ∃ cs, ct_up N l' cs p) (hnew : ∀ x, ¬ N x lv p)
    (hp : ∀ (f_freeHead' : Int32) (a_keys' a_vals' a_count' a_level' a_total' a_refs' a_bucketOf' a_nextNode' a_buckets' : Nat → Int32) (N' : ct_N) (x : Int32), ct_HI f_freeHead' a_keys' a_vals' a_count' a_level' a_total' a_refs' a_bucketOf' a_nextNode' a_buckets' N' X (B + 1) → (∀ y l c, N y l c → N' y l c) → N' x lv p → (∀ y l c, N' y l c → N y l c ∨ y = x) → post x (f_minWidth, f_maxWidth, f_slotCount, f_limit, f_freeHead', f_inCount, f_pendCount, f_outCount, f_difCount, f_repCount, a_roots, a_keys', a_vals', a_count', a_level', a_total', a_refs', a_bucketOf', a_nextNode', a_buckets', a_stack, a_curNode, a_curIdx, a_curHeight, a_curDone, a_inKey, a_inVal, a_pendKey, a_pendVal, a_outKey, a_outVal, a_difKey, a_difA, a_difB, a_difOurs, a_repKey, a_repVal)) : wpX_create post (f_minWidth, f_maxWidth, f_slotCount, f_limit, f_freeHead, f_inCount, f_pendCount, f_outCount, f_difCount, f_repCount, a_roots, a_keys, a_vals, a_count, a_level, a_total, a_refs, a_bucketOf, a_nextNode, a_buckets, a_stack, a_curNode, a_curIdx, a_curHeight, a_curDone, a_inKey, a_inVal, a_pendKey, a_pendVal, a_outKey, a_outVal, a_difKey, a_difA, a_difB, a_difOurs, a_repKey, a_repVal) (nI lv) (nI b) := by
  obtain ⟨lst, H0, rfl, hl⟩ := H
  obtain ⟨n, hn, n1, n2, hnl, hpl⟩ := ct_pl_pop H0.1 (by omega)
  subst hn
  have hv : vp_in (nI n) 320 := vp_in_nI (by omega) (by omega)
  have hvb : vp_in (nI b) 256 := vp_in_nI (by omega) (by omega)
  have hcn : (nI n).toNatClampNeg = n := nI_clamp (by omega)
  have hcb : (nI b).toNatClampNeg = b := nI_clamp (by omega)
  have hch : 0 < lv → ∀ e ∈ p, ∃ m, e.2 = nI m ∧ m < 320 ∧ m ≠ n := by
    intro hlv0 e he
    obtain ⟨cs, hcs⟩ := hkids (lv - 1) (by omega)
    obtain ⟨c, _, ⟨m, hm, e1, _⟩, _⟩ := ct_up_mem hcs he
    exact ⟨m, e1, (ct_pl_in H0.1 hm).2, fun z => hnl (z ▸ hm)⟩
  have fin : ∀ (ks vs tot rf : Nat → Int32), ct_ci n lv p p.length a_keys a_vals a_total a_refs ks vs tot rf →
      post (nI n) (f_minWidth, f_maxWidth, f_slotCount, f_limit, a_nextNode n, f_inCount, f_pendCount, f_outCount, f_difCount, f_repCount, a_roots, ks, vs, upd a_count n (nI p.length), upd a_level n (nI lv), tot, rf, upd a_bucketOf n (nI b), upd a_nextNode n (a_buckets b), upd a_buckets b (nI n), a_stack, a_curNode, a_curIdx, a_curHeight, a_curDone, a_inKey, a_inVal, a_pendKey, a_pendVal, a_outKey, a_outVal, a_difKey, a_difA, a_difB, a_difOurs, a_repKey, a_repVal) := by
    intro ks vs tot rf hci
    obtain ⟨g1, g2, g3, g4, g5, g6, g7⟩ := hci
    rw [List.take_length] at g5 g6
    obtain ⟨k1, k2⟩ := ct_alloc (n := n) (l := lv) (p := p) (ks' := ks) (vs' := vs) (cn' := upd a_count n (nI p.length)) (lvl' := upd a_level n (nI lv)) (tot' := tot) (rf' := rf) H0 hnl n1 n2 (hpl b hb) (by rw [pk_us]; exact hbk.symm) (fun m hm => pk_un hm)
      (fun j hj => (g1 j hj).1) (fun j hj => (g1 j hj).2) pk_us (fun m hm => pk_un hm) pk_us (fun m hm => pk_un hm) h1 h6 hlv (fun i hi => g2 i hi hi) g3 g4 g5 g6 g7 hkids hnew
    refine hp _ _ _ _ _ _ _ _ _ _ _ (nI n) ⟨n :: lst, k1, rfl, by rw [List.length_cons]; omega⟩ (fun y l c h => (k2 y l c).mpr (Or.inl h)) ((k2 _ _ _).mpr (Or.inr ⟨rfl, rfl, rfl⟩)) ?_
    intro y l c hy
    rcases (k2 y l c).mp hy with w | w
    · exact Or.inl w
    · exact Or.inr w.1
  refine ⟨hv, nm_r (e' := a_nextNode n) (by rw [hcn]) ⟨hvb, hv, nm_r (e' := upd a_nextNode n (a_buckets b)) (by rw [hcn, hcb]) ⟨hvb, nm_r (e' := upd a_buckets b (nI n)) (by rw [hcb]) ⟨hv, nm_r (e' := upd a_bucketOf n (nI b)) (by rw [hcn])
    ⟨hv, nm_r (e' := upd a_level n (nI lv)) (by rw [hcn]) ⟨hv, nm_r (e' := upd a_count n (nI p.length)) (by rw [hcn, hpc]) ⟨hv, nm_r (e' := upd a_refs n 0) (by rw [hcn]) ?_⟩⟩⟩⟩⟩⟩⟩
  by_cases z : lv = 0
  · refine br_t (by rw [z]; rfl) ⟨hv, nm_r (e' := upd a_total n (nI p.length)) (by rw [hcn, hpc]) ⟨p.length + 1, ?_⟩⟩
    refine cx_cre_86 n2 hlv h6 hpc hpk hch fin p.length 0 _ _ _ _ (by omega) ⟨fun j _ => ⟨rfl, rfl⟩, fun j _ hj => by omega, fun m hm => pk_un hm, fun _ => pk_us, fun w => by omega, ?_, pk_us⟩
    intro m _ hm
    rw [pk_un hm, if_pos z, nI_0, Int32.add_zero]
  · refine br_f (nI_ne0 (by omega) (by omega)) ⟨hv, nm_r (e' := upd a_total n 0) (by rw [hcn]) ⟨p.length + 1, ?_⟩⟩
    refine cx_cre_86 n2 hlv h6 hpc hpk hch fin p.length 0 _ _ _ _ (by omega) ⟨fun j _ => ⟨rfl, rfl⟩, fun j _ hj => by omega, fun m hm => pk_un hm, fun w => absurd w z, fun _ => by rw [pk_us]; rfl, ?_, pk_us⟩
    intro m _ hm
    rw [pk_un hm, if_neg z, List.take_zero, List.map_nil, List.count_nil, nI_0, Int32.add_zero]
theorem cx_int_4 {post : Int32 → SX → Prop} {lv b : Nat} {p : List ct_E} (h6 : p.length ≤ 6) (hpc : f_pendCount = nI p.length) (hpk : ∀ i (h : i < p.length), a_pendKey i = (p[i]).1 ∧ a_pendVal i = (p[i]).2)
    (hb : b < 256) (hbk : ct_bk lv p = nI b) (K : ∃ n69, wX_intern_69 post (nI lv) (nI b) f_minWidth f_maxWidth f_slotCount f_limit f_freeHead f_inCount f_pendCount f_outCount f_difCount f_repCount a_roots a_keys a_vals a_count a_level a_total a_refs a_bucketOf a_nextNode a_buckets a_stack a_curNode a_curIdx a_curHeight a_curDone a_inKey a_inVal a_pendKey a_pendVal a_outKey a_outVal a_difKey a_difA a_difB a_difOurs a_repKey a_repVal n69 (a_buckets b) 0) :
    ∀ d i, i + d = p.length → wX_intern_4 post (nI lv) f_minWidth f_maxWidth f_slotCount f_limit f_freeHead f_inCount f_pendCount f_outCount f_difCount f_repCount a_roots a_keys a_vals a_count a_level a_total a_refs a_bucketOf a_nextNode a_buckets a_stack a_curNode a_curIdx a_curHeight a_curDone a_inKey a_inVal a_pendKey a_pendVal a_outKey a_outVal a_difKey a_difA a_difB a_difOurs a_repKey a_repVal (d + 1) ((p.take i).foldl ct_hs (nI lv)) (nI i) := by
  subst hpc
  intro d
  induction d with
  | zero =>
    intro i hi
    have : i = p.length := by omega
    subst this
    rw [List.take_length]
    refine br_t (nI_le (by omega) (by omega)) (nm_r (e' := nI b) hbk ⟨vp_in_nI (by omega) (by omega), nm_r (e' := a_buckets b) (by rw [nI_clamp (by omega)]) K⟩)
  | succ d ih =>
    intro i hi
    have q : i < p.length := by omega
    have htk : p.take (i + 1) = p.take i ++ [p[i]] := by rw [List.take_succ_eq_append_getElem q]
    have h9 := ih (i + 1) (by omega)
    rw [htk, List.foldl_append] at h9
    have hv8 : vp_in (nI i) 8 := vp_in_nI (by omega) (by omega)
    refine br_f (nI_ge (by omega) (by omega)) ⟨hv8, hv8, ?_⟩
    rw [nI_clamp (by omega), (hpk i q).1, (hpk i q).2]
    exact nm_e (nm_e (nm_r (nI_1 i) h9))
theorem cx_intern {post : Int32 → SX → Prop} (H : ct_HI f_freeHead a_keys a_vals a_count a_level a_total a_refs a_bucketOf a_nextNode a_buckets N X B) (hB : B ≤ 318) {lv : Nat} {p : List ct_E} (hlv : lv < 8) (hpc : f_pendCount = nI p.length) (h1 : 1 ≤ p.length) (h6 : p.length ≤ 6)
    (hpk : ∀ i (h : i < p.length), a_pendKey i = (p[i]).1 ∧ a_pendVal i = (p[i]).2) (hkids : ∀ l', lv = l' + 1 → ∃ cs, ct_up N l' cs p)
    (hp : ∀ (f_freeHead' : Int32) (a_keys' a_vals' a_count' a_level' a_total' a_refs' a_bucketOf' a_nextNode' a_buckets' : Nat → Int32) (N' : ct_N) (x : Int32), ct_HI f_freeHead' a_keys' a_vals' a_count' a_level' a_total' a_refs' a_bucketOf' a_nextNode' a_buckets' N' X (B + 1) → (∀ y l c, N y l c → N' y l c) → N' x lv p → (∀ y l c, N' y l c → N y l c ∨ y = x) → post x (f_minWidth, f_maxWidth, f_slotCount, f_limit, f_freeHead', f_inCount, f_pendCount, f_outCount, f_difCount, f_repCount, a_roots, a_keys', a_vals', a_count', a_level', a_total', a_refs', a_bucketOf', a_nextNode', a_buckets', a_stack, a_curNode, a_curIdx, a_curHeight, a_curDone, a_inKey, a_inVal, a_pendKey, a_pendVal, a_outKey, a_outVal, a_difKey, a_difA, a_difB, a_difOurs, a_repKey, a_repVal)) : wpX_intern post (f_minWidth, f_maxWidth, f_slotCount, f_limit, f_freeHead, f_inCount, f_pendCount, f_outCount, f_difCount, f_repCount, a_roots, a_keys, a_vals, a_count, a_level, a_total, a_refs, a_bucketOf, a_nextNode, a_buckets, a_stack, a_curNode, a_curIdx, a_curHeight, a_curDone, a_inKey, a_inVal, a_pendKey, a_pendVal, a_outKey, a_outVal, a_difKey, a_difA, a_difB, a_difOurs, a_repKey, a_repVal) (nI lv) := by
  obtain ⟨b, hb, hbk⟩ := ct_bk_in lv p
  have HH := H
  obtain ⟨lst, H0, e0, hl⟩ := H
  obtain ⟨fr, ch, hperm, hfr, hch⟩ := H0.1
  obtain ⟨c1, c2, c3⟩ := hch b hb
  have hlen : (ch b).length ≤ 319 := by
    have := List.Nodup.length_le_of_subset c2 (l₂ := List.range' 1 319) (by intro m hm; have := ct_pl_in H0.1 ((c3 m).mp hm).1; rw [List.mem_range'_1]; omega)
    rw [List.length_range'] at this
    exact this
  have walk : ∀ (s d : List Nat) (x : Int32), ch b = d ++ s → ct_ch a_nextNode x s → (∀ m ∈ d, ¬ (a_level m = nI lv ∧ ct_en a_keys a_vals a_count m = p)) →
      wX_intern_69 post (nI lv) (nI b) f_minWidth f_maxWidth f_slotCount f_limit f_freeHead f_inCount f_pendCount f_outCount f_difCount f_repCount a_roots a_keys a_vals a_count a_level a_total a_refs a_bucketOf a_nextNode a_buckets a_stack a_curNode a_curIdx a_curHeight a_curDone a_inKey a_inVal a_pendKey a_pendVal a_outKey a_outVal a_difKey a_difA a_difB a_difOurs a_repKey a_repVal (s.length + 1) x (nI d.length) := by
    intro s
    induction s with
    | nil =>
      intro d x hs hx hd
      have hdl : d.length < 320 := by rw [hs] at hlen; simp at hlen; omega
      refine br_f (nI_ge (b := 320) hdl (by omega)) (br_t hx ?_)
      refine cx_create HH hB hlv hpc h1 h6 hpk hb hbk hkids ?_ hp
      intro y hy
      rw [e0] at hy
      obtain ⟨n, hn, e1, e2, e3, e4⟩ := hy
      refine hd n ?_ ⟨e2, e4.symm⟩
      have : n ∈ ch b := by
        rw [c3 n]
        refine ⟨hn, ?_⟩
        obtain ⟨l, r1, r2, _, r4, _⟩ := H0.2.1 n hn
        have hll : l = lv := (nI_eq (by omega) (by omega)).mp (r1.symm.trans e2)
        rw [r4, hll, ← e4, hbk]
      rw [hs, List.append_nil] at this
      exact this
    | cons m s ih =>
      intro d x hs hx hd
      have hdl : d.length < 320 := by rw [hs] at hlen; simp at hlen; omega
      have hm : m ∈ lst := ((c3 m).mp (by rw [hs]; simp)).1
      have hmb := ct_pl_in H0.1 hm
      obtain ⟨l, r1, r2, _⟩ := H0.2.1 m hm
      have hN : N (nI m) l (ct_en a_keys a_vals a_count m) := by rw [e0]; exact ⟨m, hm, rfl, r1, r2, rfl⟩
      rw [hx.1]
      refine br_f (nI_ge (b := 320) hdl (by omega)) (br_f (nI_ne0 (by omega) (by omega)) ?_)
      refine cx_matches HH hN hlv hpc h6 hpk ?_ ?_
      · rintro ⟨w1, w2⟩
        refine br_f (by decide) ?_
        exact hp _ _ _ _ _ _ _ _ _ _ N (nI m) (ct_HI_B HH (by omega)) (fun _ _ _ h => h) (by rw [← w1, ← w2]; exact hN) (fun _ _ _ h => Or.inl h)
      · intro w
        refine br_t rfl ⟨vp_in_nI (by omega) (by omega), nm_r (e' := a_nextNode m) (by rw [nI_clamp (by omega)]) (nm_r (nI_1 _) ?_)⟩
        have h9 := ih (d ++ [m]) (a_nextNode m) (by rw [hs]; simp) hx.2 (by
          intro m' hm'
          rcases List.mem_append.mp hm' with y | y
          · exact hd m' y
          · rw [List.mem_singleton] at y
            rw [y]
            rintro ⟨w1, w2⟩
            exact w ⟨(nI_eq (by omega) (by omega)).mp (r1.symm.trans w1), w2⟩)
        rw [List.length_append, List.length_singleton] at h9
        exact h9
  unfold wpX_intern
  dsimp only
  refine ⟨p.length + 1, ?_⟩
  exact cx_int_4 h6 hpc hpk hb hbk ⟨_, walk (ch b) [] (a_buckets b) rfl c1 (fun m hm => by simp at hm)⟩ p.length 0 (by omega)
end
end
section
/-! close, push -/
def ct_at (ka va : Nat → Int32) (L : List ct_E) : Prop := ∀ i (h : i < L.length), ka i = (L[i]).1 ∧ va i = (L[i]).2
theorem ct_at_nil {ka va : Nat → Int32} : ct_at ka va [] := fun i h => absurd h (by simp)
theorem ct_at_snoc {ka va : Nat → Int32} {L : List ct_E} {n : Nat} (H : ct_at ka va L) (hn : n = L.length) (k v : Int32) : ct_at (upd ka n k) (upd va n v) (L ++ [(k, v)]) := by
  subst hn
  intro i h
  rw [List.length_append, List.length_singleton] at h
  by_cases z : i = L.length
  · subst z
    rw [pk_us, pk_us, List.getElem_append_right (Nat.le_refl _)]
    simp
  · rw [pk_un z, pk_un z, List.getElem_append_left (by omega)]
    exact H i (by omega)
def ct_Q (N : ct_N) (lv : Nat) (P O : List ct_E) (pc oc : Int32) (pk pv ok ov : Nat → Int32) : Prop :=
  pc = nI (ct_gr lv P).2.length ∧ ct_at pk pv (ct_gr lv P).2 ∧ oc = nI O.length ∧ ct_at ok ov O ∧ ct_up N lv (ct_gr lv P).1 O
def ct_Z (N : ct_N) (X : List Int32) (lv : Nat) (pd td O : List ct_E) : Prop := ∀ y l c, N y l c → ct_ref N X y ∨ (∃ e ∈ O, e.2 = y) ∨ (0 < lv ∧ ∃ e ∈ pd ++ td, e.2 = y)
theorem ct_ref_mono {N N' : ct_N} {X : List Int32} (hs : ∀ x l c, N x l c → N' x l c) {y : Int32} (h : ct_ref N X y) : ct_ref N' X y := by
  rcases h with h | ⟨p, l, c, h1, h2⟩
  · exact Or.inl h
  · exact Or.inr ⟨p, l, c, hs _ _ _ h1, h2⟩
section
variable {f_minWidth f_maxWidth f_slotCount f_limit f_freeHead f_inCount f_pendCount f_outCount f_difCount f_repCount : Int32} {a_roots a_keys a_vals a_count a_level a_total a_refs a_bucketOf a_nextNode a_buckets a_stack a_curNode a_curIdx a_curHeight a_curDone a_inKey a_inVal a_pendKey a_pendVal a_outKey a_outVal a_difKey a_difA a_difB a_difOurs a_repKey a_repVal : Nat → Int32} {N : ct_N} {X : List Int32} {B : Nat}
theorem cx_close {post : SX → Prop} {B0 lv : Nat} {O p p0 : List ct_E} {k v : Int32} (H : ct_HI f_freeHead a_keys a_vals a_count a_level a_total a_refs a_bucketOf a_nextNode a_buckets N X (B0 + O.length)) (hB : B0 + O.length ≤ 318) (hO : O.length ≤ 40) (hlv : lv < 8) (hpc : f_pendCount = nI p.length) (hk : p = p0 ++ [(k, v)]) (h6 : p.length ≤ 6)
    (hpk : ct_at a_pendKey a_pendVal p) (hkids : ∀ l', lv = l' + 1 → ∃ cs, ct_up N l' cs p) (hoc : f_outCount = nI O.length) (hok : ct_at a_outKey a_outVal O)
    (hp : ∀ (f_freeHead' : Int32) (a_keys' a_vals' a_count' a_level' a_total' a_refs' a_bucketOf' a_nextNode' a_buckets' : Nat → Int32) (N' : ct_N) (x : Int32) (ok ov : Nat → Int32), ct_HI f_freeHead' a_keys' a_vals' a_count' a_level' a_total' a_refs' a_bucketOf' a_nextNode' a_buckets' N' X (B0 + (O ++ [(k, x)]).length) → (∀ y l c, N y l c → N' y l c) → N' x lv p → (∀ y l c, N' y l c → N y l c ∨ y = x) → ct_at ok ov (O ++ [(k, x)]) →
      post (f_minWidth, f_maxWidth, f_slotCount, f_limit, f_freeHead', f_inCount, 0, nI (O ++ [(k, x)]).length, f_difCount, f_repCount, a_roots, a_keys', a_vals', a_count', a_level', a_total', a_refs', a_bucketOf', a_nextNode', a_buckets', a_stack, a_curNode, a_curIdx, a_curHeight, a_curDone, a_inKey, a_inVal, a_pendKey, a_pendVal, ok, ov, a_difKey, a_difA, a_difB, a_difOurs, a_repKey, a_repVal)) : wpX_close post (f_minWidth, f_maxWidth, f_slotCount, f_limit, f_freeHead, f_inCount, f_pendCount, f_outCount, f_difCount, f_repCount, a_roots, a_keys, a_vals, a_count, a_level, a_total, a_refs, a_bucketOf, a_nextNode, a_buckets, a_stack, a_curNode, a_curIdx, a_curHeight, a_curDone, a_inKey, a_inVal, a_pendKey, a_pendVal, a_outKey, a_outVal, a_difKey, a_difA, a_difB, a_difOurs, a_repKey, a_repVal) (nI lv) := by
  subst hpc hoc
  have hpl : p.length = p0.length + 1 := by rw [hk]; simp
  have e1 : nI p.length - 1 = nI p0.length := by rw [hpl, nI_pred]
  have e2 : a_pendKey p0.length = k := by
    have := (hpk p0.length (by omega)).1
    rw [this]
    subst hk
    simp
  have hvo : vp_in (nI O.length) 64 := vp_in_nI (by omega) (by omega)
  have hco : (nI O.length).toNatClampNeg = O.length := nI_clamp (by omega)
  refine ⟨by rw [e1]; exact vp_in_nI (by omega) (by omega), hvo, nm_r (e' := upd a_outKey O.length k) (by rw [hco, e1, nI_clamp (by omega), e2]) ?_⟩
  refine cx_intern H hB hlv rfl (by omega) h6 hpk hkids ?_
  intro f_freeHead' a_keys' a_vals' a_count' a_level' a_total' a_refs' a_bucketOf' a_nextNode' a_buckets' N' x g1 g2 g3 g4
  refine ⟨hvo, nm_r (e' := upd a_outVal O.length x) (by rw [hco]) (nm_r (e' := nI (O ++ [(k, x)]).length) (by rw [nI_1, List.length_append]; rfl) ?_)⟩
  exact hp f_freeHead' a_keys' a_vals' a_count' a_level' a_total' a_refs' a_bucketOf' a_nextNode' a_buckets' N' x _ _ (by rw [List.length_append, List.length_singleton, ← Nat.add_assoc]; exact g1) g2 g3 g4 (ct_at_snoc hok rfl k x)
theorem cx_boundary {post : Int32 → Prop} {k : Int32} {lv : Nat} (h1 : ct_bd k lv = true → post 1) (h0 : ¬ ct_bd k lv = true → post 0) : wpX_boundary post (f_minWidth, f_maxWidth, f_slotCount, f_limit, f_freeHead, f_inCount, f_pendCount, f_outCount, f_difCount, f_repCount, a_roots, a_keys, a_vals, a_count, a_level, a_total, a_refs, a_bucketOf, a_nextNode, a_buckets, a_stack, a_curNode, a_curIdx, a_curHeight, a_curDone, a_inKey, a_inVal, a_pendKey, a_pendVal, a_outKey, a_outVal, a_difKey, a_difA, a_difB, a_difOurs, a_repKey, a_repVal) k (nI lv) := by
  unfold wpX_boundary
  dsimp only
  refine nm_e (nm_e ?_)
  by_cases z : ct_bd k lv = true
  · exact br_t (of_decide_eq_true z) (h1 z)
  · exact br_f (fun w => z (decide_eq_true w)) (h0 z)
theorem cx_push {post : SX → Prop} {B0 lv : Nat} {P O td td' : List ct_E} {e : ct_E} (H : ct_HI f_freeHead a_keys a_vals a_count a_level a_total a_refs a_bucketOf a_nextNode a_buckets N X (B0 + O.length)) (hB : B0 + 40 ≤ 318) (hO : O.length < 40) (hlv : lv < 8) (hQ : ct_Q N lv P O f_pendCount f_outCount a_pendKey a_pendVal a_outKey a_outVal)
    (hv : ∀ l', lv = l' + 1 → ∃ cs, ct_up N l' cs (P ++ [e])) (hZ : ct_Z N X lv (ct_gr lv P).2 td O) (htd : ∀ a ∈ td, a = e ∨ a ∈ td')
    (hp : ∀ (f_freeHead' : Int32) (a_keys' a_vals' a_count' a_level' a_total' a_refs' a_bucketOf' a_nextNode' a_buckets' : Nat → Int32) (f_pendCount' f_outCount' : Int32) (a_pendKey' a_pendVal' a_outKey' a_outVal' : Nat → Int32) (N' : ct_N) (O' : List ct_E), ct_HI f_freeHead' a_keys' a_vals' a_count' a_level' a_total' a_refs' a_bucketOf' a_nextNode' a_buckets' N' X (B0 + O'.length) → (∀ y l c, N y l c → N' y l c) → ct_Q N' lv (P ++ [e]) O' f_pendCount' f_outCount' a_pendKey' a_pendVal' a_outKey' a_outVal' → ct_Z N' X lv (ct_gr lv (P ++ [e])).2 td' O' → post (f_minWidth, f_maxWidth, f_slotCount, f_limit, f_freeHead', f_inCount, f_pendCount', f_outCount', f_difCount, f_repCount, a_roots, a_keys', a_vals', a_count', a_level', a_total', a_refs', a_bucketOf', a_nextNode', a_buckets', a_stack, a_curNode, a_curIdx, a_curHeight, a_curDone, a_inKey, a_inVal, a_pendKey', a_pendVal', a_outKey', a_outVal', a_difKey, a_difA, a_difB, a_difOurs, a_repKey, a_repVal)) :
    wpX_push post (f_minWidth, f_maxWidth, f_slotCount, f_limit, f_freeHead, f_inCount, f_pendCount, f_outCount, f_difCount, f_repCount, a_roots, a_keys, a_vals, a_count, a_level, a_total, a_refs, a_bucketOf, a_nextNode, a_buckets, a_stack, a_curNode, a_curIdx, a_curHeight, a_curDone, a_inKey, a_inVal, a_pendKey, a_pendVal, a_outKey, a_outVal, a_difKey, a_difA, a_difB, a_difOurs, a_repKey, a_repVal) (nI lv) e.1 e.2 := by
  have hinv := ct_inv_gr lv P
  have hfl := ct_gr_flat lv P
  have hsn := ct_gr_snoc lv P e
  unfold ct_Q at hQ
  generalize ct_gr lv P = g at *
  obtain ⟨cs, p⟩ := g
  dsimp only at hinv hfl hQ hZ
  obtain ⟨hpc, hpk, hoc, hok, hup⟩ := hQ
  have hp5 : p.length ≤ 5 := hinv.2.2
  subst hpc
  have hcp : (nI p.length).toNatClampNeg = p.length := nI_clamp (by omega)
  have hvp : vp_in (nI p.length) 8 := vp_in_nI (by omega) (by omega)
  have hpl : (p ++ [e]).length = p.length + 1 := by simp
  have hat : ct_at (upd a_pendKey p.length e.1) (upd a_pendVal p.length e.2) (p ++ [e]) := ct_at_snoc hpk rfl e.1 e.2
  have hno : ¬ ct_cut lv (p ++ [e]) e.1 = true → post (f_minWidth, f_maxWidth, f_slotCount, f_limit, f_freeHead, f_inCount, nI (p.length + 1), f_outCount, f_difCount, f_repCount, a_roots, a_keys, a_vals, a_count, a_level, a_total, a_refs, a_bucketOf, a_nextNode, a_buckets, a_stack, a_curNode, a_curIdx, a_curHeight, a_curDone, a_inKey, a_inVal, upd a_pendKey p.length e.1, upd a_pendVal p.length e.2, a_outKey, a_outVal, a_difKey, a_difA, a_difB, a_difOurs, a_repKey, a_repVal) := by
    intro hc
    rw [ct_ad_f hc] at hsn
    refine hp f_freeHead a_keys a_vals a_count a_level a_total a_refs a_bucketOf a_nextNode a_buckets (nI (p.length + 1)) f_outCount (upd a_pendKey p.length e.1) (upd a_pendVal p.length e.2) a_outKey a_outVal N O H (fun _ _ _ h => h) ?_ ?_
    · unfold ct_Q
      rw [hsn]
      exact ⟨by rw [hpl], hat, hoc, hok, hup⟩
    · rw [hsn]
      intro y l c hy
      rcases hZ y l c hy with w | w | ⟨w1, a, w2, w3⟩
      · exact Or.inl w
      · exact Or.inr (Or.inl w)
      · refine Or.inr (Or.inr ⟨w1, a, ?_, w3⟩)
        rcases List.mem_append.mp w2 with w2 | w2
        · simp [w2]
        · rcases htd a w2 with w2 | w2
          · simp [w2]
          · simp [w2]
  have hyes : ct_cut lv (p ++ [e]) e.1 = true → wX_push_56 post (nI lv) f_minWidth f_maxWidth f_slotCount f_limit f_freeHead f_inCount (nI (p.length + 1)) f_outCount f_difCount f_repCount a_roots a_keys a_vals a_count a_level a_total a_refs a_bucketOf a_nextNode a_buckets a_stack a_curNode a_curIdx a_curHeight a_curDone a_inKey a_inVal (upd a_pendKey p.length e.1) (upd a_pendVal p.length e.2) a_outKey a_outVal a_difKey a_difA a_difB a_difOurs a_repKey a_repVal := by
    intro hc
    rw [ct_ad_t hc] at hsn
    have hkids : ∀ l', lv = l' + 1 → ∃ cs, ct_up N l' cs (p ++ [e]) := by
      intro l' hl'
      obtain ⟨ks, hks⟩ := hv l' hl'
      rw [← hfl, List.append_assoc] at hks
      obtain ⟨_, ks2, _, _, h9⟩ := ct_up_inv hks
      exact ⟨ks2, h9⟩
    unfold wX_push_56
    refine cx_close (p := p ++ [e]) (p0 := p) (k := e.1) (v := e.2) H (by omega) (by omega) hlv (by rw [hpl]) rfl (by omega) hat hkids hoc hok ?_
    intro f_freeHead' a_keys' a_vals' a_count' a_level' a_total' a_refs' a_bucketOf' a_nextNode' a_buckets' N' x ok ov g1 g2 g3 g4 g5
    refine hp f_freeHead' a_keys' a_vals' a_count' a_level' a_total' a_refs' a_bucketOf' a_nextNode' a_buckets' 0 (nI (O ++ [(e.1, x)]).length) (upd a_pendKey p.length e.1) (upd a_pendVal p.length e.2) ok ov N' (O ++ [(e.1, x)]) g1 g2 ?_ ?_
    · unfold ct_Q
      rw [hsn]
      exact ⟨rfl, ct_at_nil, rfl, g5, ct_up_app (ct_up_of hup (fun e _ c hc => g2 _ _ _ hc)) ⟨g3, ⟨p, e.2, rfl⟩, trivial⟩⟩
    · rw [hsn]
      intro y l c hy
      have hrx : 0 < lv → ∀ a ∈ p ++ [e], ct_ref N' X a.2 := by
        intro h0 a ha
        have : lv = lv - 1 + 1 := by omega
        rw [this] at g3
        exact Or.inr ⟨x, lv - 1, _, g3, List.mem_map.mpr ⟨a, ha, rfl⟩⟩
      rcases g4 y l c hy with w | w
      · rcases hZ y l c w with w | ⟨a, w1, w2⟩ | ⟨w1, a, w2, w3⟩
        · exact Or.inl (ct_ref_mono g2 w)
        · exact Or.inr (Or.inl ⟨a, by simp [w1], w2⟩)
        · rcases List.mem_append.mp w2 with w2 | w2
          · rw [← w3]
            exact Or.inl (hrx w1 a (by simp [w2]))
          · rcases htd a w2 with w2 | w2
            · rw [← w3]
              exact Or.inl (hrx w1 a (by simp [w2]))
            · exact Or.inr (Or.inr ⟨w1, a, by simp [w2], w3⟩)
      · exact Or.inr (Or.inl ⟨(e.1, x), by simp, w.symm⟩)
  refine ⟨hvp, nm_r (e' := upd a_pendKey p.length e.1) (by rw [hcp]) ⟨hvp, nm_r (e' := upd a_pendVal p.length e.2) (by rw [hcp]) (nm_r (nI_1 _) ?_)⟩⟩
  by_cases h6 : 6 ≤ p.length + 1
  · refine br_t (nI_le (a := 6) h6 (by omega)) (hyes ?_)
    unfold ct_cut
    rw [hpl, decide_eq_true h6]
    rfl
  · refine br_f (nI_ge (b := 6) (by omega) (by omega)) ?_
    by_cases h2 : p.length + 1 < 2
    · refine br_t (nI_lt (b := 2) h2 (by omega)) (hno ?_)
      unfold ct_cut
      rw [hpl, decide_eq_false h6, decide_eq_false (by omega)]
      simp
    · refine br_f (nI_nlt (b := 2) (by omega) (by omega)) ?_
      have hcut : ct_cut lv (p ++ [e]) e.1 = ct_bd e.1 lv := by
        unfold ct_cut
        rw [hpl, decide_eq_false h6, decide_eq_true (by omega : 2 ≤ p.length + 1), Bool.false_or, Bool.true_and]
      refine cx_boundary ?_ ?_
      · intro z
        exact br_f (by decide) (hyes (by rw [hcut]; exact z))
      · intro z
        exact br_t rfl (hno (by rw [hcut]; exact z))
end
end
section
/-! leap, step -/
theorem ct_cr_inc {N : ct_N} {h l : Nat} {nd ix nd' ix' : Nat → Int32} {R : Nat → List ct_E} {e : ct_E} {t c : List ct_E} {i : Nat} {cs : List (List ct_E)} (H : ct_cr N h nd ix (l + 1) R)
    (h1 : R (l + 1) = e :: t) (h2 : nd l = e.2) (h3 : ct_up N l (c :: cs) (e :: t)) (h5 : i + 1 < c.length) (h6 : R l = c.drop i ++ cs.flatten) (hn : ∀ j, l ≤ j → nd' j = nd j) (hi : ix' l = nI (i + 1)) (hi' : ∀ j, l < j → ix' j = ix j) :
    ct_cr N h nd' ix' l (fun j => if j = l then (R l).tail else R j) := by
  intro j hj hjh
  by_cases z : j = l
  · subst z
    refine ⟨e, t, c, i + 1, cs, ?_, by rw [hn j (Nat.le_refl _)]; exact h2, h3, hi, h5, ?_⟩
    · (try dsimp only); rw [if_neg (by omega)]; exact h1
    · try dsimp only
      rw [if_pos rfl, h6, List.drop_eq_getElem_cons (by omega)]
      rfl
  · obtain ⟨e, t, c, i, cs, g1, g2, g3, g4, g5, g6⟩ := H j (by omega) hjh
    refine ⟨e, t, c, i, cs, ?_, by rw [hn j (by omega)]; exact g2, g3, by rw [hi' j (by omega)]; exact g4, g5, ?_⟩
    · (try dsimp only); rw [if_neg (by omega)]; exact g1
    · (try dsimp only); rw [if_neg z]; exact g6
def ct_lpd (N : ct_N) (h k lv : Nat) (R : Nat → List ct_E) (cN cI cN' cI' : Nat → Int32) : Prop :=
  (∀ j, (j < 8 * k ∨ 8 * k + 8 ≤ j) → cN' j = cN j ∧ cI' j = cI j) ∧ ∃ R', ct_cr N h (fun l => cN' (8 * k + l)) (fun l => cI' (8 * k + l)) 0 R' ∧ R' (lv + 1) = (R (lv + 1)).tail
    ∧ (∀ j, lv < j → j ≤ h → R' j = R j ∨ R' j = (R j).tail) ∧ (∀ j, j ≤ lv → cI' (8 * k + j) = 0) ∧ R' h = R h
def ct_stp (N : ct_N) (h k lv : Nat) (R : Nat → List ct_E) (cN cI cD cN' cI' cD' : Nat → Int32) : Prop :=
  (∀ j, (j < 8 * k ∨ 8 * k + 8 ≤ j) → cN' j = cN j ∧ cI' j = cI j) ∧ ((cD' = upd cD k 1 ∧ (R lv).tail = []) ∨ (cD' = cD ∧ ∃ R', ct_cr N h (fun l => cN' (8 * k + l)) (fun l => cI' (8 * k + l)) lv R'
    ∧ R' lv = (R lv).tail ∧ (∀ j, lv < j → j ≤ h → R' j = R j ∨ R' j = (R j).tail) ∧ R' h = R h))
section
variable {f_minWidth f_maxWidth f_slotCount f_limit f_freeHead f_inCount f_pendCount f_outCount f_difCount f_repCount : Int32} {a_roots a_keys a_vals a_count a_level a_total a_refs a_bucketOf a_nextNode a_buckets a_stack a_curNode a_curIdx a_curHeight a_curDone a_inKey a_inVal a_pendKey a_pendVal a_outKey a_outVal a_difKey a_difA a_difB a_difOurs a_repKey a_repVal : Nat → Int32} {N : ct_N} {X : List Int32} {B : Nat}
theorem cx_leap_105 {post : SX → Prop} (H : ct_HI f_freeHead a_keys a_vals a_count a_level a_total a_refs a_bucketOf a_nextNode a_buckets N X B) {h k : Nat} (hh : h ≤ 8) (hk : k < 2) :
    ∀ d (R : Nat → List ct_E) (a_curNode a_curIdx : Nat → Int32), d < h → ct_cr N h (fun l => a_curNode (8 * k + l)) (fun l => a_curIdx (8 * k + l)) d R →
      (∀ (cN cI : Nat → Int32) (R' : Nat → List ct_E), ct_cr N h (fun l => cN (8 * k + l)) (fun l => cI (8 * k + l)) 0 R' → (∀ j, d ≤ j → R' j = R j) → (∀ j, j < d → cI (8 * k + j) = 0) → (∀ j, j < d → ct_fd N j (d - j) (R d) (R' j)) →
        (∀ j, (j < 8 * k ∨ 8 * k + d ≤ j) → cN j = a_curNode j ∧ cI j = a_curIdx j) → post (f_minWidth, f_maxWidth, f_slotCount, f_limit, f_freeHead, f_inCount, f_pendCount, f_outCount, f_difCount, f_repCount, a_roots, a_keys, a_vals, a_count, a_level, a_total, a_refs, a_bucketOf, a_nextNode, a_buckets, a_stack, cN, cI, a_curHeight, a_curDone, a_inKey, a_inVal, a_pendKey, a_pendVal, a_outKey, a_outVal, a_difKey, a_difA, a_difB, a_difOurs, a_repKey, a_repVal)) →
      wX_leap_105 post (nI (8 * k)) f_minWidth f_maxWidth f_slotCount f_limit f_freeHead f_inCount f_pendCount f_outCount f_difCount f_repCount (d + 1) (nI (8 * k + d)) a_roots a_keys a_vals a_count a_level a_total a_refs a_bucketOf a_nextNode a_buckets a_stack a_curNode a_curIdx a_curHeight a_curDone a_inKey a_inVal a_pendKey a_pendVal a_outKey a_outVal a_difKey a_difA a_difB a_difOurs a_repKey a_repVal := by
  intro d
  induction d with
  | zero =>
    intro R a_curNode a_curIdx hd hc hp
    exact br_t (nI_le (by omega) (by omega)) (hp _ _ R hc (fun _ _ => rfl) (fun j hj => by omega) (fun j hj => by omega) (fun _ _ => ⟨rfl, rfl⟩))
  | succ d ih =>
    intro R a_curNode a_curIdx hd hc hp
    obtain ⟨e', t', c', cs', r1, r2, r3⟩ := ct_dn (ct_HI_kd H) hc hd
    obtain ⟨e, t, c, i, cs, h1, h2, h3, h4, h5, h6⟩ := hc (d + 1) (Nat.le_refl _) hd
    try dsimp only at h2 h4
    obtain ⟨n, e1, n1, n2, e2, l8, e3, c1, c6, hkv, _⟩ := ct_HI_rd H h3.1
    have hce : c[i] = e' := by
      rw [List.drop_eq_getElem_cons h5, r1] at h6
      injection h6 with h7 _
      exact h7.symm
    have hcl : (nI (8 * k + (d + 1))).toNatClampNeg = 8 * k + (d + 1) := nI_clamp (by omega)
    have hv : vp_in (nI (8 * k + (d + 1))) 16 := vp_in_nI (by omega) (by omega)
    have ex : ((a_curNode (nI (8 * k + (d + 1))).toNatClampNeg) <<< ((3 : Int32) &&& 31)) + a_curIdx (nI (8 * k + (d + 1))).toNatClampNeg = nI (n * 8 + i) := by
      rw [hcl, h2, h4]
      exact cx_ix e1 n2 (by omega)
    have em : nI (8 * k + (d + 1)) - 1 = nI (8 * k + d) := by rw [← Nat.add_assoc, nI_pred]
    have hv2 : vp_in (nI (8 * k + (d + 1)) - 1) 16 := by rw [em]; exact vp_in_nI (by omega) (by omega)
    have hcm : (nI (8 * k + (d + 1)) - 1).toNatClampNeg = 8 * k + d := by rw [em, nI_clamp (by omega)]
    refine br_f (nI_ge (by omega) (by omega)) ⟨hv, hv, by rw [ex]; exact vp_in_nI (by omega) (by omega), hv2, nm_r (e' := upd a_curNode (8 * k + d) e'.2) (by rw [hcm, ex, nI_clamp (by omega), (hkv i h5).2, hce])
      ⟨hv2, nm_r (e' := upd a_curIdx (8 * k + d) 0) (by rw [hcm]) (nm_r (e' := nI (8 * k + d)) (pk_m1 _) ?_)⟩⟩
    refine ih (fun j => if j = d then (c' :: cs').flatten else R j) _ _ (by omega) (r3 _ _ ?_ pk_us pk_us) ?_
    · intro j hj
      try dsimp only
      rw [pk_un (by omega), pk_un (by omega)]
      exact ⟨rfl, rfl⟩
    · intro cN cI R' g1 g2 g3 g4 g5
      refine hp cN cI R' g1 ?_ ?_ ?_ ?_
      · intro j hj
        rw [g2 j (by omega)]
        try dsimp only
        rw [if_neg (by omega)]
      · intro j hj
        by_cases z : j = d
        · subst z
          rw [(g5 (8 * k + j) (by omega)).2, pk_us]
        · exact g3 j (by omega)
      · intro j hj
        by_cases z : j = d
        · subst z
          have := g2 j (Nat.le_refl _)
          try dsimp only at this
          rw [if_pos rfl] at this
          rw [show j + 1 - j = 0 + 1 by omega, r1]
          exact ⟨c' :: cs', r2, this⟩
        · have := g4 j (by omega)
          try dsimp only at this
          rw [if_pos rfl] at this
          rw [show d + 1 - j = d - j + 1 by omega, r1]
          exact ⟨c' :: cs', by rw [show j + (d - j) = d by omega]; exact r2, this⟩
      · intro j hj
        obtain ⟨a1, a2⟩ := g5 j (by omega)
        rw [a1, a2, pk_un (by omega), pk_un (by omega)]
        exact ⟨rfl, rfl⟩
theorem cx_leap_20 {post : SX → Prop} (H : ct_HI f_freeHead a_keys a_vals a_count a_level a_total a_refs a_bucketOf a_nextNode a_buckets N X B) {h k lv : Nat} {R : Nat → List ct_E} (hh : h ≤ 8) (hk : k < 2) (hc : ct_cr N h (fun l => a_curNode (8 * k + l)) (fun l => a_curIdx (8 * k + l)) (lv + 1) R) (hR : (R h).tail = [])
    (hdone : (R (lv + 1)).tail = [] → post (f_minWidth, f_maxWidth, f_slotCount, f_limit, f_freeHead, f_inCount, f_pendCount, f_outCount, f_difCount, f_repCount, a_roots, a_keys, a_vals, a_count, a_level, a_total, a_refs, a_bucketOf, a_nextNode, a_buckets, a_stack, a_curNode, a_curIdx, a_curHeight, upd a_curDone k 1, a_inKey, a_inVal, a_pendKey, a_pendVal, a_outKey, a_outVal, a_difKey, a_difA, a_difB, a_difOurs, a_repKey, a_repVal)) (hmove : ∀ cN cI, ct_lpd N h k lv R a_curNode a_curIdx cN cI → post (f_minWidth, f_maxWidth, f_slotCount, f_limit, f_freeHead, f_inCount, f_pendCount, f_outCount, f_difCount, f_repCount, a_roots, a_keys, a_vals, a_count, a_level, a_total, a_refs, a_bucketOf, a_nextNode, a_buckets, a_stack, cN, cI, a_curHeight, a_curDone, a_inKey, a_inVal, a_pendKey, a_pendVal, a_outKey, a_outVal, a_difKey, a_difA, a_difB, a_difOurs, a_repKey, a_repVal)) :
    ∀ d up, up + d = h → lv < up → ct_i1 N R lv up → wX_leap_20 post (nI k) (nI (8 * k)) (nI h) f_minWidth f_maxWidth f_slotCount f_limit f_freeHead f_inCount f_pendCount f_outCount f_difCount f_repCount a_roots a_keys a_vals a_count a_level a_total a_refs a_bucketOf a_nextNode a_buckets a_stack a_curNode a_curIdx a_curHeight a_curDone a_inKey a_inVal a_pendKey a_pendVal a_outKey a_outVal a_difKey a_difA a_difB a_difOurs a_repKey a_repVal (d + 1) (nI up) (nI (up - lv - 1)) := by
  intro d
  induction d with
  | zero =>
    intro up hu hl hI
    have : up = h := by omega
    subst this
    refine br_f (nI_ge (b := 8) (by omega) (by omega)) (br_t (nI_le (by omega) (by omega)) ?_)
    refine br_f (nI_nlt (by omega) (by omega)) ⟨vp_in_nI (by omega) (by omega), nm_r (e' := upd a_curDone k 1) (by rw [nI_clamp (by omega)]; rfl) ?_⟩
    exact hdone (ct_i1_done hI hl hR)
  | succ d ih =>
    intro up hu hl hI
    obtain ⟨e, t, c, i, cs, h1, h2, h3, h4, h5, h6⟩ := hc up (by omega) (by omega)
    try dsimp only at h2 h4
    obtain ⟨n, e1, n1, n2, e2, l8, e3, c1, c6, hkv, _⟩ := ct_HI_rd H h3.1
    have ea : nI (8 * k) + nI up = nI (8 * k + up) := nI_add _ _
    have hv : vp_in (nI (8 * k) + nI up) 16 := by rw [ea]; exact vp_in_nI (by omega) (by omega)
    have hcl : (nI (8 * k) + nI up).toNatClampNeg = 8 * k + up := by rw [ea, nI_clamp (by omega)]
    refine br_f (nI_ge (b := 8) (by omega) (by omega)) (br_f (nI_ge (by omega) (by omega)) ⟨hv, hv, ?_⟩)
    rw [hcl, h2, h4, e1, nI_clamp (n := n) (by omega), e3, nI_1]
    refine ⟨vp_in_nI (by omega) (by omega), ?_⟩
    by_cases q : i + 1 < c.length
    · refine br_t (nI_lt q (by omega)) ?_
      refine br_t (nI_lt (by omega) (by omega)) ⟨hv, hv, nm_r (e' := upd a_curIdx (8 * k + up) (nI (i + 1))) (by rw [hcl, h4, nI_1]) (nm_r ea ⟨up + 1, ?_⟩)⟩
      have hc2 := ct_cr_inc (l := up) (nd' := fun l => a_curNode (8 * k + l)) (ix' := fun l => upd a_curIdx (8 * k + up) (nI (i + 1)) (8 * k + l)) (ct_cr_up hc (by omega)) h1 h2 h3 q h6 (fun _ _ => rfl) pk_us (fun j hj => by (try dsimp only); rw [pk_un (by omega)])
      refine cx_leap_105 H hh hk up _ _ _ (by omega) hc2 ?_
      intro cN cI R' g1 g2 g3 g4 g5
      have htl : ∀ j, lv < j → j < up → R' j = (R j).tail := by
        intro j j1 j2
        have f1 := g4 j j2
        try dsimp only at f1
        rw [if_pos rfl] at f1
        exact ct_fd_fn (ct_HI_fn H) f1 (hI j j1 (by omega))
      have hup : R' up = (R up).tail := by
        rw [g2 up (Nat.le_refl _)]
        try dsimp only
        rw [if_pos rfl]
      refine hmove cN cI ⟨?_, R', g1, ?_, ?_, ?_, ?_⟩
      · intro j hj
        obtain ⟨a1, a2⟩ := g5 j (by omega)
        rw [a1, a2, pk_un (by omega)]
        exact ⟨rfl, rfl⟩
      · by_cases z : lv + 1 = up
        · rw [z]; exact hup
        · exact htl (lv + 1) (by omega) (by omega)
      · intro j j1 j2
        by_cases z : j = up
        · subst z; exact Or.inr hup
        · by_cases w : j < up
          · exact Or.inr (htl j j1 w)
          · refine Or.inl ?_
            rw [g2 j (by omega)]
            try dsimp only
            rw [if_neg z]
      · intro j hj
        exact g3 j (by omega)
      · rw [g2 h (by omega)]
        try dsimp only
        rw [if_neg (by omega)]
    · refine br_f (nI_nlt (by omega) (by omega)) (nm_r (nI_1 up) (nm_r (e' := nI (up + 1 - lv - 1)) (by rw [nI_1]; exact congrArg nI (by omega)) ?_))
      exact ih (up + 1) (by omega) (by omega) (ct_i1_s hl hI h1 h3 (by omega) h6)
theorem cx_leap {post : SX → Prop} (H : ct_HI f_freeHead a_keys a_vals a_count a_level a_total a_refs a_bucketOf a_nextNode a_buckets N X B) {h k lv : Nat} {R : Nat → List ct_E} (hh : h ≤ 8) (hk : k < 2) (hlv : lv < h) (hch : a_curHeight k = nI h) (hc : ct_cr N h (fun l => a_curNode (8 * k + l)) (fun l => a_curIdx (8 * k + l)) (lv + 1) R) (hR : (R h).tail = [])
    (hdone : (R (lv + 1)).tail = [] → post (f_minWidth, f_maxWidth, f_slotCount, f_limit, f_freeHead, f_inCount, f_pendCount, f_outCount, f_difCount, f_repCount, a_roots, a_keys, a_vals, a_count, a_level, a_total, a_refs, a_bucketOf, a_nextNode, a_buckets, a_stack, a_curNode, a_curIdx, a_curHeight, upd a_curDone k 1, a_inKey, a_inVal, a_pendKey, a_pendVal, a_outKey, a_outVal, a_difKey, a_difA, a_difB, a_difOurs, a_repKey, a_repVal)) (hmove : ∀ cN cI, ct_lpd N h k lv R a_curNode a_curIdx cN cI → post (f_minWidth, f_maxWidth, f_slotCount, f_limit, f_freeHead, f_inCount, f_pendCount, f_outCount, f_difCount, f_repCount, a_roots, a_keys, a_vals, a_count, a_level, a_total, a_refs, a_bucketOf, a_nextNode, a_buckets, a_stack, cN, cI, a_curHeight, a_curDone, a_inKey, a_inVal, a_pendKey, a_pendVal, a_outKey, a_outVal, a_difKey, a_difA, a_difB, a_difOurs, a_repKey, a_repVal)) : wpX_leap post (f_minWidth, f_maxWidth, f_slotCount, f_limit, f_freeHead, f_inCount, f_pendCount, f_outCount, f_difCount, f_repCount, a_roots, a_keys, a_vals, a_count, a_level, a_total, a_refs, a_bucketOf, a_nextNode, a_buckets, a_stack, a_curNode, a_curIdx, a_curHeight, a_curDone, a_inKey, a_inVal, a_pendKey, a_pendVal, a_outKey, a_outVal, a_difKey, a_difA, a_difB, a_difOurs, a_repKey, a_repVal) (nI k) (nI lv) := by
  have hb : nI k <<< ((3 : Int32) &&& 31) = nI (8 * k) := by rw [cx_ix0 (x := nI k) (n := k) rfl (by omega), Nat.mul_comm]
  unfold wpX_leap
  try dsimp only
  refine nm_r hb ⟨vp_in_nI (by omega) (by omega), nm_r (e' := nI h) (by rw [nI_clamp (by omega)]; exact hch) (nm_r (nI_1 lv) ⟨h - (lv + 1) + 1, ?_⟩)⟩
  have h9 := cx_leap_20 H hh hk hc hR hdone hmove (h - (lv + 1)) (lv + 1) (by omega) (by omega) (ct_i1_0 N R lv)
  rw [show lv + 1 - lv - 1 = 0 by omega] at h9
  exact h9
theorem cx_step {post : SX → Prop} (H : ct_HI f_freeHead a_keys a_vals a_count a_level a_total a_refs a_bucketOf a_nextNode a_buckets N X B) {h k lv : Nat} {R : Nat → List ct_E} (hh : h ≤ 8) (hk : k < 2) (hlv : lv < h) (hch : a_curHeight k = nI h) (hc : ct_cr N h (fun l => a_curNode (8 * k + l)) (fun l => a_curIdx (8 * k + l)) lv R) (hR : (R h).tail = [])
    (hp : ∀ cN cI cD, ct_stp N h k lv R a_curNode a_curIdx a_curDone cN cI cD → post (f_minWidth, f_maxWidth, f_slotCount, f_limit, f_freeHead, f_inCount, f_pendCount, f_outCount, f_difCount, f_repCount, a_roots, a_keys, a_vals, a_count, a_level, a_total, a_refs, a_bucketOf, a_nextNode, a_buckets, a_stack, cN, cI, a_curHeight, cD, a_inKey, a_inVal, a_pendKey, a_pendVal, a_outKey, a_outVal, a_difKey, a_difA, a_difB, a_difOurs, a_repKey, a_repVal)) : wpX_step post (f_minWidth, f_maxWidth, f_slotCount, f_limit, f_freeHead, f_inCount, f_pendCount, f_outCount, f_difCount, f_repCount, a_roots, a_keys, a_vals, a_count, a_level, a_total, a_refs, a_bucketOf, a_nextNode, a_buckets, a_stack, a_curNode, a_curIdx, a_curHeight, a_curDone, a_inKey, a_inVal, a_pendKey, a_pendVal, a_outKey, a_outVal, a_difKey, a_difA, a_difB, a_difOurs, a_repKey, a_repVal) (nI k) (nI lv) := by
  obtain ⟨e, t, c, i, cs, h1, h2, h3, h4, h5, h6⟩ := hc lv (Nat.le_refl _) hlv
  try dsimp only at h2 h4
  obtain ⟨n, e1, n1, n2, e2, l8, e3, c1, c6, hkv, _⟩ := ct_HI_rd H h3.1
  have hb : (nI k <<< ((3 : Int32) &&& 31)) + nI lv = nI (8 * k + lv) := by rw [cx_ix0 (x := nI k) (n := k) rfl (by omega), nI_add, Nat.mul_comm]
  have hv : vp_in (nI (8 * k + lv)) 16 := vp_in_nI (by omega) (by omega)
  have hcl : (nI (8 * k + lv)).toNatClampNeg = 8 * k + lv := nI_clamp (by omega)
  unfold wpX_step
  try dsimp only
  refine nm_r hb ⟨hv, hv, nm_r (e' := upd a_curIdx (8 * k + lv) (nI (i + 1))) (by rw [hcl, h4, nI_1]) ⟨hv, hv, ?_⟩⟩
  rw [hcl, pk_us, h2, e1, nI_clamp (n := n) (by omega), e3]
  refine ⟨vp_in_nI (by omega) (by omega), ?_⟩
  have fr : ∀ j, (j < 8 * k ∨ 8 * k + 8 ≤ j) → a_curNode j = a_curNode j ∧ upd a_curIdx (8 * k + lv) (nI (i + 1)) j = a_curIdx j := fun j hj => ⟨rfl, pk_un (by omega)⟩
  by_cases q : i + 1 < c.length
  · refine br_t (nI_lt q (by omega)) (hp _ _ _ ⟨fr, Or.inr ⟨rfl, _, ct_cr_inc (ct_cr_up hc (by omega)) h1 h2 h3 q h6 (fun _ _ => rfl) pk_us (fun j hj => by (try dsimp only); rw [pk_un (by omega)]), ?_, ?_, ?_⟩⟩)
    · (try dsimp only); rw [if_pos rfl]
    · intro j j1 j2; (try dsimp only); rw [if_neg (by omega)]; exact Or.inl rfl
    · (try dsimp only); rw [if_neg (by omega)]
  · refine br_f (nI_nlt (by omega) (by omega)) ?_
    have htl : (R lv).tail = cs.flatten := by
      rw [h6, List.drop_eq_getElem_cons h5, List.drop_eq_nil_of_le (by omega)]
      rfl
    refine cx_leap (R := R) H hh hk hlv hch ?_ hR ?_ ?_
    · intro j j1 j2
      obtain ⟨e, t, c, i', cs, g1, g2, g3, g4, g5, g6⟩ := hc j (by omega) j2
      exact ⟨e, t, c, i', cs, g1, g2, g3, by (try dsimp only); rw [pk_un (by omega)]; exact g4, g5, g6⟩
    · intro hd
      refine hp _ _ _ ⟨fr, Or.inl ⟨rfl, ?_⟩⟩
      rw [h1, List.tail_cons] at hd
      subst hd
      rw [htl, ct_up_nil h3.2.2]
      rfl
    · rintro cN cI ⟨f1, R', f2, f3, f4, f5, f6⟩
      refine hp _ _ _ ⟨?_, Or.inr ⟨rfl, R', ct_cr_up f2 (by omega), ?_, f4, f6⟩⟩
      · intro j hj
        obtain ⟨a1, a2⟩ := f1 j hj
        exact ⟨a1, a2.trans (pk_un (by omega))⟩
      · obtain ⟨e', t', c', i', cs', g1, g2, g3, g4, g5, g6⟩ := f2 lv (by omega) hlv
        have hc6 := (ct_HI_l6 H _ _ _ g3.1).2
        have hi0 : i' = 0 := by
          have := f5 lv (Nat.le_refl _)
          try dsimp only at g4
          rw [this] at g4
          exact ((nI_eq (a := 0) (by omega) (by omega)).mp g4).symm
        subst hi0
        rw [f3, h1, List.tail_cons] at g1
        rw [← g1] at g3
        have := ct_up_fn (ct_HI_fn H) g3 h3.2.2
        rw [g6, htl, ← this]
        rfl
end
end
section
/-! feedRest -/
def ct_c1 (N : ct_N) (Es : Nat → List ct_E) (h lv : Nat) (cN cI cD : Nat → Int32) (R : Nat → List ct_E) : Prop :=
  (cD 1 = 1 ∧ ∀ j, R j = []) ∨ (cD 1 = 0 ∧ ct_cr N h (fun l => cN (8 * 1 + l)) (fun l => cI (8 * 1 + l)) lv R ∧ (R h).tail = [] ∧ ∀ j, lv ≤ j → j ≤ h → ∃ Q, Es j = Q ++ R j)
def ct_fo (N : ct_N) (Es : Nat → List ct_E) (h lv : Nat) (P G : List ct_E) (cN0 cI0 cD0 cN cI cD : Nat → Int32) : Prop :=
  (∀ j, j < 8 → cN j = cN0 j ∧ cI j = cI0 j) ∧ cD 0 = cD0 0 ∧ ((cD 1 = 1 ∧ G = []) ∨ (cD 1 = 0 ∧ lv + 1 < h ∧ (ct_gr lv P).2 = [] ∧ ∃ R', ct_cr N h (fun l => cN (8 * 1 + l)) (fun l => cI (8 * 1 + l)) (lv + 1) R'
    ∧ (∃ ds, ct_up N lv ds (R' (lv + 1)) ∧ G = ds.flatten) ∧ (R' h).tail = [] ∧ ∀ j, lv < j → j ≤ h → ∃ Q, Es j = Q ++ R' j))
theorem ct_suf_tail {L R : List ct_E} (h : ∃ Q, L = Q ++ R) : ∃ Q, L = Q ++ R.tail := by
  obtain ⟨Q, e⟩ := h
  match R, e with
  | [], e => exact ⟨Q, e⟩
  | a :: R, e => exact ⟨Q ++ [a], by rw [e]; simp⟩
section
variable {f_minWidth f_maxWidth f_slotCount f_limit f_freeHead f_inCount f_pendCount f_outCount f_difCount f_repCount : Int32} {a_roots a_keys a_vals a_count a_level a_total a_refs a_bucketOf a_nextNode a_buckets a_stack a_curNode a_curIdx a_curHeight a_curDone a_inKey a_inVal a_pendKey a_pendVal a_outKey a_outVal a_difKey a_difA a_difB a_difOurs a_repKey a_repVal : Nat → Int32} {X : List Int32}
theorem cx_feed_8 {post : SX → Prop} {N0 : ct_N} {Es : Nat → List ct_E} {h lv B0 : Nat} {T : List ct_E} {cN0 cI0 cD0 : Nat → Int32} (hh : h ≤ 8) (hlv : lv < h) (hB : B0 + 40 ≤ 318) (hT : T.length ≤ 60) (hch : a_curHeight 1 = nI h)
    (hp : ∀ (f_freeHead' : Int32) (a_keys' a_vals' a_count' a_level' a_total' a_refs' a_bucketOf' a_nextNode' a_buckets' : Nat → Int32) (f_pendCount' f_outCount' : Int32) (a_pendKey' a_pendVal' a_outKey' a_outVal' : Nat → Int32) (cN cI cD : Nat → Int32) (N : ct_N) (P O G : List ct_E), ct_HI f_freeHead' a_keys' a_vals' a_count' a_level' a_total' a_refs' a_bucketOf' a_nextNode' a_buckets' N X (B0 + O.length) → (∀ y l c, N0 y l c → N y l c) → ct_Q N lv P O f_pendCount' f_outCount' a_pendKey' a_pendVal' a_outKey' a_outVal' → ct_Z N X lv (ct_gr lv P).2 [] O → P ++ G = T → ct_fo N Es h lv P G cN0 cI0 cD0 cN cI cD →
      post (f_minWidth, f_maxWidth, f_slotCount, f_limit, f_freeHead', f_inCount, f_pendCount', f_outCount', f_difCount, f_repCount, a_roots, a_keys', a_vals', a_count', a_level', a_total', a_refs', a_bucketOf', a_nextNode', a_buckets', a_stack, cN, cI, a_curHeight, cD, a_inKey, a_inVal, a_pendKey', a_pendVal', a_outKey', a_outVal', a_difKey, a_difA, a_difB, a_difOurs, a_repKey, a_repVal)) :
    ∀ (f : Nat) (f_freeHead : Int32) (a_keys a_vals a_count a_level a_total a_refs a_bucketOf a_nextNode a_buckets : Nat → Int32) (f_pendCount f_outCount : Int32) (a_pendKey a_pendVal a_outKey a_outVal : Nat → Int32) (a_curNode a_curIdx a_curDone : Nat → Int32) (N : ct_N) (P O : List ct_E) (R : Nat → List ct_E) (ctr : Nat), ct_HI f_freeHead a_keys a_vals a_count a_level a_total a_refs a_bucketOf a_nextNode a_buckets N X (B0 + O.length) → (∀ y l c, N0 y l c → N y l c) → ct_Q N lv P O f_pendCount f_outCount a_pendKey a_pendVal a_outKey a_outVal → ct_Z N X lv (ct_gr lv P).2 [] O →
      ct_c1 N Es h lv a_curNode a_curIdx a_curDone R → (∀ j, j < 8 → a_curNode j = cN0 j ∧ a_curIdx j = cI0 j) → a_curDone 0 = cD0 0 → P ++ R lv = T → (∀ l', lv = l' + 1 → ∃ cs, ct_up N l' cs T) → (R lv).length < f → ctr + (R lv).length ≤ 60 →
      wX_feedRest_8 post (nI lv) (nI (h - 1)) (nI (8 + lv)) f (nI ctr) f_minWidth f_maxWidth f_slotCount f_limit f_freeHead f_inCount f_pendCount f_outCount f_difCount f_repCount a_roots a_keys a_vals a_count a_level a_total a_refs a_bucketOf a_nextNode a_buckets a_stack a_curNode a_curIdx a_curHeight a_curDone a_inKey a_inVal a_pendKey a_pendVal a_outKey a_outVal a_difKey a_difA a_difB a_difOurs a_repKey a_repVal := by
  intro f
  induction f with
  | zero => intros; omega
  | succ f ih =>
    intro f_freeHead a_keys a_vals a_count a_level a_total a_refs a_bucketOf a_nextNode a_buckets f_pendCount f_outCount a_pendKey a_pendVal a_outKey a_outVal a_curNode a_curIdx a_curDone N P O R ctr H hs hQ hZ hc1 hfr hfd hPT hval hf hctr
    refine br_f (nI_ge (b := 64) (by omega) (by omega)) ?_
    rcases hc1 with ⟨d1, d2⟩ | ⟨d1, hc, hRh, hsuf⟩
    · rw [d1]
      refine br_f (by decide) (hp f_freeHead a_keys a_vals a_count a_level a_total a_refs a_bucketOf a_nextNode a_buckets f_pendCount f_outCount a_pendKey a_pendVal a_outKey a_outVal _ _ _ N P O [] H hs hQ hZ ?_ ⟨hfr, hfd, Or.inl ⟨d1, rfl⟩⟩)
      rw [← hPT, d2]
    · rw [d1]
      refine br_t rfl ?_
      have hc0 := hc
      obtain ⟨e, t, c, i, cs, h1, h2, h3, h4, h5, h6⟩ := hc lv (Nat.le_refl _) hlv
      dsimp only at h2 h4
      obtain ⟨n, e1, n1, n2, e2, l8, e3, c1, c6, hkv, _⟩ := ct_HI_rd H h3.1
      have hRl : R lv = c[i] :: (c.drop (i + 1) ++ cs.flatten) := by rw [h6, List.drop_eq_getElem_cons h5]; rfl
      have hlen : P.length + (R lv).length = T.length := by rw [← hPT]; simp
      have hOl := ct_up_len hQ.2.2.2.2
      have hgl := ct_gr_len lv P
      have hv : vp_in (nI (8 + lv)) 16 := vp_in_nI (by omega) (by omega)
      have hcl : (nI (8 + lv)).toNatClampNeg = 8 * 1 + lv := by rw [nI_clamp (by omega)]
      have hcel : (a_curNode (nI (8 + lv)).toNatClampNeg <<< ((3 : Int32) &&& 31)) + a_curIdx (nI (8 + lv)).toNatClampNeg = nI (n * 8 + i) := by
        rw [hcl, h2, h4]
        exact cx_ix e1 n2 (by omega)
      have hPe : P ++ [c[i]] ++ (R lv).tail = T := by rw [hRl, List.tail_cons, ← hPT, hRl]; simp
      have feed : wX_feedRest_46 post (wX_feedRest_8 post (nI lv) (nI (h - 1)) (nI (8 + lv)) f) (nI lv) (nI (h - 1)) (nI (8 + lv)) (nI ctr) f_minWidth f_maxWidth f_slotCount f_limit f_freeHead f_inCount f_pendCount f_outCount f_difCount f_repCount a_roots a_keys a_vals a_count a_level a_total a_refs a_bucketOf a_nextNode a_buckets a_stack a_curNode a_curIdx a_curHeight a_curDone a_inKey a_inVal a_pendKey a_pendVal a_outKey a_outVal a_difKey a_difA a_difB a_difOurs a_repKey a_repVal := by
        refine ⟨hv, hv, nm_r hcel ⟨vp_in_nI (by omega) (by omega), vp_in_nI (by omega) (by omega), ?_⟩⟩
        rw [nI_clamp (n := n * 8 + i) (by omega), (hkv i h5).1, (hkv i h5).2]
        refine cx_push (td := []) (td' := []) H hB (by omega) (by omega) hQ ?_ hZ (by simp) ?_
        · intro l' hl'
          obtain ⟨ks, hks⟩ := hval l' hl'
          rw [← hPe] at hks
          obtain ⟨k1, k2, _, k3, _⟩ := ct_up_inv hks
          exact ⟨k1, k3⟩
        · intro f_freeHead' a_keys' a_vals' a_count' a_level' a_total' a_refs' a_bucketOf' a_nextNode' a_buckets' f_pendCount' f_outCount' a_pendKey' a_pendVal' a_outKey' a_outVal' N' O' g1 g2 g3 g4
          refine cx_step (k := 1) g1 hh (by omega) hlv hch (ct_cr_mono g2 hc0) hRh ?_
          rintro cN cI cD ⟨s1, s2⟩
          refine nm_r (nI_1 ctr) ?_
          have hval' : ∀ l', lv = l' + 1 → ∃ cs, ct_up N' l' cs T := by
            intro l' hl'
            obtain ⟨ks, hks⟩ := hval l' hl'
            exact ⟨ks, ct_up_of hks (fun e _ c hc => g2 _ _ _ hc)⟩
          have hfr' : ∀ j, j < 8 → cN j = cN0 j ∧ cI j = cI0 j := by
            intro j hj
            obtain ⟨a1, a2⟩ := s1 j (by omega)
            rw [a1, a2]
            exact hfr j hj
          rcases s2 with ⟨q1, q2⟩ | ⟨q1, R', q2, q3, q4, q5⟩
          · refine ih f_freeHead' a_keys' a_vals' a_count' a_level' a_total' a_refs' a_bucketOf' a_nextNode' a_buckets' f_pendCount' f_outCount' a_pendKey' a_pendVal' a_outKey' a_outVal' cN cI cD N' (P ++ [c[i]]) O' (fun _ => []) (ctr + 1) g1 (fun y l c hy => g2 _ _ _ (hs _ _ _ hy)) g3 g4 (Or.inl ⟨by rw [q1]; rfl, fun _ => rfl⟩) hfr' (by rw [q1, pk_un (by omega)]; exact hfd) ?_ hval' ?_ ?_
            · rw [← hPe, q2]
            · rw [hRl] at hf; simp at hf ⊢; omega
            · rw [hRl] at hctr; simp at hctr ⊢; omega
          · refine ih f_freeHead' a_keys' a_vals' a_count' a_level' a_total' a_refs' a_bucketOf' a_nextNode' a_buckets' f_pendCount' f_outCount' a_pendKey' a_pendVal' a_outKey' a_outVal' cN cI cD N' (P ++ [c[i]]) O' R' (ctr + 1) g1 (fun y l c hy => g2 _ _ _ (hs _ _ _ hy)) g3 g4 (Or.inr ⟨by rw [q1]; exact d1, q2, by rw [q5]; exact hRh, ?_⟩) hfr' (by rw [q1]; exact hfd) ?_ hval' ?_ ?_
            · intro j j1 j2
              by_cases z : j = lv
              · subst z
                rw [q3]
                exact ct_suf_tail (hsuf j j1 j2)
              · rcases q4 j (by omega) j2 with w | w
                · rw [w]; exact hsuf j j1 j2
                · rw [w]; exact ct_suf_tail (hsuf j j1 j2)
            · rw [q3, ← hPe]
            · rw [q3, List.length_tail]; rw [hRl] at hf ⊢; simp at hf ⊢; omega
            · rw [q3, List.length_tail]; rw [hRl] at hctr ⊢; simp at hctr ⊢; omega
      by_cases z1 : lv = h - 1
      · exact br_t (nI_le (by omega) (by omega)) feed
      · refine br_f (nI_ge (by omega) (by omega)) ?_
        by_cases z2 : (ct_gr lv P).2.length = 0
        · refine br_t (by rw [hQ.1, z2]; rfl) ⟨hv, ?_⟩
          rw [hcl, h4]
          by_cases z3 : i = 0
          · subst z3
            refine br_t rfl (hp f_freeHead a_keys a_vals a_count a_level a_total a_refs a_bucketOf a_nextNode a_buckets f_pendCount f_outCount a_pendKey a_pendVal a_outKey a_outVal _ _ _ N P O (R lv) H hs hQ hZ hPT ⟨hfr, hfd, Or.inr ⟨d1, by omega, List.length_eq_zero_iff.mp z2, R, ct_cr_up hc0 (by omega), ⟨c :: cs, by rw [h1]; exact h3, by rw [h6]; rfl⟩, hRh, ?_⟩⟩)
            intro j j1 j2
            exact hsuf j (by omega) j2
          · exact br_f (nI_ne0 (by omega) (by omega)) feed
        · refine br_f ?_ feed
          have := (ct_inv_gr lv P).2.2
          rw [hQ.1]
          exact nI_ne0 (by omega) (by omega)
end
end
section
/-! rechunk, promote -/
theorem ct_fo_mono {N N' : ct_N} (hs : ∀ x l c, N x l c → N' x l c) {Es : Nat → List ct_E} {h lv : Nat} {P G : List ct_E} {cN0 cI0 cD0 cN cI cD : Nat → Int32} (H : ct_fo N Es h lv P G cN0 cI0 cD0 cN cI cD) : ct_fo N' Es h lv P G cN0 cI0 cD0 cN cI cD := by
  obtain ⟨h1, h2, h3⟩ := H
  refine ⟨h1, h2, ?_⟩
  rcases h3 with h3 | ⟨a1, a2, a3, R', a4, ⟨ds, a5, a6⟩, a7⟩
  · exact Or.inl h3
  · exact Or.inr ⟨a1, a2, a3, R', ct_cr_mono hs a4, ⟨ds, ct_up_of a5 (fun e _ c hc => hs _ _ _ hc), a6⟩, a7⟩
theorem ct_c1_mono {N N' : ct_N} (hs : ∀ x l c, N x l c → N' x l c) {Es : Nat → List ct_E} {h lv : Nat} {cN cI cD : Nat → Int32} {R : Nat → List ct_E} (H : ct_c1 N Es h lv cN cI cD R) : ct_c1 N' Es h lv cN cI cD R := by
  rcases H with H | ⟨a1, a2, a3⟩
  · exact Or.inl H
  · exact Or.inr ⟨a1, ct_cr_mono hs a2, a3⟩
def ct_val (N : ct_N) (lv : Nat) (T : List ct_E) : Prop := ∀ l', lv = l' + 1 → ∃ cs, ct_up N l' cs T
theorem ct_val_mono {N N' : ct_N} (hs : ∀ x l c, N x l c → N' x l c) {lv : Nat} {T : List ct_E} (H : ct_val N lv T) : ct_val N' lv T := by
  intro l' hl'
  obtain ⟨ks, hks⟩ := H l' hl'
  exact ⟨ks, ct_up_of hks (fun e _ c hc => hs _ _ _ hc)⟩
theorem ct_val_pre {N : ct_N} {lv : Nat} {T P G : List ct_E} (H : ct_val N lv T) (e : P ++ G = T) : ct_val N lv P := by
  intro l' hl'
  obtain ⟨ks, hks⟩ := H l' hl'
  rw [← e] at hks
  obtain ⟨k1, k2, _, k3, _⟩ := ct_up_inv hks
  exact ⟨k1, k3⟩
section
variable {f_minWidth f_maxWidth f_slotCount f_limit f_freeHead f_inCount f_pendCount f_outCount f_difCount f_repCount : Int32} {a_roots a_keys a_vals a_count a_level a_total a_refs a_bucketOf a_nextNode a_buckets a_stack a_curNode a_curIdx a_curHeight a_curDone a_inKey a_inVal a_pendKey a_pendVal a_outKey a_outVal a_difKey a_difA a_difB a_difOurs a_repKey a_repVal : Nat → Int32} {X : List Int32} {N : ct_N}
theorem cx_rc_124 {post : SX → Prop} {B0 lv : Nat} {P O : List ct_E} (H : ct_HI f_freeHead a_keys a_vals a_count a_level a_total a_refs a_bucketOf a_nextNode a_buckets N X (B0 + O.length)) (hB : B0 + 40 ≤ 318) (hO : O.length < 40) (hlv : lv < 8) (hQ : ct_Q N lv P O f_pendCount f_outCount a_pendKey a_pendVal a_outKey a_outVal) (hval : ct_val N lv P) (hZ : ct_Z N X lv (ct_gr lv P).2 [] O)
    (hp : ∀ (f_freeHead' : Int32) (a_keys' a_vals' a_count' a_level' a_total' a_refs' a_bucketOf' a_nextNode' a_buckets' : Nat → Int32) (f_pendCount' f_outCount' : Int32) (a_pendKey' a_pendVal' a_outKey' a_outVal' : Nat → Int32) (N' : ct_N) (O' : List ct_E), ct_HI f_freeHead' a_keys' a_vals' a_count' a_level' a_total' a_refs' a_bucketOf' a_nextNode' a_buckets' N' X (B0 + O'.length) → (∀ y l c, N y l c → N' y l c) → f_outCount' = nI O'.length → ct_at a_outKey' a_outVal' O' → ct_up N' lv (ct_ck lv P) O' →
      (∀ y l c, N' y l c → ct_ref N' X y ∨ ∃ e ∈ O', e.2 = y) → post (f_minWidth, f_maxWidth, f_slotCount, f_limit, f_freeHead', f_inCount, f_pendCount', f_outCount', f_difCount, f_repCount, a_roots, a_keys', a_vals', a_count', a_level', a_total', a_refs', a_bucketOf', a_nextNode', a_buckets', a_stack, a_curNode, a_curIdx, a_curHeight, a_curDone, a_inKey, a_inVal, a_pendKey', a_pendVal', a_outKey', a_outVal', a_difKey, a_difA, a_difB, a_difOurs, a_repKey, a_repVal)) : wX_rechunk_124 post (nI lv) f_minWidth f_maxWidth f_slotCount f_limit f_freeHead f_inCount f_pendCount f_outCount f_difCount f_repCount a_roots a_keys a_vals a_count a_level a_total a_refs a_bucketOf a_nextNode a_buckets a_stack a_curNode a_curIdx a_curHeight a_curDone a_inKey a_inVal a_pendKey a_pendVal a_outKey a_outVal a_difKey a_difA a_difB a_difOurs a_repKey a_repVal := by
  obtain ⟨cs, p, hg, hcs, hpp, hp5, hck⟩ := ct_ck_shape lv P
  have hfl := ct_gr_flat lv P
  obtain ⟨hpc, hpk, hoc, hok, hup⟩ := hQ
  rw [hg] at hpc hpk hup hZ hfl
  dsimp only at hpc hpk hup hZ hfl
  rcases hck with ⟨z, hck⟩ | ⟨z, hck⟩
  · subst z
    refine br_t (by rw [hpc]; decide) (hp f_freeHead a_keys a_vals a_count a_level a_total a_refs a_bucketOf a_nextNode a_buckets f_pendCount f_outCount a_pendKey a_pendVal a_outKey a_outVal N O H (fun _ _ _ h => h) hoc hok (by rw [hck]; exact hup) ?_)
    intro y l c hy
    rcases hZ y l c hy with w | w | ⟨w1, a, w2, _⟩
    · exact Or.inl w
    · exact Or.inr w
    · simp at w2
  · have hpos := List.length_pos_iff.mpr z
    obtain ⟨p0, a, hpa⟩ : ∃ p0 a, p = p0 ++ [a] := ⟨_, _, (List.dropLast_concat_getLast z).symm⟩
    have hkids : ∀ l', lv = l' + 1 → ∃ cs, ct_up N l' cs p := by
      intro l' hl'
      obtain ⟨ks, hks⟩ := hval l' hl'
      rw [← hfl] at hks
      obtain ⟨_, ks2, _, _, h9⟩ := ct_up_inv hks
      exact ⟨ks2, h9⟩
    refine br_f (by rw [hpc]; exact nI_nle (by omega) (by omega)) ?_
    refine cx_close (p := p) (p0 := p0) (k := a.1) (v := a.2) H (by omega) (by omega) hlv hpc hpa (by omega) hpk hkids hoc hok ?_
    intro f_freeHead' a_keys' a_vals' a_count' a_level' a_total' a_refs' a_bucketOf' a_nextNode' a_buckets' N' x ok ov g1 g2 g3 g4 g5
    refine hp f_freeHead' a_keys' a_vals' a_count' a_level' a_total' a_refs' a_bucketOf' a_nextNode' a_buckets' 0 (nI (O ++ [(a.1, x)]).length) a_pendKey a_pendVal ok ov N' (O ++ [(a.1, x)]) g1 g2 rfl g5 ?_ ?_
    · rw [hck]
      exact ct_up_app (ct_up_of hup (fun e _ c hc => g2 _ _ _ hc)) ⟨g3, ⟨p0, a.2, hpa⟩, trivial⟩
    · intro y l c hy
      rcases g4 y l c hy with w | w
      · rcases hZ y l c w with w | ⟨b, w1, w2⟩ | ⟨w1, b, w2, w3⟩
        · exact Or.inl (ct_ref_mono g2 w)
        · exact Or.inr ⟨b, by simp [w1], w2⟩
        · rw [List.append_nil] at w2
          have : lv = lv - 1 + 1 := by omega
          rw [this] at g3
          refine Or.inl (Or.inr ⟨x, lv - 1, _, g3, List.mem_map.mpr ⟨b, w2, w3⟩⟩)
      · exact Or.inr ⟨(a.1, x), by simp, w.symm⟩
end
section
variable {f_minWidth f_maxWidth f_slotCount f_limit f_freeHead f_inCount f_pendCount f_outCount f_difCount f_repCount : Int32} {a_roots a_keys a_vals a_count a_level a_total a_refs a_bucketOf a_nextNode a_buckets a_stack a_curNode a_curIdx a_curHeight a_curDone a_inKey a_inVal a_pendKey a_pendVal a_outKey a_outVal a_difKey a_difA a_difB a_difOurs a_repKey a_repVal : Nat → Int32} {X : List Int32}
theorem cx_rc_79 {post : SX → Prop} {N0 : ct_N} {Es : Nat → List ct_E} {h lv B0 : Nat} {T I RL : List ct_E} {R : Nat → List ct_E} (hh : h ≤ 8) (hlv : lv < 8) (hB : B0 + 40 ≤ 318) (hT : T.length ≤ 60) (hch : a_curHeight 1 = nI h)
    (hI : ct_at a_inKey a_inVal I) (hIc : f_inCount = nI I.length) (hI60 : I.length ≤ 60) (hc1 : (lv < h ∧ ct_c1 N0 Es h lv a_curNode a_curIdx a_curDone R ∧ RL = R lv) ∨ (h ≤ lv ∧ a_curDone 1 = 1 ∧ RL = []))
    (hp : ∀ (f_freeHead' : Int32) (a_keys' a_vals' a_count' a_level' a_total' a_refs' a_bucketOf' a_nextNode' a_buckets' : Nat → Int32) (f_pendCount' f_outCount' : Int32) (a_pendKey' a_pendVal' a_outKey' a_outVal' : Nat → Int32) (cN cI cD : Nat → Int32) (N : ct_N) (P O G : List ct_E), ct_HI f_freeHead' a_keys' a_vals' a_count' a_level' a_total' a_refs' a_bucketOf' a_nextNode' a_buckets' N X (B0 + O.length) → (∀ y l c, N0 y l c → N y l c) → f_outCount' = nI O.length → ct_at a_outKey' a_outVal' O → ct_up N lv (ct_ck lv P) O →
      (∀ y l c, N y l c → ct_ref N X y ∨ ∃ e ∈ O, e.2 = y) → P ++ G = T → ct_fo N Es h lv P G a_curNode a_curIdx a_curDone cN cI cD → post (f_minWidth, f_maxWidth, f_slotCount, f_limit, f_freeHead', f_inCount, f_pendCount', f_outCount', f_difCount, f_repCount, a_roots, a_keys', a_vals', a_count', a_level', a_total', a_refs', a_bucketOf', a_nextNode', a_buckets', a_stack, cN, cI, a_curHeight, cD, a_inKey, a_inVal, a_pendKey', a_pendVal', a_outKey', a_outVal', a_difKey, a_difA, a_difB, a_difOurs, a_repKey, a_repVal)) :
    ∀ (Ir Id : List ct_E) (f_freeHead : Int32) (a_keys a_vals a_count a_level a_total a_refs a_bucketOf a_nextNode a_buckets : Nat → Int32) (f_pendCount f_outCount : Int32) (a_pendKey a_pendVal a_outKey a_outVal : Nat → Int32) (N : ct_N) (P O : List ct_E), I = Id ++ Ir → ct_HI f_freeHead a_keys a_vals a_count a_level a_total a_refs a_bucketOf a_nextNode a_buckets N X (B0 + O.length) → (∀ y l c, N0 y l c → N y l c) → ct_Q N lv P O f_pendCount f_outCount a_pendKey a_pendVal a_outKey a_outVal → ct_Z N X lv (ct_gr lv P).2 Ir O →
      P ++ (Ir ++ RL) = T → ct_val N lv T → wX_rechunk_79 post (nI lv) (nI h - 1) (Ir.length + 1) (nI Id.length) f_minWidth f_maxWidth f_slotCount f_limit f_freeHead f_inCount f_pendCount f_outCount f_difCount f_repCount a_roots a_keys a_vals a_count a_level a_total a_refs a_bucketOf a_nextNode a_buckets a_stack a_curNode a_curIdx a_curHeight a_curDone a_inKey a_inVal a_pendKey a_pendVal a_outKey a_outVal a_difKey a_difA a_difB a_difOurs a_repKey a_repVal := by
  subst hIc
  intro Ir
  induction Ir with
  | nil =>
    intro Id f_freeHead a_keys a_vals a_count a_level a_total a_refs a_bucketOf a_nextNode a_buckets f_pendCount f_outCount a_pendKey a_pendVal a_outKey a_outVal N P O hId H hs hQ hZ hPT hval
    rw [List.append_nil] at hId
    subst hId
    rw [List.nil_append] at hPT
    refine ⟨fun _ => ?_, fun hn => absurd (Int32.le_refl _) hn⟩
    rcases hc1 with ⟨q1, q2, q3⟩ | ⟨q1, q2, q3⟩
    · have hla : nI h - 1 = nI (h - 1) := pk_sub (b := 1) (by omega)
      rw [hla]
      refine br_f (nI_nlt (by omega) (by omega)) ?_
      unfold wpX_feedRest
      dsimp only
      refine nm_r (e' := nI (8 + lv)) (nI_add 8 lv) ⟨(R lv).length + 1, ?_⟩
      subst q3
      have hlr : (R lv).length ≤ T.length := by rw [← hPT]; simp
      refine cx_feed_8 (N0 := N) (Es := Es) (B0 := B0) (T := T) hh q1 hB hT hch ?_ _ f_freeHead a_keys a_vals a_count a_level a_total a_refs a_bucketOf a_nextNode a_buckets f_pendCount f_outCount a_pendKey a_pendVal a_outKey a_outVal a_curNode a_curIdx a_curDone N P O R 0 H (fun _ _ _ h => h) hQ hZ (ct_c1_mono hs q2) (fun _ _ => ⟨rfl, rfl⟩) rfl hPT hval (by omega) (by omega)
      intro f_freeHead' a_keys' a_vals' a_count' a_level' a_total' a_refs' a_bucketOf' a_nextNode' a_buckets' f_pendCount' f_outCount' a_pendKey' a_pendVal' a_outKey' a_outVal' cN cI cD N1 P1 O1 G g1 g2 g3 g4 g5 g6
      have hl1 : P1.length ≤ T.length := by rw [← g5]; simp
      have hOl := ct_up_len g3.2.2.2.2
      have hgl := ct_gr_len lv P1
      refine cx_rc_124 g1 hB (by omega) hlv g3 (ct_val_pre (ct_val_mono g2 hval) g5) g4 ?_
      intro f_freeHead'' a_keys'' a_vals'' a_count'' a_level'' a_total'' a_refs'' a_bucketOf'' a_nextNode'' a_buckets'' f_pendCount'' f_outCount'' a_pendKey'' a_pendVal'' a_outKey'' a_outVal'' N2 O2 k1 k2 k3 k4 k5 k6
      exact hp f_freeHead'' a_keys'' a_vals'' a_count'' a_level'' a_total'' a_refs'' a_bucketOf'' a_nextNode'' a_buckets'' f_pendCount'' f_outCount'' a_pendKey'' a_pendVal'' a_outKey'' a_outVal'' cN cI cD N2 P1 O2 G k1 (fun y l c hy => k2 _ _ _ (g2 _ _ _ (hs _ _ _ hy))) k3 k4 k5 k6 g5 (ct_fo_mono k2 g6)
    · subst q3
      rw [List.append_nil] at hPT
      have hla : nI h - 1 < nI lv := by
        rw [Int32.lt_iff_toInt_lt, show nI h - 1 = nI h - nI 1 from rfl, pk_sub_toInt (by omega) (by omega), nI_toInt (by omega)]
        omega
      refine br_t hla ?_
      subst hPT
      have hOl := ct_up_len hQ.2.2.2.2
      have hgl := ct_gr_len lv P
      refine cx_rc_124 H hB (by omega) hlv hQ hval hZ ?_
      intro f_freeHead'' a_keys'' a_vals'' a_count'' a_level'' a_total'' a_refs'' a_bucketOf'' a_nextNode'' a_buckets'' f_pendCount'' f_outCount'' a_pendKey'' a_pendVal'' a_outKey'' a_outVal'' N2 O2 k1 k2 k3 k4 k5 k6
      exact hp f_freeHead'' a_keys'' a_vals'' a_count'' a_level'' a_total'' a_refs'' a_bucketOf'' a_nextNode'' a_buckets'' f_pendCount'' f_outCount'' a_pendKey'' a_pendVal'' a_outKey'' a_outVal'' a_curNode a_curIdx a_curDone N2 P O2 [] k1 (fun y l c hy => k2 _ _ _ (hs _ _ _ hy)) k3 k4 k5 k6 (List.append_nil P) ⟨fun _ _ => ⟨rfl, rfl⟩, rfl, Or.inl ⟨q2, rfl⟩⟩
  | cons e Ir ih =>
    intro Id f_freeHead a_keys a_vals a_count a_level a_total a_refs a_bucketOf a_nextNode a_buckets f_pendCount f_outCount a_pendKey a_pendVal a_outKey a_outVal N P O hId H hs hQ hZ hPT hval
    have hil : I.length = Id.length + (Ir.length + 1) := by rw [hId]; simp
    have hg : I[Id.length]'(by omega) = e := by subst hId; simp
    have hat := hI Id.length (by omega)
    rw [hg] at hat
    have hPl : P.length ≤ T.length := by rw [← hPT]; simp
    have hOl := ct_up_len hQ.2.2.2.2
    have hgl := ct_gr_len lv P
    have hv : vp_in (nI Id.length) 64 := vp_in_nI (by omega) (by omega)
    have hPe : P ++ [e] ++ (Ir ++ RL) = T := by rw [← hPT]; simp
    refine br_f (nI_ge (by omega) (by omega)) ⟨hv, hv, ?_⟩
    rw [nI_clamp (by omega), hat.1, hat.2]
    refine cx_push (td := e :: Ir) (td' := Ir) H hB (by omega) hlv hQ (ct_val_pre hval hPe) hZ (by simp) ?_
    intro f_freeHead' a_keys' a_vals' a_count' a_level' a_total' a_refs' a_bucketOf' a_nextNode' a_buckets' f_pendCount' f_outCount' a_pendKey' a_pendVal' a_outKey' a_outVal' N1 O1 g1 g2 g3 g4
    refine nm_r (nI_1 _) ?_
    have h9 := ih (Id ++ [e]) f_freeHead' a_keys' a_vals' a_count' a_level' a_total' a_refs' a_bucketOf' a_nextNode' a_buckets' f_pendCount' f_outCount' a_pendKey' a_pendVal' a_outKey' a_outVal' N1 (P ++ [e]) O1 (by rw [hId]; simp) g1 (fun y l c hy => g2 _ _ _ (hs _ _ _ hy)) g3 g4 hPe (ct_val_mono g2 hval)
    rw [List.length_append, List.length_singleton] at h9
    exact h9
theorem cx_rc_39 {post : SX → Prop} {N0 : ct_N} {Es : Nat → List ct_E} {h lv B0 i0 : Nat} {c0 T I RL : List ct_E} {R : Nat → List ct_E} {x4 : Int32} (hh : h ≤ 8) (hlv : lv < 8) (hB : B0 + 40 ≤ 318) (hT : T.length ≤ 60) (hch : a_curHeight 1 = nI h)
    (hI : ct_at a_inKey a_inVal I) (hIc : f_inCount = nI I.length) (hI60 : I.length ≤ 60) (hc1 : (lv < h ∧ ct_c1 N0 Es h lv a_curNode a_curIdx a_curDone R ∧ RL = R lv) ∨ (h ≤ lv ∧ a_curDone 1 = 1 ∧ RL = []))
    (hi0 : i0 ≤ c0.length) (hi6 : i0 ≤ 6) (hx4 : 0 < i0 → ∃ n0, x4 = nI (n0 * 8) ∧ n0 < 320 ∧ N0 (nI n0) lv c0) (hTT : c0.take i0 ++ (I ++ RL) = T)
    (hp : ∀ (f_freeHead' : Int32) (a_keys' a_vals' a_count' a_level' a_total' a_refs' a_bucketOf' a_nextNode' a_buckets' : Nat → Int32) (f_pendCount' f_outCount' : Int32) (a_pendKey' a_pendVal' a_outKey' a_outVal' : Nat → Int32) (cN cI cD : Nat → Int32) (N : ct_N) (P O G : List ct_E), ct_HI f_freeHead' a_keys' a_vals' a_count' a_level' a_total' a_refs' a_bucketOf' a_nextNode' a_buckets' N X (B0 + O.length) → (∀ y l c, N0 y l c → N y l c) → f_outCount' = nI O.length → ct_at a_outKey' a_outVal' O → ct_up N lv (ct_ck lv P) O →
      (∀ y l c, N y l c → ct_ref N X y ∨ ∃ e ∈ O, e.2 = y) → P ++ G = T → ct_fo N Es h lv P G a_curNode a_curIdx a_curDone cN cI cD → post (f_minWidth, f_maxWidth, f_slotCount, f_limit, f_freeHead', f_inCount, f_pendCount', f_outCount', f_difCount, f_repCount, a_roots, a_keys', a_vals', a_count', a_level', a_total', a_refs', a_bucketOf', a_nextNode', a_buckets', a_stack, cN, cI, a_curHeight, cD, a_inKey, a_inVal, a_pendKey', a_pendVal', a_outKey', a_outVal', a_difKey, a_difA, a_difB, a_difOurs, a_repKey, a_repVal)) :
    ∀ (d j : Nat) (f_freeHead : Int32) (a_keys a_vals a_count a_level a_total a_refs a_bucketOf a_nextNode a_buckets : Nat → Int32) (f_pendCount f_outCount : Int32) (a_pendKey a_pendVal a_outKey a_outVal : Nat → Int32) (N : ct_N) (O : List ct_E), j + d = i0 → ct_HI f_freeHead a_keys a_vals a_count a_level a_total a_refs a_bucketOf a_nextNode a_buckets N X (B0 + O.length) → (∀ y l c, N0 y l c → N y l c) → ct_Q N lv (c0.take j) O f_pendCount f_outCount a_pendKey a_pendVal a_outKey a_outVal → ct_Z N X lv (ct_gr lv (c0.take j)).2 I O →
      ct_val N lv T → wX_rechunk_39 post (nI lv) (nI h - 1) (nI i0) x4 (d + 1) (nI j) f_minWidth f_maxWidth f_slotCount f_limit f_freeHead f_inCount f_pendCount f_outCount f_difCount f_repCount a_roots a_keys a_vals a_count a_level a_total a_refs a_bucketOf a_nextNode a_buckets a_stack a_curNode a_curIdx a_curHeight a_curDone a_inKey a_inVal a_pendKey a_pendVal a_outKey a_outVal a_difKey a_difA a_difB a_difOurs a_repKey a_repVal := by
  intro d
  induction d with
  | zero =>
    intro j f_freeHead a_keys a_vals a_count a_level a_total a_refs a_bucketOf a_nextNode a_buckets f_pendCount f_outCount a_pendKey a_pendVal a_outKey a_outVal N O hj H hs hQ hZ hval
    have : j = i0 := by omega
    subst this
    refine br_t (Int32.le_refl _) ⟨I.length + 1, ?_⟩
    exact cx_rc_79 (N0 := N0) (Es := Es) (B0 := B0) (T := T) (R := R) hh hlv hB hT hch hI hIc hI60 hc1 hp I [] f_freeHead a_keys a_vals a_count a_level a_total a_refs a_bucketOf a_nextNode a_buckets f_pendCount f_outCount a_pendKey a_pendVal a_outKey a_outVal N (c0.take j) O rfl H hs hQ hZ hTT hval
  | succ d ih =>
    intro j f_freeHead a_keys a_vals a_count a_level a_total a_refs a_bucketOf a_nextNode a_buckets f_pendCount f_outCount a_pendKey a_pendVal a_outKey a_outVal N O hj H hs hQ hZ hval
    obtain ⟨n0, e1, n2, hN0⟩ := hx4 (by omega)
    obtain ⟨n', f1, f2, f3, _, _, _, _, c6, hkv, _⟩ := ct_HI_rd H (hs _ _ _ hN0)
    have : n0 = n' := (nI_eq (by omega) (by omega)).mp f1
    subst this
    have q : j < c0.length := by omega
    have hkk := hkv j q
    have ex : x4 + nI j = nI (n0 * 8 + j) := by rw [e1, nI_add]
    have hv : vp_in (x4 + nI j) 2560 := by rw [ex]; exact vp_in_nI (by omega) (by omega)
    have hOl := ct_up_len hQ.2.2.2.2
    have hgl := ct_gr_len lv (c0.take j)
    rw [List.length_take] at hgl
    have htk : c0.take (j + 1) = c0.take j ++ [c0[j]] := by rw [List.take_succ_eq_append_getElem q]
    have hpre : ∃ G, c0.take (j + 1) ++ G = T := by
      refine ⟨(c0.take i0).drop (j + 1) ++ (I ++ RL), ?_⟩
      rw [← List.append_assoc, ← hTT]
      congr 1
      have := List.take_append_drop (j + 1) (c0.take i0)
      rw [List.take_take, Nat.min_eq_left (by omega)] at this
      exact this
    obtain ⟨G, hG⟩ := hpre
    refine br_f (nI_ge (by omega) (by omega)) ⟨hv, hv, ?_⟩
    rw [ex, nI_clamp (by omega), hkk.1, hkk.2]
    rw [htk] at hG
    refine cx_push (td := I) (td' := I) H hB (by omega) hlv hQ (ct_val_pre hval hG) hZ (fun a ha => Or.inr ha) ?_
    intro f_freeHead' a_keys' a_vals' a_count' a_level' a_total' a_refs' a_bucketOf' a_nextNode' a_buckets' f_pendCount' f_outCount' a_pendKey' a_pendVal' a_outKey' a_outVal' N1 O1 g1 g2 g3 g4
    rw [← htk] at g3 g4
    exact nm_r (nI_1 _) (ih (j + 1) f_freeHead' a_keys' a_vals' a_count' a_level' a_total' a_refs' a_bucketOf' a_nextNode' a_buckets' f_pendCount' f_outCount' a_pendKey' a_pendVal' a_outKey' a_outVal' N1 O1 (by omega) g1 (fun y l c hy => g2 _ _ _ (hs _ _ _ hy)) g3 g4 (ct_val_mono g2 hval))
theorem cx_rechunk {post : SX → Prop} {N0 : ct_N} {Es : Nat → List ct_E} {h lv B0 i0 : Nat} {c0 T I RL : List ct_E} {R : Nat → List ct_E} (H : ct_HI f_freeHead a_keys a_vals a_count a_level a_total a_refs a_bucketOf a_nextNode a_buckets N0 X B0) (hh : h ≤ 8) (hlv : lv < 8) (hB : B0 + 40 ≤ 318) (hT : T.length ≤ 60) (hch : a_curHeight 1 = nI h)
    (hI : ct_at a_inKey a_inVal I) (hIc : f_inCount = nI I.length) (hI60 : I.length ≤ 60) (hc1 : (lv < h ∧ ct_c1 N0 Es h lv a_curNode a_curIdx a_curDone R ∧ RL = R lv) ∨ (h ≤ lv ∧ a_curDone 1 = 1 ∧ RL = []))
    (hc0 : (lv < h ∧ a_curIdx lv = nI i0 ∧ i0 ≤ c0.length ∧ N0 (a_curNode lv) lv c0) ∨ (h ≤ lv ∧ i0 = 0)) (hTT : c0.take i0 ++ (I ++ RL) = T) (hval : ct_val N0 lv T)
    (hZ : ∀ y l c, N0 y l c → ct_ref N0 X y ∨ (0 < lv ∧ ∃ e ∈ I, e.2 = y))
    (hp : ∀ (f_freeHead' : Int32) (a_keys' a_vals' a_count' a_level' a_total' a_refs' a_bucketOf' a_nextNode' a_buckets' : Nat → Int32) (f_pendCount' f_outCount' : Int32) (a_pendKey' a_pendVal' a_outKey' a_outVal' : Nat → Int32) (cN cI cD : Nat → Int32) (N : ct_N) (P O G : List ct_E), ct_HI f_freeHead' a_keys' a_vals' a_count' a_level' a_total' a_refs' a_bucketOf' a_nextNode' a_buckets' N X (B0 + O.length) → (∀ y l c, N0 y l c → N y l c) → f_outCount' = nI O.length → ct_at a_outKey' a_outVal' O → ct_up N lv (ct_ck lv P) O →
      (∀ y l c, N y l c → ct_ref N X y ∨ ∃ e ∈ O, e.2 = y) → P ++ G = T → ct_fo N Es h lv P G a_curNode a_curIdx a_curDone cN cI cD → post (f_minWidth, f_maxWidth, f_slotCount, f_limit, f_freeHead', f_inCount, f_pendCount', f_outCount', f_difCount, f_repCount, a_roots, a_keys', a_vals', a_count', a_level', a_total', a_refs', a_bucketOf', a_nextNode', a_buckets', a_stack, cN, cI, a_curHeight, cD, a_inKey, a_inVal, a_pendKey', a_pendVal', a_outKey', a_outVal', a_difKey, a_difA, a_difB, a_difOurs, a_repKey, a_repVal)) :
    wpX_rechunk post (f_minWidth, f_maxWidth, f_slotCount, f_limit, f_freeHead, f_inCount, f_pendCount, f_outCount, f_difCount, f_repCount, a_roots, a_keys, a_vals, a_count, a_level, a_total, a_refs, a_bucketOf, a_nextNode, a_buckets, a_stack, a_curNode, a_curIdx, a_curHeight, a_curDone, a_inKey, a_inVal, a_pendKey, a_pendVal, a_outKey, a_outVal, a_difKey, a_difA, a_difB, a_difOurs, a_repKey, a_repVal) (nI lv) (nI h - 1) := by
  have hv16 : vp_in (nI lv) 16 := vp_in_nI (by omega) (by omega)
  have hcl : (nI lv).toNatClampNeg = lv := nI_clamp (by omega)
  have hQ0 : ct_Q N0 lv (c0.take 0) [] 0 0 a_pendKey a_pendVal a_outKey a_outVal := ⟨rfl, ct_at_nil, rfl, ct_at_nil, trivial⟩
  have hZ0 : ct_Z N0 X lv (ct_gr lv (c0.take 0)).2 I [] := by
    intro y l c hy
    rcases hZ y l c hy with w | ⟨w1, e, w2, w3⟩
    · exact Or.inl w
    · exact Or.inr (Or.inr ⟨w1, e, by simp [w2], w3⟩)
  rcases hc0 with ⟨q1, q2, q3, q4⟩ | ⟨q1, q2⟩
  · have hla : ¬ nI h - 1 < nI lv := by
      rw [show nI h - 1 = nI (h - 1) from pk_sub (b := 1) (by omega)]
      exact nI_nlt (by omega) (by omega)
    obtain ⟨n0, e1, n1, n2, _, _, _, _, c6, _⟩ := ct_HI_rd H q4
    refine br_f hla ⟨hv16, ?_⟩
    rw [hcl, q2]
    refine ⟨hv16, nm_r (e' := nI (n0 * 8)) (by rw [hcl]; exact cx_ix0 e1 n2) ⟨i0 + 1, ?_⟩⟩
    exact cx_rc_39 (N0 := N0) (Es := Es) (B0 := B0) (T := T) (R := R) hh hlv hB hT hch hI hIc hI60 hc1 q3 (by omega) (fun _ => ⟨n0, rfl, n2, by rw [← e1]; exact q4⟩) hTT hp i0 0 f_freeHead a_keys a_vals a_count a_level a_total a_refs a_bucketOf a_nextNode a_buckets 0 0 a_pendKey a_pendVal a_outKey a_outVal N0 [] (by omega) H (fun _ _ _ h => h) hQ0 hZ0 hval
  · subst q2
    have hla : nI h - 1 < nI lv := by
      rw [Int32.lt_iff_toInt_lt, show nI h - 1 = nI h - nI 1 from rfl, pk_sub_toInt (by omega) (by omega), nI_toInt (by omega)]
      omega
    refine br_t hla ⟨hv16, nm_e ⟨1, ?_⟩⟩
    exact cx_rc_39 (N0 := N0) (Es := Es) (B0 := B0) (T := T) (R := R) (c0 := c0) (i0 := 0) hh hlv hB hT hch hI hIc hI60 hc1 (by omega) (by omega) (fun z => by omega) hTT hp 0 0 f_freeHead a_keys a_vals a_count a_level a_total a_refs a_bucketOf a_nextNode a_buckets 0 0 a_pendKey a_pendVal a_outKey a_outVal N0 [] (by omega) H (fun _ _ _ h => h) hQ0 hZ0 hval
theorem cx_promote {post : SX → Prop} {O : List ct_E} (hoc : f_outCount = nI O.length) (hok : ct_at a_outKey a_outVal O) (hO : O.length ≤ 60)
    (hp : ∀ ik iv, ct_at ik iv O → post (f_minWidth, f_maxWidth, f_slotCount, f_limit, f_freeHead, f_outCount, f_pendCount, f_outCount, f_difCount, f_repCount, a_roots, a_keys, a_vals, a_count, a_level, a_total, a_refs, a_bucketOf, a_nextNode, a_buckets, a_stack, a_curNode, a_curIdx, a_curHeight, a_curDone, ik, iv, a_pendKey, a_pendVal, a_outKey, a_outVal, a_difKey, a_difA, a_difB, a_difOurs, a_repKey, a_repVal)) : wpX_promote post (f_minWidth, f_maxWidth, f_slotCount, f_limit, f_freeHead, f_inCount, f_pendCount, f_outCount, f_difCount, f_repCount, a_roots, a_keys, a_vals, a_count, a_level, a_total, a_refs, a_bucketOf, a_nextNode, a_buckets, a_stack, a_curNode, a_curIdx, a_curHeight, a_curDone, a_inKey, a_inVal, a_pendKey, a_pendVal, a_outKey, a_outVal, a_difKey, a_difA, a_difB, a_difOurs, a_repKey, a_repVal) := by
  subst hoc
  have key : ∀ (d i : Nat) (a_inKey a_inVal : Nat → Int32), i + d = O.length → ct_at a_inKey a_inVal (O.take i) → wX_promote_2 post f_minWidth f_maxWidth f_slotCount f_limit f_freeHead f_inCount f_pendCount (nI O.length) f_difCount f_repCount (d + 1) (nI i) a_roots a_keys a_vals a_count a_level a_total a_refs a_bucketOf a_nextNode a_buckets a_stack a_curNode a_curIdx a_curHeight a_curDone a_inKey a_inVal a_pendKey a_pendVal a_outKey a_outVal a_difKey a_difA a_difB a_difOurs a_repKey a_repVal := by
    intro d
    induction d with
    | zero =>
      intro i a_inKey a_inVal hi hat
      have : i = O.length := by omega
      subst this
      rw [List.take_length] at hat
      exact br_t (Int32.le_refl _) (hp _ _ hat)
    | succ d ih =>
      intro i a_inKey a_inVal hi hat
      have q : i < O.length := by omega
      have hv : vp_in (nI i) 64 := vp_in_nI (by omega) (by omega)
      have hcl : (nI i).toNatClampNeg = i := nI_clamp (by omega)
      have htk : O.take (i + 1) = O.take i ++ [((O[i]).1, (O[i]).2)] := by rw [List.take_succ_eq_append_getElem q]
      refine br_f (nI_ge (by omega) (by omega)) ⟨hv, hv, nm_r (e' := upd a_inKey i (O[i]).1) (by rw [hcl, (hok i q).1]) ⟨hv, hv, nm_r (e' := upd a_inVal i (O[i]).2) (by rw [hcl, (hok i q).2]) (nm_r (nI_1 i) (ih (i + 1) _ _ (by omega) ?_))⟩⟩
      rw [htk]
      exact ct_at_snoc hat (by rw [List.length_take]; omega) _ _
  unfold wpX_promote
  dsimp only
  exact ⟨O.length + 1, key O.length 0 _ _ (by omega) (by rw [List.take_zero]; exact ct_at_nil)⟩
end
end
section
/-! the number of live nodes; settle -/
theorem ct_cover {N : ct_N} (hf : ct_fn N) : ∀ X : List Int32, (∀ x ∈ X, ∃ m, ct_rep N m x ∧ m.length ≤ 32) →
    ∃ Ls : List Int32, Ls.length ≤ 31 * X.length ∧ (∀ x ∈ X, x = 0 ∨ x ∈ Ls) ∧ ∀ x ∈ Ls, ∀ l c, N x (l + 1) c → ∀ e ∈ c, e.2 ∈ Ls
  | [], _ => ⟨[], by simp, by simp, by simp⟩
  | x :: X, h => by
    obtain ⟨L1, a1, a2, a3⟩ := ct_cover hf X (fun y hy => h y (by simp [hy]))
    obtain ⟨m, hm, hm32⟩ := h x (by simp)
    obtain ⟨L2, b1, b2, b3⟩ := ct_rep_nodes hf hm hm32
    refine ⟨L2 ++ L1, by rw [List.length_append, List.length_cons]; omega, ?_, ?_⟩
    · intro y hy
      rcases List.mem_cons.mp hy with w | w
      · rw [w]
        rcases b2 with b2 | b2
        · exact Or.inl b2
        · exact Or.inr (List.mem_append_left _ b2)
      · rcases a2 y w with a2 | a2
        · exact Or.inl a2
        · exact Or.inr (List.mem_append_right _ a2)
    · intro y hy l c hN e he
      rcases List.mem_append.mp hy with w | w
      · exact List.mem_append_left _ (b3 y w l c hN e he)
      · exact List.mem_append_right _ (a3 y w l c hN e he)
section
variable {f_minWidth f_maxWidth f_slotCount f_limit f_freeHead f_inCount f_pendCount f_outCount f_difCount f_repCount : Int32} {a_roots a_keys a_vals a_count a_level a_total a_refs a_bucketOf a_nextNode a_buckets a_stack a_curNode a_curIdx a_curHeight a_curDone a_inKey a_inVal a_pendKey a_pendVal a_outKey a_outVal a_difKey a_difA a_difB a_difOurs a_repKey a_repVal : Nat → Int32} {X : List Int32} {N : ct_N} {B : Nat}
theorem ct_budget (H : ct_HI f_freeHead a_keys a_vals a_count a_level a_total a_refs a_bucketOf a_nextNode a_buckets N X B) (hR : ∀ y l c, N y l c → ct_ref N X y) (hX : ∀ x ∈ X, ∃ m, ct_rep N m x ∧ m.length ≤ 32) (hX7 : X.length ≤ 7) : ct_HI f_freeHead a_keys a_vals a_count a_level a_total a_refs a_bucketOf a_nextNode a_buckets N X 217 := by
  have hf := ct_HI_fn H
  have hnz := ct_HI_nz H
  have hkd := ct_HI_kd H
  obtain ⟨Ls, a1, a2, a3⟩ := ct_cover hf X hX
  have key : ∀ d y l c, l + d = 8 → N y l c → y ∈ Ls := by
    intro d
    induction d with
    | zero =>
      intro y l c hl hN
      obtain ⟨_, _, _, _, _, l8, _⟩ := ct_HI_rd H hN
      omega
    | succ d ih =>
      intro y l c hl hN
      rcases hR y l c hN with w | ⟨p, l', c', w1, w2⟩
      · rcases a2 y w with z | z
        · exact absurd z (hnz _ _ _ hN)
        · exact z
      · obtain ⟨e, he, hey⟩ := List.mem_map.mp w2
        obtain ⟨cs, hcs⟩ := hkd _ _ _ w1
        obtain ⟨c2, _, hc2, _⟩ := ct_up_mem hcs he
        rw [hey] at hc2
        have := (hf _ _ _ _ _ hN hc2).1
        subst this
        have hp := ih p (l + 1) c' (by omega) w1
        rw [← hey]
        exact a3 p hp l c' w1 e he
  obtain ⟨lv, H0, e0, _⟩ := H
  refine ⟨lv, H0, e0, ?_⟩
  have hnd := ct_pl_nodup H0.1
  have hnd2 : (lv.map nI).Nodup := by
    refine List.pairwise_map.mpr (List.Pairwise.imp_of_mem ?_ hnd)
    intro a b ha hb hab z
    have x1 := ct_pl_in H0.1 ha
    have x2 := ct_pl_in H0.1 hb
    exact hab ((nI_eq (by omega) (by omega)).mp z)
  have hsub : (lv.map nI) ⊆ Ls := by
    intro y hy
    obtain ⟨n, hn, rfl⟩ := List.mem_map.mp hy
    obtain ⟨l, r1, r2, _⟩ := H0.2.1 n hn
    exact key (8 - l) (nI n) l _ (by omega) (by rw [e0]; exact ⟨n, hn, rfl, r1, r2, rfl⟩)
  have := List.Nodup.length_le_of_subset hnd2 hsub
  rw [List.length_map] at this
  omega
theorem cx_set_62 {post : Int32 → SX → Prop} {top r : Int32} (H : ct_HI f_freeHead a_keys a_vals a_count a_level a_total a_refs a_bucketOf a_nextNode a_buckets N X B) (hX : X.length ≤ 50) (ht : top = 0 ∨ ∃ l c, N top l c) (hr : r = 0 ∨ ∃ l c, N r l c) (hR : ∀ y l c, N y l c → ct_ref N X y ∨ y = top)
    (hp : ∀ (fh : Int32) (rf nx bu stk : Nat → Int32) (N' : ct_N), ct_HI fh a_keys a_vals a_count a_level a_total rf a_bucketOf nx bu N' (r :: X) B → (∀ x l c, N' x l c → N x l c) → (∀ x l c, N' x l c → ct_ref N' (r :: X) x) →
      post r (f_minWidth, f_maxWidth, f_slotCount, f_limit, fh, f_inCount, f_pendCount, f_outCount, f_difCount, f_repCount, a_roots, a_keys, a_vals, a_count, a_level, a_total, rf, a_bucketOf, nx, bu, stk, a_curNode, a_curIdx, a_curHeight, a_curDone, a_inKey, a_inVal, a_pendKey, a_pendVal, a_outKey, a_outVal, a_difKey, a_difA, a_difB, a_difOurs, a_repKey, a_repVal)) : wX_settle_62 post top r f_minWidth f_maxWidth f_slotCount f_limit f_freeHead f_inCount f_pendCount f_outCount f_difCount f_repCount a_roots a_keys a_vals a_count a_level a_total a_refs a_bucketOf a_nextNode a_buckets a_stack a_curNode a_curIdx a_curHeight a_curDone a_inKey a_inVal a_pendKey a_pendVal a_outKey a_outVal a_difKey a_difA a_difB a_difOurs a_repKey a_repVal := by
  have hv : ∀ x : Int32, (x = 0 ∨ ∃ l c, N x l c) → vp_in x 320 := by
    intro x hx
    rcases hx with z | ⟨l, c, hN⟩
    · rw [z, ← nI_0]; exact vp_in_nI (by omega) (by omega)
    · obtain ⟨n, e1, n1, n2, _⟩ := ct_HI_rd H hN
      rw [e1]; exact vp_in_nI (by omega) (by omega)
  refine ⟨hv top ht, hv top ht, nm_e ⟨hv r hr, hv r hr, nm_e ?_⟩⟩
  have H1 := ct_HI_inc H ht
  have H2 := ct_HI_inc H1 hr
  have H3 := ct_HI_perm H2 (List.Perm.swap top r X)
  refine cx_release H3 (by simp; omega) ?_ hp
  intro y l c hy
  rcases hR y l c hy with w | w
  · rcases w with w | w
    · exact Or.inl (by simp [w])
    · exact Or.inr w
  · exact Or.inl (by simp [w])
theorem cx_settle {post : Int32 → SX → Prop} {J : Nat} {Es : Nat → List ct_E} {m I : List ct_E} (H : ct_HI f_freeHead a_keys a_vals a_count a_level a_total a_refs a_bucketOf a_nextNode a_buckets N X B) (hX : X.length ≤ 50) (hJ : 1 ≤ J) (hJ8 : J ≤ 8) (hch : ct_chn N Es J) (hE0 : Es 0 = m) (hEJ : Es J = I) (hI1 : I.length ≤ 1)
    (hI : ct_at a_inKey a_inVal I) (hIc : f_inCount = nI I.length) (hR : ∀ y l c, N y l c → ct_ref N X y ∨ ∃ e ∈ I, e.2 = y)
    (hp : ∀ (fh : Int32) (rf nx bu stk : Nat → Int32) (N' : ct_N) (r : Int32), ct_HI fh a_keys a_vals a_count a_level a_total rf a_bucketOf nx bu N' (r :: X) B → (∀ x l c, N' x l c → N x l c) → (∀ x l c, N' x l c → ct_ref N' (r :: X) x) → ct_rep N' m r →
      post r (f_minWidth, f_maxWidth, f_slotCount, f_limit, fh, f_inCount, f_pendCount, f_outCount, f_difCount, f_repCount, a_roots, a_keys, a_vals, a_count, a_level, a_total, rf, a_bucketOf, nx, bu, stk, a_curNode, a_curIdx, a_curHeight, a_curDone, a_inKey, a_inVal, a_pendKey, a_pendVal, a_outKey, a_outVal, a_difKey, a_difA, a_difB, a_difOurs, a_repKey, a_repVal)) : wpX_settle post (f_minWidth, f_maxWidth, f_slotCount, f_limit, f_freeHead, f_inCount, f_pendCount, f_outCount, f_difCount, f_repCount, a_roots, a_keys, a_vals, a_count, a_level, a_total, a_refs, a_bucketOf, a_nextNode, a_buckets, a_stack, a_curNode, a_curIdx, a_curHeight, a_curDone, a_inKey, a_inVal, a_pendKey, a_pendVal, a_outKey, a_outVal, a_difKey, a_difA, a_difB, a_difOurs, a_repKey, a_repVal) := by
  have hf := ct_HI_fn H
  have hnz := ct_HI_nz H
  unfold wpX_settle
  dsimp only
  match I, hEJ, hI1, hI, hIc, hR with
  | [], hEJ, _, _, hIc, hR =>
    have hm : m = [] := by
      apply Classical.byContradiction
      intro z
      exact ct_chn_ne' hch (by rw [hE0]; exact z) J (Nat.le_refl _) hEJ
    refine br_t (by rw [hIc]; decide) ⟨1, ?_⟩
    refine br_f (by decide) ⟨by rw [← nI_0]; exact vp_in_nI (by omega) (by omega), br_t ?_ ?_⟩
    · rw [show (0 : Int32).toNatClampNeg = 0 from rfl, (ct_HI_z H).2.1]; decide
    · refine cx_set_62 H hX (Or.inl rfl) (Or.inl rfl) ?_ ?_
      · intro y l c hy
        rcases hR y l c hy with w | ⟨e, w, _⟩
        · exact Or.inl w
        · simp at w
      · intro fh rf nx bu stk N' g1 g2 g3
        exact hp fh rf nx bu stk N' 0 g1 g2 g3 (Or.inl ⟨hm, rfl⟩)
  | [(k, top)], hEJ, _, hI, hIc, hR =>
    have hm : m ≠ [] := by
      intro z
      rw [z] at hE0
      have : ∀ j, j ≤ J → Es j = [] := by
        intro j
        induction j with
        | zero => exact fun _ => hE0
        | succ j ih =>
          intro hj
          have u := hch j (by omega)
          rw [ih (by omega), ct_ck_nil] at u
          exact ct_up_nil' u
      rw [this J (Nat.le_refl _)] at hEJ
      simp at hEJ
    have hnode : ∀ j x, j + 1 ≤ J → (∃ k, Es (j + 1) = [(k, x)]) → N x j (Es j) := by
      rintro j x hj ⟨k, hk⟩
      have u := hch j (by omega)
      rw [hk] at u
      obtain ⟨c, cs', e1, e2, _, e3⟩ := ct_up_cons u
      have e4 := ct_up_nil e3
      subst e4
      rw [ct_ck_single e1]
      exact e2
    have htop : N top (J - 1) (Es (J - 1)) := hnode (J - 1) top (by omega) ⟨k, by rw [show J - 1 + 1 = J by omega]; exact hEJ⟩
    have h0 := (hI 0 (by simp)).2
    have loop : ∀ j x f, j + 1 ≤ J → j < f → (∃ k, Es (j + 1) = [(k, x)]) → wX_settle_22 post top f_minWidth f_maxWidth f_slotCount f_limit f_freeHead f_inCount f_pendCount f_outCount f_difCount f_repCount a_roots a_keys a_vals a_count a_level a_total a_refs a_bucketOf a_nextNode a_buckets a_stack a_curNode a_curIdx a_curHeight a_curDone a_inKey a_inVal a_pendKey a_pendVal a_outKey a_outVal a_difKey a_difA a_difB a_difOurs a_repKey a_repVal f x (nI (J - (j + 1))) := by
      intro j
      induction j with
      | zero =>
        intro x f hj hf0 hk
        match f, hf0 with
        | f + 1, _ =>
          have hN := hnode 0 x hj hk
          obtain ⟨n, e1, n1, n2, e2, l8, e3, c1, c6, hkv, _⟩ := ct_HI_rd H hN
          refine br_f (nI_ge (b := 8) (by omega) (by omega)) ⟨by rw [e1]; exact vp_in_nI (by omega) (by omega), br_t ?_ ?_⟩
          · rw [e1, nI_clamp (by omega), e2]; decide
          · refine cx_set_62 H hX (Or.inr ⟨_, _, htop⟩) (Or.inr ⟨_, _, hN⟩) ?_ ?_
            · intro y l c hy
              rcases hR y l c hy with w | ⟨e, w, w2⟩
              · exact Or.inl w
              · rw [List.mem_singleton] at w
                rw [w] at w2
                exact Or.inr w2.symm
            · intro fh rf nx bu stk N' g1 g2 g3
              refine hp fh rf nx bu stk N' x g1 g2 g3 (ct_rep_sub g2 hf (ct_HI_kd g1) (Or.inr ⟨Es, 1, by omega, hE0, hm, fun i hi => hch i (by omega), hk, fun i i1 i2 => by omega⟩) (ct_HI_X g1 (by simp)) hnz)
      | succ j ih =>
        intro x f hj hf0 hk
        match f, hf0 with
        | f + 1, hf0 =>
          have hN := hnode (j + 1) x hj hk
          obtain ⟨n, e1, n1, n2, e2, l8, e3, c1, c6, hkv, _⟩ := ct_HI_rd H hN
          have hv : vp_in x 320 := by rw [e1]; exact vp_in_nI (by omega) (by omega)
          refine br_f (nI_ge (b := 8) (by omega) (by omega)) ⟨hv, br_f ?_ ⟨hv, ?_⟩⟩
          · rw [e1, nI_clamp (by omega), e2]; exact nI_nle (by omega) (by omega)
          · by_cases q : (Es (j + 1)).length = 1
            · obtain ⟨a, ha⟩ := List.length_eq_one_iff.mp q
              have hva := (hkv 0 (by omega)).2
              have hva2 : a_vals (n * 8) = a.2 := by
                rw [Nat.add_zero] at hva
                rw [hva]
                simp only [ha]
                rfl
              refine br_t (by rw [e1, nI_clamp (by omega), e3, q]; rfl) ⟨by rw [cx_ix0 e1 n2]; exact vp_in_nI (by omega) (by omega), nm_r (e' := a.2) (by rw [cx_ix0 e1 n2, nI_clamp (by omega), hva2]) (nm_r (e' := nI (J - (j + 1))) (by rw [nI_1]; exact congrArg nI (by omega)) ?_)⟩
              exact ih a.2 f (by omega) (by omega) ⟨a.1, ha⟩
            · refine br_f ?_ ?_
              · rw [e1, nI_clamp (by omega), e3]
                exact fun z => q ((nI_eq (b := 1) (by omega) (by omega)).mp z)
              · refine cx_set_62 H hX (Or.inr ⟨_, _, htop⟩) (Or.inr ⟨_, _, hN⟩) ?_ ?_
                · intro y l c hy
                  rcases hR y l c hy with w | ⟨e, w, w2⟩
                  · exact Or.inl w
                  · rw [List.mem_singleton] at w
                    rw [w] at w2
                    exact Or.inr w2.symm
                · intro fh rf nx bu stk N' g1 g2 g3
                  refine hp fh rf nx bu stk N' x g1 g2 g3 (ct_rep_sub g2 hf (ct_HI_kd g1) (Or.inr ⟨Es, j + 2, by omega, hE0, hm, fun i hi => hch i (by omega), hk, ?_⟩) (ct_HI_X g1 (by simp)) hnz)
                  intro i i1 i2
                  apply Classical.byContradiction
                  intro w
                  have : ∀ d, i + d ≤ j + 1 → (Es (i + d)).length ≤ 1 := by
                    intro d
                    induction d with
                    | zero => intro _; rw [Nat.add_zero]; omega
                    | succ d ihd =>
                      intro hd
                      have := ihd (by omega)
                      have := ct_chn_len hch (j := i + d) (by omega)
                      rw [show i + (d + 1) = i + d + 1 by omega]
                      omega
                  have := this (j + 1 - i) (by omega)
                  rw [show i + (j + 1 - i) = j + 1 by omega] at this
                  omega
    refine br_f (by rw [hIc]; exact nI_nle (n := 1) (by omega) (by omega)) (nm_r (e' := top) h0 ⟨J, ?_⟩)
    have h9 := loop (J - 1) top J (by omega) (by omega) ⟨k, by rw [show J - 1 + 1 = J by omega]; exact hEJ⟩
    rw [show J - (J - 1 + 1) = 0 by omega] at h9
    exact h9
end
end
section
/-! splice -/
def ct_pre (Es : Nat → List ct_E) (h : Nat) (b0 : Int32) (lv : Nat) : List ct_E := if lv < h then (Es lv).take (ct_p Es b0 lv) else []
def ct_sp (N0 N : ct_N) (X : List Int32) (Es : Nat → List ct_E) (h : Nat) (b0 : Int32) (m' : List ct_E) (lv Bl : Nat) (inC : Int32) (inK inV cN cI cH cD : Nat → Int32) (Es' : Nat → List ct_E) (I : List ct_E) (R : Nat → List ct_E) (RL : List ct_E) : Prop :=
  (∀ y l c, N0 y l c → N y l c) ∧ ct_chn N Es' lv ∧ Es' 0 = m' ∧ inC = nI I.length ∧ ct_at inK inV I ∧ Es' lv = ct_pre Es h b0 lv ++ (I ++ RL)
    ∧ ((lv < h ∧ ct_c1 N Es h lv cN cI cD R ∧ RL = R lv) ∨ (h ≤ lv ∧ cD 1 = 1 ∧ RL = [])) ∧ (∀ j, j < h → cN j = (ct_xe Es b0 j).2 ∧ cI j = nI (ct_xi Es b0 j)) ∧ cH 1 = nI h
    ∧ (∀ y l c, N y l c → ct_ref N X y ∨ (0 < lv ∧ ∃ e ∈ I, e.2 = y)) ∧ Bl + (Es' lv).length ≤ 249 + lv
theorem ct_chn_32 {N : ct_N} {Es : Nat → List ct_E} {h : Nat} (H : ct_chn N Es h) (h0 : (Es 0).length ≤ 32) : ∀ j, j ≤ h → (Es j).length ≤ 32 := by
  intro j
  induction j with
  | zero => exact fun _ => h0
  | succ j ih =>
    intro hj
    have h1 := ih (by omega)
    have := ct_chn_len H (j := j) (by omega)
    omega
theorem ct_chn_5 {N : ct_N} {Es : Nat → List ct_E} (H : ct_chn N Es 5) (h0 : (Es 0).length ≤ 32) : (Es 5).length ≤ 1 := by
  have a0 := ct_chn_len H (j := 0) (by omega)
  have a1 := ct_chn_len H (j := 1) (by omega)
  have a2 := ct_chn_len H (j := 2) (by omega)
  have a3 := ct_chn_len H (j := 3) (by omega)
  have a4 := ct_chn_len H (j := 4) (by omega)
  simp only [Nat.zero_add, Nat.reduceAdd] at a0 a1 a2 a3 a4
  omega
/-- what one level needs -/
theorem ct_sp_in {N0 N : ct_N} {X : List Int32} {Es : Nat → List ct_E} {h : Nat} {b0 : Int32} {m' : List ct_E} {lv Bl : Nat} {inC : Int32} {inK inV cN cI cH cD : Nat → Int32} {Es' : Nat → List ct_E} {I : List ct_E} {R : Nat → List ct_E} {RL : List ct_E}
    (S : ct_sp N0 N X Es h b0 m' lv Bl inC inK inV cN cI cH cD Es' I R RL) (hC : ct_chn N0 Es h) (hs : ct_srt (Es 0)) (hn : 0 < h → Es 0 ≠ []) :
    ∃ cs1 c0 i0, Es' lv = cs1.flatten ++ (c0.take i0 ++ (I ++ RL)) ∧ ct_val N lv (c0.take i0 ++ (I ++ RL)) ∧ ((lv < h ∧ cI lv = nI i0 ∧ i0 ≤ c0.length ∧ N (cN lv) lv c0) ∨ (h ≤ lv ∧ i0 = 0))
      ∧ ((lv < h ∧ ct_up N0 lv cs1 ((Es (lv + 1)).take (ct_p Es b0 (lv + 1))) ∧ ∃ cs2, ct_ck lv (Es lv) = cs1 ++ c0 :: cs2) ∨ (h ≤ lv ∧ cs1 = [])) := by
  obtain ⟨s1, s2, s3, s4, s5, s6, s7, s8, s9, s10, s11⟩ := S
  have vl : ∀ (F T : List ct_E), Es' lv = F ++ T → ct_val N lv T := by
    intro F T e l' hl'
    have u := s2 l' (by omega)
    rw [← hl', e] at u
    obtain ⟨k1, k2, _, _, k3⟩ := ct_up_inv u
    exact ⟨k2, k3⟩
  by_cases z : lv < h
  · obtain ⟨t, cs1, cs2, q1, q2, q3, q4, q5, q6, q7, q8, q9, q10, q11, q12, q13, q14⟩ := ct_pos b0 hC hs (hn (by omega)) z
    have e : Es' lv = cs1.flatten ++ ((ct_xc Es b0 lv).take (ct_xi Es b0 lv) ++ (I ++ RL)) := by
      rw [s6]
      unfold ct_pre
      rw [if_pos z, q6, List.append_assoc]
    have hxi : ct_xi Es b0 lv ≤ (ct_xc Es b0 lv).length := by
      have := ct_si_le b0 (ct_xc Es b0 lv)
      unfold ct_xi
      by_cases w : lv = 0
      · rw [if_pos w]; exact this
      · rw [if_neg w]; omega
    exact ⟨cs1, ct_xc Es b0 lv, ct_xi Es b0 lv, e, vl _ _ e, Or.inl ⟨z, (s8 lv z).2, hxi, by rw [(s8 lv z).1]; exact s1 _ _ _ q5.1⟩, Or.inl ⟨z, q4, cs2, q3⟩⟩
  · have e : Es' lv = ([] : List (List ct_E)).flatten ++ (([] : List ct_E).take 0 ++ (I ++ RL)) := by
      rw [s6]
      unfold ct_pre
      rw [if_neg z]
      rfl
    exact ⟨[], [], 0, e, vl _ _ e, Or.inr ⟨by omega, rfl⟩, Or.inr ⟨by omega, rfl⟩⟩
theorem ct_sp_out {N0 N N1 : ct_N} {X : List Int32} {Es : Nat → List ct_E} {h : Nat} {b0 : Int32} {m' : List ct_E} {lv Bl : Nat} {inC oC : Int32} {inK inV cN cI cH cD iK iV cN1 cI1 cD1 : Nat → Int32} {Es' : Nat → List ct_E} {I : List ct_E} {R : Nat → List ct_E} {RL P O G c0 : List ct_E} {cs1 : List (List ct_E)} {i0 : Nat}
    (S : ct_sp N0 N X Es h b0 m' lv Bl inC inK inV cN cI cH cD Es' I R RL) (hC : ct_chn N0 Es h) (hf : ct_fn N1) (hh : h ≤ 8) (hEh : 0 < h → (Es h).length = 1) (e0 : Es' lv = cs1.flatten ++ (c0.take i0 ++ (I ++ RL)))
    (hcs : (lv < h ∧ ct_up N0 lv cs1 ((Es (lv + 1)).take (ct_p Es b0 (lv + 1))) ∧ ∃ cs2, ct_ck lv (Es lv) = cs1 ++ c0 :: cs2) ∨ (h ≤ lv ∧ cs1 = []))
    (g1 : ∀ y l c, N y l c → N1 y l c) (g2 : oC = nI O.length) (g3 : ct_at iK iV O) (g4 : ct_up N1 lv (ct_ck lv P) O) (g5 : ∀ y l c, N1 y l c → ct_ref N1 X y ∨ ∃ e ∈ O, e.2 = y) (g6 : P ++ G = c0.take i0 ++ (I ++ RL)) (g7 : ct_fo N1 Es h lv P G cN cI cD cN1 cI1 cD1) :
    ∃ Es1 R1 RL1, ct_sp N0 N1 X Es h b0 m' (lv + 1) (Bl + O.length) oC iK iV cN1 cI1 cH cD1 Es1 O R1 RL1 ∧ (h ≤ lv + 1 → Es1 (lv + 1) = O) := by
  obtain ⟨s1, s2, s3, s4, s5, s6, s7, s8, s9, s10, s11⟩ := S
  obtain ⟨f1, f2, f3⟩ := g7
  have hs01 : ∀ y l c, N0 y l c → N1 y l c := fun y l c hy => g1 _ _ _ (s1 _ _ _ hy)
  -- the new level
  have hex : ∃ L R1 RL1, ct_up N1 lv (ct_ck lv (Es' lv)) L ∧ L = ct_pre Es h b0 (lv + 1) ++ (O ++ RL1) ∧ ((lv + 1 < h ∧ ct_c1 N1 Es h (lv + 1) cN1 cI1 cD1 R1 ∧ RL1 = R1 (lv + 1)) ∨ (h ≤ lv + 1 ∧ cD1 1 = 1 ∧ RL1 = [])) := by
    rw [← g6] at e0
    rcases hcs with ⟨z, hu1, cs2, hk⟩ | ⟨z, hz⟩
    · have hu : ct_up N1 lv (ct_ck lv (Es lv)) (Es (lv + 1)) := ct_up_of (hC lv z) (fun e _ c hc => hs01 _ _ _ hc)
      have hu1' : ct_up N1 lv cs1 ((Es (lv + 1)).take (ct_p Es b0 (lv + 1))) := ct_up_of hu1 (fun e _ c hc => hs01 _ _ _ hc)
      rcases f3 with ⟨d1, d2⟩ | ⟨d1, d2, d3, R', d4, d5, d6, d7⟩
      · have hr := ct_rc (Es := Es) (R' := []) (Q := Es (lv + 1)) hf (fun _ _ _ h => h) hu hu1' hk (List.append_nil _).symm (Or.inl ⟨rfl, d2⟩) g4
        rw [List.append_assoc, ← e0] at hr
        refine ⟨_, fun _ => [], [], hr, ?_, ?_⟩
        · rw [List.append_nil, List.append_nil]
          unfold ct_pre
          by_cases w : lv + 1 < h
          · rw [if_pos w]
          · rw [if_neg w]
            have : lv + 1 = h := by omega
            have hp0 : ct_p Es b0 (lv + 1) = 0 := by
              unfold ct_p
              rw [if_neg (by omega), this, hEh (by omega)]
              simp
            rw [hp0]
            rfl
        · by_cases w : lv + 1 < h
          · exact Or.inl ⟨w, Or.inl ⟨d1, fun _ => rfl⟩, rfl⟩
          · exact Or.inr ⟨by omega, d1, rfl⟩
      · obtain ⟨Q, hQ⟩ := d7 (lv + 1) (by omega) (by omega)
        have hr := ct_rc (Es := Es) (R' := R' (lv + 1)) (Q := Q) hf (fun _ _ _ h => h) hu hu1' hk hQ (Or.inr ⟨d3, d5⟩) g4
        rw [List.append_assoc, ← e0] at hr
        refine ⟨_, R', R' (lv + 1), hr, ?_, Or.inl ⟨d2, Or.inr ⟨d1, d4, d6, fun j j1 j2 => d7 j (by omega) j2⟩, rfl⟩⟩
        unfold ct_pre
        rw [if_pos d2, List.append_assoc]
    · subst hz
      rcases f3 with ⟨d1, d2⟩ | ⟨_, d2, _⟩
      · subst d2
        rw [List.append_nil, List.flatten_nil, List.nil_append] at e0
        refine ⟨O, fun _ => [], [], by rw [e0]; exact g4, ?_, Or.inr ⟨by omega, d1, rfl⟩⟩
        unfold ct_pre
        rw [if_neg (by omega), List.append_nil]
        rfl
      · omega
  obtain ⟨L, R1, RL1, x1, x2, x3⟩ := hex
  have hchn : ct_chn N1 (fun j => if j = lv + 1 then L else Es' j) (lv + 1) := by
    intro j hj
    dsimp only
    rw [if_neg (by omega)]
    by_cases w : j = lv
    · subst w
      rw [if_pos rfl]
      exact x1
    · rw [if_neg (by omega)]
      exact ct_up_of (s2 j (by omega)) (fun e _ c hc => g1 _ _ _ hc)
  have hlen := ct_chn_len hchn (j := lv) (by omega)
  rw [if_pos rfl, if_neg (by omega)] at hlen
  have hOL : O.length ≤ L.length := by rw [x2]; simp; omega
  refine ⟨fun j => if j = lv + 1 then L else Es' j, R1, RL1, ⟨hs01, hchn, ?_, g2, g3, ?_, x3, ?_, s9, ?_, ?_⟩, ?_⟩
  · dsimp only; rw [if_neg (by omega)]; exact s3
  · dsimp only; rw [if_pos rfl]; exact x2
  · intro j hj
    rw [(f1 j (by omega)).1, (f1 j (by omega)).2]
    exact s8 j hj
  · intro y l c hy
    rcases g5 y l c hy with w | w
    · exact Or.inl w
    · exact Or.inr ⟨by omega, w⟩
  · dsimp only; rw [if_pos rfl]; omega
  · intro w
    dsimp only
    rw [if_pos rfl, x2]
    unfold ct_pre
    rw [if_neg (by omega)]
    rcases x3 with x3 | x3
    · omega
    · rw [x3.2.2, List.append_nil]; rfl
section
variable {f_minWidth f_maxWidth f_slotCount f_limit f_freeHead f_inCount f_pendCount f_outCount f_difCount f_repCount : Int32} {a_roots a_keys a_vals a_count a_level a_total a_refs a_bucketOf a_nextNode a_buckets a_stack a_curNode a_curIdx a_curHeight a_curDone a_inKey a_inVal a_pendKey a_pendVal a_outKey a_outVal a_difKey a_difA a_difB a_difOurs a_repKey a_repVal : Nat → Int32} {X : List Int32}
theorem cx_sp_s {post : Int32 → SX → Prop} {N0 : ct_N} {Es : Nat → List ct_E} {h : Nat} {b0 : Int32} {m' : List ct_E} (hh : h ≤ 5) (hC : ct_chn N0 Es h) (hs : ct_srt (Es 0)) (hn : 0 < h → Es 0 ≠ []) (hEh : 0 < h → (Es h).length = 1) (hm' : m'.length ≤ 32) (hX : X.length ≤ 50)
    (hp : ∀ (f_freeHead' : Int32) (a_keys' a_vals' a_count' a_level' a_total' a_refs' a_bucketOf' a_nextNode' a_buckets' : Nat → Int32) (f_inCount' f_pendCount' f_outCount' : Int32) (a_inKey' a_inVal' a_pendKey' a_pendVal' a_outKey' a_outVal' : Nat → Int32) (a_stack' : Nat → Int32) (cN cI cD : Nat → Int32) (N' : ct_N) (r : Int32), ct_HI f_freeHead' a_keys' a_vals' a_count' a_level' a_total' a_refs' a_bucketOf' a_nextNode' a_buckets' N' (r :: X) 300 → (∀ x ∈ X, ∀ m0, ct_rep N0 m0 x → ct_rep N' m0 x) → (∀ y l c, N' y l c → ct_ref N' (r :: X) y) → ct_rep N' m' r → post r (f_minWidth, f_maxWidth, f_slotCount, f_limit, f_freeHead', f_inCount', f_pendCount', f_outCount', f_difCount, f_repCount, a_roots, a_keys', a_vals', a_count', a_level', a_total', a_refs', a_bucketOf', a_nextNode', a_buckets', a_stack', cN, cI, a_curHeight, cD, a_inKey', a_inVal', a_pendKey', a_pendVal', a_outKey', a_outVal', a_difKey, a_difA, a_difB, a_difOurs, a_repKey, a_repVal)) {lv f Bl : Nat} {N : ct_N} {Es' : Nat → List ct_E} {I : List ct_E} {R : Nat → List ct_E} {RL : List ct_E} (hlv : lv ≤ 4) (H : ct_HI f_freeHead a_keys a_vals a_count a_level a_total a_refs a_bucketOf a_nextNode a_buckets N X Bl) (S : ct_sp N0 N X Es h b0 m' lv Bl f_inCount a_inKey a_inVal a_curNode a_curIdx a_curHeight a_curDone Es' I R RL)
    (hw : lv < 4 → ∀ (f_freeHead : Int32) (a_keys a_vals a_count a_level a_total a_refs a_bucketOf a_nextNode a_buckets : Nat → Int32) (f_inCount f_pendCount f_outCount : Int32) (a_inKey a_inVal a_pendKey a_pendVal a_outKey a_outVal : Nat → Int32) (a_curNode a_curIdx a_curDone : Nat → Int32) (N : ct_N) (Es' : Nat → List ct_E) (I : List ct_E) (R : Nat → List ct_E) (RL : List ct_E) (Bl : Nat), ct_HI f_freeHead a_keys a_vals a_count a_level a_total a_refs a_bucketOf a_nextNode a_buckets N X Bl → ct_sp N0 N X Es h b0 m' (lv + 1) Bl f_inCount a_inKey a_inVal a_curNode a_curIdx a_curHeight a_curDone Es' I R RL → wX_splice_28 post (nI h - 1) f (nI (lv + 1)) f_minWidth f_maxWidth f_slotCount f_limit f_freeHead f_inCount f_pendCount f_outCount f_difCount f_repCount a_roots a_keys a_vals a_count a_level a_total a_refs a_bucketOf a_nextNode a_buckets a_stack a_curNode a_curIdx a_curHeight a_curDone a_inKey a_inVal a_pendKey a_pendVal a_outKey a_outVal a_difKey a_difA a_difB a_difOurs a_repKey a_repVal) :
    wX_splice_28 post (nI h - 1) (f + 1) (nI lv) f_minWidth f_maxWidth f_slotCount f_limit f_freeHead f_inCount f_pendCount f_outCount f_difCount f_repCount a_roots a_keys a_vals a_count a_level a_total a_refs a_bucketOf a_nextNode a_buckets a_stack a_curNode a_curIdx a_curHeight a_curDone a_inKey a_inVal a_pendKey a_pendVal a_outKey a_outVal a_difKey a_difA a_difB a_difOurs a_repKey a_repVal := by
  obtain ⟨cs1, c0, i0, e0, hval, hc0, hcs⟩ := ct_sp_in S hC hs hn
  have SS := S
  obtain ⟨s1, s2, s3, s4, s5, s6, s7, s8, s9, s10, s11⟩ := S
  have h32 := ct_chn_32 s2 (by rw [s3]; exact hm') lv (Nat.le_refl _)
  have hTl : (c0.take i0 ++ (I ++ RL)).length ≤ 32 := by
    have := congrArg List.length e0
    rw [List.length_append] at this
    omega
  have hIl : I.length ≤ 32 := by
    rw [List.length_append, List.length_append] at hTl
    omega
  refine br_f (nI_ge (b := 8) (by omega) (by omega)) ?_
  refine cx_rechunk (N0 := N) (Es := Es) (B0 := Bl) (R := R) H (by omega) (by omega) (by omega) (by omega) s9 s5 s4 (by omega) s7 hc0 rfl hval s10 ?_
  intro f_freeHead' a_keys' a_vals' a_count' a_level' a_total' a_refs' a_bucketOf' a_nextNode' a_buckets' f_pendCount' f_outCount' a_pendKey' a_pendVal' a_outKey' a_outVal' cN cI cD N1 P O G g1 g2 g3 g4 g5 g6 g7 g8
  have hPl : P.length ≤ 32 := by
    have := congrArg List.length g7
    rw [List.length_append] at this
    omega
  have hOl := ct_up_len g5
  have hck := ct_ck_len lv P
  refine cx_promote g3 g4 (by omega) ?_
  intro ik iv hio
  obtain ⟨Es1, R1, RL1, S1, hE1⟩ := ct_sp_out SS hC (ct_HI_fn g1) (by omega) hEh e0 hcs g2 g3 hio g5 g6 g7 g8
  by_cases q : lv + 1 < h
  · refine br_t (by rw [show nI h - 1 = nI (h - 1) from pk_sub (b := 1) (by omega)]; exact nI_lt (by omega) (by omega)) (nm_r (nI_1 lv) ?_)
    exact hw (by omega) f_freeHead' a_keys' a_vals' a_count' a_level' a_total' a_refs' a_bucketOf' a_nextNode' a_buckets' f_outCount' f_pendCount' f_outCount' ik iv a_pendKey' a_pendVal' a_outKey' a_outVal' cN cI cD N1 Es1 O R1 RL1 _ g1 S1
  · have hla : ¬ nI lv < nI h - 1 := by
      rw [Int32.lt_iff_toInt_lt, show nI h - 1 = nI h - nI 1 from rfl, pk_sub_toInt (by omega) (by omega), nI_toInt (by omega)]
      omega
    refine br_f hla ?_
    have hEO := hE1 (by omega)
    by_cases q1 : 1 < O.length
    · refine br_t (by rw [g3]; exact nI_lt (a := 1) q1 (by omega)) (nm_r (nI_1 lv) ?_)
      have h4 : lv < 4 := by
        apply Classical.byContradiction
        intro w
        have : lv = 4 := by omega
        subst this
        have h5 := ct_chn_5 S1.2.1 (by rw [S1.2.2.1]; exact hm')
        rw [hEO] at h5
        omega
      exact hw h4 f_freeHead' a_keys' a_vals' a_count' a_level' a_total' a_refs' a_bucketOf' a_nextNode' a_buckets' f_outCount' f_pendCount' f_outCount' ik iv a_pendKey' a_pendVal' a_outKey' a_outVal' cN cI cD N1 Es1 O R1 RL1 _ g1 S1
    · refine br_f (by rw [g3]; exact nI_nlt (a := 1) (by omega) (by omega)) ?_
      unfold wX_splice_71
      refine cx_settle (J := lv + 1) (Es := Es1) (m := m') (I := O) g1 hX (by omega) (by omega) S1.2.1 S1.2.2.1 hEO (by omega) hio g3 g6 ?_
      intro fh rf nx bu stk N2 r k1 k2 k3 k4
      refine hp fh a_keys' a_vals' a_count' a_level' a_total' rf a_bucketOf' nx bu f_outCount' f_pendCount' f_outCount' ik iv a_pendKey' a_pendVal' a_outKey' a_outVal' stk cN cI cD N2 r (ct_HI_B k1 (by omega)) ?_ k3 k4
      intro x hx m0 hm0
      exact ct_rep_sub k2 (ct_HI_fn g1) (ct_HI_kd k1) (ct_rep_mono (fun y l c hy => g2 _ _ _ (s1 _ _ _ hy)) hm0) (ct_HI_X k1 (by simp [hx])) (ct_HI_nz g1)
theorem cx_sp_28 {post : Int32 → SX → Prop} {N0 : ct_N} {Es : Nat → List ct_E} {h : Nat} {b0 : Int32} {m' : List ct_E} (hh : h ≤ 5) (hC : ct_chn N0 Es h) (hs : ct_srt (Es 0)) (hn : 0 < h → Es 0 ≠ []) (hEh : 0 < h → (Es h).length = 1) (hm' : m'.length ≤ 32) (hX : X.length ≤ 50)
    (hp : ∀ (f_freeHead' : Int32) (a_keys' a_vals' a_count' a_level' a_total' a_refs' a_bucketOf' a_nextNode' a_buckets' : Nat → Int32) (f_inCount' f_pendCount' f_outCount' : Int32) (a_inKey' a_inVal' a_pendKey' a_pendVal' a_outKey' a_outVal' : Nat → Int32) (a_stack' : Nat → Int32) (cN cI cD : Nat → Int32) (N' : ct_N) (r : Int32), ct_HI f_freeHead' a_keys' a_vals' a_count' a_level' a_total' a_refs' a_bucketOf' a_nextNode' a_buckets' N' (r :: X) 300 → (∀ x ∈ X, ∀ m0, ct_rep N0 m0 x → ct_rep N' m0 x) → (∀ y l c, N' y l c → ct_ref N' (r :: X) y) → ct_rep N' m' r → post r (f_minWidth, f_maxWidth, f_slotCount, f_limit, f_freeHead', f_inCount', f_pendCount', f_outCount', f_difCount, f_repCount, a_roots, a_keys', a_vals', a_count', a_level', a_total', a_refs', a_bucketOf', a_nextNode', a_buckets', a_stack', cN, cI, a_curHeight, cD, a_inKey', a_inVal', a_pendKey', a_pendVal', a_outKey', a_outVal', a_difKey, a_difA, a_difB, a_difOurs, a_repKey, a_repVal)) :
    ∀ (d lv : Nat), lv + d = 4 → ∀ (f_freeHead : Int32) (a_keys a_vals a_count a_level a_total a_refs a_bucketOf a_nextNode a_buckets : Nat → Int32) (f_inCount f_pendCount f_outCount : Int32) (a_inKey a_inVal a_pendKey a_pendVal a_outKey a_outVal : Nat → Int32) (a_curNode a_curIdx a_curDone : Nat → Int32) (N : ct_N) (Es' : Nat → List ct_E) (I : List ct_E) (R : Nat → List ct_E) (RL : List ct_E) (Bl : Nat), ct_HI f_freeHead a_keys a_vals a_count a_level a_total a_refs a_bucketOf a_nextNode a_buckets N X Bl → ct_sp N0 N X Es h b0 m' lv Bl f_inCount a_inKey a_inVal a_curNode a_curIdx a_curHeight a_curDone Es' I R RL → wX_splice_28 post (nI h - 1) (d + 1) (nI lv) f_minWidth f_maxWidth f_slotCount f_limit f_freeHead f_inCount f_pendCount f_outCount f_difCount f_repCount a_roots a_keys a_vals a_count a_level a_total a_refs a_bucketOf a_nextNode a_buckets a_stack a_curNode a_curIdx a_curHeight a_curDone a_inKey a_inVal a_pendKey a_pendVal a_outKey a_outVal a_difKey a_difA a_difB a_difOurs a_repKey a_repVal := by
  intro d
  induction d with
  | zero =>
    intro lv hlv f_freeHead a_keys a_vals a_count a_level a_total a_refs a_bucketOf a_nextNode a_buckets f_inCount f_pendCount f_outCount a_inKey a_inVal a_pendKey a_pendVal a_outKey a_outVal a_curNode a_curIdx a_curDone N Es' I R RL Bl H S
    exact cx_sp_s hh hC hs hn hEh hm' hX hp (by omega) H S (fun z => by omega)
  | succ d ih =>
    intro lv hlv f_freeHead a_keys a_vals a_count a_level a_total a_refs a_bucketOf a_nextNode a_buckets f_inCount f_pendCount f_outCount a_inKey a_inVal a_pendKey a_pendVal a_outKey a_outVal a_curNode a_curIdx a_curDone N Es' I R RL Bl H S
    exact cx_sp_s hh hC hs hn hEh hm' hX hp (by omega) H S (fun _ => ih (lv + 1) (by omega))
end
end
section
/-! splice whole, staging, install -/
theorem ct_si_filter {m : List ct_E} (hs : ct_srt m) (b : Int32) : m.filter (fun e => decide (b < e.1)) = m.drop (ct_si b m) ∧ m.filter (fun e => decide (e.1 ≤ b)) = m.take (ct_si b m) := by
  have := ct_filter_split (ct_si_take b m) (ct_si_drop hs)
  rw [List.take_append_drop] at this
  exact this
theorem ct_rng_eq {m : List ct_E} (hs : ct_srt m) {lo hi : Int32} (hlo : 0 ≤ lo) (I : List ct_E) : ct_rng m lo hi I = m.take (ct_si (lo - 1) m) ++ (I ++ m.drop (ct_si hi m)) := by
  unfold ct_rng
  rw [(ct_si_filter hs hi).1, ← (ct_si_filter hs (lo - 1)).2, List.append_assoc]
  congr 1
  apply List.filter_congr
  intro e _
  exact decide_eq_decide.mpr (ct_le_pred hlo).symm
theorem ct_swap {f : Nat → Int32} {k : Nat} {r : Int32} : ∀ n, k < n → (r :: (List.range n).map f).Perm (f k :: (List.range n).map (upd f k r)) := by
  intro n
  induction n with
  | zero => intro h; omega
  | succ n ih =>
    intro h
    rw [List.range_succ, List.map_append, List.map_append, List.map_singleton, List.map_singleton]
    by_cases z : k = n
    · subst z
      have e : (List.range k).map (upd f k r) = (List.range k).map f := by
        apply List.map_congr_left
        intro j hj
        rw [List.mem_range] at hj
        exact pk_un (by omega)
      rw [e, pk_us]
      refine List.Perm.trans (List.Perm.cons r List.perm_append_comm) ?_
      refine List.Perm.trans ?_ (List.Perm.cons (f k) List.perm_append_comm)
      exact List.Perm.swap _ _ _
    · have := (ih (by omega)).append_right [f n]
      rw [pk_un (Ne.symm z)]
      exact this
theorem ct_ref_sub {N : ct_N} {X X' : List Int32} (h : ∀ x ∈ X, x ∈ X') {y : Int32} (H : ct_ref N X y) : ct_ref N X' y := by
  rcases H with w | w
  · exact Or.inl (h _ w)
  · exact Or.inr w
def ct_X0 (roots : Nat → Int32) (fh : Int32) (ks vs cn lvl tot rf bo nx bu : Nat → Int32) (lim : Nat) (m : Nat → List ct_E) : Prop :=
  ∃ N B, ct_HI fh ks vs cn lvl tot rf bo nx bu N ((List.range 6).map roots) B ∧ (∀ y l c, N y l c → ct_ref N ((List.range 6).map roots) y) ∧ ∀ s, s < 6 → ct_rep N (m s) (roots s) ∧ ct_map (m s) ∧ (m s).length ≤ lim
section
variable {f_minWidth f_maxWidth f_slotCount f_limit f_freeHead f_inCount f_pendCount f_outCount f_difCount f_repCount : Int32} {a_roots a_keys a_vals a_count a_level a_total a_refs a_bucketOf a_nextNode a_buckets a_stack a_curNode a_curIdx a_curHeight a_curDone a_inKey a_inVal a_pendKey a_pendVal a_outKey a_outVal a_difKey a_difA a_difB a_difOurs a_repKey a_repVal : Nat → Int32} {N : ct_N} {X : List Int32} {B : Nat}
theorem cx_splice {post : Int32 → SX → Prop} (H : ct_HI f_freeHead a_keys a_vals a_count a_level a_total a_refs a_bucketOf a_nextNode a_buckets N X B) (hX7 : X.length ≤ 7) (hXr : ∀ x ∈ X, ∃ m, ct_rep N m x ∧ m.length ≤ 32) (hRef : ∀ y l c, N y l c → ct_ref N X y) {r lo hi : Int32} {m I : List ct_E} (hr : ct_rep N m r) (hs : ct_srt m) (hm : m.length ≤ 32)
    (hlo : 0 ≤ lo) (hI : ct_at a_inKey a_inVal I) (hIc : f_inCount = nI I.length) (hm' : (ct_rng m lo hi I).length ≤ 32)
    (hp : ∀ (f_freeHead' : Int32) (a_keys' a_vals' a_count' a_level' a_total' a_refs' a_bucketOf' a_nextNode' a_buckets' : Nat → Int32) (f_inCount' f_pendCount' f_outCount' : Int32) (a_inKey' a_inVal' a_pendKey' a_pendVal' a_outKey' a_outVal' : Nat → Int32) (a_stack' : Nat → Int32) (a_curNode' a_curIdx' a_curHeight' a_curDone' : Nat → Int32) (N' : ct_N) (r' : Int32), ct_HI f_freeHead' a_keys' a_vals' a_count' a_level' a_total' a_refs' a_bucketOf' a_nextNode' a_buckets' N' (r' :: X) 300 → (∀ x ∈ X, ∀ m0, ct_rep N m0 x → ct_rep N' m0 x) → (∀ y l c, N' y l c → ct_ref N' (r' :: X) y) → ct_rep N' (ct_rng m lo hi I) r' → post r' (f_minWidth, f_maxWidth, f_slotCount, f_limit, f_freeHead', f_inCount', f_pendCount', f_outCount', f_difCount, f_repCount, a_roots, a_keys', a_vals', a_count', a_level', a_total', a_refs', a_bucketOf', a_nextNode', a_buckets', a_stack', a_curNode', a_curIdx', a_curHeight', a_curDone', a_inKey', a_inVal', a_pendKey', a_pendVal', a_outKey', a_outVal', a_difKey, a_difA, a_difB, a_difOurs, a_repKey, a_repVal)) :
    wpX_splice post (f_minWidth, f_maxWidth, f_slotCount, f_limit, f_freeHead, f_inCount, f_pendCount, f_outCount, f_difCount, f_repCount, a_roots, a_keys, a_vals, a_count, a_level, a_total, a_refs, a_bucketOf, a_nextNode, a_buckets, a_stack, a_curNode, a_curIdx, a_curHeight, a_curDone, a_inKey, a_inVal, a_pendKey, a_pendVal, a_outKey, a_outVal, a_difKey, a_difA, a_difB, a_difOurs, a_repKey, a_repVal) r lo hi := by
  have H2 := ct_budget H hRef hXr hX7
  obtain ⟨Es, h, T⟩ := ct_rep_tr hr
  have hE0 : Es 0 = m := by
    rcases T with ⟨a1, a2, a3, a4⟩ | T
    · rw [a4, a1]
    · exact T.2.1
  have hC : ct_chn N Es h := by
    rcases T with ⟨a1, a2, a3, a4⟩ | T
    · intro j hj; omega
    · exact T.2.2.2.1
  have hn : 0 < h → Es 0 ≠ [] := by
    intro z
    rcases T with ⟨a1, a2, a3, a4⟩ | T
    · omega
    · rw [T.2.1]; exact T.2.2.1
  have hEh : 0 < h → (Es h).length = 1 := by
    intro z
    rcases T with ⟨a1, a2, a3, a4⟩ | T
    · omega
    · obtain ⟨k, hk⟩ := T.2.2.2.2.1
      rw [hk]; rfl
  have h5 : h ≤ 5 := by
    rcases T with ⟨a1, a2, a3, a4⟩ | T
    · omega
    · exact ct_tree_5 T hm
  have hz : h = 0 → m = [] := by
    intro z
    rcases T with ⟨a1, a2, a3, a4⟩ | T
    · exact a1
    · have := T.1; omega
  unfold wpX_splice
  dsimp only
  refine cx_seek (k := 0) H2 T hs hm (by omega) ?_
  intro cN0 cI0 cD0 hf0
  refine cx_seek (k := 1) H2 T hs hm (by omega) ?_
  intro cN cI cD hf1
  obtain ⟨x1, x2, x3, x4⟩ := hf0
  obtain ⟨y1, y2, y3, y4⟩ := hf1
  have fin : ∃ n28, wX_splice_28 post (nI h - 1) n28 0 f_minWidth f_maxWidth f_slotCount f_limit f_freeHead f_inCount f_pendCount f_outCount f_difCount f_repCount a_roots a_keys a_vals a_count a_level a_total a_refs a_bucketOf a_nextNode a_buckets a_stack cN cI (upd (upd a_curHeight 0 (nI h)) 1 (nI h)) cD a_inKey a_inVal a_pendKey a_pendVal a_outKey a_outVal a_difKey a_difA a_difB a_difOurs a_repKey a_repVal := by
    have hb0 : ∀ j, j < h → cN j = (ct_xe Es (lo - 1) j).2 ∧ cI j = nI (ct_xi Es (lo - 1) j) := by
      intro j hj
      obtain ⟨a1, a2⟩ := y2 j (by omega)
      have := x1 j hj
      rw [Nat.mul_zero, Nat.zero_add] at this
      rw [a1, a2]
      exact this
    have hrest : ∃ R RL, RL = m.drop (ct_si hi m) ∧ ((0 < h ∧ ct_c1 N Es h 0 cN cI cD R ∧ RL = R 0) ∨ (h ≤ 0 ∧ cD 1 = 1 ∧ RL = [])) := by
      by_cases hall : ct_si hi m = m.length
      · rw [if_pos hall] at y4
        refine ⟨fun _ => [], [], by rw [hall, List.drop_length], ?_⟩
        by_cases w : 0 < h
        · exact Or.inl ⟨w, Or.inl ⟨y4, fun _ => rfl⟩, rfl⟩
        · exact Or.inr ⟨by omega, y4, rfl⟩
      · rw [if_neg hall, pk_us] at y4
        have w : 0 < h := by
          apply Classical.byContradiction
          intro w
          rw [hz (by omega)] at hall
          exact hall rfl
        have hcr := ct_cr_seek (nd := fun l => cN (8 * 1 + l)) (ix := fun l => cI (8 * 1 + l)) hi hC (by rw [hE0]; exact hs) (hn w) (by rw [hE0]; exact hall) (fun l hl => y1 l hl)
        refine ⟨_, m.drop (ct_si hi m), rfl, Or.inl ⟨w, Or.inr ⟨y4, hcr, ?_, ?_⟩, ?_⟩⟩
        · have hl := hEh w
          have hp0 : ct_p Es hi h = 0 := by
            unfold ct_p
            rw [if_neg (by omega), hl]
            simp
          rw [hp0, List.drop_zero]
          obtain ⟨a, ha⟩ := List.length_eq_one_iff.mp hl
          rw [ha]
          rfl
        · intro j _ _
          exact ⟨_, (List.take_append_drop _ _).symm⟩
        · rw [hE0]
          unfold ct_p
          rw [if_pos rfl, hE0]
    obtain ⟨R, RL, hRL, hc1⟩ := hrest
    refine ⟨4 + 1, cx_sp_28 (Es := Es) (b0 := lo - 1) (m' := ct_rng m lo hi I) h5 hC (by rw [hE0]; exact hs) hn hEh hm' (by omega) ?_ 4 0 (by omega) f_freeHead a_keys a_vals a_count a_level a_total a_refs a_bucketOf a_nextNode a_buckets f_inCount f_pendCount f_outCount a_inKey a_inVal a_pendKey a_pendVal a_outKey a_outVal cN cI cD N (fun _ => ct_rng m lo hi I) I R RL 217 H2 ⟨fun _ _ _ h => h, fun j hj => by omega, rfl, hIc, hI, ?_, hc1, hb0, pk_us, fun y l c hy => Or.inl (hRef y l c hy), by dsimp only; omega⟩⟩
    · intro f_freeHead' a_keys' a_vals' a_count' a_level' a_total' a_refs' a_bucketOf' a_nextNode' a_buckets' f_inCount' f_pendCount' f_outCount' a_inKey' a_inVal' a_pendKey' a_pendVal' a_outKey' a_outVal' a_stack' cN' cI' cD' N' r' k1 k2 k3 k4
      exact hp f_freeHead' a_keys' a_vals' a_count' a_level' a_total' a_refs' a_bucketOf' a_nextNode' a_buckets' f_inCount' f_pendCount' f_outCount' a_inKey' a_inVal' a_pendKey' a_pendVal' a_outKey' a_outVal' a_stack' cN' cI' _ cD' N' r' k1 k2 k3 k4
    · dsimp only
      rw [ct_rng_eq hs hlo I, hRL]
      congr 1
      unfold ct_pre
      by_cases w : 0 < h
      · rw [if_pos w, hE0]
        unfold ct_p
        rw [if_pos rfl, hE0]
      · rw [if_neg w, hz (by omega)]
        rfl
  rcases T with ⟨a1, a2, a3, a4⟩ | T
  · subst a2 a3
    refine cx_height0 ?_
    exact nm_r (e' := nI 0 - 1) rfl fin
  · have hN := ct_tree_top T
    have h1 := T.1
    refine cx_height H hN ?_
    exact nm_r (e' := nI h - 1) (by rw [show h - 1 + 1 = h by omega]) fin
theorem cx_stageOne {post : SX → Prop} {k v : Int32} (hv : 0 ≤ v) (hp : ∀ ik iv, ct_at ik iv (ct_one k v) → post (f_minWidth, f_maxWidth, f_slotCount, f_limit, f_freeHead, nI (ct_one k v).length, f_pendCount, f_outCount, f_difCount, f_repCount, a_roots, a_keys, a_vals, a_count, a_level, a_total, a_refs, a_bucketOf, a_nextNode, a_buckets, a_stack, a_curNode, a_curIdx, a_curHeight, a_curDone, ik, iv, a_pendKey, a_pendVal, a_outKey, a_outVal, a_difKey, a_difA, a_difB, a_difOurs, a_repKey, a_repVal)) : wpX_stageOne post (f_minWidth, f_maxWidth, f_slotCount, f_limit, f_freeHead, f_inCount, f_pendCount, f_outCount, f_difCount, f_repCount, a_roots, a_keys, a_vals, a_count, a_level, a_total, a_refs, a_bucketOf, a_nextNode, a_buckets, a_stack, a_curNode, a_curIdx, a_curHeight, a_curDone, a_inKey, a_inVal, a_pendKey, a_pendVal, a_outKey, a_outVal, a_difKey, a_difA, a_difB, a_difOurs, a_repKey, a_repVal) k v := by
  unfold wpX_stageOne
  dsimp only
  refine nm_e (nm_e ?_)
  unfold ct_one at hp
  by_cases z : v = 0
  · rw [if_pos z] at hp
    exact br_t (by rw [z]; exact Int32.le_refl 0) (hp _ _ ct_at_nil)
  · rw [if_neg z] at hp
    have : ¬ v ≤ 0 := fun w => z (Int32.le_antisymm w hv)
    exact br_f this (hp _ _ (ct_at_snoc (n := 0) ct_at_nil rfl k v))
def ct_rl (lo : Int32) (w : Nat) (v : Int32) : List ct_E := (List.range w).map (fun i => (lo + nI i, v))
def ct_chg (m : List ct_E) (lo : Int32) (w : Nat) (v : Int32) : Nat := (List.range w).countP (fun i => decide (ct_get m (lo + nI i) ≠ v))
theorem cx_stageRange {post : Int32 → SX → Prop} {r lo v : Int32} {w : Nat} {m : List ct_E} (H : ct_HI f_freeHead a_keys a_vals a_count a_level a_total a_refs a_bucketOf a_nextNode a_buckets N X B) (hr : ct_rep N m r) (hs : ct_srt m) (hw : w ≤ 32) (hlo : ∀ i, i < w → 0 ≤ lo + nI i)
    (hp : ∀ ik iv, ct_at ik iv (ct_rl lo w v) → post (nI (ct_chg m lo w v)) (f_minWidth, f_maxWidth, f_slotCount, f_limit, f_freeHead, nI w, f_pendCount, f_outCount, f_difCount, f_repCount, a_roots, a_keys, a_vals, a_count, a_level, a_total, a_refs, a_bucketOf, a_nextNode, a_buckets, a_stack, a_curNode, a_curIdx, a_curHeight, a_curDone, ik, iv, a_pendKey, a_pendVal, a_outKey, a_outVal, a_difKey, a_difA, a_difB, a_difOurs, a_repKey, a_repVal)) : wpX_stageRange post (f_minWidth, f_maxWidth, f_slotCount, f_limit, f_freeHead, f_inCount, f_pendCount, f_outCount, f_difCount, f_repCount, a_roots, a_keys, a_vals, a_count, a_level, a_total, a_refs, a_bucketOf, a_nextNode, a_buckets, a_stack, a_curNode, a_curIdx, a_curHeight, a_curDone, a_inKey, a_inVal, a_pendKey, a_pendVal, a_outKey, a_outVal, a_difKey, a_difA, a_difB, a_difOurs, a_repKey, a_repVal) r lo (nI w) v := by
  have key : ∀ (d i : Nat) (a_inKey a_inVal : Nat → Int32), i + d = w → ct_at a_inKey a_inVal (ct_rl lo i v) → wX_stageRange_6 post r lo (nI w) v f_minWidth f_maxWidth f_slotCount f_limit f_freeHead f_inCount f_pendCount f_outCount f_difCount f_repCount (d + 1) (nI (ct_chg m lo i v)) (nI i) a_roots a_keys a_vals a_count a_level a_total a_refs a_bucketOf a_nextNode a_buckets a_stack a_curNode a_curIdx a_curHeight a_curDone a_inKey a_inVal a_pendKey a_pendVal a_outKey a_outVal a_difKey a_difA a_difB a_difOurs a_repKey a_repVal := by
    intro d
    induction d with
    | zero =>
      intro i a_inKey a_inVal hi hat
      have : i = w := by omega
      subst this
      exact br_t (Int32.le_refl _) (hp _ _ hat)
    | succ d ih =>
      intro i a_inKey a_inVal hi hat
      have hv : vp_in (nI i) 64 := vp_in_nI (by omega) (by omega)
      have hcl : (nI i).toNatClampNeg = i := nI_clamp (by omega)
      have hat2 : ct_at (upd a_inKey i (lo + nI i)) (upd a_inVal i v) (ct_rl lo (i + 1) v) := by
        have h9 := ct_at_snoc (n := i) hat (by unfold ct_rl; simp) (lo + nI i) v
        unfold ct_rl at h9 ⊢
        rw [List.range_succ, List.map_append]
        exact h9
      have hcg : ct_chg m lo (i + 1) v = ct_chg m lo i v + if ct_get m (lo + nI i) = v then 0 else 1 := by
        unfold ct_chg
        rw [List.range_succ, List.countP_append, List.countP_singleton]
        by_cases z : ct_get m (lo + nI i) = v
        · rw [if_pos z]; simp [z]
        · rw [if_neg z]; simp [z]
      refine br_f (nI_ge (by omega) (by omega)) (br_f (nI_ge (b := 64) (by omega) (by omega)) ⟨hv, nm_r (e' := upd a_inKey i (lo + nI i)) (by rw [hcl]) ⟨hv, nm_r (e' := upd a_inVal i v) (by rw [hcl]) ?_⟩⟩)
      refine cx_lookup H hr hs (hlo i (by omega)) ?_
      have h9 := ih (i + 1) _ _ (by omega) hat2
      rw [hcg] at h9
      by_cases z : ct_get m (lo + nI i) = v
      · rw [if_pos z] at h9
        exact br_t z (nm_r (nI_1 i) h9)
      · rw [if_neg z] at h9
        exact br_f z (nm_r (nI_1 _) (nm_r (nI_1 i) h9))
  unfold wpX_stageRange
  dsimp only
  exact ⟨w + 1, key w 0 _ _ (by omega) ct_at_nil⟩
theorem cx_install {post : SX → Prop} {k lim : Nat} {r : Int32} {m : Nat → List ct_E} {mr : List ct_E} (H : ct_HI f_freeHead a_keys a_vals a_count a_level a_total a_refs a_bucketOf a_nextNode a_buckets N (r :: (List.range 6).map a_roots) B) (hk : k < 6) (hRef : ∀ y l c, N y l c → ct_ref N (r :: (List.range 6).map a_roots) y)
    (hm : ∀ s, s < 6 → ct_rep N (m s) (a_roots s) ∧ ct_map (m s) ∧ (m s).length ≤ lim) (hr : ct_rep N mr r) (hmr : ct_map mr ∧ mr.length ≤ lim)
    (hp : ∀ (fh : Int32) (rf nx bu stk : Nat → Int32), ct_X0 (upd a_roots k r) fh a_keys a_vals a_count a_level a_total rf a_bucketOf nx bu lim (fun s => if s = k then mr else m s) →
      post (f_minWidth, f_maxWidth, f_slotCount, f_limit, fh, f_inCount, f_pendCount, f_outCount, f_difCount, f_repCount, upd a_roots k r, a_keys, a_vals, a_count, a_level, a_total, rf, a_bucketOf, nx, bu, stk, a_curNode, a_curIdx, a_curHeight, a_curDone, a_inKey, a_inVal, a_pendKey, a_pendVal, a_outKey, a_outVal, a_difKey, a_difA, a_difB, a_difOurs, a_repKey, a_repVal)) : wpX_install post (f_minWidth, f_maxWidth, f_slotCount, f_limit, f_freeHead, f_inCount, f_pendCount, f_outCount, f_difCount, f_repCount, a_roots, a_keys, a_vals, a_count, a_level, a_total, a_refs, a_bucketOf, a_nextNode, a_buckets, a_stack, a_curNode, a_curIdx, a_curHeight, a_curDone, a_inKey, a_inVal, a_pendKey, a_pendVal, a_outKey, a_outVal, a_difKey, a_difA, a_difB, a_difOurs, a_repKey, a_repVal) (nI k) r := by
  have hv : vp_in (nI k) 6 := vp_in_nI (by omega) (by omega)
  have hcl : (nI k).toNatClampNeg = k := nI_clamp (by omega)
  have hsw := ct_swap (f := a_roots) (k := k) (r := r) 6 hk
  have H2 := ct_HI_perm H hsw
  unfold wpX_install
  dsimp only
  refine ⟨hv, ?_⟩
  rw [hcl]
  refine cx_release H2 (by simp) (fun y l c hy => ct_ref_sub (fun x hx => hsw.mem_iff.mp hx) (hRef y l c hy)) ?_
  intro fh rf nx bu stk N' g1 g2 g3
  refine ⟨hv, nm_r (e' := upd a_roots k r) rfl (hp fh rf nx bu stk ⟨N', B, g1, g3, ?_⟩)⟩
  intro s hs
  have hin : ∀ s, s < 6 → upd a_roots k r s ∈ (List.range 6).map (upd a_roots k r) := fun s hs => List.mem_map.mpr ⟨s, List.mem_range.mpr hs, rfl⟩
  by_cases z : s = k
  · subst z
    have h9 := ct_HI_X g1 (hin s hs)
    rw [pk_us] at h9 ⊢
    dsimp only
    rw [if_pos rfl]
    exact ⟨ct_rep_sub g2 (ct_HI_fn H) (ct_HI_kd g1) hr h9 (ct_HI_nz H), hmr⟩
  · have h9 := ct_HI_X g1 (hin s hs)
    rw [pk_un z] at h9 ⊢
    dsimp only
    rw [if_neg z]
    obtain ⟨a1, a2⟩ := hm s hs
    exact ⟨ct_rep_sub g2 (ct_HI_fn H) (ct_HI_kd g1) a1 h9 (ct_HI_nz H), a2⟩
end
end
section
/-! differences of two maps, purely -/
abbrev ct_D3 : Type := Int32 × Int32 × Int32
def ct_ds (A B : List ct_E) (D : List ct_D3) : Prop := ct_srt D ∧ ∀ k a b, (k, a, b) ∈ D ↔ a = ct_get A k ∧ b = ct_get B k ∧ a ≠ b
theorem ct_ds_uniq {A B : List ct_E} {D D' : List ct_D3} (h : ct_ds A B D) (h' : ct_ds A B D') : D = D' :=
  ct_srt_ext h.1 h'.1 (fun x => by obtain ⟨k, a, b⟩ := x; rw [h.2, h'.2])
theorem ct_ds_nil : ct_ds [] [] [] := ⟨List.Pairwise.nil, fun k a b => by
  constructor
  · intro h; simp at h
  · rintro ⟨h1, h2, h3⟩; exact absurd (h1.trans h2.symm) h3⟩
theorem ct_get_key {m : List ct_E} {k : Int32} (h : ct_get m k ≠ 0) : ∃ e ∈ m, e.1 = k := ⟨_, ct_mem_get h, rfl⟩
theorem ct_ds_key {A B : List ct_E} {D : List ct_D3} (h : ct_ds A B D) {x : ct_D3} (hx : x ∈ D) : ∃ e ∈ A ++ B, e.1 = x.1 := by
  obtain ⟨k, a, b⟩ := x
  obtain ⟨h1, h2, h3⟩ := (h.2 k a b).mp hx
  by_cases z : ct_get A k = 0
  · have : ct_get B k ≠ 0 := by
      intro w
      rw [h1, h2, z, w] at h3
      exact h3 rfl
    obtain ⟨e, he, hk⟩ := ct_get_key this
    exact ⟨e, by simp [he], hk⟩
  · obtain ⟨e, he, hk⟩ := ct_get_key z
    exact ⟨e, by simp [he], hk⟩
theorem ct_ds_len {A B : List ct_E} {D : List ct_D3} (h : ct_ds A B D) : D.length ≤ A.length + B.length := by
  have hnd : (D.map (·.1)).Nodup := by
    refine List.pairwise_map.mpr (List.Pairwise.imp ?_ h.1)
    intro a b hab
    exact Int32.ne_of_lt hab
  have hsub : (D.map (·.1)) ⊆ (A ++ B).map (·.1) := by
    intro k hk
    obtain ⟨x, hx, rfl⟩ := List.mem_map.mp hk
    obtain ⟨e, he, hek⟩ := ct_ds_key h hx
    exact List.mem_map.mpr ⟨e, he, hek⟩
  have := List.Nodup.length_le_of_subset hnd hsub
  rw [List.length_map, List.length_map, List.length_append] at this
  exact this
theorem ct_ds_add {A B LA LB : List ct_E} {D : List ct_D3} {k : Int32} (h : ct_ds A B D) (hA : ∀ e ∈ A, e.1 < k) (hB : ∀ e ∈ B, e.1 < k) (hLA : ∀ e ∈ LA, e.1 = k) (hLB : ∀ e ∈ LB, e.1 = k) :
    ct_ds (A ++ LA) (B ++ LB) (if ct_get LA k = ct_get LB k then D else D ++ [(k, ct_get LA k, ct_get LB k)]) := by
  have hDk : ∀ x ∈ D, x.1 < k := by
    intro x hx
    obtain ⟨e, he, hek⟩ := ct_ds_key h hx
    rw [← hek]
    rcases List.mem_append.mp he with w | w
    · exact hA e w
    · exact hB e w
  have gA : ∀ j, ct_get (A ++ LA) j = if j = k then ct_get LA k else ct_get A j := by
    intro j
    by_cases z : j = k
    · rw [if_pos z, z]
      exact ct_get_app (fun e he => Int32.ne_of_lt (hA e he))
    · rw [if_neg z]
      exact ct_get_app' (fun e he w => z (by rw [← w, hLA e he]))
  have gB : ∀ j, ct_get (B ++ LB) j = if j = k then ct_get LB k else ct_get B j := by
    intro j
    by_cases z : j = k
    · rw [if_pos z, z]
      exact ct_get_app (fun e he => Int32.ne_of_lt (hB e he))
    · rw [if_neg z]
      exact ct_get_app' (fun e he w => z (by rw [← w, hLB e he]))
  by_cases q : ct_get LA k = ct_get LB k
  · rw [if_pos q]
    refine ⟨h.1, ?_⟩
    intro j a b
    rw [h.2, gA, gB]
    by_cases z : j = k
    · rw [if_pos z, if_pos z]
      constructor
      · intro w
        have := hDk _ ((h.2 j a b).mpr w)
        rw [z] at this
        exact absurd this Int32.lt_irrefl
      · rintro ⟨w1, w2, w3⟩
        exact absurd (w1.trans (q.trans w2.symm)) w3
    · rw [if_neg z, if_neg z]
  · rw [if_neg q]
    refine ⟨?_, ?_⟩
    · refine List.pairwise_append.mpr ⟨h.1, List.pairwise_singleton _ _, ?_⟩
      intro x hx y hy
      rw [List.mem_singleton] at hy
      rw [hy]
      exact hDk x hx
    · intro j a b
      rw [List.mem_append, List.mem_singleton, h.2, gA, gB]
      by_cases z : j = k
      · rw [if_pos z, if_pos z]
        constructor
        · rintro (w | w)
          · have := hDk _ ((h.2 j a b).mpr w)
            rw [z] at this
            exact absurd this Int32.lt_irrefl
          · simp only [Prod.mk.injEq] at w
            obtain ⟨_, w1, w2⟩ := w
            exact ⟨w1, w2, by rw [w1, w2]; exact q⟩
        · rintro ⟨w1, w2, w3⟩
          exact Or.inr (by rw [z, w1, w2])
      · rw [if_neg z, if_neg z]
        constructor
        · rintro (w | w)
          · exact w
          · simp only [Prod.mk.injEq] at w
            exact absurd w.1 z
        · intro w
          exact Or.inl w
theorem ct_ds_same {A B M : List ct_E} {D : List ct_D3} (h : ct_ds A B D) (hA : ∀ e ∈ A, ∀ a ∈ M, e.1 < a.1) (hB : ∀ e ∈ B, ∀ a ∈ M, e.1 < a.1) : ct_ds (A ++ M) (B ++ M) D := by
  refine ⟨h.1, ?_⟩
  intro k a b
  rw [h.2]
  by_cases z : ∃ e ∈ M, e.1 = k
  · obtain ⟨e, he, hek⟩ := z
    have nA : ∀ x ∈ A, x.1 ≠ k := by
      intro x hx w
      have := hA x hx e he
      rw [w, hek] at this
      exact Int32.lt_irrefl this
    have nB : ∀ x ∈ B, x.1 ≠ k := by
      intro x hx w
      have := hB x hx e he
      rw [w, hek] at this
      exact Int32.lt_irrefl this
    rw [ct_get_app nA, ct_get_app nB, ct_get_none nA, ct_get_none nB]
    constructor
    · rintro ⟨w1, w2, w3⟩; exact absurd (w1.trans w2.symm) w3
    · rintro ⟨w1, w2, w3⟩; exact absurd (w1.trans w2.symm) w3
  · have nM : ∀ x ∈ M, x.1 ≠ k := fun x hx w => z ⟨x, hx, w⟩
    rw [ct_get_app' nM, ct_get_app' nM]
/-- how far two walks over A and B have come -/
def ct_dw (A B PA RA PB RB : List ct_E) (D : List ct_D3) : Prop := A = PA ++ RA ∧ B = PB ++ RB ∧ (∀ e ∈ PA ++ PB, ∀ a ∈ RA ++ RB, e.1 < a.1) ∧ ct_ds PA PB D
theorem ct_dw_0 (A B : List ct_E) : ct_dw A B [] A [] B [] := ⟨rfl, rfl, by simp, ct_ds_nil⟩
theorem ct_dw_end {A B PA PB : List ct_E} {D : List ct_D3} (h : ct_dw A B PA [] PB [] D) : ct_ds A B D := by
  obtain ⟨h1, h2, h3, h4⟩ := h
  rw [List.append_nil] at h1 h2
  rw [h1, h2]
  exact h4
theorem ct_dw_same {A B PA PB M RA RB : List ct_E} {D : List ct_D3} (hA : ct_srt A) (hB : ct_srt B) (h : ct_dw A B PA (M ++ RA) PB (M ++ RB) D) : ct_dw A B (PA ++ M) RA (PB ++ M) RB D := by
  obtain ⟨h1, h2, h3, h4⟩ := h
  have hA2 := hA
  have hB2 := hB
  rw [h1] at hA2
  rw [h2] at hB2
  have a1 := List.pairwise_append.mp hA2
  have a2 := List.pairwise_append.mp a1.2.1
  have b1 := List.pairwise_append.mp hB2
  have b2 := List.pairwise_append.mp b1.2.1
  refine ⟨by rw [h1, List.append_assoc], by rw [h2, List.append_assoc], ?_, ct_ds_same h4 (fun e he a ha => h3 e (by simp [he]) a (by simp [ha])) (fun e he a ha => h3 e (by simp [he]) a (by simp [ha]))⟩
  intro e he a ha
  simp only [List.mem_append] at he ha
  rcases he with (he | he) | (he | he)
  · rcases ha with ha | ha
    · exact h3 e (by simp [he]) a (by simp [ha])
    · exact h3 e (by simp [he]) a (by simp [ha])
  · rcases ha with ha | ha
    · exact a2.2.2 e he a ha
    · exact b2.2.2 e he a ha
  · rcases ha with ha | ha
    · exact h3 e (by simp [he]) a (by simp [ha])
    · exact h3 e (by simp [he]) a (by simp [ha])
  · rcases ha with ha | ha
    · exact a2.2.2 e he a ha
    · exact b2.2.2 e he a ha
theorem ct_dw_add {A B PA PB LA LB RA RB : List ct_E} {D : List ct_D3} {k : Int32} (h : ct_dw A B PA (LA ++ RA) PB (LB ++ RB) D) (hLA : ∀ e ∈ LA, e.1 = k) (hLB : ∀ e ∈ LB, e.1 = k) (hne : LA ++ LB ≠ []) (hk : ∀ a ∈ RA ++ RB, k < a.1) :
    ct_dw A B (PA ++ LA) RA (PB ++ LB) RB (if ct_get LA k = ct_get LB k then D else D ++ [(k, ct_get LA k, ct_get LB k)]) := by
  obtain ⟨h1, h2, h3, h4⟩ := h
  obtain ⟨w, hw⟩ := List.exists_mem_of_ne_nil _ hne
  have hwk : w.1 = k := by
    rcases List.mem_append.mp hw with q | q
    · exact hLA w q
    · exact hLB w q
  have hw2 : w ∈ LA ++ RA ++ (LB ++ RB) := by
    rcases List.mem_append.mp hw with q | q
    · simp [q]
    · simp [q]
  have hP : ∀ e ∈ PA ++ PB, e.1 < k := by
    intro e he
    have := h3 e he w hw2
    rw [hwk] at this
    exact this
  refine ⟨by rw [h1, List.append_assoc], by rw [h2, List.append_assoc], ?_, ct_ds_add h4 (fun e he => hP e (by simp [he])) (fun e he => hP e (by simp [he])) hLA hLB⟩
  intro e he a ha
  have hka := hk a ha
  simp only [List.mem_append] at he
  rcases he with (he | he) | (he | he)
  · exact Int32.lt_trans (hP e (by simp [he])) hka
  · rw [hLA e he]; exact hka
  · exact Int32.lt_trans (hP e (by simp [he])) hka
  · rw [hLB e he]; exact hka
end
section
/-! compareHeads -/
def ct_at3 (dk da db : Nat → Int32) (D : List ct_D3) : Prop := ∀ i (h : i < D.length), dk i = (D[i]).1 ∧ da i = (D[i]).2.1 ∧ db i = (D[i]).2.2
theorem ct_at3_nil {dk da db : Nat → Int32} : ct_at3 dk da db [] := fun i h => absurd h (by simp)
theorem ct_at3_snoc {dk da db : Nat → Int32} {D : List ct_D3} (H : ct_at3 dk da db D) (k a b : Int32) : ct_at3 (upd dk D.length k) (upd da D.length a) (upd db D.length b) (D ++ [(k, a, b)]) := by
  intro i h
  rw [List.length_append, List.length_singleton] at h
  by_cases z : i = D.length
  · subst z
    rw [pk_us, pk_us, pk_us, List.getElem_append_right (Nat.le_refl _)]
    simp
  · rw [pk_un z, pk_un z, pk_un z, List.getElem_append_left (by omega)]
    exact H i (by omega)
def ct_cu (N : ct_N) (h k : Nat) (cN cI cD : Nat → Int32) (RL : List ct_E) : Prop :=
  (cD k = 1 ∧ RL = []) ∨ (cD k = 0 ∧ 0 < h ∧ ∃ R, ct_cr N h (fun l => cN (8 * k + l)) (fun l => cI (8 * k + l)) 0 R ∧ (R h).tail = [] ∧ R 0 = RL)
theorem ct_cu_fr {N : ct_N} {h k : Nat} {cN cI cD cN' cI' cD' : Nat → Int32} {RL : List ct_E} (H : ct_cu N h k cN cI cD RL) (hh : h ≤ 8) (h1 : ∀ j, 8 * k ≤ j → j < 8 * k + 8 → cN' j = cN j ∧ cI' j = cI j) (h2 : cD' k = cD k) : ct_cu N h k cN' cI' cD' RL := by
  rcases H with ⟨a1, a2⟩ | ⟨a1, a2, R, a3, a4⟩
  · exact Or.inl ⟨h2.trans a1, a2⟩
  · refine Or.inr ⟨h2.trans a1, a2, R, ?_, a4⟩
    intro l l1 l2
    obtain ⟨e, t, c, i, cs, g1, g2, g3, g4, g5⟩ := a3 l l1 l2
    dsimp only at g2 g4
    obtain ⟨b1, b2⟩ := h1 (8 * k + l) (by omega) (by omega)
    exact ⟨e, t, c, i, cs, g1, b1.trans g2, g3, b2.trans g4, g5⟩
section
variable {f_minWidth f_maxWidth f_slotCount f_limit f_freeHead f_inCount f_pendCount f_outCount f_difCount f_repCount : Int32} {a_roots a_keys a_vals a_count a_level a_total a_refs a_bucketOf a_nextNode a_buckets a_stack a_curNode a_curIdx a_curHeight a_curDone a_inKey a_inVal a_pendKey a_pendVal a_outKey a_outVal a_difKey a_difA a_difB a_difOurs a_repKey a_repVal : Nat → Int32} {N : ct_N} {X : List Int32} {B : Nat}
theorem cx_head (H : ct_HI f_freeHead a_keys a_vals a_count a_level a_total a_refs a_bucketOf a_nextNode a_buckets N X B) {h k : Nat} {cN cI cD : Nat → Int32} {a : ct_E} {RL : List ct_E} (hc : ct_cu N h k cN cI cD (a :: RL)) :
    cD k = 0 ∧ 0 < h ∧ ∃ n i, cN (8 * k) = nI n ∧ cI (8 * k) = nI i ∧ n < 320 ∧ i < 6 ∧ a_keys (n * 8 + i) = a.1 ∧ a_vals (n * 8 + i) = a.2 := by
  rcases hc with ⟨_, z⟩ | ⟨a1, a2, R, a3, a4, a5⟩
  · simp at z
  · refine ⟨a1, a2, ?_⟩
    obtain ⟨e, t, c, i, cs, h1, h2, h3, h4, h5, h6⟩ := a3 0 (Nat.le_refl _) a2
    dsimp only at h2 h4
    obtain ⟨n, e1, n1, n2, e2, l8, e3, c1, c6, hkv, _⟩ := ct_HI_rd H h3.1
    rw [a5, List.drop_eq_getElem_cons h5] at h6
    injection h6 with h7 _
    have := hkv i h5
    rw [← h7] at this
    rw [e1] at h2
    exact ⟨n, i, h2, h4, n2, by omega, this.1, this.2⟩
theorem cx_stepc {post : SX → Prop} (H : ct_HI f_freeHead a_keys a_vals a_count a_level a_total a_refs a_bucketOf a_nextNode a_buckets N X B) {h k : Nat} {a : ct_E} {RL : List ct_E} (hh : h ≤ 8) (hk : k < 2) (hch : a_curHeight k = nI h) (hc : ct_cu N h k a_curNode a_curIdx a_curDone (a :: RL))
    (hp : ∀ cN cI cD, ct_cu N h k cN cI cD RL → (∀ j, (j < 8 * k ∨ 8 * k + 8 ≤ j) → cN j = a_curNode j ∧ cI j = a_curIdx j) → (∀ j, j ≠ k → cD j = a_curDone j) → post (f_minWidth, f_maxWidth, f_slotCount, f_limit, f_freeHead, f_inCount, f_pendCount, f_outCount, f_difCount, f_repCount, a_roots, a_keys, a_vals, a_count, a_level, a_total, a_refs, a_bucketOf, a_nextNode, a_buckets, a_stack, cN, cI, a_curHeight, cD, a_inKey, a_inVal, a_pendKey, a_pendVal, a_outKey, a_outVal, a_difKey, a_difA, a_difB, a_difOurs, a_repKey, a_repVal)) : wpX_step post (f_minWidth, f_maxWidth, f_slotCount, f_limit, f_freeHead, f_inCount, f_pendCount, f_outCount, f_difCount, f_repCount, a_roots, a_keys, a_vals, a_count, a_level, a_total, a_refs, a_bucketOf, a_nextNode, a_buckets, a_stack, a_curNode, a_curIdx, a_curHeight, a_curDone, a_inKey, a_inVal, a_pendKey, a_pendVal, a_outKey, a_outVal, a_difKey, a_difA, a_difB, a_difOurs, a_repKey, a_repVal) (nI k) 0 := by
  rcases hc with ⟨_, z⟩ | ⟨a1, a2, R, a3, a4, a5⟩
  · simp at z
  · refine cx_step (lv := 0) H hh hk a2 hch a3 a4 ?_
    rintro cN cI cD ⟨s1, s2⟩
    rw [a5, List.tail_cons] at s2
    rcases s2 with ⟨q1, q2⟩ | ⟨q1, R', q2, q3, q4, q5⟩
    · refine hp cN cI cD (Or.inl ⟨by rw [q1, pk_us], q2⟩) s1 (fun j hj => by rw [q1, pk_un hj])
    · refine hp cN cI cD (Or.inr ⟨by rw [q1]; exact a1, a2, R', q2, by rw [q5]; exact a4, q3⟩) s1 (fun j hj => by rw [q1])
theorem cx_ch_213 {post : SX → Prop} (H : ct_HI f_freeHead a_keys a_vals a_count a_level a_total a_refs a_bucketOf a_nextNode a_buckets N X B) {hA hB : Nat} {RA RB RA' RB' : List ct_E} {x3 x4 : Int32} (hA8 : hA ≤ 8) (hB8 : hB ≤ 8) (hcA : a_curHeight 0 = nI hA) (hcB : a_curHeight 1 = nI hB) (uA : ct_cu N hA 0 a_curNode a_curIdx a_curDone RA) (uB : ct_cu N hB 1 a_curNode a_curIdx a_curDone RB)
    (h3 : (x3 = 0 ∧ RA' = RA) ∨ (x3 = 1 ∧ ∃ a, RA = a :: RA')) (h4 : (x4 = 0 ∧ RB' = RB) ∨ (x4 = 1 ∧ ∃ a, RB = a :: RB'))
    (hp : ∀ cN cI cD, ct_cu N hA 0 cN cI cD RA' → ct_cu N hB 1 cN cI cD RB' → post (f_minWidth, f_maxWidth, f_slotCount, f_limit, f_freeHead, f_inCount, f_pendCount, f_outCount, f_difCount, f_repCount, a_roots, a_keys, a_vals, a_count, a_level, a_total, a_refs, a_bucketOf, a_nextNode, a_buckets, a_stack, cN, cI, a_curHeight, cD, a_inKey, a_inVal, a_pendKey, a_pendVal, a_outKey, a_outVal, a_difKey, a_difA, a_difB, a_difOurs, a_repKey, a_repVal)) : wX_compareHeads_213 post x3 x4 f_minWidth f_maxWidth f_slotCount f_limit f_freeHead f_inCount f_pendCount f_outCount f_difCount f_repCount a_roots a_keys a_vals a_count a_level a_total a_refs a_bucketOf a_nextNode a_buckets a_stack a_curNode a_curIdx a_curHeight a_curDone a_inKey a_inVal a_pendKey a_pendVal a_outKey a_outVal a_difKey a_difA a_difB a_difOurs a_repKey a_repVal := by
  have second : ∀ (a_curNode a_curIdx a_curDone : Nat → Int32), ct_cu N hA 0 a_curNode a_curIdx a_curDone RA' → ct_cu N hB 1 a_curNode a_curIdx a_curDone RB → wX_compareHeads_223 post x4 f_minWidth f_maxWidth f_slotCount f_limit f_freeHead f_inCount f_pendCount f_outCount f_difCount f_repCount a_roots a_keys a_vals a_count a_level a_total a_refs a_bucketOf a_nextNode a_buckets a_stack a_curNode a_curIdx a_curHeight a_curDone a_inKey a_inVal a_pendKey a_pendVal a_outKey a_outVal a_difKey a_difA a_difB a_difOurs a_repKey a_repVal := by
    intro a_curNode a_curIdx a_curDone kA kB
    rcases h4 with ⟨z, e⟩ | ⟨z, b, e⟩
    · subst e
      exact br_t z (hp _ _ _ kA kB)
    · rw [e] at kB
      refine br_f (by rw [z]; decide) ?_
      refine cx_stepc (k := 1) H hB8 (by omega) hcB kB ?_
      intro cN cI cD g1 g2 g3
      exact hp _ _ _ (ct_cu_fr kA hA8 (fun j j1 j2 => g2 j (by omega)) (g3 0 (by omega))) g1
  rcases h3 with ⟨z, e⟩ | ⟨z, a, e⟩
  · subst e
    exact br_t z (second _ _ _ uA uB)
  · rw [e] at uA
    refine br_f (by rw [z]; decide) ?_
    refine cx_stepc (k := 0) H hA8 (by omega) hcA uA ?_
    intro cN cI cD g1 g2 g3
    exact second _ _ _ g1 (ct_cu_fr uB hB8 (fun j j1 j2 => g2 j (by omega)) (g3 1 (by omega)))
theorem cx_ch_144 {post : SX → Prop} {x1 x2 x3 x4 va vb k : Int32} {D : List ct_D3} (hk0 : x3 = 0 → vp_in x2 2560 ∧ a_keys x2.toNatClampNeg = k) (hk1 : ¬ x3 = 0 → vp_in x1 2560 ∧ a_keys x1.toNatClampNeg = k) (hD : f_difCount = nI D.length) (hat : ct_at3 a_difKey a_difA a_difB D) (h64 : D.length < 64)
    (K : ∀ dk da db, ct_at3 dk da db (if va = vb then D else D ++ [(k, va, vb)]) → wX_compareHeads_213 post x3 x4 f_minWidth f_maxWidth f_slotCount f_limit f_freeHead f_inCount f_pendCount f_outCount (nI (if va = vb then D else D ++ [(k, va, vb)]).length) f_repCount a_roots a_keys a_vals a_count a_level a_total a_refs a_bucketOf a_nextNode a_buckets a_stack a_curNode a_curIdx a_curHeight a_curDone a_inKey a_inVal a_pendKey a_pendVal a_outKey a_outVal dk da db a_difOurs a_repKey a_repVal) :
    wX_compareHeads_144 post x1 x2 x3 x4 va vb f_minWidth f_maxWidth f_slotCount f_limit f_freeHead f_inCount f_pendCount f_outCount f_difCount f_repCount a_roots a_keys a_vals a_count a_level a_total a_refs a_bucketOf a_nextNode a_buckets a_stack a_curNode a_curIdx a_curHeight a_curDone a_inKey a_inVal a_pendKey a_pendVal a_outKey a_outVal a_difKey a_difA a_difB a_difOurs a_repKey a_repVal := by
  subst hD
  by_cases z : va = vb
  · rw [if_pos z] at K
    exact br_t z (K _ _ _ hat)
  · rw [if_neg z] at K
    have hv : vp_in (nI D.length) 64 := vp_in_nI (by omega) (by omega)
    have hcl : (nI D.length).toNatClampNeg = D.length := nI_clamp (by omega)
    have hrec : wX_compareHeads_180 post x3 x4 va vb k (nI D.length) f_minWidth f_maxWidth f_slotCount f_limit f_freeHead f_inCount f_pendCount f_outCount (nI D.length) f_repCount a_roots a_keys a_vals a_count a_level a_total a_refs a_bucketOf a_nextNode a_buckets a_stack a_curNode a_curIdx a_curHeight a_curDone a_inKey a_inVal a_pendKey a_pendVal a_outKey a_outVal a_difKey a_difA a_difB a_difOurs a_repKey a_repVal :=
      ⟨hv, nm_r (e' := upd a_difKey D.length k) (by rw [hcl]) ⟨hv, nm_r (e' := upd a_difA D.length va) (by rw [hcl]) ⟨hv, nm_r (e' := upd a_difB D.length vb) (by rw [hcl]) (nm_r (e' := nI (D ++ [(k, va, vb)]).length) (by rw [nI_1, List.length_append]; rfl) (K _ _ _ (ct_at3_snoc hat k va vb)))⟩⟩⟩
    refine br_f z ?_
    by_cases w : x3 = 0
    · obtain ⟨b1, b2⟩ := hk0 w
      exact br_t w ⟨b1, by rw [b2]; exact hrec⟩
    · obtain ⟨b1, b2⟩ := hk1 w
      exact br_f w ⟨b1, by rw [b2]; exact hrec⟩
theorem cx_compareHeads {post : SX → Prop} (H : ct_HI f_freeHead a_keys a_vals a_count a_level a_total a_refs a_bucketOf a_nextNode a_buckets N X B) {A C : List ct_E} {hA hB : Nat} {RA RB PA PB : List ct_E} {D : List ct_D3} (mA : ct_map A) (mC : ct_map C) (hA8 : hA ≤ 8) (hB8 : hB ≤ 8) (hcA : a_curHeight 0 = nI hA) (hcB : a_curHeight 1 = nI hB)
    (uA : ct_cu N hA 0 a_curNode a_curIdx a_curDone RA) (uB : ct_cu N hB 1 a_curNode a_curIdx a_curDone RB) (hne : RA ++ RB ≠ []) (hw : ct_dw A C PA RA PB RB D) (hD : f_difCount = nI D.length) (hat : ct_at3 a_difKey a_difA a_difB D) (h64 : D.length < 64)
    (hp : ∀ (cN cI cD dk da db : Nat → Int32) (PA' RA' PB' RB' : List ct_E) (D' : List ct_D3), ct_cu N hA 0 cN cI cD RA' → ct_cu N hB 1 cN cI cD RB' → ct_dw A C PA' RA' PB' RB' D' → ct_at3 dk da db D' → RA'.length + RB'.length < RA.length + RB.length →
      post (f_minWidth, f_maxWidth, f_slotCount, f_limit, f_freeHead, f_inCount, f_pendCount, f_outCount, nI D'.length, f_repCount, a_roots, a_keys, a_vals, a_count, a_level, a_total, a_refs, a_bucketOf, a_nextNode, a_buckets, a_stack, cN, cI, a_curHeight, cD, a_inKey, a_inVal, a_pendKey, a_pendVal, a_outKey, a_outVal, dk, da, db, a_difOurs, a_repKey, a_repVal)) : wpX_compareHeads post (f_minWidth, f_maxWidth, f_slotCount, f_limit, f_freeHead, f_inCount, f_pendCount, f_outCount, f_difCount, f_repCount, a_roots, a_keys, a_vals, a_count, a_level, a_total, a_refs, a_bucketOf, a_nextNode, a_buckets, a_stack, a_curNode, a_curIdx, a_curHeight, a_curDone, a_inKey, a_inVal, a_pendKey, a_pendVal, a_outKey, a_outVal, a_difKey, a_difA, a_difB, a_difOurs, a_repKey, a_repVal) := by
  have sA : ct_srt RA := by
    have := mA.1
    rw [hw.1] at this
    exact (List.pairwise_append.mp this).2.1
  have sB : ct_srt RB := by
    have := mC.1
    rw [hw.2.1] at this
    exact (List.pairwise_append.mp this).2.1
  have vA : ∀ e ∈ RA, e.2 ≠ 0 := fun e he => ct_map_nz mA (by rw [hw.1]; simp [he])
  have vB : ∀ e ∈ RB, e.2 ≠ 0 := fun e he => ct_map_nz mC (by rw [hw.2.1]; simp [he])
  have g1 : ∀ e : ct_E, ct_get [e] e.1 = e.2 := fun e => if_pos rfl
  -- the three ways
  have onlyA : ∀ (x1 x2 : Int32) (a : ct_E) (RA' : List ct_E), RA = a :: RA' → (∀ b ∈ RB, a.1 < b.1) → vp_in x1 2560 → a_keys x1.toNatClampNeg = a.1 → a_vals x1.toNatClampNeg = a.2 → wX_compareHeads_111 post x1 x2 1 0 f_minWidth f_maxWidth f_slotCount f_limit f_freeHead f_inCount f_pendCount f_outCount f_difCount f_repCount a_roots a_keys a_vals a_count a_level a_total a_refs a_bucketOf a_nextNode a_buckets a_stack a_curNode a_curIdx a_curHeight a_curDone a_inKey a_inVal a_pendKey a_pendVal a_outKey a_outVal a_difKey a_difA a_difB a_difOurs a_repKey a_repVal := by
    intro x1 x2 a RA' eA hlt v1 k1 w1
    refine br_f (by decide) ⟨v1, br_t rfl ?_⟩
    rw [w1]
    refine cx_ch_144 (k := a.1) (D := D) (fun z => absurd z (by decide)) (fun _ => ⟨v1, k1⟩) hD hat h64 ?_
    intro dk da db hat'
    refine cx_ch_213 H hA8 hB8 hcA hcB uA uB (Or.inr ⟨rfl, a, eA⟩) (Or.inl ⟨rfl, rfl⟩) ?_
    intro cN cI cD k1 k2
    have hd := ct_dw_add (LA := [a]) (LB := []) (RA := RA') (RB := RB) (k := a.1) (D := D) (by rw [eA] at hw; exact hw) (by simp) (by simp) (by simp) (by
      intro x hx
      rw [eA] at sA
      rcases List.mem_append.mp hx with y | y
      · exact (List.pairwise_cons.mp sA).1 x y
      · exact hlt x y)
    rw [g1, show ct_get [] a.1 = 0 from rfl] at hd
    exact hp cN cI cD dk da db _ _ _ _ _ k1 k2 hd hat' (by rw [eA]; simp)
  have onlyB : ∀ (x1 x2 : Int32) (b : ct_E) (RB' : List ct_E), RB = b :: RB' → (∀ a ∈ RA, b.1 < a.1) → vp_in x2 2560 → a_keys x2.toNatClampNeg = b.1 → a_vals x2.toNatClampNeg = b.2 → wX_compareHeads_111 post x1 x2 0 1 f_minWidth f_maxWidth f_slotCount f_limit f_freeHead f_inCount f_pendCount f_outCount f_difCount f_repCount a_roots a_keys a_vals a_count a_level a_total a_refs a_bucketOf a_nextNode a_buckets a_stack a_curNode a_curIdx a_curHeight a_curDone a_inKey a_inVal a_pendKey a_pendVal a_outKey a_outVal a_difKey a_difA a_difB a_difOurs a_repKey a_repVal := by
    intro x1 x2 b RB' eB hlt v2 k2 w2
    refine br_t rfl (br_f (by decide) ⟨v2, ?_⟩)
    rw [w2]
    refine cx_ch_144 (k := b.1) (D := D) (fun _ => ⟨v2, k2⟩) (fun z => absurd rfl z) hD hat h64 ?_
    intro dk da db hat'
    refine cx_ch_213 H hA8 hB8 hcA hcB uA uB (Or.inl ⟨rfl, rfl⟩) (Or.inr ⟨rfl, b, eB⟩) ?_
    intro cN cI cD k1 k2
    have hd := ct_dw_add (LA := []) (LB := [b]) (RA := RA) (RB := RB') (k := b.1) (D := D) (by rw [eB] at hw; exact hw) (by simp) (by simp) (by simp) (by
      intro x hx
      rw [eB] at sB
      rcases List.mem_append.mp hx with y | y
      · exact hlt x y
      · exact (List.pairwise_cons.mp sB).1 x y)
    rw [g1, show ct_get [] b.1 = 0 from rfl] at hd
    exact hp cN cI cD dk da db _ _ _ _ _ k1 k2 hd hat' (by rw [eB]; simp)
  have both : ∀ (x1 x2 : Int32) (a b : ct_E) (RA' RB' : List ct_E), RA = a :: RA' → RB = b :: RB' → a.1 = b.1 → vp_in x1 2560 → a_keys x1.toNatClampNeg = a.1 → a_vals x1.toNatClampNeg = a.2 → vp_in x2 2560 → a_vals x2.toNatClampNeg = b.2 → wX_compareHeads_111 post x1 x2 1 1 f_minWidth f_maxWidth f_slotCount f_limit f_freeHead f_inCount f_pendCount f_outCount f_difCount f_repCount a_roots a_keys a_vals a_count a_level a_total a_refs a_bucketOf a_nextNode a_buckets a_stack a_curNode a_curIdx a_curHeight a_curDone a_inKey a_inVal a_pendKey a_pendVal a_outKey a_outVal a_difKey a_difA a_difB a_difOurs a_repKey a_repVal := by
    intro x1 x2 a b RA' RB' eA eB hab v1 k1 w1 v2 w2
    refine br_f (by decide) ⟨v1, br_f (by decide) ⟨v2, ?_⟩⟩
    rw [w1, w2]
    refine cx_ch_144 (k := a.1) (D := D) (fun z => absurd z (by decide)) (fun _ => ⟨v1, k1⟩) hD hat h64 ?_
    intro dk da db hat'
    refine cx_ch_213 H hA8 hB8 hcA hcB uA uB (Or.inr ⟨rfl, a, eA⟩) (Or.inr ⟨rfl, b, eB⟩) ?_
    intro cN cI cD k1 k2
    have hd := ct_dw_add (LA := [a]) (LB := [b]) (RA := RA') (RB := RB') (k := a.1) (D := D) (by rw [eA, eB] at hw; exact hw) (by simp) (by simp [hab]) (by simp) (by
      intro x hx
      rw [eA] at sA
      rw [eB] at sB
      rcases List.mem_append.mp hx with y | y
      · exact (List.pairwise_cons.mp sA).1 x y
      · rw [hab]; exact (List.pairwise_cons.mp sB).1 x y)
    have gb : ct_get [b] a.1 = b.2 := by rw [hab]; exact g1 b
    rw [g1, gb] at hd
    exact hp cN cI cD dk da db _ _ _ _ _ k1 k2 hd hat' (by rw [eA, eB]; simp; omega)
  unfold wpX_compareHeads
  dsimp only
  match RA, RB, uA, uB, hne, sA, sB, onlyA, onlyB, both with
  | [], [], _, _, hne, _, _, _, _, _ => exact absurd rfl hne
  | a :: RA', [], uA, uB, _, sA, sB, onlyA, _, _ =>
    obtain ⟨d0, _, n, i, c1, c2, n2, i6, k1, w1⟩ := cx_head H uA
    rw [Nat.mul_zero] at c1 c2
    have d1 : ¬ a_curDone 1 = 0 := by
      rcases uB with ⟨z, _⟩ | ⟨z1, z2, R, z3, _, z5⟩
      · rw [z]; decide
      · obtain ⟨e, t, c, i, cs, y1, y2, y3, y4, y5, y6⟩ := z3 0 (Nat.le_refl _) z2
        rw [z5, List.drop_eq_getElem_cons y5] at y6
        simp at y6
        omega
    refine nm_r (e' := nI (n * 8 + i)) (by rw [c1, c2]; exact cx_ix rfl n2 (by omega)) (nm_e ?_)
    have cl : (nI (n * 8 + i)).toNatClampNeg = n * 8 + i := nI_clamp (by omega)
    refine br_t d0 (br_f d1 ?_)
    refine br_f d1 ?_
    exact onlyA _ _ a RA' rfl (by simp) (vp_in_nI (by omega) (by omega)) (by rw [cl]; exact k1) (by rw [cl]; exact w1)
  | [], b :: RB', uA, uB, _, sA, sB, _, onlyB, _ =>
    obtain ⟨d1, _, n, i, c1, c2, n2, i6, k1, w1⟩ := cx_head H uB
    have d0 : ¬ a_curDone 0 = 0 := by
      rcases uA with ⟨z, _⟩ | ⟨z1, z2, R, z3, _, z5⟩
      · rw [z]; decide
      · obtain ⟨e, t, c, i, cs, y1, y2, y3, y4, y5, y6⟩ := z3 0 (Nat.le_refl _) z2
        rw [z5, List.drop_eq_getElem_cons y5] at y6
        simp at y6
        omega
    refine nm_e (nm_r (e' := nI (n * 8 + i)) (by rw [c1, c2]; exact cx_ix rfl n2 (by omega)) ?_)
    have cl : (nI (n * 8 + i)).toNatClampNeg = n * 8 + i := nI_clamp (by omega)
    refine br_f d0 ?_
    refine br_t d1 (br_f d0 ?_)
    exact onlyB _ _ b RB' rfl (by simp) (vp_in_nI (by omega) (by omega)) (by rw [cl]; exact k1) (by rw [cl]; exact w1)
  | a :: RA', b :: RB', uA, uB, _, sA, sB, onlyA, onlyB, both =>
    obtain ⟨d0, _, n, i, c1, c2, n2, i6, k1, w1⟩ := cx_head H uA
    obtain ⟨d1, _, n', i', c1', c2', n2', i6', k1', w1'⟩ := cx_head H uB
    rw [Nat.mul_zero] at c1 c2
    have cl : (nI (n * 8 + i)).toNatClampNeg = n * 8 + i := nI_clamp (by omega)
    have cl' : (nI (n' * 8 + i')).toNatClampNeg = n' * 8 + i' := nI_clamp (by omega)
    have v1 : vp_in (nI (n * 8 + i)) 2560 := vp_in_nI (by omega) (by omega)
    have v2 : vp_in (nI (n' * 8 + i')) 2560 := vp_in_nI (by omega) (by omega)
    refine nm_r (e' := nI (n * 8 + i)) (by rw [c1, c2]; exact cx_ix rfl n2 (by omega)) (nm_r (e' := nI (n' * 8 + i')) (by rw [c1', c2']; exact cx_ix rfl n2' (by omega)) ?_)
    refine br_t d0 (br_t d1 ⟨v1, v2, ?_⟩)
    by_cases q1 : b.1 < a.1
    · refine br_t (by rw [cl, cl', k1, k1']; exact q1) ?_
      refine br_t d1 (br_t d0 ⟨v2, v1, br_f (by rw [cl, cl', k1, k1']; exact Int32.lt_asymm q1) ?_⟩)
      refine onlyB _ _ b RB' rfl ?_ v2 (by rw [cl']; exact k1') (by rw [cl']; exact w1')
      intro x hx
      rcases List.mem_cons.mp hx with y | y
      · rw [y]; exact q1
      · exact Int32.lt_trans q1 ((List.pairwise_cons.mp sA).1 x y)
    · refine br_f (by rw [cl, cl', k1, k1']; exact q1) ?_
      by_cases q2 : a.1 < b.1
      · refine br_t d1 (br_t d0 ⟨v2, v1, br_t (by rw [cl, cl', k1, k1']; exact q2) ?_⟩)
        refine onlyA _ _ a RA' rfl ?_ v1 (by rw [cl]; exact k1) (by rw [cl]; exact w1)
        intro x hx
        rcases List.mem_cons.mp hx with y | y
        · rw [y]; exact q2
        · exact Int32.lt_trans q2 ((List.pairwise_cons.mp sB).1 x y)
      · refine br_t d1 (br_t d0 ⟨v2, v1, br_f (by rw [cl, cl', k1, k1']; exact q2) ?_⟩)
        exact both _ _ a b RA' RB' rfl rfl (Int32.le_antisymm (Int32.not_lt.mp q1) (Int32.not_lt.mp q2)) v1 (by rw [cl]; exact k1) (by rw [cl]; exact w1) v2 (by rw [cl']; exact w1')
end
end
section
/-! skipShared, collectDiff -/
theorem ct_fd_ne {N : ct_N} (h6 : ct_l6 N) {l : Nat} : ∀ {d : Nat} {L M : List ct_E}, L ≠ [] → ct_fd N l d L M → M ≠ []
  | 0, L, M, hL, h => by rw [show M = L from h]; exact hL
  | d + 1, L, M, hL, h => by
    obtain ⟨cs, h1, h2⟩ := h
    refine ct_fd_ne h6 ?_ h2
    match L, hL, h1 with
    | e :: L, _, h1 =>
      obtain ⟨c, cs', e1, e2, _, _⟩ := ct_up_cons h1
      subst e1
      have := (h6 _ _ _ e2).1
      intro z
      rw [List.flatten_cons, List.append_eq_nil_iff] at z
      exact this z.1
theorem ct_shared {N : ct_N} (hf : ct_fn N) (h6 : ct_l6 N) {b : Nat} {e e' : ct_E} {t t' M M' : List ct_E} {c c' : List ct_E} {cs cs' : List (List ct_E)} (h1 : ct_up N b (c :: cs) (e :: t)) (h2 : ct_up N b (c' :: cs') (e' :: t')) (he : e.2 = e'.2)
    (g1 : ct_fd N 0 (b + 1) (e :: t) M) (g2 : ct_fd N 0 (b + 1) (e' :: t') M') : ∃ S MA MB, S ≠ [] ∧ M = S ++ MA ∧ M' = S ++ MB ∧ ct_fd N 0 (b + 1) t MA ∧ ct_fd N 0 (b + 1) t' MB := by
  obtain ⟨S, MA, a1, a2, a3⟩ := ct_fd_inv (L := [e]) (L2 := t) g1
  obtain ⟨S', MB, b1, b2, b3⟩ := ct_fd_inv (L := [e']) (L2 := t') g2
  have hS : S = S' := by
    obtain ⟨ks, k1, k2⟩ := a2
    obtain ⟨ks', k1', k2'⟩ := b2
    obtain ⟨d, ds, x1, x2, _, x3⟩ := ct_up_cons k1
    obtain ⟨d', ds', y1, y2, _, y3⟩ := ct_up_cons k1'
    have x4 := ct_up_nil x3
    have y4 := ct_up_nil y3
    subst x4 y4 x1 y1
    rw [he] at x2
    have := (hf _ _ _ _ _ x2 y2).2
    subst this
    exact ct_fd_fn hf k2 k2'
  subst hS
  exact ⟨S, MA, MB, ct_fd_ne h6 (by simp) a2, a1, b1, a3, b3⟩
section
variable {f_minWidth f_maxWidth f_slotCount f_limit f_freeHead f_inCount f_pendCount f_outCount f_difCount f_repCount : Int32} {a_roots a_keys a_vals a_count a_level a_total a_refs a_bucketOf a_nextNode a_buckets a_stack a_curNode a_curIdx a_curHeight a_curDone a_inKey a_inVal a_pendKey a_pendVal a_outKey a_outVal a_difKey a_difA a_difB a_difOurs a_repKey a_repVal : Nat → Int32} {N : ct_N} {X : List Int32} {B : Nat}
theorem cx_leapc {post : SX → Prop} (H : ct_HI f_freeHead a_keys a_vals a_count a_level a_total a_refs a_bucketOf a_nextNode a_buckets N X B) {h k b : Nat} {R : Nat → List ct_E} {e : ct_E} {t MA : List ct_E} (hh : h ≤ 8) (hk : k < 2) (hb : b < h) (hch : a_curHeight k = nI h) (hd0 : a_curDone k = 0) (hc : ct_cr N h (fun l => a_curNode (8 * k + l)) (fun l => a_curIdx (8 * k + l)) 0 R) (hR : (R h).tail = [])
    (hRb : R (b + 1) = e :: t) (hM : ct_fd N 0 (b + 1) t MA)
    (hp : ∀ cN cI cD, ct_cu N h k cN cI cD MA → (∀ j, (j < 8 * k ∨ 8 * k + 8 ≤ j) → cN j = a_curNode j ∧ cI j = a_curIdx j) → (∀ j, j ≠ k → cD j = a_curDone j) → post (f_minWidth, f_maxWidth, f_slotCount, f_limit, f_freeHead, f_inCount, f_pendCount, f_outCount, f_difCount, f_repCount, a_roots, a_keys, a_vals, a_count, a_level, a_total, a_refs, a_bucketOf, a_nextNode, a_buckets, a_stack, cN, cI, a_curHeight, cD, a_inKey, a_inVal, a_pendKey, a_pendVal, a_outKey, a_outVal, a_difKey, a_difA, a_difB, a_difOurs, a_repKey, a_repVal)) : wpX_leap post (f_minWidth, f_maxWidth, f_slotCount, f_limit, f_freeHead, f_inCount, f_pendCount, f_outCount, f_difCount, f_repCount, a_roots, a_keys, a_vals, a_count, a_level, a_total, a_refs, a_bucketOf, a_nextNode, a_buckets, a_stack, a_curNode, a_curIdx, a_curHeight, a_curDone, a_inKey, a_inVal, a_pendKey, a_pendVal, a_outKey, a_outVal, a_difKey, a_difA, a_difB, a_difOurs, a_repKey, a_repVal) (nI k) (nI b) := by
  refine cx_leap H hh hk hb hch (ct_cr_up hc (by omega)) hR ?_ ?_
  · intro hd
    rw [hRb, List.tail_cons] at hd
    subst hd
    exact hp _ _ _ (Or.inl ⟨pk_us, ct_fd_nil hM⟩) (fun _ _ => ⟨rfl, rfl⟩) (fun j hj => pk_un hj)
  · rintro cN cI ⟨f1, R', f2, f3, f4, f5, f6⟩
    refine hp _ _ _ (Or.inr ⟨hd0, by omega, R', f2, by rw [f6]; exact hR, ?_⟩) f1 (fun _ _ => rfl)
    have := ct_cr_lf (ct_HI_l6 H) f2 b hb f5
    rw [f3, hRb, List.tail_cons] at this
    exact ct_fd_fn (ct_HI_fn H) this hM
theorem cx_skipShared {post : Int32 → SX → Prop} (H : ct_HI f_freeHead a_keys a_vals a_count a_level a_total a_refs a_bucketOf a_nextNode a_buckets N X B) {A C : List ct_E} {hA hB : Nat} {RA RB PA PB : List ct_E} {D : List ct_D3} (mA : ct_srt A) (mC : ct_srt C) (hA8 : hA ≤ 8) (hB8 : hB ≤ 8) (hcA : a_curHeight 0 = nI hA) (hcB : a_curHeight 1 = nI hB)
    (uA : ct_cu N hA 0 a_curNode a_curIdx a_curDone RA) (uB : ct_cu N hB 1 a_curNode a_curIdx a_curDone RB) (hw : ct_dw A C PA RA PB RB D) (h0 : post 0 (f_minWidth, f_maxWidth, f_slotCount, f_limit, f_freeHead, f_inCount, f_pendCount, f_outCount, f_difCount, f_repCount, a_roots, a_keys, a_vals, a_count, a_level, a_total, a_refs, a_bucketOf, a_nextNode, a_buckets, a_stack, a_curNode, a_curIdx, a_curHeight, a_curDone, a_inKey, a_inVal, a_pendKey, a_pendVal, a_outKey, a_outVal, a_difKey, a_difA, a_difB, a_difOurs, a_repKey, a_repVal))
    (h1 : ∀ (cN cI cD : Nat → Int32) (PA' RA' PB' RB' : List ct_E), ct_cu N hA 0 cN cI cD RA' → ct_cu N hB 1 cN cI cD RB' → ct_dw A C PA' RA' PB' RB' D → RA'.length + RB'.length < RA.length + RB.length → post 1 (f_minWidth, f_maxWidth, f_slotCount, f_limit, f_freeHead, f_inCount, f_pendCount, f_outCount, f_difCount, f_repCount, a_roots, a_keys, a_vals, a_count, a_level, a_total, a_refs, a_bucketOf, a_nextNode, a_buckets, a_stack, cN, cI, a_curHeight, cD, a_inKey, a_inVal, a_pendKey, a_pendVal, a_outKey, a_outVal, a_difKey, a_difA, a_difB, a_difOurs, a_repKey, a_repVal)) :
    wpX_skipShared post (f_minWidth, f_maxWidth, f_slotCount, f_limit, f_freeHead, f_inCount, f_pendCount, f_outCount, f_difCount, f_repCount, a_roots, a_keys, a_vals, a_count, a_level, a_total, a_refs, a_bucketOf, a_nextNode, a_buckets, a_stack, a_curNode, a_curIdx, a_curHeight, a_curDone, a_inKey, a_inVal, a_pendKey, a_pendVal, a_outKey, a_outVal, a_difKey, a_difA, a_difB, a_difOurs, a_repKey, a_repVal) := by
  unfold wpX_skipShared
  dsimp only
  rcases uA with ⟨a1, a2⟩ | ⟨a1, a2, R, a3, a4, a5⟩
  · exact br_f (by rw [a1]; decide) h0
  · refine br_t a1 ?_
    rcases uB with ⟨b1, b2⟩ | ⟨b1, b2, R', b3, b4, b5⟩
    · exact br_f (by rw [b1]; decide) h0
    · refine br_t b1 ?_
      -- best is b: leap both
      have good : ∀ b, b < hA → b < hB → (∀ j, j ≤ b → a_curIdx (8 * 0 + j) = 0 ∧ a_curIdx (8 * 1 + j) = 0) → a_curNode (8 * 0 + b) = a_curNode (8 * 1 + b) → wX_skipShared_107 post (nI b) f_minWidth f_maxWidth f_slotCount f_limit f_freeHead f_inCount f_pendCount f_outCount f_difCount f_repCount a_roots a_keys a_vals a_count a_level a_total a_refs a_bucketOf a_nextNode a_buckets a_stack a_curNode a_curIdx a_curHeight a_curDone a_inKey a_inVal a_pendKey a_pendVal a_outKey a_outVal a_difKey a_difA a_difB a_difOurs a_repKey a_repVal := by
        intro b bA bB hz hn
        obtain ⟨e, t, c, i, cs, y1, y2, y3, y4, y5, y6⟩ := a3 b (by omega) bA
        obtain ⟨e', t', c', i', cs', z1, z2, z3, z4, z5, z6⟩ := b3 b (by omega) bB
        have fA := ct_cr_lf (ct_HI_l6 H) a3 b bA (fun j hj => (hz j hj).1)
        have fB := ct_cr_lf (ct_HI_l6 H) b3 b bB (fun j hj => (hz j hj).2)
        rw [y1, a5] at fA
        rw [z1, b5] at fB
        obtain ⟨S, MA, MB, s0, s1, s2, s3, s4⟩ := ct_shared (ct_HI_fn H) (ct_HI_l6 H) y3 z3 (by rw [← y2, ← z2]; exact hn) fA fB
        refine br_t (nI_pos' (by omega)) ?_
        refine cx_leapc (k := 0) H hA8 (by omega) bA hcA a1 a3 a4 y1 s3 ?_
        intro cN cI cD g1 g2 g3
        have b3' : ct_cr N hB (fun l => cN (8 * 1 + l)) (fun l => cI (8 * 1 + l)) 0 R' := by
          intro l l1 l2
          obtain ⟨e, t, c, i, cs, w1, w2, w3, w4, w5⟩ := b3 l l1 l2
          obtain ⟨v1, v2⟩ := g2 (8 * 1 + l) (by omega)
          exact ⟨e, t, c, i, cs, w1, v1.trans w2, w3, v2.trans w4, w5⟩
        refine cx_leapc (k := 1) H hB8 (by omega) bB hcB (by rw [g3 1 (by omega)]; exact b1) b3' b4 z1 s4 ?_
        intro cN' cI' cD' k1 k2 k3
        have hl := List.length_pos_iff.mpr s0
        refine h1 cN' cI' cD' (PA ++ S) MA (PB ++ S) MB (ct_cu_fr g1 hA8 (fun j j1 j2 => k2 j (by omega)) (k3 0 (by omega))) k1 (ct_dw_same mA mC (by rw [← s1, ← s2]; exact hw)) ?_
        rw [s1, s2, List.length_append, List.length_append]
        omega
      -- the search of best
      have loop : ∀ (T : Nat), T ≤ hA → T ≤ hB → ∀ (d lv : Nat) (x1 : Int32), lv + d = T → (∀ j, j < lv → a_curIdx (8 * 0 + j) = 0 ∧ a_curIdx (8 * 1 + j) = 0) → (x1 = -1 ∨ ∃ b, b < lv ∧ x1 = nI b ∧ a_curNode (8 * 0 + b) = a_curNode (8 * 1 + b)) →
          wX_skipShared_55 post (nI T) f_minWidth f_maxWidth f_slotCount f_limit f_freeHead f_inCount f_pendCount f_outCount f_difCount f_repCount a_roots a_keys a_vals a_count a_level a_total a_refs a_bucketOf a_nextNode a_buckets a_stack a_curNode a_curIdx a_curHeight a_curDone a_inKey a_inVal a_pendKey a_pendVal a_outKey a_outVal a_difKey a_difA a_difB a_difOurs a_repKey a_repVal (d + 1) x1 (nI lv) := by
        intro T tA tB d
        have stop : ∀ (lv : Nat) (x1 : Int32), lv ≤ T → (∀ j, j < lv → a_curIdx (8 * 0 + j) = 0 ∧ a_curIdx (8 * 1 + j) = 0) → (x1 = -1 ∨ ∃ b, b < lv ∧ x1 = nI b ∧ a_curNode (8 * 0 + b) = a_curNode (8 * 1 + b)) → wX_skipShared_107 post x1 f_minWidth f_maxWidth f_slotCount f_limit f_freeHead f_inCount f_pendCount f_outCount f_difCount f_repCount a_roots a_keys a_vals a_count a_level a_total a_refs a_bucketOf a_nextNode a_buckets a_stack a_curNode a_curIdx a_curHeight a_curDone a_inKey a_inVal a_pendKey a_pendVal a_outKey a_outVal a_difKey a_difA a_difB a_difOurs a_repKey a_repVal := by
          intro lv x1 hl hz hx
          rcases hx with z | ⟨b, hb, z, hn⟩
          · rw [z]
            exact br_f (by decide) h0
          · rw [z]
            exact good b (by omega) (by omega) (fun j hj => hz j (by omega)) hn
        induction d with
        | zero =>
          intro lv x1 hl hz hx
          have : lv = T := by omega
          subst this
          exact br_t (Int32.le_refl _) (stop lv x1 (by omega) hz hx)
        | succ d ih =>
          intro lv x1 hl hz hx
          have e8 : (8 : Int32) + nI lv = nI (8 + lv) := nI_add 8 lv
          have v1 : vp_in (nI lv) 16 := vp_in_nI (by omega) (by omega)
          have v2 : vp_in (8 + nI lv) 16 := by rw [e8]; exact vp_in_nI (by omega) (by omega)
          have cl : (nI lv).toNatClampNeg = 8 * 0 + lv := by rw [nI_clamp (by omega)]; omega
          have cl2 : (8 + nI lv).toNatClampNeg = 8 * 1 + lv := by rw [e8, nI_clamp (by omega)]
          refine br_f (nI_ge (by omega) (by omega)) ⟨v1, ?_⟩
          rw [cl, cl2]
          by_cases q1 : a_curIdx (8 * 0 + lv) = 0
          · refine br_t q1 ⟨v2, ?_⟩
            by_cases q2 : a_curIdx (8 * 1 + lv) = 0
            · refine br_t q2 ⟨v1, v2, ?_⟩
              have hz' : ∀ j, j < lv + 1 → a_curIdx (8 * 0 + j) = 0 ∧ a_curIdx (8 * 1 + j) = 0 := by
                intro j hj
                by_cases z : j = lv
                · subst z; exact ⟨q1, q2⟩
                · exact hz j (by omega)
              by_cases q3 : a_curNode (8 * 0 + lv) = a_curNode (8 * 1 + lv)
              · exact br_t q3 (nm_r (nI_1 lv) (ih (lv + 1) (nI lv) (by omega) hz' (Or.inr ⟨lv, by omega, rfl, q3⟩)))
              · refine br_f q3 (nm_r (nI_1 lv) (ih (lv + 1) x1 (by omega) hz' ?_))
                rcases hx with z | ⟨b, hb, z⟩
                · exact Or.inl z
                · exact Or.inr ⟨b, by omega, z⟩
            · exact br_f q2 (stop lv x1 (by omega) hz hx)
          · exact br_f q1 (stop lv x1 (by omega) hz hx)
      rw [hcA, hcB]
      by_cases q : hB ≤ hA
      · exact br_t (nI_le q (by omega)) (nm_e ⟨hB + 1, loop hB q (Nat.le_refl _) hB 0 (-1) (by omega) (fun j hj => by omega) (Or.inl rfl)⟩)
      · exact br_f (nI_ge (by omega) (by omega)) (nm_e ⟨hA + 1, loop hA (Nat.le_refl _) (by omega) hA 0 (-1) (by omega) (fun j hj => by omega) (Or.inl rfl)⟩)
theorem cx_cd_21 {post : SX → Prop} (H : ct_HI f_freeHead a_keys a_vals a_count a_level a_total a_refs a_bucketOf a_nextNode a_buckets N X B) {A C : List ct_E} {hA hB : Nat} (mA : ct_map A) (mC : ct_map C) (hAC : A.length + C.length ≤ 64) (hA8 : hA ≤ 8) (hB8 : hB ≤ 8) (hcA : a_curHeight 0 = nI hA) (hcB : a_curHeight 1 = nI hB)
    (hp : ∀ (cN cI cD dk da db : Nat → Int32) (D : List ct_D3), ct_ds A C D → ct_at3 dk da db D → post (f_minWidth, f_maxWidth, f_slotCount, f_limit, f_freeHead, f_inCount, f_pendCount, f_outCount, nI D.length, f_repCount, a_roots, a_keys, a_vals, a_count, a_level, a_total, a_refs, a_bucketOf, a_nextNode, a_buckets, a_stack, cN, cI, a_curHeight, cD, a_inKey, a_inVal, a_pendKey, a_pendVal, a_outKey, a_outVal, dk, da, db, a_difOurs, a_repKey, a_repVal)) :
    ∀ (f ctr : Nat) (f_difCount : Int32) (a_curNode a_curIdx a_curDone a_difKey a_difA a_difB : Nat → Int32) (PA RA PB RB : List ct_E) (D : List ct_D3), ct_cu N hA 0 a_curNode a_curIdx a_curDone RA → ct_cu N hB 1 a_curNode a_curIdx a_curDone RB → ct_dw A C PA RA PB RB D →
      f_difCount = nI D.length → ct_at3 a_difKey a_difA a_difB D → RA.length + RB.length < f → ctr + (RA.length + RB.length) ≤ 64 → wX_collectDiff_21 post f (nI ctr) f_minWidth f_maxWidth f_slotCount f_limit f_freeHead f_inCount f_pendCount f_outCount f_difCount f_repCount a_roots a_keys a_vals a_count a_level a_total a_refs a_bucketOf a_nextNode a_buckets a_stack a_curNode a_curIdx a_curHeight a_curDone a_inKey a_inVal a_pendKey a_pendVal a_outKey a_outVal a_difKey a_difA a_difB a_difOurs a_repKey a_repVal := by
  intro f
  induction f with
  | zero => intros; omega
  | succ f ih =>
    intro ctr f_difCount a_curNode a_curIdx a_curDone a_difKey a_difA a_difB PA RA PB RB D uA uB hw hD hat hf hctr
    refine br_f (nI_ge (b := 128) (by omega) (by omega)) ?_
    have go : RA ++ RB ≠ [] → wX_collectDiff_46 post (wX_collectDiff_21 post f) (nI ctr) f_minWidth f_maxWidth f_slotCount f_limit f_freeHead f_inCount f_pendCount f_outCount f_difCount f_repCount a_roots a_keys a_vals a_count a_level a_total a_refs a_bucketOf a_nextNode a_buckets a_stack a_curNode a_curIdx a_curHeight a_curDone a_inKey a_inVal a_pendKey a_pendVal a_outKey a_outVal a_difKey a_difA a_difB a_difOurs a_repKey a_repVal := by
      intro hne
      have hlen := ct_ds_len hw.2.2.2
      have e1 := congrArg List.length hw.1
      have e2 := congrArg List.length hw.2.1
      have e3 := List.length_pos_iff.mpr hne
      rw [List.length_append] at e1 e2 e3
      unfold wX_collectDiff_46
      refine cx_skipShared H mA.1 mC.1 hA8 hB8 hcA hcB uA uB hw ?_ ?_
      · refine br_t rfl ?_
        refine cx_compareHeads H mA mC hA8 hB8 hcA hcB uA uB hne hw hD hat (by omega) ?_
        intro cN cI cD dk da db PA' RA' PB' RB' D' g1 g2 g3 g4 g5
        exact nm_r (nI_1 ctr) (ih (ctr + 1) _ cN cI cD dk da db PA' RA' PB' RB' D' g1 g2 g3 rfl g4 (by omega) (by omega))
      · intro cN cI cD PA' RA' PB' RB' g1 g2 g3 g5
        exact br_f (by decide) (nm_r (nI_1 ctr) (ih (ctr + 1) _ cN cI cD _ _ _ PA' RA' PB' RB' D g1 g2 g3 hD hat (by omega) (by omega)))
    have live : ∀ (h k : Nat) (RL : List ct_E), ct_cu N h k a_curNode a_curIdx a_curDone RL → a_curDone k = 0 → RL ≠ [] := by
      intro h k RL hu hd
      rcases hu with ⟨z, _⟩ | ⟨z1, z2, R, z3, _, z5⟩
      · rw [z] at hd; exact absurd hd (by decide)
      · obtain ⟨e, t, c, i, cs, y1, y2, y3, y4, y5, y6⟩ := z3 0 (Nat.le_refl _) z2
        rw [z5, List.drop_eq_getElem_cons y5] at y6
        rw [y6, List.cons_append]
        exact List.cons_ne_nil _ _
    by_cases d0 : a_curDone 0 = 0
    · exact br_t d0 (go (fun z => live hA 0 RA uA d0 (List.append_eq_nil_iff.mp z).1))
    · refine br_f d0 ?_
      by_cases d1 : a_curDone 1 = 0
      · exact br_t d1 (go (fun z => live hB 1 RB uB d1 (List.append_eq_nil_iff.mp z).2))
      · refine br_f d1 ?_
        have eA : RA = [] := by
          rcases uA with ⟨_, z⟩ | ⟨z, _⟩
          · exact z
          · exact absurd z d0
        have eB : RB = [] := by
          rcases uB with ⟨_, z⟩ | ⟨z, _⟩
          · exact z
          · exact absurd z d1
        subst eA eB hD
        exact hp _ _ _ _ _ _ D (ct_dw_end hw) hat
theorem ct_cu_seek {Es : Nat → List ct_E} {h k : Nat} {m : List ct_E} {r : Int32} {cN0 cI0 cD0 cN cI cD : Nat → Int32} (T : ct_tr N m r Es h) (hs : ct_srt m) (hn : ∀ e ∈ m, -1 < e.1) (hf : ct_fc N m Es h k (-1) cN0 cI0 (upd cD0 k 0) cN cI cD) : ct_cu N h k cN cI cD m := by
  obtain ⟨x1, x2, x3, x4⟩ := hf
  rcases T with ⟨a1, a2, a3, a4⟩ | T
  · subst a1
    exact Or.inl ⟨by rw [x4]; rfl, rfl⟩
  · have hm := T.2.2.1
    have h0 : ct_si (-1) m = 0 := by
      match m, hm, hn with
      | a :: m, _, hn => rw [ct_si_cons, if_pos (hn a (by simp))]
    have hpos := List.length_pos_iff.mpr hm
    have hall : ¬ ct_si (-1) m = m.length := by omega
    rw [if_neg hall, pk_us] at x4
    have hE0 : Es 0 = m := T.2.1
    have hcr := ct_cr_seek (nd := fun l => cN (8 * k + l)) (ix := fun l => cI (8 * k + l)) (-1) T.2.2.2.1 (by rw [hE0]; exact hs) (by rw [hE0]; exact hm) (by rw [hE0]; exact hall) (fun l hl => x1 l hl)
    refine Or.inr ⟨x4, by have := T.1; omega, _, hcr, ?_, ?_⟩
    · obtain ⟨kk, hk⟩ := T.2.2.2.2.1
      have h1 := T.1
      have hp0 : ct_p Es (-1) h = 0 := by
        unfold ct_p
        rw [if_neg (by omega), hk]
        simp
      rw [hp0, List.drop_zero, hk]
      rfl
    · have hp0 : ct_p Es (-1) 0 = 0 := by
        unfold ct_p
        rw [if_pos rfl, hE0, h0]
      rw [hp0, List.drop_zero, hE0]
theorem ct_neg1 {m : List ct_E} (h : ct_map m) : ∀ e ∈ m, -1 < e.1 := by
  intro e he
  have := (h.2 e he).1
  exact Int32.lt_of_lt_of_le (by decide) this
theorem cx_collectDiff {post : SX → Prop} (H : ct_HI f_freeHead a_keys a_vals a_count a_level a_total a_refs a_bucketOf a_nextNode a_buckets N X B) {A C : List ct_E} {rA rC : Int32} (hA : ct_rep N A rA) (hC : ct_rep N C rC) (mA : ct_map A) (mC : ct_map C) (lA : A.length ≤ 32) (lC : C.length ≤ 32)
    (hp : ∀ (cN cI cH cD dk da db : Nat → Int32) (D : List ct_D3), ct_ds A C D → ct_at3 dk da db D → post (f_minWidth, f_maxWidth, f_slotCount, f_limit, f_freeHead, f_inCount, f_pendCount, f_outCount, nI D.length, f_repCount, a_roots, a_keys, a_vals, a_count, a_level, a_total, a_refs, a_bucketOf, a_nextNode, a_buckets, a_stack, cN, cI, cH, cD, a_inKey, a_inVal, a_pendKey, a_pendVal, a_outKey, a_outVal, dk, da, db, a_difOurs, a_repKey, a_repVal)) : wpX_collectDiff post (f_minWidth, f_maxWidth, f_slotCount, f_limit, f_freeHead, f_inCount, f_pendCount, f_outCount, f_difCount, f_repCount, a_roots, a_keys, a_vals, a_count, a_level, a_total, a_refs, a_bucketOf, a_nextNode, a_buckets, a_stack, a_curNode, a_curIdx, a_curHeight, a_curDone, a_inKey, a_inVal, a_pendKey, a_pendVal, a_outKey, a_outVal, a_difKey, a_difA, a_difB, a_difOurs, a_repKey, a_repVal) rA rC := by
  obtain ⟨EsA, hhA, TA⟩ := ct_rep_tr hA
  obtain ⟨EsC, hhC, TC⟩ := ct_rep_tr hC
  have h5 : ∀ {m : List ct_E} {r : Int32} {Es : Nat → List ct_E} {h : Nat}, ct_tr N m r Es h → m.length ≤ 32 → h ≤ 5 := by
    intro m r Es h T hm
    rcases T with ⟨a1, a2, a3, a4⟩ | T
    · omega
    · exact ct_tree_5 T hm
  have h5A := h5 TA lA
  have h5C := h5 TC lC
  unfold wpX_collectDiff
  dsimp only
  refine cx_seek (k := 0) H TA mA.1 lA (by omega) ?_
  intro cN0 cI0 cD0 f0
  refine cx_seek (k := 1) H TC mC.1 lC (by omega) ?_
  intro cN cI cD f1
  have uC := ct_cu_seek TC mC.1 (ct_neg1 mC) f1
  have uA0 := ct_cu_seek TA mA.1 (ct_neg1 mA) f0
  have uA : ct_cu N hhA 0 cN cI cD A := ct_cu_fr uA0 (by omega) (fun j j1 j2 => f1.2.1 j (by omega)) (by rw [f1.2.2.1 0 (by omega), pk_un (by omega)])
  refine ⟨A.length + C.length + 1, cx_cd_21 H mA mC (by omega) (by omega) (by omega) (show upd (upd a_curHeight 0 (nI hhA)) 1 (nI hhC) 0 = nI hhA by rw [pk_un (by omega), pk_us]) (show upd (upd a_curHeight 0 (nI hhA)) 1 (nI hhC) 1 = nI hhC from pk_us) ?_ _ 0 0 cN cI cD _ _ _ [] A [] C [] uA uC (ct_dw_0 A C) rfl ct_at3_nil (by omega) (by omega)⟩
  intro cN' cI' cD' dk da db D g1 g2
  exact hp cN' cI' _ cD' dk da db D g1 g2
end
end
section
/-! edits of a merge, purely -/
abbrev ct_D4 : Type := Int32 × Int32 × Int32 × Int32
theorem ct_len_split {m : List ct_E} (hs : ct_srt m) (k : Int32) : m.length = (m.filter (fun e => decide (e.1 < k))).length + (m.filter (fun e => decide (k < e.1))).length + (if ct_get m k = 0 ∧ ∀ e ∈ m, e.1 ≠ k then 0 else if ∃ e ∈ m, e.1 = k then 1 else 0) := by
  induction m with
  | nil => simp [ct_get]
  | cons a m ih =>
    have h1 := List.pairwise_cons.mp hs
    have ih := ih h1.2
    rcases Int32.lt_or_le a.1 k with h | h
    · have e1 : ct_get (a :: m) k = ct_get m k := ct_get_cons' (Int32.ne_of_lt h)
      have e2 : (∀ e ∈ a :: m, e.1 ≠ k) ↔ ∀ e ∈ m, e.1 ≠ k := by
        constructor
        · intro w e he; exact w e (by simp [he])
        · intro w e he
          rcases List.mem_cons.mp he with y | y
          · rw [y]; exact Int32.ne_of_lt h
          · exact w e y
      have e3 : (∃ e ∈ a :: m, e.1 = k) ↔ ∃ e ∈ m, e.1 = k := by
        constructor
        · rintro ⟨e, he, hk⟩
          rcases List.mem_cons.mp he with y | y
          · rw [y] at hk; exact absurd hk (Int32.ne_of_lt h)
          · exact ⟨e, y, hk⟩
        · rintro ⟨e, he, hk⟩; exact ⟨e, by simp [he], hk⟩
      rw [List.filter_cons_of_pos (by simpa using h), List.filter_cons_of_neg (by simpa using Int32.le_of_lt h), List.length_cons, List.length_cons, e1]
      simp only [e2, e3]
      omega
    · rcases Int32.lt_or_eq_of_le h with h2 | h2
      · have hne : ∀ e ∈ a :: m, e.1 ≠ k := by
          intro e he w
          rcases List.mem_cons.mp he with y | y
          · rw [y] at w; exact Int32.ne_of_lt h2 w.symm
          · have := Int32.lt_trans h2 (h1.1 e y)
            exact Int32.ne_of_lt this w.symm
        have z1 : (a :: m).filter (fun e => decide (e.1 < k)) = [] := by
          rw [List.filter_eq_nil_iff]
          intro e he
          rw [decide_eq_true_eq]
          rcases List.mem_cons.mp he with y | y
          · rw [y]; exact Int32.lt_asymm h2
          · exact Int32.lt_asymm (Int32.lt_trans h2 (h1.1 e y))
        have z2 : (a :: m).filter (fun e => decide (k < e.1)) = a :: m := by
          rw [List.filter_eq_self]
          intro e he
          rw [decide_eq_true_eq]
          rcases List.mem_cons.mp he with y | y
          · rw [y]; exact h2
          · exact Int32.lt_trans h2 (h1.1 e y)
        rw [z1, z2, if_pos ⟨ct_get_none hne, hne⟩]
        simp
      · have z1 : (a :: m).filter (fun e => decide (e.1 < k)) = [] := by
          rw [List.filter_eq_nil_iff]
          intro e he
          rw [decide_eq_true_eq]
          rcases List.mem_cons.mp he with y | y
          · rw [y, h2]; exact Int32.lt_irrefl
          · rw [h2]; exact Int32.lt_asymm (h1.1 e y)
        have z2 : (a :: m).filter (fun e => decide (k < e.1)) = m := by
          rw [List.filter_cons_of_neg (by rw [h2]; simp)]
          rw [List.filter_eq_self]
          intro e he
          rw [decide_eq_true_eq, h2]
          exact h1.1 e he
        rw [z1, z2, if_neg (fun w => w.2 a (by simp) h2.symm), if_pos ⟨a, by simp, h2.symm⟩]
        simp
theorem ct_len_get {m : List ct_E} (hm : ct_map m) (k : Int32) : m.length = (m.filter (fun e => decide (e.1 < k))).length + (m.filter (fun e => decide (k < e.1))).length + (if ct_get m k = 0 then 0 else 1) := by
  have h := ct_len_split hm.1 k
  by_cases z : ct_get m k = 0
  · have hne : ∀ e ∈ m, e.1 ≠ k := by
      intro e he w
      have := ct_get_mem hm.1 (k := k) (v := e.2) (by rw [← w]; exact he)
      rw [z] at this
      exact ct_map_nz hm he this.symm
    rw [if_pos ⟨z, hne⟩] at h
    rw [if_pos z]
    exact h
  · obtain ⟨e, he, hk⟩ : ∃ e ∈ m, e.1 = k := ⟨_, ct_mem_get z, rfl⟩
    rw [if_neg (fun w => z w.1), if_pos ⟨e, he, hk⟩] at h
    rw [if_neg z]
    exact h
theorem ct_set_len {m : List ct_E} (hm : ct_map m) (k v : Int32) : (ct_set m k v).length + (if ct_get m k = 0 then 0 else 1) = m.length + (if v = 0 then 0 else 1) := by
  have h := ct_len_get hm k
  unfold ct_set ct_rng ct_one
  rw [List.length_append, List.length_append]
  by_cases z : v = 0
  · rw [if_pos z, if_pos z]
    simp only [List.length_nil]
    omega
  · rw [if_neg z, if_neg z]
    simp only [List.length_cons, List.length_nil]
    omega
def ct_cd (mo : List ct_E) (rm : Bool) (x : ct_D3) : Bool := decide (ct_get mo x.1 = x.2.1) && (decide (x.2.2 = 0) == rm)
def ct_app (mo : List ct_E) (rm : Bool) (D : List ct_D3) (m : List ct_E) : List ct_E := D.foldl (fun m x => if ct_cd mo rm x = true then ct_set m x.1 x.2.2 else m) m
def ct_nn (D : List ct_D3) : Prop := ∀ x ∈ D, 0 ≤ x.1 ∧ 0 ≤ x.2.1 ∧ 0 ≤ x.2.2
theorem ct_app_snoc (mo : List ct_E) (rm : Bool) (D : List ct_D3) (x : ct_D3) (m : List ct_E) : ct_app mo rm (D ++ [x]) m = if ct_cd mo rm x = true then ct_set (ct_app mo rm D m) x.1 x.2.2 else ct_app mo rm D m := by
  unfold ct_app
  rw [List.foldl_append]
  rfl
theorem ct_app_map {mo : List ct_E} {rm : Bool} : ∀ {D : List ct_D3} {m : List ct_E}, ct_nn D → ct_map m → ct_map (ct_app mo rm D m)
  | [], _, _, h => h
  | x :: D, m, hD, h => by
    show ct_map (ct_app mo rm D (if ct_cd mo rm x = true then ct_set m x.1 x.2.2 else m))
    refine ct_app_map (fun y hy => hD y (by simp [hy])) ?_
    have := hD x (by simp)
    by_cases z : ct_cd mo rm x = true
    · rw [if_pos z]; exact ct_set_map h this.1 this.2.2
    · rw [if_neg z]; exact h
theorem ct_app_no {mo : List ct_E} {rm : Bool} {k : Int32} : ∀ {D : List ct_D3} {m : List ct_E}, ct_nn D → (∀ x ∈ D, x.1 = k → ¬ ct_cd mo rm x = true) → ct_get (ct_app mo rm D m) k = ct_get m k
  | [], _, _, _ => rfl
  | x :: D, m, hD, h => by
    show ct_get (ct_app mo rm D (if ct_cd mo rm x = true then ct_set m x.1 x.2.2 else m)) k = _
    rw [ct_app_no (fun y hy => hD y (by simp [hy])) (fun y hy => h y (by simp [hy]))]
    have hx := hD x (by simp)
    by_cases z : ct_cd mo rm x = true
    · rw [if_pos z, ct_set_get hx.1 hx.2.2, if_neg]
      intro w
      exact h x (by simp) w.symm z
    · rw [if_neg z]
theorem ct_app_yes {mo : List ct_E} {rm : Bool} {y : ct_D3} : ∀ {D : List ct_D3} {m : List ct_E}, ct_nn D → ct_srt D → y ∈ D → ct_cd mo rm y = true → ct_get (ct_app mo rm D m) y.1 = y.2.2
  | [], _, _, _, h, _ => by simp at h
  | x :: D, m, hD, hs, hy, hc => by
    show ct_get (ct_app mo rm D (if ct_cd mo rm x = true then ct_set m x.1 x.2.2 else m)) y.1 = _
    have h1 := List.pairwise_cons.mp hs
    have hD' : ct_nn D := fun z hz => hD z (by simp [hz])
    rcases List.mem_cons.mp hy with w | w
    · subst w
      have hx := hD y (by simp)
      rw [ct_app_no hD' (fun z hz hk => absurd (h1.1 z hz) (by rw [hk]; exact Int32.lt_irrefl)), if_pos hc, ct_set_get hx.1 hx.2.2, if_pos rfl]
    · exact ct_app_yes hD' h1.2 w hc
theorem ct_app_len {mo : List ct_E} {rm : Bool} : ∀ {D : List ct_D3} {m : List ct_E}, ct_nn D → ct_srt D → ct_map m → (∀ x ∈ D, ct_cd mo rm x = true → ct_get m x.1 = x.2.1) →
    (ct_app mo rm D m).length + D.countP (fun x => ct_cd mo rm x && decide (x.2.1 ≠ 0)) = m.length + D.countP (fun x => ct_cd mo rm x && decide (x.2.2 ≠ 0))
  | [], _, _, _, _, _ => rfl
  | x :: D, m, hD, hs, hm, hg => by
    show (ct_app mo rm D (if ct_cd mo rm x = true then ct_set m x.1 x.2.2 else m)).length + _ = _
    have h1 := List.pairwise_cons.mp hs
    have hD' : ct_nn D := fun z hz => hD z (by simp [hz])
    have hx := hD x (by simp)
    rw [List.countP_cons, List.countP_cons]
    by_cases z : ct_cd mo rm x = true
    · rw [if_pos z]
      have ih := ct_app_len (mo := mo) (rm := rm) (D := D) (m := ct_set m x.1 x.2.2) hD' h1.2 (ct_set_map hm hx.1 hx.2.2) (by
        intro y hy hc
        rw [ct_set_get hx.1 hx.2.2, if_neg]
        · exact hg y (by simp [hy]) hc
        · intro w
          have := h1.1 y hy
          rw [w] at this
          exact Int32.lt_irrefl this)
      have hl := ct_set_len hm x.1 x.2.2
      rw [hg x (by simp) z] at hl
      rw [z, Bool.true_and, Bool.true_and]
      generalize (ct_app mo rm D (ct_set m x.1 x.2.2)).length = L1 at ih ⊢
      generalize D.countP (fun x => ct_cd mo rm x && decide (x.2.1 ≠ 0)) = c1 at ih ⊢
      generalize D.countP (fun x => ct_cd mo rm x && decide (x.2.2 ≠ 0)) = c2 at ih ⊢
      generalize (ct_set m x.1 x.2.2).length = L2 at ih hl
      by_cases a : x.2.1 = 0
      · by_cases b : x.2.2 = 0
        · simp [a, b] at hl ⊢
          omega
        · simp [a, b] at hl ⊢
          omega
      · by_cases b : x.2.2 = 0
        · simp [a, b] at hl ⊢
          omega
        · simp [a, b] at hl ⊢
          omega
    · rw [if_neg z]
      have ih := ct_app_len (mo := mo) (rm := rm) (D := D) (m := m) hD' h1.2 hm (fun y hy hc => hg y (by simp [hy]) hc)
      have zf : ct_cd mo rm x = false := by simpa using z
      rw [zf, Bool.false_and, Bool.false_and]
      simp only [Bool.false_eq_true, if_false, Nat.add_zero]
      exact ih
def ct_mv (b o t : Int32) : Int32 := if o = t then o else if o = b then t else o
/-- the merged map as the component builds it -/
def ct_mg (mo : List ct_E) (D : List ct_D3) : List ct_E := ct_app mo false D (ct_app mo true D mo)
theorem ct_ds_nn {A B : List ct_E} {D : List ct_D3} (h : ct_ds A B D) (hA : ct_map A) (hB : ct_map B) : ct_nn D := by
  rintro ⟨k, a, b⟩ hx
  obtain ⟨e, he, hk⟩ := ct_ds_key h hx
  obtain ⟨h1, h2, h3⟩ := (h.2 k a b).mp hx
  refine ⟨?_, ?_, ?_⟩
  · dsimp only at hk ⊢
    rw [← hk]
    rcases List.mem_append.mp he with w | w
    · exact (hA.2 e w).1
    · exact (hB.2 e w).1
  · show 0 ≤ a
    rw [h1]; exact ct_get_nn hA k
  · show 0 ≤ b
    rw [h2]; exact ct_get_nn hB k
theorem ct_mg_mid {mo : List ct_E} {D : List ct_D3} (hD : ct_nn D) (hs : ct_srt D) {x : ct_D3} (hx : x ∈ D) (hc : ct_cd mo false x = true) : ct_get (ct_app mo true D mo) x.1 = x.2.1 := by
  unfold ct_cd at hc
  rw [Bool.and_eq_true, decide_eq_true_eq] at hc
  rw [ct_app_no hD]
  · exact hc.1
  · intro y hy hk w
    have := ct_srt_key hs hy hx hk
    subst this
    unfold ct_cd at w
    rw [Bool.and_eq_true] at w
    have h1 := hc.2
    have h2 := w.2
    simp at h1 h2
    exact h1 h2
theorem ct_mg_map {mo : List ct_E} {D : List ct_D3} (hD : ct_nn D) (hm : ct_map mo) : ct_map (ct_mg mo D) := ct_app_map hD (ct_app_map hD hm)
theorem ct_mg_get {A mo B : List ct_E} {D : List ct_D3} (h : ct_ds A B D) (hA : ct_map A) (hB : ct_map B) (k : Int32) : ct_get (ct_mg mo D) k = ct_mv (ct_get A k) (ct_get mo k) (ct_get B k) := by
  have hD := ct_ds_nn h hA hB
  unfold ct_mg ct_mv
  by_cases q : ct_get A k = ct_get B k
  · have hno : ∀ rm, ∀ x ∈ D, x.1 = k → ¬ ct_cd mo rm x = true := by
      rintro rm ⟨k', a, b⟩ hx hk
      obtain ⟨h1, h2, h3⟩ := (h.2 k' a b).mp hx
      dsimp only at hk
      subst hk
      exact absurd (h1.trans (q.trans h2.symm)) h3
    rw [ct_app_no hD (hno false), ct_app_no hD (hno true), q]
    by_cases z : ct_get mo k = ct_get B k
    · rw [if_pos z]
    · rw [if_neg z, if_neg z]
  · have hx : (k, ct_get A k, ct_get B k) ∈ D := (h.2 _ _ _).mpr ⟨rfl, rfl, q⟩
    have huni : ∀ y ∈ D, y.1 = k → y = (k, ct_get A k, ct_get B k) := fun y hy hk => ct_srt_key h.1 hy hx hk
    by_cases z : ct_get mo k = ct_get A k
    · have hne : ¬ ct_get mo k = ct_get B k := fun w => q (z.symm.trans w)
      rw [if_neg hne, if_pos z]
      by_cases w : ct_get B k = 0
      · have c1 : ct_cd mo true (k, ct_get A k, ct_get B k) = true := by unfold ct_cd; simp [z, w]
        have c2 : ∀ y ∈ D, y.1 = k → ¬ ct_cd mo false y = true := by
          intro y hy hk
          rw [huni y hy hk]
          unfold ct_cd
          simp [w]
        rw [ct_app_no hD c2]
        exact ct_app_yes hD h.1 hx c1
      · have c1 : ct_cd mo false (k, ct_get A k, ct_get B k) = true := by unfold ct_cd; simp [z, w]
        exact ct_app_yes hD h.1 hx c1
    · have hno : ∀ rm, ∀ x ∈ D, x.1 = k → ¬ ct_cd mo rm x = true := by
        intro rm y hy hk
        rw [huni y hy hk]
        unfold ct_cd
        simp [z]
      rw [ct_app_no hD (hno false), ct_app_no hD (hno true)]
      by_cases w : ct_get mo k = ct_get B k
      · rw [if_pos w]
      · rw [if_neg w, if_neg z]
/-- sizes: q removals, p additions -/
def ct_np (mo : List ct_E) (D : List ct_D3) : Nat := D.countP (fun x => decide (ct_get mo x.1 = x.2.1) && decide (ct_get mo x.1 = 0))
def ct_nq (mo : List ct_E) (D : List ct_D3) : Nat := D.countP (fun x => decide (ct_get mo x.1 = x.2.1) && decide (x.2.2 = 0))
theorem ct_app_t {mo m : List ct_E} {D : List ct_D3} (hD : ct_nn D) (hs : ct_srt D) (hm : ct_map mo) (hne : ∀ x ∈ D, x.2.1 ≠ x.2.2) : (ct_app mo true D mo).length + ct_nq mo D = mo.length := by
  have h := ct_app_len (mo := mo) (rm := true) hD hs hm (by
    intro x hx hc
    unfold ct_cd at hc
    rw [Bool.and_eq_true, decide_eq_true_eq] at hc
    exact hc.1)
  have e1 : D.countP (fun x => ct_cd mo true x && decide (x.2.1 ≠ 0)) = ct_nq mo D := by
    apply List.countP_congr
    intro x hx
    have := hne x hx
    unfold ct_cd
    by_cases z : x.2.2 = 0
    · have : x.2.1 ≠ 0 := fun w => this (w.trans z.symm)
      simp [z, this]
    · simp [z]
  have e2 : D.countP (fun x => ct_cd mo true x && decide (x.2.2 ≠ 0)) = 0 := by
    rw [List.countP_eq_zero]
    intro x hx
    unfold ct_cd
    by_cases z : x.2.2 = 0
    · simp [z]
    · simp [z]
  rw [e1, e2] at h
  omega
theorem ct_app_f {mo m1 : List ct_E} {D : List ct_D3} (hD : ct_nn D) (hs : ct_srt D) (hm : ct_map m1) (hne : ∀ x ∈ D, x.2.1 ≠ x.2.2) (hg : ∀ x ∈ D, ct_cd mo false x = true → ct_get m1 x.1 = x.2.1) : (ct_app mo false D m1).length = m1.length + ct_np mo D := by
  have h := ct_app_len (mo := mo) (rm := false) hD hs hm hg
  have e1 : D.countP (fun x => ct_cd mo false x && decide (x.2.2 ≠ 0)) = D.countP (fun x => ct_cd mo false x && decide (x.2.1 ≠ 0)) + ct_np mo D := by
    clear h hg hs hD
    unfold ct_np
    induction D with
    | nil => rfl
    | cons x D ih =>
      have ih := ih (fun y hy => hne y (by simp [hy]))
      have := hne x (by simp)
      rw [List.countP_cons, List.countP_cons, List.countP_cons, ih]
      unfold ct_cd
      by_cases z : x.2.2 = 0
      · have w : x.2.1 ≠ 0 := fun w => this (w.trans z.symm)
        by_cases y : ct_get mo x.1 = x.2.1
        · simp [z, y, w]
        · simp [z, y]
      · by_cases y : ct_get mo x.1 = x.2.1
        · by_cases w : x.2.1 = 0
          · simp [z, y, w]; omega
          · simp [z, y, w]; omega
        · simp [y]
  rw [e1] at h
  omega
theorem ct_mg_len {mo : List ct_E} {D : List ct_D3} (hD : ct_nn D) (hs : ct_srt D) (hm : ct_map mo) (hne : ∀ x ∈ D, x.2.1 ≠ x.2.2) : (ct_mg mo D).length + ct_nq mo D = mo.length + ct_np mo D := by
  have h1 := ct_app_t (m := mo) hD hs hm hne
  have h2 := ct_app_f (mo := mo) (m1 := ct_app mo true D mo) hD hs (ct_app_map hD hm) hne (fun x hx hc => ct_mg_mid hD hs hx hc)
  unfold ct_mg
  omega
theorem ct_ds_ne {A B : List ct_E} {D : List ct_D3} (h : ct_ds A B D) : ∀ x ∈ D, x.2.1 ≠ x.2.2 := by
  rintro ⟨k, a, b⟩ hx
  exact ((h.2 k a b).mp hx).2.2
/-- conflicts -/
def ct_cs (A O T : List ct_E) (C : List ct_D4) : Prop := ct_srt C ∧ ∀ k x y z, (k, x, y, z) ∈ C ↔ x = ct_get A k ∧ y = ct_get O k ∧ z = ct_get T k ∧ x ≠ y ∧ y ≠ z ∧ x ≠ z
theorem ct_cs_uniq {A O T : List ct_E} {C C' : List ct_D4} (h : ct_cs A O T C) (h' : ct_cs A O T C') : C = C' :=
  ct_srt_ext h.1 h'.1 (fun x => by obtain ⟨k, a, b, c⟩ := x; rw [h.2, h'.2])
def ct_cx (mo : List ct_E) (D : List ct_D3) : List ct_D4 := (D.filter (fun x => decide (ct_get mo x.1 ≠ x.2.1) && decide (ct_get mo x.1 ≠ x.2.2))).map (fun x => (x.1, x.2.1, ct_get mo x.1, x.2.2))
theorem ct_cx_cs {A mo B : List ct_E} {D : List ct_D3} (h : ct_ds A B D) : ct_cs A mo B (ct_cx mo D) := by
  refine ⟨List.pairwise_map.mpr (h.1.filter _), ?_⟩
  intro k x y z
  unfold ct_cx
  rw [List.mem_map]
  constructor
  · rintro ⟨⟨k', a, b⟩, hx, e⟩
    rw [List.mem_filter, Bool.and_eq_true, decide_eq_true_eq, decide_eq_true_eq] at hx
    obtain ⟨h1, h2, h3⟩ := (h.2 k' a b).mp hx.1
    simp only [Prod.mk.injEq] at e
    obtain ⟨e1, e2, e3, e4⟩ := e
    subst e1 e2 e3 e4
    exact ⟨h1, rfl, h2, Ne.symm hx.2.1, hx.2.2, h3⟩
  · rintro ⟨e1, e2, e3, e4, e5, e6⟩
    refine ⟨(k, x, z), ?_, by rw [e2]⟩
    rw [List.mem_filter, Bool.and_eq_true, decide_eq_true_eq, decide_eq_true_eq]
    exact ⟨(h.2 _ _ _).mpr ⟨e1, e3, e6⟩, by rw [← e2]; exact Ne.symm e4, by rw [← e2]; exact e5⟩
end
section
/-! report, weighAgainst, applyEdits -/
def ct_rpx (rk rv : Nat → Int32) (rp : List ct_D4) : Prop := ∀ i (h : i < rp.length), rk i = (rp[i]).1 ∧ rv (i * 4) = (rp[i]).2.1 ∧ rv (i * 4 + 1) = (rp[i]).2.2.1 ∧ rv (i * 4 + 2) = (rp[i]).2.2.2
theorem ct_rpx_nil {rk rv : Nat → Int32} : ct_rpx rk rv [] := fun i h => absurd h (by simp)
theorem ct_rpx_snoc {rk rv : Nat → Int32} {rp : List ct_D4} (H : ct_rpx rk rv rp) (k x y z : Int32) :
    ct_rpx (upd rk rp.length k) (upd (upd (upd rv (rp.length * 4) x) (rp.length * 4 + 1) y) (rp.length * 4 + 2) z) (rp ++ [(k, x, y, z)]) := by
  intro i h
  rw [List.length_append, List.length_singleton] at h
  by_cases w : i = rp.length
  · subst w
    have hg : (rp ++ [(k, x, y, z)])[rp.length]'(by simp) = (k, x, y, z) := by simp
    rw [hg]
    refine ⟨pk_us, ?_, ?_, pk_us⟩
    · rw [pk_un (by omega), pk_un (by omega), pk_us]
    · rw [pk_un (by omega), pk_us]
  · rw [List.getElem_append_left (by omega)]
    obtain ⟨a1, a2, a3, a4⟩ := H i (by omega)
    refine ⟨?_, ?_, ?_, ?_⟩
    · rw [pk_un w]; exact a1
    · rw [pk_un (by omega), pk_un (by omega), pk_un (by omega)]; exact a2
    · rw [pk_un (by omega), pk_un (by omega), pk_un (by omega)]; exact a3
    · rw [pk_un (by omega), pk_un (by omega), pk_un (by omega)]; exact a4
section
variable {f_minWidth f_maxWidth f_slotCount f_limit f_freeHead f_inCount f_pendCount f_outCount f_difCount f_repCount : Int32} {a_roots a_keys a_vals a_count a_level a_total a_refs a_bucketOf a_nextNode a_buckets a_stack a_curNode a_curIdx a_curHeight a_curDone a_inKey a_inVal a_pendKey a_pendVal a_outKey a_outVal a_difKey a_difA a_difB a_difOurs a_repKey a_repVal : Nat → Int32} {N : ct_N} {X : List Int32} {B : Nat}
theorem cx_report {post : SX → Prop} {rp : List ct_D4} {k x y z : Int32} (hc : f_repCount = nI rp.length) (hr : ct_rpx a_repKey a_repVal rp) (h64 : rp.length < 64)
    (hp : ∀ rk rv, ct_rpx rk rv (rp ++ [(k, x, y, z)]) → post (f_minWidth, f_maxWidth, f_slotCount, f_limit, f_freeHead, f_inCount, f_pendCount, f_outCount, f_difCount, nI (rp ++ [(k, x, y, z)]).length, a_roots, a_keys, a_vals, a_count, a_level, a_total, a_refs, a_bucketOf, a_nextNode, a_buckets, a_stack, a_curNode, a_curIdx, a_curHeight, a_curDone, a_inKey, a_inVal, a_pendKey, a_pendVal, a_outKey, a_outVal, a_difKey, a_difA, a_difB, a_difOurs, rk, rv)) : wpX_report post (f_minWidth, f_maxWidth, f_slotCount, f_limit, f_freeHead, f_inCount, f_pendCount, f_outCount, f_difCount, f_repCount, a_roots, a_keys, a_vals, a_count, a_level, a_total, a_refs, a_bucketOf, a_nextNode, a_buckets, a_stack, a_curNode, a_curIdx, a_curHeight, a_curDone, a_inKey, a_inVal, a_pendKey, a_pendVal, a_outKey, a_outVal, a_difKey, a_difA, a_difB, a_difOurs, a_repKey, a_repVal) k x y z := by
  subst hc
  have e0 : nI rp.length <<< ((2 : Int32) &&& 31) = nI (rp.length * 4) := by rw [pk_shlN _ 2 (by decide) (by omega)]
  have e1 : nI (rp.length * 4) + 1 = nI (rp.length * 4 + 1) := nI_1 _
  have e2 : nI (rp.length * 4) + 2 = nI (rp.length * 4 + 2) := nI_add _ 2
  have cl := nI_clamp (n := rp.length) (by omega)
  have cl0 := nI_clamp (n := rp.length * 4) (by omega)
  have cl1 := nI_clamp (n := rp.length * 4 + 1) (by omega)
  have cl2 := nI_clamp (n := rp.length * 4 + 2) (by omega)
  unfold wpX_report
  dsimp only
  refine nm_r e0 ⟨vp_in_nI (by omega) (by omega), nm_r (e' := upd a_repKey rp.length k) (by rw [cl]) ⟨vp_in_nI (by omega) (by omega), nm_r (e' := upd a_repVal (rp.length * 4) x) (by rw [cl0]) ⟨by rw [e1]; exact vp_in_nI (by omega) (by omega), nm_r (e' := upd (upd a_repVal (rp.length * 4) x) (rp.length * 4 + 1) y) (by rw [e1, cl1]) ⟨by rw [e2]; exact vp_in_nI (by omega) (by omega),
    nm_r (e' := upd (upd (upd a_repVal (rp.length * 4) x) (rp.length * 4 + 1) y) (rp.length * 4 + 2) z) (by rw [e2, cl2]) (nm_r (e' := nI (rp ++ [(k, x, y, z)]).length) (by rw [nI_1, List.length_append]; rfl) (hp _ _ (ct_rpx_snoc hr k x y z)))⟩⟩⟩⟩
theorem cx_df_41 {post : Int32 → SX → Prop} {D : List ct_D3} (hD : f_difCount = nI D.length) (hat : ct_at3 a_difKey a_difA a_difB D) (h64 : D.length ≤ 64)
    (hp : ∀ rk rv, ct_rpx rk rv (D.map (fun x => (x.1, x.2.1, x.2.2, (0 : Int32)))) → post (nI (D.map (fun x => (x.1, x.2.1, x.2.2, (0 : Int32)))).length) (f_minWidth, f_maxWidth, f_slotCount, f_limit, f_freeHead, f_inCount, f_pendCount, f_outCount, f_difCount, nI (D.map (fun x => (x.1, x.2.1, x.2.2, (0 : Int32)))).length, a_roots, a_keys, a_vals, a_count, a_level, a_total, a_refs, a_bucketOf, a_nextNode, a_buckets, a_stack, a_curNode, a_curIdx, a_curHeight, a_curDone, a_inKey, a_inVal, a_pendKey, a_pendVal, a_outKey, a_outVal, a_difKey, a_difA, a_difB, a_difOurs, rk, rv)) :
    ∀ (d i : Nat) (f_repCount : Int32) (a_repKey a_repVal : Nat → Int32), i + d = D.length → f_repCount = nI ((D.take i).map (fun x => (x.1, x.2.1, x.2.2, (0 : Int32)))).length → ct_rpx a_repKey a_repVal ((D.take i).map (fun x => (x.1, x.2.1, x.2.2, (0 : Int32)))) → wX_diff_41 post (d + 1) (nI i) f_minWidth f_maxWidth f_slotCount f_limit f_freeHead f_inCount f_pendCount f_outCount f_difCount f_repCount a_roots a_keys a_vals a_count a_level a_total a_refs a_bucketOf a_nextNode a_buckets a_stack a_curNode a_curIdx a_curHeight a_curDone a_inKey a_inVal a_pendKey a_pendVal a_outKey a_outVal a_difKey a_difA a_difB a_difOurs a_repKey a_repVal := by
  subst hD
  intro d
  induction d with
  | zero =>
    intro i f_repCount a_repKey a_repVal hi hc hr
    have : i = D.length := by omega
    subst this
    rw [List.take_length] at hc hr
    subst hc
    exact br_t (Int32.le_refl _) (hp _ _ hr)
  | succ d ih =>
    intro i f_repCount a_repKey a_repVal hi hc hr
    have q : i < D.length := by omega
    have hv : vp_in (nI i) 64 := vp_in_nI (by omega) (by omega)
    have htk : D.take (i + 1) = D.take i ++ [D[i]] := by rw [List.take_succ_eq_append_getElem q]
    obtain ⟨h1, h2, h3⟩ := hat i q
    refine br_f (nI_ge (by omega) (by omega)) ⟨hv, hv, hv, ?_⟩
    rw [nI_clamp (by omega), h1, h2, h3]
    refine cx_report hc hr (by rw [List.length_map, List.length_take]; omega) ?_
    intro rk rv hr'
    have e : (D.take i).map (fun x => (x.1, x.2.1, x.2.2, (0 : Int32))) ++ [((D[i]).1, (D[i]).2.1, (D[i]).2.2, (0 : Int32))] = (D.take (i + 1)).map (fun x => (x.1, x.2.1, x.2.2, (0 : Int32))) := by rw [htk, List.map_append]; rfl
    rw [e] at hr'
    exact nm_r (nI_1 i) (ih (i + 1) _ _ _ (by omega) (by rw [← e]) hr')
theorem cx_mg_132 {post : Int32 → SX → Prop} {D : List ct_D3} {mo : List ct_E} (hD : f_difCount = nI D.length) (hat : ct_at3 a_difKey a_difA a_difB D) (hou : ∀ i (h : i < D.length), a_difOurs i = ct_get mo (D[i]).1) (h64 : D.length ≤ 64)
    (hp : ∀ rk rv, ct_rpx rk rv (ct_cx mo D) → post (nI (ct_cx mo D).length) (f_minWidth, f_maxWidth, f_slotCount, f_limit, f_freeHead, f_inCount, f_pendCount, f_outCount, f_difCount, nI (ct_cx mo D).length, a_roots, a_keys, a_vals, a_count, a_level, a_total, a_refs, a_bucketOf, a_nextNode, a_buckets, a_stack, a_curNode, a_curIdx, a_curHeight, a_curDone, a_inKey, a_inVal, a_pendKey, a_pendVal, a_outKey, a_outVal, a_difKey, a_difA, a_difB, a_difOurs, rk, rv)) :
    ∀ (d i : Nat) (f_repCount : Int32) (a_repKey a_repVal : Nat → Int32), i + d = D.length → f_repCount = nI (ct_cx mo (D.take i)).length → ct_rpx a_repKey a_repVal (ct_cx mo (D.take i)) → wX_merge_132 post (d + 1) (nI i) f_minWidth f_maxWidth f_slotCount f_limit f_freeHead f_inCount f_pendCount f_outCount f_difCount f_repCount a_roots a_keys a_vals a_count a_level a_total a_refs a_bucketOf a_nextNode a_buckets a_stack a_curNode a_curIdx a_curHeight a_curDone a_inKey a_inVal a_pendKey a_pendVal a_outKey a_outVal a_difKey a_difA a_difB a_difOurs a_repKey a_repVal := by
  subst hD
  intro d
  induction d with
  | zero =>
    intro i f_repCount a_repKey a_repVal hi hc hr
    have : i = D.length := by omega
    subst this
    rw [List.take_length] at hc hr
    subst hc
    exact br_t (Int32.le_refl _) (hp _ _ hr)
  | succ d ih =>
    intro i f_repCount a_repKey a_repVal hi hc hr
    have q : i < D.length := by omega
    have hv : vp_in (nI i) 64 := vp_in_nI (by omega) (by omega)
    have htk : D.take (i + 1) = D.take i ++ [D[i]] := by rw [List.take_succ_eq_append_getElem q]
    obtain ⟨h1, h2, h3⟩ := hat i q
    have h4 := hou i q
    have hcx : ct_cx mo (D.take (i + 1)) = ct_cx mo (D.take i) ++ (if ct_get mo (D[i]).1 ≠ (D[i]).2.1 ∧ ct_get mo (D[i]).1 ≠ (D[i]).2.2 then [((D[i]).1, (D[i]).2.1, ct_get mo (D[i]).1, (D[i]).2.2)] else []) := by
      unfold ct_cx
      rw [htk, List.filter_append, List.map_append]
      congr 1
      by_cases z : ct_get mo (D[i]).1 ≠ (D[i]).2.1 ∧ ct_get mo (D[i]).1 ≠ (D[i]).2.2
      · rw [if_pos z, List.filter_cons_of_pos (by simp [z.1, z.2])]
        rfl
      · rw [if_neg z, List.filter_cons_of_neg (by simpa using z)]
        rfl
    have hlen : (ct_cx mo (D.take i)).length ≤ i := by
      unfold ct_cx
      rw [List.length_map]
      refine Nat.le_trans (List.length_filter_le _ _) ?_
      rw [List.length_take]
      omega
    refine br_f (nI_ge (by omega) (by omega)) ⟨hv, nm_r (e' := ct_get mo (D[i]).1) (by rw [nI_clamp (by omega)]; exact h4) ⟨hv, ?_⟩⟩
    rw [nI_clamp (by omega), h1, h2, h3]
    by_cases z1 : ct_get mo (D[i]).1 = (D[i]).2.1
    · rw [if_neg (fun w => w.1 z1), List.append_nil] at hcx
      exact br_t z1 (nm_r (nI_1 i) (ih (i + 1) _ _ _ (by omega) (by rw [hcx]; exact hc) (by rw [hcx]; exact hr)))
    · refine br_f z1 ⟨hv, ?_⟩
      by_cases z2 : ct_get mo (D[i]).1 = (D[i]).2.2
      · rw [if_neg (fun w => w.2 z2), List.append_nil] at hcx
        exact br_t z2 (nm_r (nI_1 i) (ih (i + 1) _ _ _ (by omega) (by rw [hcx]; exact hc) (by rw [hcx]; exact hr)))
      · rw [if_pos ⟨z1, z2⟩] at hcx
        refine br_f z2 ⟨hv, hv, hv, ?_⟩
        refine cx_report hc hr (by omega) ?_
        intro rk rv hr'
        rw [← hcx] at hr'
        exact nm_r (nI_1 i) (ih (i + 1) _ _ _ (by omega) (by rw [hcx]) hr')
theorem ct_i32a (a b : Int32) : a - b + 1 = (a + 1) - b := by
  rw [Int32.sub_eq_add_neg, Int32.sub_eq_add_neg, Int32.add_assoc, Int32.add_comm (-b) 1, ← Int32.add_assoc]
theorem ct_i32b (p q : Nat) : nI p - nI q + (-1) = nI p - nI (q + 1) := by
  rw [← nI_1, Int32.sub_eq_add_neg, Int32.sub_eq_add_neg, Int32.neg_add, Int32.add_assoc, Int32.sub_eq_add_neg]
theorem cx_weigh {post : Int32 → SX → Prop} (H : ct_HI f_freeHead a_keys a_vals a_count a_level a_total a_refs a_bucketOf a_nextNode a_buckets N X B) {D : List ct_D3} {mo : List ct_E} {r : Int32} (hr : ct_rep N mo r) (hs : ct_srt mo) (hD : f_difCount = nI D.length) (hat : ct_at3 a_difKey a_difA a_difB D) (hnn : ct_nn D) (h64 : D.length ≤ 64)
    (hp : ∀ ou, (∀ i (h : i < D.length), ou i = ct_get mo (D[i]).1) → post (nI (ct_np mo D) - nI (ct_nq mo D)) (f_minWidth, f_maxWidth, f_slotCount, f_limit, f_freeHead, f_inCount, f_pendCount, f_outCount, f_difCount, f_repCount, a_roots, a_keys, a_vals, a_count, a_level, a_total, a_refs, a_bucketOf, a_nextNode, a_buckets, a_stack, a_curNode, a_curIdx, a_curHeight, a_curDone, a_inKey, a_inVal, a_pendKey, a_pendVal, a_outKey, a_outVal, a_difKey, a_difA, a_difB, ou, a_repKey, a_repVal)) : wpX_weighAgainst post (f_minWidth, f_maxWidth, f_slotCount, f_limit, f_freeHead, f_inCount, f_pendCount, f_outCount, f_difCount, f_repCount, a_roots, a_keys, a_vals, a_count, a_level, a_total, a_refs, a_bucketOf, a_nextNode, a_buckets, a_stack, a_curNode, a_curIdx, a_curHeight, a_curDone, a_inKey, a_inVal, a_pendKey, a_pendVal, a_outKey, a_outVal, a_difKey, a_difA, a_difB, a_difOurs, a_repKey, a_repVal) r := by
  subst hD
  have key : ∀ (d i : Nat) (a_difOurs : Nat → Int32), i + d = D.length → (∀ j (h : j < D.length), j < i → a_difOurs j = ct_get mo (D[j]).1) → wX_weighAgainst_4 post r f_minWidth f_maxWidth f_slotCount f_limit f_freeHead f_inCount f_pendCount f_outCount (nI D.length) f_repCount (d + 1) (nI (ct_np mo (D.take i)) - nI (ct_nq mo (D.take i))) (nI i) a_roots a_keys a_vals a_count a_level a_total a_refs a_bucketOf a_nextNode a_buckets a_stack a_curNode a_curIdx a_curHeight a_curDone a_inKey a_inVal a_pendKey a_pendVal a_outKey a_outVal a_difKey a_difA a_difB a_difOurs a_repKey a_repVal := by
    intro d
    induction d with
    | zero =>
      intro i a_difOurs hi ho
      have : i = D.length := by omega
      subst this
      rw [List.take_length]
      exact br_t (Int32.le_refl _) (hp _ (fun j hj => ho j hj hj))
    | succ d ih =>
      intro i a_difOurs hi ho
      have q : i < D.length := by omega
      have hv : vp_in (nI i) 64 := vp_in_nI (by omega) (by omega)
      have cl := nI_clamp (n := i) (by omega)
      have htk : D.take (i + 1) = D.take i ++ [D[i]] := by rw [List.take_succ_eq_append_getElem q]
      obtain ⟨h1, h2, h3⟩ := hat i q
      have hkn := hnn (D[i]) (List.getElem_mem q)
      have ep : ct_np mo (D.take (i + 1)) = ct_np mo (D.take i) + if ct_get mo (D[i]).1 = (D[i]).2.1 ∧ ct_get mo (D[i]).1 = 0 then 1 else 0 := by
        unfold ct_np
        rw [htk, List.countP_append, List.countP_singleton]
        congr 1
        by_cases z : ct_get mo (D[i]).1 = (D[i]).2.1 ∧ ct_get mo (D[i]).1 = 0
        · rw [if_pos z, if_pos (by simpa using z)]
        · rw [if_neg z, if_neg (by simpa using z)]
      have eq : ct_nq mo (D.take (i + 1)) = ct_nq mo (D.take i) + if ct_get mo (D[i]).1 = (D[i]).2.1 ∧ (D[i]).2.2 = 0 then 1 else 0 := by
        unfold ct_nq
        rw [htk, List.countP_append, List.countP_singleton]
        congr 1
        by_cases z : ct_get mo (D[i]).1 = (D[i]).2.1 ∧ (D[i]).2.2 = 0
        · rw [if_pos z, if_pos (by simpa using z)]
        · rw [if_neg z, if_neg (by simpa using z)]
      have ho' : ∀ j (h : j < D.length), j < i + 1 → upd a_difOurs i (ct_get mo (D[i]).1) j = ct_get mo (D[j]).1 := by
        intro j hj hji
        by_cases z : j = i
        · subst z; rw [pk_us]
        · rw [pk_un z]; exact ho j hj (by omega)
      have ih9 := ih (i + 1) _ (by omega) ho'
      rw [ep, eq] at ih9
      refine br_f (nI_ge (by omega) (by omega)) ⟨hv, ?_⟩
      rw [cl, h1]
      refine cx_lookup H hr hs hkn.1 ?_
      refine ⟨hv, nm_r (e' := upd a_difOurs i (ct_get mo (D[i]).1)) rfl ⟨hv, ?_⟩⟩
      rw [h2]
      by_cases z1 : ct_get mo (D[i]).1 = (D[i]).2.1
      · refine br_t z1 ?_
        have fin : ∀ (s : Nat), s = (if ct_get mo (D[i]).1 = 0 then 1 else 0) → wX_weighAgainst_52 post (wX_weighAgainst_4 post r f_minWidth f_maxWidth f_slotCount f_limit f_freeHead f_inCount f_pendCount f_outCount (nI D.length) f_repCount (d + 1)) r (nI (ct_np mo (D.take i) + s) - nI (ct_nq mo (D.take i))) (nI i) (ct_get mo (D[i]).1) f_minWidth f_maxWidth f_slotCount f_limit f_freeHead f_inCount f_pendCount f_outCount (nI D.length) f_repCount a_roots a_keys a_vals a_count a_level a_total a_refs a_bucketOf a_nextNode a_buckets a_stack a_curNode a_curIdx a_curHeight a_curDone a_inKey a_inVal a_pendKey a_pendVal a_outKey a_outVal a_difKey a_difA a_difB (upd a_difOurs i (ct_get mo (D[i]).1)) a_repKey a_repVal := by
          intro s hs'
          have e9 : (if ct_get mo (D[i]).1 = (D[i]).2.1 ∧ ct_get mo (D[i]).1 = 0 then 1 else 0) = s := by
            rw [hs']
            by_cases z : ct_get mo (D[i]).1 = 0
            · rw [if_pos z, if_pos ⟨z1, z⟩]
            · rw [if_neg z, if_neg (fun w => z w.2)]
          rw [e9] at ih9
          refine ⟨hv, ?_⟩
          rw [cl, h2]
          refine br_t z1 ⟨hv, ?_⟩
          rw [h3]
          by_cases z3 : (D[i]).2.2 = 0
          · rw [if_pos ⟨z1, z3⟩] at ih9
            exact br_t z3 (nm_r (ct_i32b _ _) (nm_r (nI_1 i) ih9))
          · rw [if_neg (fun w => z3 w.2)] at ih9
            exact br_f z3 (nm_r (nI_1 i) ih9)
        by_cases z2 : ct_get mo (D[i]).1 = 0
        · refine br_t z2 (nm_r (e' := nI (ct_np mo (D.take i) + 1) - nI (ct_nq mo (D.take i))) (by rw [ct_i32a, nI_1]) ?_)
          exact fin 1 (by rw [if_pos z2])
        · exact br_f z2 (fin 0 (by rw [if_neg z2]))
      · rw [if_neg (fun w => z1 w.1), if_neg (fun w => z1 w.1)] at ih9
        refine br_f z1 ⟨hv, ?_⟩
        rw [cl, h2]
        exact br_f z1 (nm_r (nI_1 i) ih9)
  unfold wpX_weighAgainst
  dsimp only
  have e0 : nI (ct_np mo (D.take 0)) - nI (ct_nq mo (D.take 0)) = 0 := by
    rw [List.take_zero]
    exact (by decide : nI 0 - nI 0 = 0)
  have h9 := key D.length 0 a_difOurs (by omega) (fun j _ hj => by omega)
  rw [e0] at h9
  exact ⟨D.length + 1, h9⟩
end
end
section
/-! applyEdits -/
section
variable {f_minWidth f_maxWidth f_slotCount f_limit f_freeHead f_inCount f_pendCount f_outCount f_difCount f_repCount : Int32} {a_roots a_keys a_vals a_count a_level a_total a_refs a_bucketOf a_nextNode a_buckets a_stack a_curNode a_curIdx a_curHeight a_curDone a_inKey a_inVal a_pendKey a_pendVal a_outKey a_outVal a_difKey a_difA a_difB a_difOurs a_repKey a_repVal : Nat → Int32}
theorem cx_ae_s {post : Int32 → SX → Prop} {D : List ct_D3} {mo m0 : List ct_E} {rm : Bool} {x2 w : Int32} {m : Nat → List ct_E} {N : ct_N} {B i f : Nat} (hx2 : x2 = if rm = true then 1 else 0) (hD : f_difCount = nI D.length) (hat : ct_at3 a_difKey a_difA a_difB D) (hou : ∀ i (h : i < D.length), a_difOurs i = ct_get mo (D[i]).1) (hnn : ct_nn D) (h64 : D.length ≤ 64)
    (hm0 : ct_map m0) (hsz : ∀ j, j ≤ D.length → (ct_app mo rm (D.take j) m0).length ≤ 32) (q : i < D.length) (H : ct_HI f_freeHead a_keys a_vals a_count a_level a_total a_refs a_bucketOf a_nextNode a_buckets N (w :: (List.range 6).map a_roots) B) (hRef : ∀ y l c, N y l c → ct_ref N (w :: (List.range 6).map a_roots) y) (hR : ∀ s, s < 6 → ct_rep N (m s) (a_roots s) ∧ (m s).length ≤ 32)
    (hw : ct_rep N (ct_app mo rm (D.take i) m0) w)
    (K : ∀ (f_freeHead' : Int32) (a_keys' a_vals' a_count' a_level' a_total' a_refs' a_bucketOf' a_nextNode' a_buckets' : Nat → Int32) (f_inCount' f_pendCount' f_outCount' : Int32) (a_inKey' a_inVal' a_pendKey' a_pendVal' a_outKey' a_outVal' : Nat → Int32) (a_stack' : Nat → Int32) (a_curNode' a_curIdx' a_curHeight' a_curDone' : Nat → Int32) (N' : ct_N) (w' : Int32) (B' : Nat), ct_HI f_freeHead' a_keys' a_vals' a_count' a_level' a_total' a_refs' a_bucketOf' a_nextNode' a_buckets' N' (w' :: (List.range 6).map a_roots) B' → (∀ y l c, N' y l c → ct_ref N' (w' :: (List.range 6).map a_roots) y) → (∀ s, s < 6 → ct_rep N' (m s) (a_roots s) ∧ (m s).length ≤ 32) → ct_rep N' (ct_app mo rm (D.take (i + 1)) m0) w' →
      wX_applyEdits_5 post x2 f w' (nI (i + 1)) f_minWidth f_maxWidth f_slotCount f_limit f_freeHead' f_inCount' f_pendCount' f_outCount' f_difCount f_repCount a_roots a_keys' a_vals' a_count' a_level' a_total' a_refs' a_bucketOf' a_nextNode' a_buckets' a_stack' a_curNode' a_curIdx' a_curHeight' a_curDone' a_inKey' a_inVal' a_pendKey' a_pendVal' a_outKey' a_outVal' a_difKey a_difA a_difB a_difOurs a_repKey a_repVal) : wX_applyEdits_5 post x2 (f + 1) w (nI i) f_minWidth f_maxWidth f_slotCount f_limit f_freeHead f_inCount f_pendCount f_outCount f_difCount f_repCount a_roots a_keys a_vals a_count a_level a_total a_refs a_bucketOf a_nextNode a_buckets a_stack a_curNode a_curIdx a_curHeight a_curDone a_inKey a_inVal a_pendKey a_pendVal a_outKey a_outVal a_difKey a_difA a_difB a_difOurs a_repKey a_repVal := by
  subst hD
  have hv : vp_in (nI i) 64 := vp_in_nI (by omega) (by omega)
  have cl := nI_clamp (n := i) (by omega)
  have htk : D.take (i + 1) = D.take i ++ [D[i]] := by rw [List.take_succ_eq_append_getElem q]
  obtain ⟨h1, h2, h3⟩ := hat i q
  have h4 := hou i q
  have hk := hnn (D[i]) (List.getElem_mem q)
  have hnt : ct_nn (D.take i) := fun x hx => hnn x (List.mem_of_mem_take hx)
  have hmi : ct_map (ct_app mo rm (D.take i) m0) := ct_app_map hnt hm0
  have hsn := ct_app_snoc mo rm (D.take i) (D[i]) m0
  rw [← htk] at hsn
  have skip : ¬ ct_cd mo rm (D[i]) = true → wX_applyEdits_5 post x2 f w (nI (i + 1)) f_minWidth f_maxWidth f_slotCount f_limit f_freeHead f_inCount f_pendCount f_outCount (nI D.length) f_repCount a_roots a_keys a_vals a_count a_level a_total a_refs a_bucketOf a_nextNode a_buckets a_stack a_curNode a_curIdx a_curHeight a_curDone a_inKey a_inVal a_pendKey a_pendVal a_outKey a_outVal a_difKey a_difA a_difB a_difOurs a_repKey a_repVal := by
    intro hc
    rw [if_neg hc] at hsn
    exact K f_freeHead a_keys a_vals a_count a_level a_total a_refs a_bucketOf a_nextNode a_buckets f_inCount f_pendCount f_outCount a_inKey a_inVal a_pendKey a_pendVal a_outKey a_outVal a_stack a_curNode a_curIdx a_curHeight a_curDone N w B H hRef hR (by rw [hsn]; exact hw)
  have edit : ct_cd mo rm (D[i]) = true → ∀ z0 : Int32, z0 = x2 → wX_applyEdits_46 post (wX_applyEdits_5 post x2 f) x2 w (nI i) z0 f_minWidth f_maxWidth f_slotCount f_limit f_freeHead f_inCount f_pendCount f_outCount (nI D.length) f_repCount a_roots a_keys a_vals a_count a_level a_total a_refs a_bucketOf a_nextNode a_buckets a_stack a_curNode a_curIdx a_curHeight a_curDone a_inKey a_inVal a_pendKey a_pendVal a_outKey a_outVal a_difKey a_difA a_difB a_difOurs a_repKey a_repVal := by
    intro hc z0 hz0
    rw [if_pos hc] at hsn
    refine br_t hz0 ⟨hv, hv, ?_⟩
    rw [cl, h1, h3]
    refine cx_stageOne hk.2.2 ?_
    intro ik iv hio
    refine ⟨hv, hv, ?_⟩
    rw [h1]
    refine cx_splice (X := w :: (List.range 6).map a_roots) (m := ct_app mo rm (D.take i) m0) H (by simp) ?_ hRef hw hmi.1 (hsz i (by omega)) hk.1 hio rfl (by
      have := hsz (i + 1) (by omega)
      rw [hsn] at this
      exact this) ?_
    · intro x hx
      rcases List.mem_cons.mp hx with y | y
      · rw [y]; exact ⟨_, hw, hsz i (by omega)⟩
      · obtain ⟨s, hs, rfl⟩ := List.mem_map.mp y
        rw [List.mem_range] at hs
        exact ⟨_, (hR s hs).1, (hR s hs).2⟩
    · intro f_freeHead' a_keys' a_vals' a_count' a_level' a_total' a_refs' a_bucketOf' a_nextNode' a_buckets' f_inCount' f_pendCount' f_outCount' a_inKey' a_inVal' a_pendKey' a_pendVal' a_outKey' a_outVal' a_stack' a_curNode' a_curIdx' a_curHeight' a_curDone' N' r' g1 g2 g3 g4
      have hsw : (r' :: w :: (List.range 6).map a_roots).Perm (w :: r' :: (List.range 6).map a_roots) := List.Perm.swap _ _ _
      refine cx_release (ct_HI_perm g1 hsw) (by simp) (fun y l c hy => ct_ref_sub (fun x hx => hsw.mem_iff.mp hx) (g3 y l c hy)) ?_
      intro fh rf nx bu stk N2 k1 k2 k3
      refine nm_r (nI_1 i) ?_
      refine K fh a_keys' a_vals' a_count' a_level' a_total' rf a_bucketOf' nx bu f_inCount' f_pendCount' f_outCount' a_inKey' a_inVal' a_pendKey' a_pendVal' a_outKey' a_outVal' stk a_curNode' a_curIdx' a_curHeight' a_curDone' N2 r' 300 k1 k3 ?_ ?_
      · intro s hs
        have hin : a_roots s ∈ (List.range 6).map a_roots := List.mem_map.mpr ⟨s, List.mem_range.mpr hs, rfl⟩
        exact ⟨ct_rep_sub k2 (ct_HI_fn g1) (ct_HI_kd k1) (g2 _ (List.mem_cons_of_mem _ hin) _ (hR s hs).1) (ct_HI_X k1 (List.mem_cons_of_mem _ hin)) (ct_HI_nz g1), (hR s hs).2⟩
      · rw [hsn]
        exact ct_rep_sub k2 (ct_HI_fn g1) (ct_HI_kd k1) g4 (ct_HI_X k1 (by simp)) (ct_HI_nz g1)
  refine br_f (nI_ge (by omega) (by omega)) ⟨hv, hv, ?_⟩
  rw [cl, h2, h3, h4]
  by_cases z1 : ct_get mo (D[i]).1 = (D[i]).2.1
  · refine br_t z1 ⟨hv, ?_⟩
    by_cases z2 : (D[i]).2.2 = 0
    · refine br_t z2 ?_
      by_cases z3 : rm = true
      · refine edit (by unfold ct_cd; simp [z1, z2, z3]) 1 (by rw [hx2, if_pos z3])
      · refine br_f (by rw [hx2, if_neg z3]; decide) (nm_r (nI_1 i) (skip (by unfold ct_cd; simp [z2, z3])))
    · refine br_f z2 ?_
      by_cases z3 : rm = true
      · refine br_f (by rw [hx2, if_pos z3]; decide) (nm_r (nI_1 i) (skip (by unfold ct_cd; simp [z2, z3])))
      · refine edit (by unfold ct_cd; simp [z1, z2, z3]) 0 (by rw [hx2, if_neg z3])
  · exact br_f z1 (nm_r (nI_1 i) (skip (by unfold ct_cd; simp [z1])))
theorem cx_apply {post : Int32 → SX → Prop} {D : List ct_D3} {mo m0 : List ct_E} {rm : Bool} {x2 w : Int32} {m : Nat → List ct_E} {N : ct_N} {B : Nat} (hx2 : x2 = if rm = true then 1 else 0) (hD : f_difCount = nI D.length) (hat : ct_at3 a_difKey a_difA a_difB D) (hou : ∀ i (h : i < D.length), a_difOurs i = ct_get mo (D[i]).1) (hnn : ct_nn D) (h64 : D.length ≤ 64)
    (hm0 : ct_map m0) (hsz : ∀ j, j ≤ D.length → (ct_app mo rm (D.take j) m0).length ≤ 32) (H : ct_HI f_freeHead a_keys a_vals a_count a_level a_total a_refs a_bucketOf a_nextNode a_buckets N (w :: (List.range 6).map a_roots) B) (hRef : ∀ y l c, N y l c → ct_ref N (w :: (List.range 6).map a_roots) y) (hR : ∀ s, s < 6 → ct_rep N (m s) (a_roots s) ∧ (m s).length ≤ 32)
    (hw : ct_rep N m0 w)
    (hp : ∀ (f_freeHead' : Int32) (a_keys' a_vals' a_count' a_level' a_total' a_refs' a_bucketOf' a_nextNode' a_buckets' : Nat → Int32) (f_inCount' f_pendCount' f_outCount' : Int32) (a_inKey' a_inVal' a_pendKey' a_pendVal' a_outKey' a_outVal' : Nat → Int32) (a_stack' : Nat → Int32) (a_curNode' a_curIdx' a_curHeight' a_curDone' : Nat → Int32) (N' : ct_N) (w' : Int32) (B' : Nat), ct_HI f_freeHead' a_keys' a_vals' a_count' a_level' a_total' a_refs' a_bucketOf' a_nextNode' a_buckets' N' (w' :: (List.range 6).map a_roots) B' → (∀ y l c, N' y l c → ct_ref N' (w' :: (List.range 6).map a_roots) y) → (∀ s, s < 6 → ct_rep N' (m s) (a_roots s) ∧ (m s).length ≤ 32) → ct_rep N' (ct_app mo rm D m0) w' → post w' (f_minWidth, f_maxWidth, f_slotCount, f_limit, f_freeHead', f_inCount', f_pendCount', f_outCount', f_difCount, f_repCount, a_roots, a_keys', a_vals', a_count', a_level', a_total', a_refs', a_bucketOf', a_nextNode', a_buckets', a_stack', a_curNode', a_curIdx', a_curHeight', a_curDone', a_inKey', a_inVal', a_pendKey', a_pendVal', a_outKey', a_outVal', a_difKey, a_difA, a_difB, a_difOurs, a_repKey, a_repVal)) :
    wpX_applyEdits post (f_minWidth, f_maxWidth, f_slotCount, f_limit, f_freeHead, f_inCount, f_pendCount, f_outCount, f_difCount, f_repCount, a_roots, a_keys, a_vals, a_count, a_level, a_total, a_refs, a_bucketOf, a_nextNode, a_buckets, a_stack, a_curNode, a_curIdx, a_curHeight, a_curDone, a_inKey, a_inVal, a_pendKey, a_pendVal, a_outKey, a_outVal, a_difKey, a_difA, a_difB, a_difOurs, a_repKey, a_repVal) w x2 := by
  have key : ∀ (d i : Nat) (f_freeHead : Int32) (a_keys a_vals a_count a_level a_total a_refs a_bucketOf a_nextNode a_buckets : Nat → Int32) (f_inCount f_pendCount f_outCount : Int32) (a_inKey a_inVal a_pendKey a_pendVal a_outKey a_outVal : Nat → Int32) (a_stack : Nat → Int32) (a_curNode a_curIdx a_curHeight a_curDone : Nat → Int32) (N : ct_N) (w : Int32) (B : Nat), i + d = D.length → ct_HI f_freeHead a_keys a_vals a_count a_level a_total a_refs a_bucketOf a_nextNode a_buckets N (w :: (List.range 6).map a_roots) B → (∀ y l c, N y l c → ct_ref N (w :: (List.range 6).map a_roots) y) → (∀ s, s < 6 → ct_rep N (m s) (a_roots s) ∧ (m s).length ≤ 32) → ct_rep N (ct_app mo rm (D.take i) m0) w →
      wX_applyEdits_5 post x2 (d + 1) w (nI i) f_minWidth f_maxWidth f_slotCount f_limit f_freeHead f_inCount f_pendCount f_outCount f_difCount f_repCount a_roots a_keys a_vals a_count a_level a_total a_refs a_bucketOf a_nextNode a_buckets a_stack a_curNode a_curIdx a_curHeight a_curDone a_inKey a_inVal a_pendKey a_pendVal a_outKey a_outVal a_difKey a_difA a_difB a_difOurs a_repKey a_repVal := by
    intro d
    induction d with
    | zero =>
      intro i f_freeHead a_keys a_vals a_count a_level a_total a_refs a_bucketOf a_nextNode a_buckets f_inCount f_pendCount f_outCount a_inKey a_inVal a_pendKey a_pendVal a_outKey a_outVal a_stack a_curNode a_curIdx a_curHeight a_curDone N w B hi H hRef hR hw
      have : i = D.length := by omega
      subst this
      rw [List.take_length] at hw
      subst hD
      exact br_t (Int32.le_refl _) (hp f_freeHead a_keys a_vals a_count a_level a_total a_refs a_bucketOf a_nextNode a_buckets f_inCount f_pendCount f_outCount a_inKey a_inVal a_pendKey a_pendVal a_outKey a_outVal a_stack a_curNode a_curIdx a_curHeight a_curDone N w B H hRef hR hw)
    | succ d ih =>
      intro i f_freeHead a_keys a_vals a_count a_level a_total a_refs a_bucketOf a_nextNode a_buckets f_inCount f_pendCount f_outCount a_inKey a_inVal a_pendKey a_pendVal a_outKey a_outVal a_stack a_curNode a_curIdx a_curHeight a_curDone N w B hi H hRef hR hw
      refine cx_ae_s hx2 hD hat hou hnn h64 hm0 hsz (by omega) H hRef hR hw ?_
      intro f_freeHead' a_keys' a_vals' a_count' a_level' a_total' a_refs' a_bucketOf' a_nextNode' a_buckets' f_inCount' f_pendCount' f_outCount' a_inKey' a_inVal' a_pendKey' a_pendVal' a_outKey' a_outVal' a_stack' a_curNode' a_curIdx' a_curHeight' a_curDone' N' w' B' g1 g2 g3 g4
      exact ih (i + 1) f_freeHead' a_keys' a_vals' a_count' a_level' a_total' a_refs' a_bucketOf' a_nextNode' a_buckets' f_inCount' f_pendCount' f_outCount' a_inKey' a_inVal' a_pendKey' a_pendVal' a_outKey' a_outVal' a_stack' a_curNode' a_curIdx' a_curHeight' a_curDone' N' w' B' (by omega) g1 g2 g3 g4
  unfold wpX_applyEdits
  dsimp only
  exact ⟨D.length + 1, key D.length 0 f_freeHead a_keys a_vals a_count a_level a_total a_refs a_bucketOf a_nextNode a_buckets f_inCount f_pendCount f_outCount a_inKey a_inVal a_pendKey a_pendVal a_outKey a_outVal a_stack a_curNode a_curIdx a_curHeight a_curDone N w B (by omega) H hRef hR hw⟩
end
end
section
/-! the component against the abstract state: set, fill, copy -/
def ct_RXs (f_slotCount f_limit f_repCount : Int32) (a_roots : Nat → Int32) (f_freeHead : Int32) (a_keys a_vals a_count a_level a_total a_refs a_bucketOf a_nextNode a_buckets : Nat → Int32) (a_repKey a_repVal : Nat → Int32) (sc lim : Nat) (m : Nat → List ct_E) (rp : List ct_D4) : Prop :=
  f_slotCount = nI sc ∧ f_limit = nI lim ∧ 2 ≤ sc ∧ sc ≤ 6 ∧ 4 ≤ lim ∧ lim ≤ 32 ∧ ct_X0 a_roots f_freeHead a_keys a_vals a_count a_level a_total a_refs a_bucketOf a_nextNode a_buckets lim m ∧ f_repCount = nI rp.length ∧ rp.length ≤ 64 ∧ ct_rpx a_repKey a_repVal rp
def ct_RX (u : SX) (sc lim : Nat) (m : Nat → List ct_E) (rp : List ct_D4) : Prop := match u with
  | (f_minWidth, f_maxWidth, f_slotCount, f_limit, f_freeHead, f_inCount, f_pendCount, f_outCount, f_difCount, f_repCount, a_roots, a_keys, a_vals, a_count, a_level, a_total, a_refs, a_bucketOf, a_nextNode, a_buckets, a_stack, a_curNode, a_curIdx, a_curHeight, a_curDone, a_inKey, a_inVal, a_pendKey, a_pendVal, a_outKey, a_outVal, a_difKey, a_difA, a_difB, a_difOurs, a_repKey, a_repVal) => ct_RXs f_slotCount f_limit f_repCount a_roots f_freeHead a_keys a_vals a_count a_level a_total a_refs a_bucketOf a_nextNode a_buckets a_repKey a_repVal sc lim m rp
theorem zz_el {P : SX → Prop} (h : ∀ (f_minWidth f_maxWidth f_slotCount f_limit f_freeHead f_inCount f_pendCount f_outCount f_difCount f_repCount : Int32) (a_roots a_keys a_vals a_count a_level a_total a_refs a_bucketOf a_nextNode a_buckets a_stack a_curNode a_curIdx a_curHeight a_curDone a_inKey a_inVal a_pendKey a_pendVal a_outKey a_outVal a_difKey a_difA a_difB a_difOurs a_repKey a_repVal : Nat → Int32), P (f_minWidth, f_maxWidth, f_slotCount, f_limit, f_freeHead, f_inCount, f_pendCount, f_outCount, f_difCount, f_repCount, a_roots, a_keys, a_vals, a_count, a_level, a_total, a_refs, a_bucketOf, a_nextNode, a_buckets, a_stack, a_curNode, a_curIdx, a_curHeight, a_curDone, a_inKey, a_inVal, a_pendKey, a_pendVal, a_outKey, a_outVal, a_difKey, a_difA, a_difB, a_difOurs, a_repKey, a_repVal)) (u : SX) : P u := match u with
  | (f_minWidth, f_maxWidth, f_slotCount, f_limit, f_freeHead, f_inCount, f_pendCount, f_outCount, f_difCount, f_repCount, a_roots, a_keys, a_vals, a_count, a_level, a_total, a_refs, a_bucketOf, a_nextNode, a_buckets, a_stack, a_curNode, a_curIdx, a_curHeight, a_curDone, a_inKey, a_inVal, a_pendKey, a_pendVal, a_outKey, a_outVal, a_difKey, a_difA, a_difB, a_difOurs, a_repKey, a_repVal) => h f_minWidth f_maxWidth f_slotCount f_limit f_freeHead f_inCount f_pendCount f_outCount f_difCount f_repCount a_roots a_keys a_vals a_count a_level a_total a_refs a_bucketOf a_nextNode a_buckets a_stack a_curNode a_curIdx a_curHeight a_curDone a_inKey a_inVal a_pendKey a_pendVal a_outKey a_outVal a_difKey a_difA a_difB a_difOurs a_repKey a_repVal
def ct_up1 (m : Nat → List ct_E) (s : Nat) (x : List ct_E) : Nat → List ct_E := fun t => if t = s then x else m t
theorem ct_up1_same (m : Nat → List ct_E) (s : Nat) : ct_up1 m s (m s) = m := by
  funext t
  unfold ct_up1
  by_cases z : t = s
  · rw [if_pos z, z]
  · rw [if_neg z]
theorem ct_si_cnt {m : List ct_E} (hs : ct_srt m) (b : Int32) : ct_si b m = m.countP (fun e => decide (e.1 ≤ b)) := by
  rw [List.countP_eq_length_filter, (ct_si_filter hs b).2, List.length_take]
  have := ct_si_le b m
  omega
def ct_ins (m : List ct_E) (lo hi : Int32) : Nat := m.countP (fun e => decide (lo ≤ e.1) && decide (e.1 ≤ hi))
theorem ct_ins_si {m : List ct_E} (hs : ct_srt m) {lo hi : Int32} (hlo : 0 ≤ lo) (hlh : lo ≤ hi) : ct_si hi m = ct_si (lo - 1) m + ct_ins m lo hi := by
  rw [ct_si_cnt hs, ct_si_cnt hs]
  unfold ct_ins
  clear hs
  induction m with
  | nil => rfl
  | cons e m ih =>
    rw [List.countP_cons, List.countP_cons, List.countP_cons, ih]
    by_cases z1 : e.1 ≤ lo - 1
    · have z1' := (ct_le_pred hlo).mp z1
      have z2 : e.1 ≤ hi := Int32.le_of_lt (Int32.lt_of_lt_of_le z1' hlh)
      have z3 : ¬ lo ≤ e.1 := Int32.not_le.mpr z1'
      simp [z1, z2, z3]
      omega
    · have z3 : lo ≤ e.1 := Int32.not_lt.mp (fun w => z1 ((ct_le_pred hlo).mpr w))
      by_cases z2 : e.1 ≤ hi
      · simp [z1, z2, z3]; omega
      · simp [z1, z2]
theorem ct_rng_len {m : List ct_E} (hs : ct_srt m) {lo hi : Int32} (hlo : 0 ≤ lo) (hlh : lo ≤ hi) (I : List ct_E) : (ct_rng m lo hi I).length + ct_ins m lo hi = m.length + I.length := by
  rw [ct_rng_eq hs hlo]
  have h1 := ct_ins_si hs hlo hlh
  have h2 := ct_si_le hi m
  rw [List.length_append, List.length_append, List.length_take, List.length_drop]
  omega
theorem ct_rng_id {m : List ct_E} (hs : ct_srt m) {lo hi : Int32} (hlo : 0 ≤ lo) (hlh : lo ≤ hi) (h0 : ct_ins m lo hi = 0) : ct_rng m lo hi [] = m := by
  rw [ct_rng_eq hs hlo, ct_ins_si hs hlo hlh, h0, Nat.add_zero, List.nil_append, List.take_append_drop]
theorem ct_rl_toInt {lo : Int32} {w i : Nat} {hi : Int32} (hlo : 0 ≤ lo) (hw : (w : Int) = hi.toInt - lo.toInt + 1) (hi' : i < w) : (lo + nI i).toInt = lo.toInt + i := by
  rw [Int32.le_iff_toInt_le, show (0 : Int32).toInt = 0 from by decide] at hlo
  have h1 := hi.toInt_lt
  have h2 : i < 2 ^ 31 := by omega
  rw [Int32.toInt_add, nI_toInt h2]
  exact Int.bmod_eq_of_le (by omega) (by omega)
theorem ct_rl_map {lo hi v : Int32} {w : Nat} (hlo : 0 ≤ lo) (hw : (w : Int) = hi.toInt - lo.toInt + 1) (hv : 0 < v) : ct_map (ct_rl lo w v) ∧ (∀ e ∈ ct_rl lo w v, lo ≤ e.1 ∧ e.1 ≤ hi) ∧ ∀ k, ct_get (ct_rl lo w v) k = if lo ≤ k ∧ k ≤ hi then v else 0 := by
  have hlo' := hlo
  rw [Int32.le_iff_toInt_le, show (0 : Int32).toInt = 0 from by decide] at hlo'
  have hsrt : ct_srt (ct_rl lo w v) := by
    unfold ct_srt ct_rl
    rw [List.pairwise_map]
    refine List.Pairwise.imp_of_mem ?_ List.pairwise_lt_range
    intro a b ha hb hab
    rw [List.mem_range] at ha hb
    rw [Int32.lt_iff_toInt_lt, ct_rl_toInt hlo hw ha, ct_rl_toInt hlo hw hb]
    omega
  have hmem : ∀ e ∈ ct_rl lo w v, ∃ i, i < w ∧ e = (lo + nI i, v) := by
    intro e he
    obtain ⟨i, hi, rfl⟩ := List.mem_map.mp he
    exact ⟨i, List.mem_range.mp hi, rfl⟩
  have hbd : ∀ e ∈ ct_rl lo w v, lo ≤ e.1 ∧ e.1 ≤ hi := by
    intro e he
    obtain ⟨i, hi, rfl⟩ := hmem e he
    rw [Int32.le_iff_toInt_le, Int32.le_iff_toInt_le, ct_rl_toInt hlo hw hi]
    omega
  refine ⟨⟨hsrt, ?_⟩, hbd, ?_⟩
  · intro e he
    have h1 := (hbd e he).1
    obtain ⟨i, hi, rfl⟩ := hmem e he
    exact ⟨Int32.le_trans hlo h1, hv⟩
  · intro k
    by_cases z : lo ≤ k ∧ k ≤ hi
    · rw [if_pos z]
      apply ct_get_mem hsrt
      refine List.mem_map.mpr ⟨(k.toInt - lo.toInt).toNat, ?_, ?_⟩
      · rw [List.mem_range]
        rw [Int32.le_iff_toInt_le, Int32.le_iff_toInt_le] at z
        omega
      · have hz := z
        rw [Int32.le_iff_toInt_le, Int32.le_iff_toInt_le] at hz
        congr 1
        apply Int32.toInt_inj.mp
        rw [ct_rl_toInt hlo hw (by omega)]
        omega
    · rw [if_neg z]
      apply ct_get_none
      intro e he w
      rw [← w] at z
      exact z (hbd e he)
theorem ct_rl_len (lo v : Int32) (w : Nat) : (ct_rl lo w v).length = w := by unfold ct_rl; rw [List.length_map, List.length_range]
theorem ct_rl_id {m : List ct_E} {lo hi v : Int32} {w : Nat} (hm : ct_map m) (hlo : 0 ≤ lo) (hlh : lo ≤ hi) (hw : (w : Int) = hi.toInt - lo.toInt + 1) (hv : 0 < v) (h0 : ct_chg m lo w v = 0) : ct_rng m lo hi (ct_rl lo w v) = m := by
  obtain ⟨a1, a2, a3⟩ := ct_rl_map hlo hw hv
  apply ct_map_ext (ct_rng_map hm a1 a2 hlh) hm
  intro k
  rw [ct_rng_get a2 hlh, a3]
  by_cases z : lo ≤ k ∧ k ≤ hi
  · rw [if_pos z, if_pos z]
    unfold ct_chg at h0
    rw [List.countP_eq_zero] at h0
    have hz := z
    have hlo' := hlo
    rw [Int32.le_iff_toInt_le, Int32.le_iff_toInt_le] at hz
    rw [Int32.le_iff_toInt_le, show (0 : Int32).toInt = 0 from by decide] at hlo'
    have hi' : (k.toInt - lo.toInt).toNat < w := by omega
    have := h0 (k.toInt - lo.toInt).toNat (List.mem_range.mpr hi')
    have ek : lo + nI (k.toInt - lo.toInt).toNat = k := by
      apply Int32.toInt_inj.mp
      rw [ct_rl_toInt hlo hw hi']
      omega
    rw [ek] at this
    simp at this
    exact this.symm
  · rw [if_neg z]
section
variable {f_minWidth f_maxWidth f_slotCount f_limit f_freeHead f_inCount f_pendCount f_outCount f_difCount f_repCount : Int32} {a_roots a_keys a_vals a_count a_level a_total a_refs a_bucketOf a_nextNode a_buckets a_stack a_curNode a_curIdx a_curHeight a_curDone a_inKey a_inVal a_pendKey a_pendVal a_outKey a_outVal a_difKey a_difA a_difB a_difOurs a_repKey a_repVal : Nat → Int32} {sc lim : Nat} {m : Nat → List ct_E} {rp : List ct_D4}
theorem cx_valid1 {post : Int32 → Prop} {s : Nat} (hsc : f_slotCount = nI sc) (h6 : sc ≤ 6) (hs : s < sc) (hp : post 1) : wpX_valid post (f_minWidth, f_maxWidth, f_slotCount, f_limit, f_freeHead, f_inCount, f_pendCount, f_outCount, f_difCount, f_repCount, a_roots, a_keys, a_vals, a_count, a_level, a_total, a_refs, a_bucketOf, a_nextNode, a_buckets, a_stack, a_curNode, a_curIdx, a_curHeight, a_curDone, a_inKey, a_inVal, a_pendKey, a_pendVal, a_outKey, a_outVal, a_difKey, a_difA, a_difB, a_difOurs, a_repKey, a_repVal) (nI s) := by
  subst hsc
  exact br_f (nI_pos (by omega)) (br_f (nI_ge hs (by omega)) hp)
theorem cx_valid0 {post : Int32 → Prop} {p : Int32} (hsc : f_slotCount = nI sc) (hi : p < 0 ∨ nI sc ≤ p) (hp : post 0) : wpX_valid post (f_minWidth, f_maxWidth, f_slotCount, f_limit, f_freeHead, f_inCount, f_pendCount, f_outCount, f_difCount, f_repCount, a_roots, a_keys, a_vals, a_count, a_level, a_total, a_refs, a_bucketOf, a_nextNode, a_buckets, a_stack, a_curNode, a_curIdx, a_curHeight, a_curDone, a_inKey, a_inVal, a_pendKey, a_pendVal, a_outKey, a_outVal, a_difKey, a_difA, a_difB, a_difOurs, a_repKey, a_repVal) p := by
  subst hsc
  by_cases z : p < 0
  · exact br_t z hp
  · rcases hi with w | w
    · exact absurd w z
    · exact br_f z (br_t w hp)
theorem cx_slot {s : Nat} (R : ct_RXs f_slotCount f_limit f_repCount a_roots f_freeHead a_keys a_vals a_count a_level a_total a_refs a_bucketOf a_nextNode a_buckets a_repKey a_repVal sc lim m rp) (hs : s < sc) : ∃ N B, ct_HI f_freeHead a_keys a_vals a_count a_level a_total a_refs a_bucketOf a_nextNode a_buckets N ((List.range 6).map a_roots) B ∧ (∀ y l c, N y l c → ct_ref N ((List.range 6).map a_roots) y) ∧ (∀ s, s < 6 → ct_rep N (m s) (a_roots s) ∧ ct_map (m s) ∧ (m s).length ≤ lim)
    ∧ vp_in (nI s) 6 ∧ (nI s).toNatClampNeg = s ∧ ct_rep N (m s) (a_roots s) ∧ ct_map (m s) ∧ (m s).length ≤ lim ∧ vp_in (a_roots s) 320 ∧ a_total (a_roots s).toNatClampNeg = nI (m s).length := by
  obtain ⟨r1, r2, r3, r4, r5, r6, ⟨N, B, H, hRef, hR⟩, r7⟩ := R
  obtain ⟨a1, a2, a3⟩ := hR s (by omega)
  obtain ⟨n, _, _, hv⟩ := ct_rep_in H a1
  exact ⟨N, B, H, hRef, hR, vp_in_nI (by omega) (by omega), nI_clamp (by omega), a1, a2, a3, hv, ct_rep_tot H a1⟩
theorem cx_m_set {post : Int32 → SX → Prop} {s : Nat} {k v : Int32} (R : ct_RXs f_slotCount f_limit f_repCount a_roots f_freeHead a_keys a_vals a_count a_level a_total a_refs a_bucketOf a_nextNode a_buckets a_repKey a_repVal sc lim m rp) (hs : s < sc) (hk : 0 ≤ k) (hv : 0 ≤ v)
    (hF : ¬ v = 0 ∧ ct_get (m s) k = 0 ∧ lim ≤ (m s).length → post (-4) (f_minWidth, f_maxWidth, f_slotCount, f_limit, f_freeHead, f_inCount, f_pendCount, f_outCount, f_difCount, f_repCount, a_roots, a_keys, a_vals, a_count, a_level, a_total, a_refs, a_bucketOf, a_nextNode, a_buckets, a_stack, a_curNode, a_curIdx, a_curHeight, a_curDone, a_inKey, a_inVal, a_pendKey, a_pendVal, a_outKey, a_outVal, a_difKey, a_difA, a_difB, a_difOurs, a_repKey, a_repVal)) (hO : ¬ (¬ v = 0 ∧ ct_get (m s) k = 0 ∧ lim ≤ (m s).length) → ∀ u', ct_RX u' sc lim (ct_up1 m s (ct_set (m s) k v)) rp → post (ct_get (m s) k) u') : wpX_set post (f_minWidth, f_maxWidth, f_slotCount, f_limit, f_freeHead, f_inCount, f_pendCount, f_outCount, f_difCount, f_repCount, a_roots, a_keys, a_vals, a_count, a_level, a_total, a_refs, a_bucketOf, a_nextNode, a_buckets, a_stack, a_curNode, a_curIdx, a_curHeight, a_curDone, a_inKey, a_inVal, a_pendKey, a_pendVal, a_outKey, a_outVal, a_difKey, a_difA, a_difB, a_difOurs, a_repKey, a_repVal) (nI s) k v := by
  obtain ⟨N, B, H, hRef, hR, vs6, cls, hr, hm, hml, hv320, htot⟩ := cx_slot R hs
  have RR := R
  obtain ⟨r1, r2, r3, r4, r5, r6, _, r8, r9, r10⟩ := R
  have hin : ∀ t, t < 6 → a_roots t ∈ (List.range 6).map a_roots := fun t ht => List.mem_map.mpr ⟨t, List.mem_range.mpr ht, rfl⟩
  have hlen := ct_set_len hm k v
  -- the change itself
  have go : ¬ (¬ v = 0 ∧ ct_get (m s) k = 0 ∧ lim ≤ (m s).length) → wX_set_67 post (nI s) k v (a_roots s) (ct_get (m s) k) f_minWidth f_maxWidth f_slotCount f_limit f_freeHead f_inCount f_pendCount f_outCount f_difCount f_repCount a_roots a_keys a_vals a_count a_level a_total a_refs a_bucketOf a_nextNode a_buckets a_stack a_curNode a_curIdx a_curHeight a_curDone a_inKey a_inVal a_pendKey a_pendVal a_outKey a_outVal a_difKey a_difA a_difB a_difOurs a_repKey a_repVal := by
    intro hc
    by_cases z : ct_get (m s) k = v
    · refine br_t z (hO hc _ ?_)
      rw [ct_set_same hm hk hv z, ct_up1_same]
      exact RR
    · refine br_f z ?_
      have hl32 : (ct_set (m s) k v).length ≤ lim := by
        by_cases a : v = 0
        · rw [if_pos a] at hlen
          omega
        · rw [if_neg a] at hlen
          by_cases b : ct_get (m s) k = 0
          · have : ¬ lim ≤ (m s).length := fun w => hc ⟨a, b, w⟩
            omega
          · rw [if_neg b] at hlen
            omega
      refine cx_stageOne hv ?_
      intro ik iv hio
      refine cx_splice H (by simp) ?_ hRef hr hm.1 (by omega) hk hio rfl (by unfold ct_set at hl32; omega) ?_
      · intro x hx
        obtain ⟨t, ht, rfl⟩ := List.mem_map.mp hx
        rw [List.mem_range] at ht
        exact ⟨_, (hR t ht).1, by have := (hR t ht).2.2; omega⟩
      · intro f_freeHead' a_keys' a_vals' a_count' a_level' a_total' a_refs' a_bucketOf' a_nextNode' a_buckets' f_inCount' f_pendCount' f_outCount' a_inKey' a_inVal' a_pendKey' a_pendVal' a_outKey' a_outVal' a_stack' a_curNode' a_curIdx' a_curHeight' a_curDone' N' r' g1 g2 g3 g4
        refine cx_install g1 (by omega) g3 (fun t ht => ⟨g2 _ (hin t ht) _ (hR t ht).1, (hR t ht).2⟩) g4 ⟨ct_set_map hm hk hv, hl32⟩ ?_
        intro fh rf nx bu stk hX
        exact hO hc _ ⟨r1, r2, r3, r4, r5, r6, hX, r8, r9, r10⟩
  unfold wpX_set
  dsimp only
  refine cx_valid1 r1 r4 hs ?_
  refine br_f (by decide) (br_t hk (br_t hv ⟨vs6, nm_r (e' := a_roots s) (by rw [cls]) ?_⟩))
  refine cx_lookup H hr hm.1 hk ?_
  by_cases z0 : v = 0
  · exact br_t (by rw [z0]; exact Int32.le_refl 0) (go (fun w => w.1 z0))
  · refine br_f (fun w => z0 (Int32.le_antisymm w hv)) ?_
    by_cases z1 : ct_get (m s) k = 0
    · refine br_t z1 ⟨hv320, ?_⟩
      rw [htot, r2]
      by_cases z2 : (m s).length < lim
      · rw [← r2]
        exact br_t (by rw [r2]; exact nI_lt z2 (by omega)) (go (fun w => by have := w.2.2; omega))
      · rw [← r2]
        exact br_f (by rw [r2]; exact nI_nlt (by omega) (by omega)) (hF ⟨z0, z1, by omega⟩)
    · exact br_f z1 (go (fun w => z1 w.2.1))
theorem cx_m_copy {post : Int32 → SX → Prop} {s t : Nat} (R : ct_RXs f_slotCount f_limit f_repCount a_roots f_freeHead a_keys a_vals a_count a_level a_total a_refs a_bucketOf a_nextNode a_buckets a_repKey a_repVal sc lim m rp) (hs : s < sc) (ht : t < sc)
    (hO : ∀ u', ct_RX u' sc lim (ct_up1 m t (m s)) rp → post (nI (m s).length) u') : wpX_copy post (f_minWidth, f_maxWidth, f_slotCount, f_limit, f_freeHead, f_inCount, f_pendCount, f_outCount, f_difCount, f_repCount, a_roots, a_keys, a_vals, a_count, a_level, a_total, a_refs, a_bucketOf, a_nextNode, a_buckets, a_stack, a_curNode, a_curIdx, a_curHeight, a_curDone, a_inKey, a_inVal, a_pendKey, a_pendVal, a_outKey, a_outVal, a_difKey, a_difA, a_difB, a_difOurs, a_repKey, a_repVal) (nI s) (nI t) := by
  obtain ⟨N, B, H, hRef, hR, vs6, cls, hr, hm, hml, hv320, htot⟩ := cx_slot R hs
  obtain ⟨r1, r2, r3, r4, r5, r6, _, r8, r9, r10⟩ := R
  have hlive := ct_HI_X H (x := a_roots s) (List.mem_map.mpr ⟨s, List.mem_range.mpr (by omega), rfl⟩)
  unfold wpX_copy
  dsimp only
  refine cx_valid1 r1 r4 hs ?_
  refine br_f (by decide) ?_
  refine cx_valid1 r1 r4 ht ?_
  refine br_f (by decide) ⟨vs6, nm_r (e' := a_roots s) (by rw [cls]) ⟨hv320, hv320, nm_e ?_⟩⟩
  refine cx_install (m := m) (lim := lim) (ct_HI_inc H hlive) (by omega) (fun y l c hy => ct_ref_sub (fun x hx => List.mem_cons_of_mem _ hx) (hRef y l c hy)) hR hr ⟨hm, hml⟩ ?_
  intro fh rf nx bu stk hX
  refine ⟨hv320, ?_⟩
  have h9 : post (a_total (a_roots s).toNatClampNeg) (f_minWidth, f_maxWidth, f_slotCount, f_limit, fh, f_inCount, f_pendCount, f_outCount, f_difCount, f_repCount, upd a_roots t (a_roots s), a_keys, a_vals, a_count, a_level, a_total, rf, a_bucketOf, nx, bu, stk, a_curNode, a_curIdx, a_curHeight, a_curDone, a_inKey, a_inVal, a_pendKey, a_pendVal, a_outKey, a_outVal, a_difKey, a_difA, a_difB, a_difOurs, a_repKey, a_repVal) := by
    rw [htot]
    exact hO _ ⟨r1, r2, r3, r4, r5, r6, hX, r8, r9, r10⟩
  exact h9
end
end
section
/-! the component against the abstract state: fill, diff, merge -/
theorem ct_sub_toInt {lo hi : Int32} (hlo : 0 ≤ lo) (hlh : lo ≤ hi) : (hi - lo).toInt = hi.toInt - lo.toInt := by
  rw [Int32.le_iff_toInt_le, show (0 : Int32).toInt = 0 from by decide] at hlo
  rw [Int32.le_iff_toInt_le] at hlh
  have := hi.toInt_lt
  rw [Int32.toInt_sub]
  exact Int.bmod_eq_of_le (by omega) (by omega)
theorem ct_wid {lo hi : Int32} {w : Nat} (hlo : 0 ≤ lo) (hlh : lo ≤ hi) (hw : (w : Int) = hi.toInt - lo.toInt + 1) : 1 ≤ w ∧ w ≤ 2 ^ 31 ∧ hi - lo = nI (w - 1) := by
  have h1 := ct_sub_toInt hlo hlh
  have hlo' := hlo
  rw [Int32.le_iff_toInt_le, show (0 : Int32).toInt = 0 from by decide] at hlo'
  have hlh' := hlh
  rw [Int32.le_iff_toInt_le] at hlh'
  have := hi.toInt_lt
  refine ⟨by omega, by omega, ?_⟩
  apply Int32.toInt_inj.mp
  rw [h1, nI_toInt (by omega)]
  omega
theorem ct_ins_le (m : List ct_E) (lo hi : Int32) : ct_ins m lo hi ≤ m.length := List.countP_le_length
section
variable {f_minWidth f_maxWidth f_slotCount f_limit f_freeHead f_inCount f_pendCount f_outCount f_difCount f_repCount : Int32} {a_roots a_keys a_vals a_count a_level a_total a_refs a_bucketOf a_nextNode a_buckets a_stack a_curNode a_curIdx a_curHeight a_curDone a_inKey a_inVal a_pendKey a_pendVal a_outKey a_outVal a_difKey a_difA a_difB a_difOurs a_repKey a_repVal : Nat → Int32} {sc lim : Nat} {m : Nat → List ct_E} {rp : List ct_D4}
theorem cx_fill_go {post : Int32 → SX → Prop} {s ch : Nat} {lo hi : Int32} {I : List ct_E} (R : ct_RXs f_slotCount f_limit f_repCount a_roots f_freeHead a_keys a_vals a_count a_level a_total a_refs a_bucketOf a_nextNode a_buckets a_repKey a_repVal sc lim m rp) (hs : s < sc) (hlo : 0 ≤ lo) (hI : ct_at a_inKey a_inVal I) (hIc : f_inCount = nI I.length)
    (hc31 : ch < 2 ^ 31) (hmap : ct_map (ct_rng (m s) lo hi I)) (hlen : (ct_rng (m s) lo hi I).length ≤ lim) (h0 : ch = 0 → ct_rng (m s) lo hi I = m s)
    (hO : ∀ u', ct_RX u' sc lim (ct_up1 m s (ct_rng (m s) lo hi I)) rp → post (nI ch) u') : wX_fill_122 post (nI s) lo hi (a_roots s) (nI ch) f_minWidth f_maxWidth f_slotCount f_limit f_freeHead f_inCount f_pendCount f_outCount f_difCount f_repCount a_roots a_keys a_vals a_count a_level a_total a_refs a_bucketOf a_nextNode a_buckets a_stack a_curNode a_curIdx a_curHeight a_curDone a_inKey a_inVal a_pendKey a_pendVal a_outKey a_outVal a_difKey a_difA a_difB a_difOurs a_repKey a_repVal := by
  obtain ⟨N, B, H, hRef, hR, vs6, cls, hr, hm, hml, hv320, htot⟩ := cx_slot R hs
  have RR := R
  obtain ⟨r1, r2, r3, r4, r5, r6, _, r8, r9, r10⟩ := R
  have hin : ∀ t, t < 6 → a_roots t ∈ (List.range 6).map a_roots := fun t ht => List.mem_map.mpr ⟨t, List.mem_range.mpr ht, rfl⟩
  by_cases z : ch = 0
  · refine br_t (by rw [z]; decide) (hO _ ?_)
    rw [h0 z, ct_up1_same]
    exact RR
  · refine br_f (nI_nle (by omega) hc31) ?_
    refine cx_splice H (by simp) ?_ hRef hr hm.1 (by omega) hlo hI hIc (by omega) ?_
    · intro x hx
      obtain ⟨t, ht, rfl⟩ := List.mem_map.mp hx
      rw [List.mem_range] at ht
      exact ⟨_, (hR t ht).1, by have := (hR t ht).2.2; omega⟩
    · intro f_freeHead' a_keys' a_vals' a_count' a_level' a_total' a_refs' a_bucketOf' a_nextNode' a_buckets' f_inCount' f_pendCount' f_outCount' a_inKey' a_inVal' a_pendKey' a_pendVal' a_outKey' a_outVal' a_stack' a_curNode' a_curIdx' a_curHeight' a_curDone' N' r' g1 g2 g3 g4
      refine cx_install g1 (by omega) g3 (fun t ht => ⟨g2 _ (hin t ht) _ (hR t ht).1, (hR t ht).2⟩) g4 ⟨hmap, hlen⟩ ?_
      intro fh rf nx bu stk hX
      exact hO _ ⟨r1, r2, r3, r4, r5, r6, hX, r8, r9, r10⟩
theorem cx_m_fill {post : Int32 → SX → Prop} {s w : Nat} {lo hi v : Int32} (R : ct_RXs f_slotCount f_limit f_repCount a_roots f_freeHead a_keys a_vals a_count a_level a_total a_refs a_bucketOf a_nextNode a_buckets a_repKey a_repVal sc lim m rp) (hs : s < sc) (hlo : 0 ≤ lo) (hlh : lo ≤ hi) (hv : 0 ≤ v) (hw : (w : Int) = hi.toInt - lo.toInt + 1)
    (hF : ¬ v = 0 → lim < w + ((m s).length - ct_ins (m s) lo hi) → post (-4) (f_minWidth, f_maxWidth, f_slotCount, f_limit, f_freeHead, f_inCount, f_pendCount, f_outCount, f_difCount, f_repCount, a_roots, a_keys, a_vals, a_count, a_level, a_total, a_refs, a_bucketOf, a_nextNode, a_buckets, a_stack, a_curNode, a_curIdx, a_curHeight, a_curDone, a_inKey, a_inVal, a_pendKey, a_pendVal, a_outKey, a_outVal, a_difKey, a_difA, a_difB, a_difOurs, a_repKey, a_repVal)) (hZ : v = 0 → ∀ u', ct_RX u' sc lim (ct_up1 m s (ct_rng (m s) lo hi [])) rp → post (nI (ct_ins (m s) lo hi)) u')
    (hP : ¬ v = 0 → ¬ lim < w + ((m s).length - ct_ins (m s) lo hi) → ∀ u', ct_RX u' sc lim (ct_up1 m s (ct_rng (m s) lo hi (ct_rl lo w v))) rp → post (nI (ct_chg (m s) lo w v)) u') : wpX_fill post (f_minWidth, f_maxWidth, f_slotCount, f_limit, f_freeHead, f_inCount, f_pendCount, f_outCount, f_difCount, f_repCount, a_roots, a_keys, a_vals, a_count, a_level, a_total, a_refs, a_bucketOf, a_nextNode, a_buckets, a_stack, a_curNode, a_curIdx, a_curHeight, a_curDone, a_inKey, a_inVal, a_pendKey, a_pendVal, a_outKey, a_outVal, a_difKey, a_difA, a_difB, a_difOurs, a_repKey, a_repVal) (nI s) lo hi v := by
  obtain ⟨N, B, H, hRef, hR, vs6, cls, hr, hm, hml, hv320, htot⟩ := cx_slot R hs
  have RR := R
  obtain ⟨r1, r2, r3, r4, r5, r6, _, r8, r9, r10⟩ := R
  obtain ⟨w1, w31, hsub⟩ := ct_wid hlo hlh hw
  have hins := ct_ins_si hm.1 hlo hlh
  have hinl := ct_ins_le (m s) lo hi
  have hsl := ct_si_le hi (m s)
  unfold wpX_fill
  dsimp only
  refine cx_valid1 r1 r4 hs ?_
  refine br_f (by decide) (br_t hlo (br_t hv (br_t hlh ⟨vs6, nm_r (e' := a_roots s) (by rw [cls]) ?_⟩)))
  refine cx_countUpTo H hr hm.1 ?_
  refine cx_countUpTo H hr hm.1 ?_
  refine nm_r (e' := nI (ct_ins (m s) lo hi)) (by rw [pk_sub (by omega)]; exact congrArg nI (by omega)) ⟨hv320, nm_r (e' := nI (lim - ((m s).length - ct_ins (m s) lo hi))) (by rw [htot, r2, pk_sub hinl, pk_sub (by omega)]) ?_⟩
  by_cases z : v = 0
  · refine br_t (by rw [z]; exact Int32.le_refl 0) ?_
    refine br_t (by rw [z]; exact Int32.le_refl 0) ?_
    have hl := ct_rng_len hm.1 hlo hlh []
    rw [List.length_nil] at hl
    exact cx_fill_go (I := []) RR hs hlo ct_at_nil rfl (by omega) (ct_rng_map hm ct_map_nil (by simp) hlh) (by omega) (fun h0 => ct_rng_id hm.1 hlo hlh h0) (hZ z)
  · have hvp : 0 < v := Int32.lt_of_le_of_ne hv (Ne.symm z)
    refine br_f (fun y => z (Int32.le_antisymm y hv)) ?_
    rw [hsub]
    by_cases q : lim < w + ((m s).length - ct_ins (m s) lo hi)
    · exact br_f (nI_nlt (by omega) (by omega)) (hF z q)
    · refine br_t (nI_lt (by omega) (by omega)) ?_
      refine br_f (fun y => z (Int32.le_antisymm y hv)) ?_
      rw [hsub, nI_1, show w - 1 + 1 = w by omega]
      obtain ⟨a1, a2, a3⟩ := ct_rl_map hlo hw hvp
      have hl := ct_rng_len hm.1 hlo hlh (ct_rl lo w v)
      rw [ct_rl_len] at hl
      have hcl : ct_chg (m s) lo w v ≤ w := by
        unfold ct_chg
        refine Nat.le_trans List.countP_le_length ?_
        rw [List.length_range]
        exact Nat.le_refl _
      refine cx_stageRange H hr hm.1 (by omega) ?_ ?_
      · intro i hi
        rw [Int32.le_iff_toInt_le, ct_rl_toInt hlo hw hi, show (0 : Int32).toInt = 0 from by decide]
        rw [Int32.le_iff_toInt_le, show (0 : Int32).toInt = 0 from by decide] at hlo
        omega
      · intro ik iv hio
        exact cx_fill_go RR hs hlo hio (by rw [ct_rl_len]) (by omega) (ct_rng_map hm a1 a2 hlh) (by omega) (fun h0 => ct_rl_id hm hlo hlh hw hvp h0) (hP z q)
theorem cx_m_diff {post : Int32 → SX → Prop} {s t : Nat} (R : ct_RXs f_slotCount f_limit f_repCount a_roots f_freeHead a_keys a_vals a_count a_level a_total a_refs a_bucketOf a_nextNode a_buckets a_repKey a_repVal sc lim m rp) (hs : s < sc) (ht : t < sc)
    (hO : ∀ D u', ct_ds (m s) (m t) D → ct_RX u' sc lim m (D.map (fun x => (x.1, x.2.1, x.2.2, (0 : Int32)))) → post (nI (D.map (fun x => (x.1, x.2.1, x.2.2, (0 : Int32)))).length) u') : wpX_diff post (f_minWidth, f_maxWidth, f_slotCount, f_limit, f_freeHead, f_inCount, f_pendCount, f_outCount, f_difCount, f_repCount, a_roots, a_keys, a_vals, a_count, a_level, a_total, a_refs, a_bucketOf, a_nextNode, a_buckets, a_stack, a_curNode, a_curIdx, a_curHeight, a_curDone, a_inKey, a_inVal, a_pendKey, a_pendVal, a_outKey, a_outVal, a_difKey, a_difA, a_difB, a_difOurs, a_repKey, a_repVal) (nI s) (nI t) := by
  obtain ⟨N, B, H, hRef, hR, vs6, cls, hr, hm, hml, hv320, htot⟩ := cx_slot R hs
  obtain ⟨r1, r2, r3, r4, r5, r6, rX, r8, r9, r10⟩ := R
  obtain ⟨a1, a2, a3⟩ := hR t (by omega)
  have clt : (nI t).toNatClampNeg = t := nI_clamp (by omega)
  unfold wpX_diff
  dsimp only
  refine cx_valid1 r1 r4 hs ?_
  refine br_f (by decide) ?_
  refine cx_valid1 r1 r4 ht ?_
  refine br_f (by decide) ⟨vs6, vp_in_nI (by omega) (by omega), ?_⟩
  rw [cls, clt]
  refine cx_collectDiff H hr a1 hm a2 (by omega) (by omega) ?_
  intro cN cI cH cD dk da db D g1 g2
  have hl := ct_ds_len g1
  refine ⟨D.length + 1, cx_df_41 rfl g2 (by omega) ?_ D.length 0 _ _ _ (by omega) rfl ct_rpx_nil⟩
  intro rk rv hr'
  exact hO D _ g1 ⟨r1, r2, r3, r4, r5, r6, rX, rfl, by rw [List.length_map]; omega, hr'⟩
theorem cx_m_merge {post : Int32 → SX → Prop} {b o t i : Nat} (R : ct_RXs f_slotCount f_limit f_repCount a_roots f_freeHead a_keys a_vals a_count a_level a_total a_refs a_bucketOf a_nextNode a_buckets a_repKey a_repVal sc lim m rp) (hb : b < sc) (ho : o < sc) (ht : t < sc) (hi : i < sc)
    (hF : ∀ D u', ct_ds (m b) (m t) D → lim < (ct_mg (m o) D).length → ct_RX u' sc lim m rp → post (-4) u')
    (hO : ∀ D u', ct_ds (m b) (m t) D → ¬ lim < (ct_mg (m o) D).length → ct_RX u' sc lim (ct_up1 m i (ct_mg (m o) D)) (ct_cx (m o) D) → post (nI (ct_cx (m o) D).length) u') : wpX_merge post (f_minWidth, f_maxWidth, f_slotCount, f_limit, f_freeHead, f_inCount, f_pendCount, f_outCount, f_difCount, f_repCount, a_roots, a_keys, a_vals, a_count, a_level, a_total, a_refs, a_bucketOf, a_nextNode, a_buckets, a_stack, a_curNode, a_curIdx, a_curHeight, a_curDone, a_inKey, a_inVal, a_pendKey, a_pendVal, a_outKey, a_outVal, a_difKey, a_difA, a_difB, a_difOurs, a_repKey, a_repVal) (nI b) (nI o) (nI t) (nI i) := by
  obtain ⟨N, B, H, hRef, hR, vo6, clo, hr, hm, hml, hv320, htot⟩ := cx_slot R ho
  have RR := R
  obtain ⟨r1, r2, r3, r4, r5, r6, rX, r8, r9, r10⟩ := R
  obtain ⟨b1, b2, b3⟩ := hR b (by omega)
  obtain ⟨t1, t2, t3⟩ := hR t (by omega)
  have clb : (nI b).toNatClampNeg = b := nI_clamp (by omega)
  have clt : (nI t).toNatClampNeg = t := nI_clamp (by omega)
  unfold wpX_merge
  dsimp only
  refine cx_valid1 r1 r4 hb ?_
  refine br_f (by decide) ?_
  refine cx_valid1 r1 r4 ho ?_
  refine br_f (by decide) ?_
  refine cx_valid1 r1 r4 ht ?_
  refine br_f (by decide) ?_
  refine cx_valid1 r1 r4 hi ?_
  refine br_f (by decide) ⟨vo6, nm_r (e' := a_roots o) (by rw [clo]) ⟨vp_in_nI (by omega) (by omega), vp_in_nI (by omega) (by omega), ?_⟩⟩
  rw [clb, clt]
  refine cx_collectDiff H b1 t1 b2 t2 (by omega) (by omega) ?_
  intro cN cI cH cD dk da db D g1 g2
  dsimp only
  have hl := ct_ds_len g1
  have hnn := ct_ds_nn g1 b2 t2
  have hne := ct_ds_ne g1
  have hmg := ct_mg_len (mo := m o) hnn g1.1 hm hne
  have hmt := ct_app_t (mo := m o) (m := m o) hnn g1.1 hm hne
  refine cx_weigh H hr hm.1 rfl g2 hnn (by omega) ?_
  intro ou hou
  dsimp only
  refine ⟨hv320, ?_⟩
  have hnp : ct_np (m o) D ≤ 64 := by
    unfold ct_np
    exact Nat.le_trans List.countP_le_length (by omega)
  have hnq : ct_nq (m o) D ≤ 64 := by
    unfold ct_nq
    exact Nat.le_trans List.countP_le_length (by omega)
  have hcmp : nI (m o).length + (nI (ct_np (m o) D) - nI (ct_nq (m o) D)) ≤ nI lim ↔ ¬ lim < (ct_mg (m o) D).length := by
    have e : nI (m o).length + (nI (ct_np (m o) D) - nI (ct_nq (m o) D)) = nI ((m o).length + ct_np (m o) D) - nI (ct_nq (m o) D) := by
      rw [← nI_add, Int32.sub_eq_add_neg, Int32.sub_eq_add_neg, Int32.add_assoc]
    rw [e, Int32.le_iff_toInt_le, pk_sub_toInt (by omega) (by omega), nI_toInt (by omega)]
    omega
  have hcm2 : a_total (a_roots o).toNatClampNeg + (nI (ct_np (m o) D) - nI (ct_nq (m o) D)) ≤ f_limit ↔ ¬ lim < (ct_mg (m o) D).length := by
    rw [htot, r2]
    exact hcmp
  by_cases q : lim < (ct_mg (m o) D).length
  · refine br_f (fun z => (hcm2.mp z) q) ?_
    exact hF D _ g1 q ⟨r1, r2, r3, r4, r5, r6, rX, r8, r9, r10⟩
  · refine br_t (hcm2.mpr q) ⟨hv320, hv320, nm_e ?_⟩
    have hlive := ct_HI_X H (x := a_roots o) (List.mem_map.mpr ⟨o, List.mem_range.mpr (by omega), rfl⟩)
    have htk : ∀ j, ct_nn (D.take j) ∧ ct_srt (D.take j) ∧ (∀ x ∈ D.take j, x.2.1 ≠ x.2.2) := fun j => ⟨fun x hx => hnn x (List.mem_of_mem_take hx), List.Pairwise.take g1.1, fun x hx => hne x (List.mem_of_mem_take hx)⟩
    have hm1 : ct_map (ct_app (m o) true D (m o)) := ct_app_map hnn hm
    refine cx_apply (rm := true) (m := m) rfl rfl g2 hou hnn (by omega) hm ?_ (ct_HI_inc H hlive) (fun y l c hy => ct_ref_sub (fun x hx => List.mem_cons_of_mem _ hx) (hRef y l c hy)) (fun s hs => ⟨(hR s hs).1, by have := (hR s hs).2.2; omega⟩) hr ?_
    · intro j _
      have := ct_app_t (mo := m o) (m := m o) (htk j).1 (htk j).2.1 hm (htk j).2.2
      omega
    · intro f_freeHead' a_keys' a_vals' a_count' a_level' a_total' a_refs' a_bucketOf' a_nextNode' a_buckets' f_inCount' f_pendCount' f_outCount' a_inKey' a_inVal' a_pendKey' a_pendVal' a_outKey' a_outVal' a_stack' a_curNode' a_curIdx' a_curHeight' a_curDone' N1 w1 B1 k1 k2 k3 k4
      dsimp only
      refine cx_apply (rm := false) (m := m) (mo := m o) rfl rfl g2 hou hnn (by omega) hm1 ?_ k1 k2 k3 k4 ?_
      · intro j _
        have h1 := ct_app_f (mo := m o) (m1 := ct_app (m o) true D (m o)) (htk j).1 (htk j).2.1 hm1 (htk j).2.2 (fun x hx hc => ct_mg_mid hnn g1.1 (List.mem_of_mem_take hx) hc)
        have h2 : ct_np (m o) (D.take j) ≤ ct_np (m o) D := by
          unfold ct_np
          exact (List.take_sublist j D).countP_le
        omega
      · intro f_freeHead'' a_keys'' a_vals'' a_count'' a_level'' a_total'' a_refs'' a_bucketOf'' a_nextNode'' a_buckets'' f_inCount'' f_pendCount'' f_outCount'' a_inKey'' a_inVal'' a_pendKey'' a_pendVal'' a_outKey'' a_outVal'' a_stack'' a_curNode'' a_curIdx'' a_curHeight'' a_curDone'' N2 w2 B2 q1 q2 q3 q4
        dsimp only
        refine cx_install (m := m) (lim := lim) q1 (by omega) q2 (fun s hs => ⟨(q3 s hs).1, (hR s hs).2⟩) q4 ⟨ct_mg_map hnn hm, by unfold ct_mg at q; omega⟩ ?_
        intro fh rf nx bu stk hX
        dsimp only
        have hcx : (ct_cx (m o) D).length ≤ D.length := by
          unfold ct_cx
          rw [List.length_map]
          exact List.length_filter_le _ _
        refine ⟨D.length + 1, cx_mg_132 rfl g2 hou (by omega) ?_ D.length 0 _ _ _ (by omega) rfl ct_rpx_nil⟩
        intro rk rv hr'
        exact hO D _ g1 q ⟨r1, r2, r3, r4, r5, r6, hX, rfl, by omega, hr'⟩
end
end
section
/-! the component against the abstract state: the readers and the constructor -/
section
variable {f_minWidth f_maxWidth f_slotCount f_limit f_freeHead f_inCount f_pendCount f_outCount f_difCount f_repCount : Int32} {a_roots a_keys a_vals a_count a_level a_total a_refs a_bucketOf a_nextNode a_buckets a_stack a_curNode a_curIdx a_curHeight a_curDone a_inKey a_inVal a_pendKey a_pendVal a_outKey a_outVal a_difKey a_difA a_difB a_difOurs a_repKey a_repVal : Nat → Int32} {sc lim : Nat} {m : Nat → List ct_E} {rp : List ct_D4}
theorem cx_m_get {post : Int32 → Prop} {s : Nat} {k : Int32} (R : ct_RXs f_slotCount f_limit f_repCount a_roots f_freeHead a_keys a_vals a_count a_level a_total a_refs a_bucketOf a_nextNode a_buckets a_repKey a_repVal sc lim m rp) (hs : s < sc) (hk : 0 ≤ k) (hp : post (ct_get (m s) k)) : wpX_get post (f_minWidth, f_maxWidth, f_slotCount, f_limit, f_freeHead, f_inCount, f_pendCount, f_outCount, f_difCount, f_repCount, a_roots, a_keys, a_vals, a_count, a_level, a_total, a_refs, a_bucketOf, a_nextNode, a_buckets, a_stack, a_curNode, a_curIdx, a_curHeight, a_curDone, a_inKey, a_inVal, a_pendKey, a_pendVal, a_outKey, a_outVal, a_difKey, a_difA, a_difB, a_difOurs, a_repKey, a_repVal) (nI s) k := by
  obtain ⟨N, B, H, hRef, hR, vs6, cls, hr, hm, hml, hv320, htot⟩ := cx_slot R hs
  obtain ⟨r1, r2, r3, r4, r5, r6, _, r8, r9, r10⟩ := R
  unfold wpX_get
  dsimp only
  refine cx_valid1 r1 r4 hs ?_
  refine br_f (by decide) (br_t hk ⟨vs6, ?_⟩)
  rw [cls]
  exact cx_lookup H hr hm.1 hk hp
theorem cx_m_size {post : Int32 → Prop} {s : Nat} (R : ct_RXs f_slotCount f_limit f_repCount a_roots f_freeHead a_keys a_vals a_count a_level a_total a_refs a_bucketOf a_nextNode a_buckets a_repKey a_repVal sc lim m rp) (hs : s < sc) (hp : post (nI (m s).length)) : wpX_size post (f_minWidth, f_maxWidth, f_slotCount, f_limit, f_freeHead, f_inCount, f_pendCount, f_outCount, f_difCount, f_repCount, a_roots, a_keys, a_vals, a_count, a_level, a_total, a_refs, a_bucketOf, a_nextNode, a_buckets, a_stack, a_curNode, a_curIdx, a_curHeight, a_curDone, a_inKey, a_inVal, a_pendKey, a_pendVal, a_outKey, a_outVal, a_difKey, a_difA, a_difB, a_difOurs, a_repKey, a_repVal) (nI s) := by
  obtain ⟨N, B, H, hRef, hR, vs6, cls, hr, hm, hml, hv320, htot⟩ := cx_slot R hs
  obtain ⟨r1, r2, r3, r4, r5, r6, _, r8, r9, r10⟩ := R
  unfold wpX_size
  dsimp only
  refine cx_valid1 r1 r4 hs ?_
  refine br_f (by decide) ⟨vs6, ?_⟩
  rw [cls, htot]
  exact ⟨hv320, hp⟩
theorem ct_rank_le {m : List ct_E} (hm : ct_map m) {b : Int32} (hb : ¬ 0 < b) : m.countP (fun e => decide (e.1 < b)) = 0 := by
  rw [List.countP_eq_zero]
  intro e he
  rw [decide_eq_true_eq]
  intro w
  exact hb (Int32.lt_of_le_of_lt (hm.2 e he).1 w)
theorem cx_m_rank {post : Int32 → Prop} {s : Nat} {b : Int32} (R : ct_RXs f_slotCount f_limit f_repCount a_roots f_freeHead a_keys a_vals a_count a_level a_total a_refs a_bucketOf a_nextNode a_buckets a_repKey a_repVal sc lim m rp) (hs : s < sc) (hp : post (nI ((m s).countP (fun e => decide (e.1 < b))))) : wpX_rank post (f_minWidth, f_maxWidth, f_slotCount, f_limit, f_freeHead, f_inCount, f_pendCount, f_outCount, f_difCount, f_repCount, a_roots, a_keys, a_vals, a_count, a_level, a_total, a_refs, a_bucketOf, a_nextNode, a_buckets, a_stack, a_curNode, a_curIdx, a_curHeight, a_curDone, a_inKey, a_inVal, a_pendKey, a_pendVal, a_outKey, a_outVal, a_difKey, a_difA, a_difB, a_difOurs, a_repKey, a_repVal) (nI s) b := by
  obtain ⟨N, B, H, hRef, hR, vs6, cls, hr, hm, hml, hv320, htot⟩ := cx_slot R hs
  obtain ⟨r1, r2, r3, r4, r5, r6, _, r8, r9, r10⟩ := R
  unfold wpX_rank
  dsimp only
  refine cx_valid1 r1 r4 hs ?_
  refine br_f (by decide) ?_
  by_cases z : 0 < b
  · refine br_t z ⟨vs6, ?_⟩
    rw [cls]
    refine cx_countUpTo H hr hm.1 ?_
    have e : ct_si (b - 1) (m s) = (m s).countP (fun e => decide (e.1 < b)) := by
      rw [ct_si_cnt hm.1]
      congr 1
      funext e
      exact decide_eq_decide.mpr (ct_le_pred (Int32.le_of_lt z))
    rw [e]
    exact hp
  · rw [ct_rank_le hm z] at hp
    exact br_f z hp
theorem cx_m_keyAt {post : Int32 → Prop} {s : Nat} {p : Int32} (R : ct_RXs f_slotCount f_limit f_repCount a_roots f_freeHead a_keys a_vals a_count a_level a_total a_refs a_bucketOf a_nextNode a_buckets a_repKey a_repVal sc lim m rp) (hs : s < sc) (h0 : p < 0 ∨ nI (m s).length ≤ p → post (-5)) (h1 : ∀ i e, p = nI i → (m s)[i]? = some e → post e.1) : wpX_keyAt post (f_minWidth, f_maxWidth, f_slotCount, f_limit, f_freeHead, f_inCount, f_pendCount, f_outCount, f_difCount, f_repCount, a_roots, a_keys, a_vals, a_count, a_level, a_total, a_refs, a_bucketOf, a_nextNode, a_buckets, a_stack, a_curNode, a_curIdx, a_curHeight, a_curDone, a_inKey, a_inVal, a_pendKey, a_pendVal, a_outKey, a_outVal, a_difKey, a_difA, a_difB, a_difOurs, a_repKey, a_repVal) (nI s) p := by
  obtain ⟨N, B, H, hRef, hR, vs6, cls, hr, hm, hml, hv320, htot⟩ := cx_slot R hs
  obtain ⟨r1, r2, r3, r4, r5, r6, _, r8, r9, r10⟩ := R
  unfold wpX_keyAt
  dsimp only
  refine cx_valid1 r1 r4 hs ?_
  refine br_f (by decide) ⟨vs6, nm_r (e' := a_roots s) (by rw [cls]) ?_⟩
  rcases pk_ix p (n := (m s).length) (by omega) with z | z | ⟨i, hi, z⟩
  · exact br_t z (h0 (Or.inl z))
  · by_cases y : p < 0
    · exact br_t y (h0 (Or.inl y))
    · refine br_f y ⟨hv320, ?_⟩
      rw [htot]
      exact br_f (Int32.not_lt.mpr z) (h0 (Or.inr z))
  · subst z
    refine br_f (nI_pos (by omega)) ⟨hv320, ?_⟩
    rw [htot]
    refine br_t (nI_lt hi (by omega)) ⟨hv320, ?_⟩
    have hp := h1 i _ rfl (List.getElem?_eq_getElem hi)
    rcases hr with ⟨a, b⟩ | ⟨Es, h, T⟩
    · rw [a] at hi; simp at hi
    · have hN := ct_tree_top T
      obtain ⟨n, e1, n1, n2, e2, l8, _⟩ := ct_HI_rd H hN
      have hfd := ct_chn_fd T.2.2.2.1 (h - 1) (by omega)
      rw [T.2.1] at hfd
      refine nm_r (e' := nI (h - 1)) (by rw [e1, nI_clamp (by omega), e2]) ⟨h - 1 + 1, ?_⟩
      exact cx_ka_45 H hp (h - 1) (a_roots s) _ (m s) i hN hfd (by omega) (List.getElem?_eq_getElem hi)
theorem cx_eq {s t : Nat} (R : ct_RXs f_slotCount f_limit f_repCount a_roots f_freeHead a_keys a_vals a_count a_level a_total a_refs a_bucketOf a_nextNode a_buckets a_repKey a_repVal sc lim m rp) (hs : s < sc) (ht : t < sc) : a_roots s = a_roots t ↔ m s = m t := by
  obtain ⟨r1, r2, r3, r4, r5, r6, ⟨N, B, H, hRef, hR⟩, r7⟩ := R
  have a := (hR s (by omega)).1
  have b := (hR t (by omega)).1
  constructor
  · intro e
    rw [← e] at b
    exact ct_rep_inv (ct_HI_fn H) (ct_HI_nz H) a b
  · intro e
    rw [← e] at b
    exact ct_rep_uniq (ct_HI_in H) a b
theorem cx_m_same {post : Int32 → Prop} {s t : Nat} (R : ct_RXs f_slotCount f_limit f_repCount a_roots f_freeHead a_keys a_vals a_count a_level a_total a_refs a_bucketOf a_nextNode a_buckets a_repKey a_repVal sc lim m rp) (hs : s < sc) (ht : t < sc) (h1 : m s = m t → post 1) (h0 : ¬ m s = m t → post 0) : wpX_same post (f_minWidth, f_maxWidth, f_slotCount, f_limit, f_freeHead, f_inCount, f_pendCount, f_outCount, f_difCount, f_repCount, a_roots, a_keys, a_vals, a_count, a_level, a_total, a_refs, a_bucketOf, a_nextNode, a_buckets, a_stack, a_curNode, a_curIdx, a_curHeight, a_curDone, a_inKey, a_inVal, a_pendKey, a_pendVal, a_outKey, a_outVal, a_difKey, a_difA, a_difB, a_difOurs, a_repKey, a_repVal) (nI s) (nI t) := by
  have he := cx_eq R hs ht
  obtain ⟨r1, r2, r3, r4, r5, r6, _⟩ := R
  unfold wpX_same
  dsimp only
  refine cx_valid1 r1 r4 hs ?_
  refine br_f (by decide) ?_
  refine cx_valid1 r1 r4 ht ?_
  refine br_f (by decide) ⟨vp_in_nI (by omega) (by omega), vp_in_nI (by omega) (by omega), ?_⟩
  rw [nI_clamp (n := s) (by omega), nI_clamp (n := t) (by omega)]
  by_cases z : m s = m t
  · exact br_t (he.mpr z) (h1 z)
  · exact br_f (fun w => z (he.mp w)) (h0 z)
theorem cx_m_twin {post : Int32 → Prop} {s : Nat} (R : ct_RXs f_slotCount f_limit f_repCount a_roots f_freeHead a_keys a_vals a_count a_level a_total a_refs a_bucketOf a_nextNode a_buckets a_repKey a_repVal sc lim m rp) (hs : s < sc) (hp : ∀ t, t ≤ s → m t = m s → (∀ j, j < t → m j ≠ m s) → post (nI t)) : wpX_twin post (f_minWidth, f_maxWidth, f_slotCount, f_limit, f_freeHead, f_inCount, f_pendCount, f_outCount, f_difCount, f_repCount, a_roots, a_keys, a_vals, a_count, a_level, a_total, a_refs, a_bucketOf, a_nextNode, a_buckets, a_stack, a_curNode, a_curIdx, a_curHeight, a_curDone, a_inKey, a_inVal, a_pendKey, a_pendVal, a_outKey, a_outVal, a_difKey, a_difA, a_difB, a_difOurs, a_repKey, a_repVal) (nI s) := by
  have RR := R
  obtain ⟨r1, r2, r3, r4, r5, r6, _⟩ := R
  have key : ∀ d t, t + d = s → (∀ j, j < t → m j ≠ m s) → wX_twin_12 post (nI s) f_minWidth f_maxWidth f_slotCount f_limit f_freeHead f_inCount f_pendCount f_outCount f_difCount f_repCount a_roots a_keys a_vals a_count a_level a_total a_refs a_bucketOf a_nextNode a_buckets a_stack a_curNode a_curIdx a_curHeight a_curDone a_inKey a_inVal a_pendKey a_pendVal a_outKey a_outVal a_difKey a_difA a_difB a_difOurs a_repKey a_repVal (d + 1) (nI t) := by
    intro d
    induction d with
    | zero =>
      intro t ht hn
      have : t = s := by omega
      subst this
      exact br_t (Int32.le_refl _) (hp t (Nat.le_refl _) rfl hn)
    | succ d ih =>
      intro t ht hn
      have he := cx_eq RR (s := t) (t := s) (by omega) hs
      refine br_f (nI_ge (by omega) (by omega)) ⟨vp_in_nI (by omega) (by omega), vp_in_nI (by omega) (by omega), ?_⟩
      rw [nI_clamp (n := s) (by omega), nI_clamp (n := t) (by omega)]
      by_cases z : m t = m s
      · exact br_t (he.mpr z) (hp t (by omega) z hn)
      · refine br_f (fun w => z (he.mp w)) (nm_r (nI_1 t) (ih (t + 1) (by omega) ?_))
        intro j hj
        by_cases w : j = t
        · rw [w]; exact z
        · exact hn j (by omega)
  unfold wpX_twin
  dsimp only
  refine cx_valid1 r1 r4 hs ?_
  exact br_f (by decide) ⟨s + 1, key s 0 (by omega) (fun j hj => by omega)⟩
theorem cx_m_reportKey {post : Int32 → Prop} {p : Int32} (R : ct_RXs f_slotCount f_limit f_repCount a_roots f_freeHead a_keys a_vals a_count a_level a_total a_refs a_bucketOf a_nextNode a_buckets a_repKey a_repVal sc lim m rp) (h0 : p < 0 ∨ nI rp.length ≤ p → post (-5)) (h1 : ∀ i (h : i < rp.length), p = nI i → post (rp[i]).1) : wpX_reportKey post (f_minWidth, f_maxWidth, f_slotCount, f_limit, f_freeHead, f_inCount, f_pendCount, f_outCount, f_difCount, f_repCount, a_roots, a_keys, a_vals, a_count, a_level, a_total, a_refs, a_bucketOf, a_nextNode, a_buckets, a_stack, a_curNode, a_curIdx, a_curHeight, a_curDone, a_inKey, a_inVal, a_pendKey, a_pendVal, a_outKey, a_outVal, a_difKey, a_difA, a_difB, a_difOurs, a_repKey, a_repVal) p := by
  obtain ⟨r1, r2, r3, r4, r5, r6, _, r8, r9, r10⟩ := R
  subst r8
  rcases pk_ix p (n := rp.length) (by omega) with z | z | ⟨i, hi, z⟩
  · exact br_t z (h0 (Or.inl z))
  · by_cases y : p < 0
    · exact br_t y (h0 (Or.inl y))
    · exact br_f y (br_f (Int32.not_lt.mpr z) (h0 (Or.inr z)))
  · subst z
    refine br_f (nI_pos (by omega)) (br_t (nI_lt hi (by omega)) ⟨vp_in_nI (by omega) (by omega), ?_⟩)
    rw [nI_clamp (by omega), (r10 i hi).1]
    exact h1 i hi rfl
def ct_col (x : ct_D4) (c : Nat) : Int32 := if c = 0 then x.2.1 else if c = 1 then x.2.2.1 else x.2.2.2
theorem cx_m_reportValue {post : Int32 → Prop} {p q : Int32} (R : ct_RXs f_slotCount f_limit f_repCount a_roots f_freeHead a_keys a_vals a_count a_level a_total a_refs a_bucketOf a_nextNode a_buckets a_repKey a_repVal sc lim m rp) (h0 : p < 0 ∨ nI rp.length ≤ p ∨ q < 0 ∨ nI 3 ≤ q → post (-5)) (h1 : ∀ i (h : i < rp.length) c, c < 3 → p = nI i → q = nI c → post (ct_col (rp[i]) c)) : wpX_reportValue post (f_minWidth, f_maxWidth, f_slotCount, f_limit, f_freeHead, f_inCount, f_pendCount, f_outCount, f_difCount, f_repCount, a_roots, a_keys, a_vals, a_count, a_level, a_total, a_refs, a_bucketOf, a_nextNode, a_buckets, a_stack, a_curNode, a_curIdx, a_curHeight, a_curDone, a_inKey, a_inVal, a_pendKey, a_pendVal, a_outKey, a_outVal, a_difKey, a_difA, a_difB, a_difOurs, a_repKey, a_repVal) p q := by
  obtain ⟨r1, r2, r3, r4, r5, r6, _, r8, r9, r10⟩ := R
  subst r8
  rcases pk_ix p (n := rp.length) (by omega) with z | z | ⟨i, hi, z⟩
  · exact br_t z (h0 (Or.inl z))
  · by_cases y : p < 0
    · exact br_t y (h0 (Or.inl y))
    · exact br_f y (br_t z (h0 (Or.inr (Or.inl z))))
  · subst z
    refine br_f (nI_pos (by omega)) (br_f (nI_ge hi (by omega)) ?_)
    rcases pk_ix q (n := 3) (by omega) with w | w | ⟨c, hc, w⟩
    · exact br_t w (h0 (Or.inr (Or.inr (Or.inl w))))
    · by_cases y : q < 0
      · exact br_t y (h0 (Or.inr (Or.inr (Or.inl y))))
      · refine br_f y (br_f ?_ (h0 (Or.inr (Or.inr (Or.inr w)))))
        intro y2
        have := Int32.le_trans w y2
        exact absurd this (by decide)
    · subst w
      have e0 : nI i <<< ((2 : Int32) &&& 31) = nI (i * 4) := by rw [pk_shlN _ 2 (by decide) (by omega)]
      have e1 : nI i <<< ((2 : Int32) &&& 31) + nI c = nI (i * 4 + c) := by rw [e0, nI_add]
      refine br_f (nI_pos (by omega)) (br_t (nI_le (b := 2) (by omega) (by omega)) ⟨by rw [e1]; exact vp_in_nI (by omega) (by omega), ?_⟩)
      rw [e1, nI_clamp (by omega)]
      have hh := h1 i hi c hc rfl rfl
      obtain ⟨_, b1, b2, b3⟩ := r10 i hi
      unfold ct_col at hh
      by_cases c0 : c = 0
      · subst c0; rw [Nat.add_zero, b1]; exact hh
      · by_cases c1 : c = 1
        · subst c1; rw [b2]; exact hh
        · have c2 : c = 2 := by omega
          subst c2; rw [b3]; exact hh
theorem cx_init_293 {post : SX → Prop} (hp : ∀ nx, ct_ch nx 1 (List.range' 1 319) → post (f_minWidth, f_maxWidth, f_slotCount, f_limit, 1, f_inCount, f_pendCount, f_outCount, f_difCount, f_repCount, a_roots, a_keys, a_vals, a_count, a_level, a_total, a_refs, a_bucketOf, nx, a_buckets, a_stack, a_curNode, a_curIdx, a_curHeight, a_curDone, a_inKey, a_inVal, a_pendKey, a_pendVal, a_outKey, a_outVal, a_difKey, a_difA, a_difB, a_difOurs, a_repKey, a_repVal)) :
    ∀ (i : Nat) (f_freeHead : Int32) (a_nextNode : Nat → Int32), i ≤ 319 → ct_ch a_nextNode f_freeHead (List.range' (i + 1) (319 - i)) → (i = 0 → f_freeHead = 1) →
      wX_init_293 post f_minWidth f_maxWidth f_slotCount f_limit f_inCount f_pendCount f_outCount f_difCount f_repCount (i + 1) (nI i) f_freeHead a_roots a_keys a_vals a_count a_level a_total a_refs a_bucketOf a_nextNode a_buckets a_stack a_curNode a_curIdx a_curHeight a_curDone a_inKey a_inVal a_pendKey a_pendVal a_outKey a_outVal a_difKey a_difA a_difB a_difOurs a_repKey a_repVal := by
  intro i
  induction i with
  | zero =>
    intro f_freeHead a_nextNode hi hc h1
    have e := h1 rfl
    subst e
    exact br_t (by decide) (hp _ hc)
  | succ i ih =>
    intro f_freeHead a_nextNode hi hc h1
    refine br_f (nI_nle (by omega) (by omega)) ⟨vp_in_nI (by omega) (by omega), nm_r (e' := upd a_nextNode (i + 1) f_freeHead) (by rw [nI_clamp (by omega)]) (nm_r (pk_m1 i) (ih (nI (i + 1)) _ (by omega) ?_ ?_))⟩
    · rw [show 319 - i = 319 - (i + 1) + 1 by omega, List.range'_succ]
      refine ⟨rfl, ?_⟩
      rw [pk_us]
      refine ct_ch_congr ?_ hc
      intro n hn
      rw [List.mem_range'_1] at hn
      exact pk_un (by omega)
    · intro z; subst z; rfl
end
def ct_clamp (p : Int32) (a b : Nat) : Nat := if nI a ≤ p then (if p ≤ nI b then p.toNatClampNeg else b) else a
theorem ct_clamp_in (p : Int32) {a b : Nat} (hab : a ≤ b) (hb : b < 1000) : a ≤ ct_clamp p a b ∧ ct_clamp p a b ≤ b := by
  unfold ct_clamp
  by_cases z : nI a ≤ p
  · rw [if_pos z]
    by_cases w : p ≤ nI b
    · rw [if_pos w]
      rcases pk_ix p (n := b + 1) (by omega) with y | y | ⟨j, hj, y⟩
      · exact absurd (Int32.lt_of_le_of_lt z y) (nI_pos (by omega))
      · have := Int32.le_trans y w
        exact absurd this (nI_ge (by omega) (by omega))
      · subst y
        rw [nI_clamp (by omega)]
        have := (nI_leI (by omega) (by omega)).mp z
        omega
    · rw [if_neg w]; omega
  · rw [if_neg z]; omega
theorem cx_init {post : SX → Prop} (k0 k1 : Int32) (hp : ∀ u, ct_RX u (ct_clamp k0 2 6) (ct_clamp k1 4 32) (fun _ => []) [] → post u) : wpX_init post k0 k1 := by
  have hsc := ct_clamp_in k0 (a := 2) (b := 6) (by omega) (by omega)
  have hlm := ct_clamp_in k1 (a := 4) (b := 32) (by omega) (by omega)
  have fin : ∀ (z0 x2 : Int32), z0 = nI (ct_clamp k0 2 6) → x2 = nI (ct_clamp k1 4 32) → ∃ n293, wX_init_293 post 2 6 z0 x2 0 0 0 0 0 n293 319 0 (fun _ => 0) (fun _ => 0) (fun _ => 0) (fun _ => 0) (fun _ => 0) (fun _ => 0) (fun _ => 0) (fun _ => 0) (fun _ => 0) (fun _ => 0) (fun _ => 0) (fun _ => 0) (fun _ => 0) (fun _ => 0) (fun _ => 0) (fun _ => 0) (fun _ => 0) (fun _ => 0) (fun _ => 0) (fun _ => 0) (fun _ => 0) (fun _ => 0) (fun _ => 0) (fun _ => 0) (fun _ => 0) (fun _ => 0) (fun _ => 0) := by
    intro z0 x2 e1 e2
    refine ⟨319 + 1, cx_init_293 ?_ 319 0 _ (Nat.le_refl _) rfl (fun z => by omega)⟩
    intro nx hnx
    refine hp _ ⟨e1, e2, hsc.1, hsc.2, hlm.1, hlm.2, ⟨ct_Nd (fun _ => 0) (fun _ => 0) (fun _ => 0) (fun _ => 0) [], 0, ⟨[], ⟨?_, ?_, ?_, ⟨?_, ?_⟩, rfl, rfl, rfl⟩, rfl, by simp⟩, ?_, ?_⟩, rfl, by simp, ct_rpx_nil⟩
    · refine ⟨List.range' 1 319, fun _ => [], by rw [List.append_nil], hnx, ?_⟩
      intro b hb
      exact ⟨rfl, List.nodup_nil, fun n => by simp⟩
    · intro n hn; simp at hn
    · intro n hn; simp at hn
    · intro n hn; simp at hn
    · intro x hx
      obtain ⟨s, _, e⟩ := List.mem_map.mp hx
      exact Or.inl e.symm
    · rintro y l c ⟨n, hn, _⟩
      simp at hn
    · intro s hs
      exact ⟨Or.inl ⟨rfl, rfl⟩, ct_map_nil, by simp⟩
  have f2 : ∀ z0 : Int32, z0 = nI (ct_clamp k0 2 6) → wX_init_261 post k1 z0 2 6 0 0 0 0 0 0 0 0 (fun _ => 0) (fun _ => 0) (fun _ => 0) (fun _ => 0) (fun _ => 0) (fun _ => 0) (fun _ => 0) (fun _ => 0) (fun _ => 0) (fun _ => 0) (fun _ => 0) (fun _ => 0) (fun _ => 0) (fun _ => 0) (fun _ => 0) (fun _ => 0) (fun _ => 0) (fun _ => 0) (fun _ => 0) (fun _ => 0) (fun _ => 0) (fun _ => 0) (fun _ => 0) (fun _ => 0) (fun _ => 0) (fun _ => 0) (fun _ => 0) := by
    intro z0 e1
    unfold ct_clamp at fin hlm
    by_cases z : (4 : Int32) ≤ k1
    · refine br_t z ?_
      by_cases w : k1 ≤ 32
      · refine br_t w (fin z0 k1 e1 ?_)
        have z' : nI 4 ≤ k1 := z
        have w' : k1 ≤ nI 32 := w
        rw [if_pos z', if_pos w']
        obtain ⟨j, hj, ej⟩ := nI_of (x := k1) (fun y => absurd (Int32.lt_of_le_of_lt z' y) (by decide))
        rw [ej, nI_clamp hj]
      · refine br_f w (fin z0 32 e1 ?_)
        have z' : nI 4 ≤ k1 := z
        have w' : ¬ k1 ≤ nI 32 := w
        rw [if_pos z', if_neg w']
        rfl
    · refine br_f z (fin z0 4 e1 ?_)
      have z' : ¬ nI 4 ≤ k1 := z
      rw [if_neg z']
      rfl
  by_cases z : (2 : Int32) ≤ k0
  · refine br_t z ?_
    by_cases w : k0 ≤ 6
    · refine br_t w (f2 k0 ?_)
      unfold ct_clamp
      have z' : nI 2 ≤ k0 := z
      have w' : k0 ≤ nI 6 := w
      rw [if_pos z', if_pos w']
      obtain ⟨j, hj, ej⟩ := nI_of (x := k0) (fun y => absurd (Int32.lt_of_le_of_lt z' y) (by decide))
      rw [ej, nI_clamp hj]
    · refine br_f w (f2 6 ?_)
      unfold ct_clamp
      have z' : nI 2 ≤ k0 := z
      have w' : ¬ k0 ≤ nI 6 := w
      rw [if_pos z', if_neg w']
      rfl
  · refine br_f z (f2 2 ?_)
    unfold ct_clamp
    have z' : ¬ nI 2 ≤ k0 := z
    rw [if_neg z']
    rfl
end
section
/-! a slot of the reference: a bag of cells -/
def ct_bg (ks vs : Nat → Int32) (a n : Nat) : List ct_E := ((List.range' a n).filter (fun i => decide (vs i ≠ 0))).map (fun i => (ks i, vs i))
theorem ct_bg_0 (ks vs : Nat → Int32) (a : Nat) : ct_bg ks vs a 0 = [] := rfl
theorem ct_bg_z {ks vs : Nat → Int32} {a n : Nat} (h : vs a = 0) : ct_bg ks vs a (n + 1) = ct_bg ks vs (a + 1) n := by
  unfold ct_bg
  rw [List.range'_succ, List.filter_cons_of_neg (by simp [h])]
theorem ct_bg_s {ks vs : Nat → Int32} {a n : Nat} (h : vs a ≠ 0) : ct_bg ks vs a (n + 1) = (ks a, vs a) :: ct_bg ks vs (a + 1) n := by
  unfold ct_bg
  rw [List.range'_succ, List.filter_cons_of_pos (by simp [h]), List.map_cons]
theorem ct_bg_congr {ks vs ks' vs' : Nat → Int32} {a n : Nat} (h : ∀ j, a ≤ j → j < a + n → ks' j = ks j ∧ vs' j = vs j) : ct_bg ks' vs' a n = ct_bg ks vs a n := by
  induction n generalizing a with
  | zero => rfl
  | succ n ih =>
    obtain ⟨h1, h2⟩ := h a (by omega) (by omega)
    have ih := ih (a := a + 1) (fun j j1 j2 => h j (by omega) (by omega))
    by_cases z : vs a = 0
    · rw [ct_bg_z z, ct_bg_z (by rw [h2]; exact z), ih]
    · rw [ct_bg_s z, ct_bg_s (by rw [h2]; exact z), ih, h1, h2]
theorem ct_bg_mem {ks vs : Nat → Int32} {a n : Nat} {e : ct_E} : e ∈ ct_bg ks vs a n ↔ ∃ j, a ≤ j ∧ j < a + n ∧ vs j ≠ 0 ∧ e = (ks j, vs j) := by
  unfold ct_bg
  rw [List.mem_map]
  constructor
  · rintro ⟨j, hj, rfl⟩
    rw [List.mem_filter, List.mem_range'_1, decide_eq_true_eq] at hj
    exact ⟨j, hj.1.1, hj.1.2, hj.2, rfl⟩
  · rintro ⟨j, j1, j2, j3, rfl⟩
    exact ⟨j, List.mem_filter.mpr ⟨List.mem_range'_1.mpr ⟨j1, j2⟩, decide_eq_true j3⟩, rfl⟩
theorem ct_bg_len (ks vs : Nat → Int32) (a n : Nat) : (ct_bg ks vs a n).length ≤ n := by
  unfold ct_bg
  rw [List.length_map]
  refine Nat.le_trans (List.length_filter_le _ _) ?_
  rw [List.length_range']
  exact Nat.le_refl _
theorem ct_bg_free {ks vs : Nat → Int32} {a n : Nat} (h : (ct_bg ks vs a n).length < n) : ∃ j, a ≤ j ∧ j < a + n ∧ vs j = 0 := by
  induction n generalizing a with
  | zero => omega
  | succ n ih =>
    by_cases z : vs a = 0
    · exact ⟨a, by omega, by omega, z⟩
    · rw [ct_bg_s z, List.length_cons] at h
      obtain ⟨j, j1, j2, j3⟩ := ih (a := a + 1) (by omega)
      exact ⟨j, by omega, by omega, j3⟩
theorem ct_bg_put {ks vs : Nat → Int32} {k v : Int32} {j : Nat} (hv : v ≠ 0) (hj : vs j = 0) : ∀ {n a : Nat}, a ≤ j → j < a + n → (ct_bg (upd ks j k) (upd vs j v) a n).Perm ((k, v) :: ct_bg ks vs a n)
  | 0, _, h1, h2 => by omega
  | n + 1, a, h1, h2 => by
    by_cases z : a = j
    · subst z
      rw [ct_bg_z hj, ct_bg_s (by rw [pk_us]; exact hv), pk_us, pk_us]
      refine List.Perm.cons _ (List.Perm.of_eq (ct_bg_congr (fun i i1 i2 => ⟨pk_un (by omega), pk_un (by omega)⟩)))
    · have ih := ct_bg_put (ks := ks) (k := k) hv hj (n := n) (a := a + 1) (by omega) (by omega)
      by_cases w : vs a = 0
      · rw [ct_bg_z w, ct_bg_z (by rw [pk_un z]; exact w)]
        exact ih
      · rw [ct_bg_s w, ct_bg_s (by rw [pk_un z]; exact w), pk_un z, pk_un z]
        exact (List.Perm.cons _ ih).trans (List.Perm.swap _ _ _)
/-- cells whose key is hit are emptied -/
theorem ct_bg_zap {ks vs vs' : Nat → Int32} {p : Int32 → Bool} : ∀ {n a : Nat}, (∀ j, a ≤ j → j < a + n → vs' j = if p (ks j) = true then 0 else vs j) → ct_bg ks vs' a n = (ct_bg ks vs a n).filter (fun e => !p e.1)
  | 0, _, _ => rfl
  | n + 1, a, h => by
    have ih := ct_bg_zap (ks := ks) (vs := vs) (vs' := vs') (p := p) (n := n) (a := a + 1) (fun j j1 j2 => h j (by omega) (by omega))
    have h0 := h a (by omega) (by omega)
    by_cases z : vs a = 0
    · have z' : vs' a = 0 := by
        rw [h0]
        by_cases q : p (ks a) = true
        · rw [if_pos q]
        · rw [if_neg q, z]
      rw [ct_bg_z z, ct_bg_z z', ih]
    · rw [ct_bg_s z]
      by_cases q : p (ks a) = true
      · rw [if_pos q] at h0
        rw [ct_bg_z h0, List.filter_cons_of_neg (by simp [q]), ih]
      · rw [if_neg q] at h0
        rw [ct_bg_s (by rw [h0]; exact z), List.filter_cons_of_pos (by simp [q]), ih, h0]
theorem ct_get_perm {l m : List ct_E} (hp : l.Perm m) (hm : ct_map m) (k : Int32) : ct_get l k = ct_get m k := by
  have hl : ∀ e ∈ l, e.2 ≠ 0 := fun e he => ct_map_nz hm (hp.mem_iff.mp he)
  by_cases z : ct_get l k = 0
  · have hno : ∀ e ∈ l, e.1 ≠ k := by
      clear hp
      induction l with
      | nil => simp
      | cons a l ih =>
        by_cases q : a.1 = k
        · rw [ct_get_cons q] at z
          exact absurd z (hl a (by simp))
        · rw [ct_get_cons' q] at z
          intro e he
          rcases List.mem_cons.mp he with w | w
          · rw [w]; exact q
          · exact ih (fun x hx => hl x (by simp [hx])) z e w
    rw [z, ct_get_none (fun e he => hno e (hp.mem_iff.mpr he))]
  · have := hp.mem_iff.mp (ct_mem_get z)
    exact (ct_get_mem hm.1 this).symm
theorem ct_perm_filter {m : List ct_E} (hm : ct_srt m) (lo hi : Int32) (hlh : lo ≤ hi) (I : List ct_E) : (ct_rng m lo hi I).Perm (I ++ m.filter (fun e => !(decide (lo ≤ e.1) && decide (e.1 ≤ hi)))) := by
  unfold ct_rng
  refine (List.perm_append_comm.append_right _).trans ?_
  rw [List.append_assoc]
  refine List.Perm.append_left I ?_
  refine List.Perm.of_eq ?_
  induction m with
  | nil => rfl
  | cons a m ih =>
    have h1 := List.pairwise_cons.mp hm
    have ih := ih h1.2
    by_cases z1 : a.1 < lo
    · rw [List.filter_cons_of_pos (by simpa using z1), List.filter_cons_of_neg (p := fun e : ct_E => decide (hi < e.1)) (by simpa using Int32.le_of_lt (Int32.lt_of_lt_of_le z1 hlh)), List.filter_cons_of_pos (by simp [z1]), ← ih]
      rfl
    · rw [List.filter_cons_of_neg (by simpa using z1)]
      by_cases z2 : hi < a.1
      · have hnil : m.filter (fun e => decide (e.1 < lo)) = [] := by
          rw [List.filter_eq_nil_iff]
          intro e he
          rw [decide_eq_true_eq]
          intro w
          exact z1 (Int32.lt_trans (h1.1 e he) w)
        rw [hnil] at ih ⊢
        rw [List.filter_cons_of_pos (by simpa using z2), List.filter_cons_of_pos (by simp [z2]), ← ih]
        rfl
      · rw [List.filter_cons_of_neg (p := fun e : ct_E => decide (hi < e.1)) (by simpa using z2), List.filter_cons_of_neg (by simp [Int32.not_lt.mp z1, Int32.not_lt.mp z2]), ih]
theorem ct_set_perm {m : List ct_E} (hm : ct_srt m) (k v : Int32) : (ct_set m k v).Perm (ct_one k v ++ m.filter (fun e => !decide (e.1 = k))) := by
  refine (ct_perm_filter hm k k (Int32.le_refl k) (ct_one k v)).trans (List.Perm.of_eq ?_)
  congr 1
  apply List.filter_congr
  intro e _
  congr 1
  by_cases z : e.1 = k
  · simp [z]
  · have : ¬ (k ≤ e.1 ∧ e.1 ≤ k) := fun w => z (Int32.le_antisymm w.2 w.1)
    rw [decide_eq_false z]
    simpa using this
/-- the part of a sorted list up to a key -/
theorem ct_pf_step {β : Type} {L : List (Int32 × β)} {a r : Int32} (hs : ct_srt L) (har : a < r) (hn : ∀ e ∈ L, a < e.1 → r ≤ e.1) :
    L.filter (fun e => decide (e.1 ≤ r)) = L.filter (fun e => decide (e.1 ≤ a)) ++ L.filter (fun e => decide (e.1 = r)) := by
  induction L with
  | nil => rfl
  | cons e L ih =>
    have h1 := List.pairwise_cons.mp hs
    have ih := ih h1.2 (fun x hx => hn x (by simp [hx]))
    by_cases z : e.1 ≤ a
    · have z2 : e.1 ≤ r := Int32.le_of_lt (Int32.lt_of_le_of_lt z har)
      have z3 : ¬ e.1 = r := fun w => by
        rw [w] at z
        exact Int32.not_le.mpr har z
      rw [List.filter_cons_of_pos (by simpa using z2), List.filter_cons_of_pos (p := fun e : Int32 × β => decide (e.1 ≤ a)) (by simpa using z), List.filter_cons_of_neg (p := fun e : Int32 × β => decide (e.1 = r)) (by simpa using z3), ih]
      rfl
    · have ha := Int32.not_le.mp z
      have hr := hn e (by simp) ha
      have hgt : ∀ x ∈ L, r < x.1 := fun x hx => Int32.lt_of_le_of_lt hr (h1.1 x hx)
      have n1 : L.filter (fun e => decide (e.1 ≤ r)) = [] := by
        rw [List.filter_eq_nil_iff]; intro x hx; rw [decide_eq_true_eq]; exact Int32.not_le.mpr (hgt x hx)
      have n2 : L.filter (fun e => decide (e.1 ≤ a)) = [] := by
        rw [List.filter_eq_nil_iff]; intro x hx; rw [decide_eq_true_eq]; exact Int32.not_le.mpr (Int32.lt_trans har (hgt x hx))
      have n3 : L.filter (fun e => decide (e.1 = r)) = [] := by
        rw [List.filter_eq_nil_iff]; intro x hx; rw [decide_eq_true_eq]; exact fun w => Int32.ne_of_lt (hgt x hx) w.symm
      rw [List.filter_cons_of_neg (p := fun e : Int32 × β => decide (e.1 ≤ a)) (by simpa using z), n2, List.nil_append]
      by_cases w : e.1 = r
      · rw [List.filter_cons_of_pos (by rw [w]; simp), List.filter_cons_of_pos (by simp [w]), n1, n3]
      · rw [List.filter_cons_of_neg (by
          rw [decide_eq_true_eq]
          exact fun y => w (Int32.le_antisymm y hr)), List.filter_cons_of_neg (by simpa using w), n1, n3]
theorem ct_pf_one {β : Type} {L : List (Int32 × β)} {x : Int32 × β} (hs : ct_srt L) (hx : x ∈ L) : L.filter (fun e => decide (e.1 = x.1)) = [x] := by
  induction L with
  | nil => simp at hx
  | cons e L ih =>
    have h1 := List.pairwise_cons.mp hs
    rcases List.mem_cons.mp hx with w | w
    · subst w
      rw [List.filter_cons_of_pos (by simp), List.filter_eq_nil_iff.mpr]
      intro y hy
      rw [decide_eq_true_eq]
      exact fun q => Int32.ne_of_lt (h1.1 y hy) q.symm
    · rw [List.filter_cons_of_neg, ih h1.2 w]
      rw [decide_eq_true_eq]
      exact Int32.ne_of_lt (h1.1 x w)
theorem ct_pf_none {β : Type} {L : List (Int32 × β)} {r : Int32} (h : ∀ e ∈ L, e.1 ≠ r) : L.filter (fun e => decide (e.1 = r)) = [] := by
  rw [List.filter_eq_nil_iff]
  intro e he
  rw [decide_eq_true_eq]
  exact h e he
theorem ct_pf_all {β : Type} {L : List (Int32 × β)} {a : Int32} (h : ∀ e ∈ L, ¬ a < e.1) : L.filter (fun e => decide (e.1 ≤ a)) = L := by
  rw [List.filter_eq_self]
  intro e he
  rw [decide_eq_true_eq]
  exact Int32.not_lt.mp (h e he)
theorem ct_pf_0 {β : Type} {L : List (Int32 × β)} (h : ∀ e ∈ L, 0 ≤ e.1) : L.filter (fun e => decide (e.1 ≤ (-1 : Int32))) = [] := by
  rw [List.filter_eq_nil_iff]
  intro e he
  rw [decide_eq_true_eq]
  intro w
  exact absurd (Int32.le_trans (h e he) w) (by decide)
end
section
/-! the reference: basic walks -/
def ct_nx (U : Int32 → Prop) (a r : Int32) : Prop := (r = -1 ∧ ∀ k, U k → k ≤ a) ∨ (U r ∧ a < r ∧ ∀ k, U k → a < k → r ≤ k)
theorem ct_nx_congr {U U' : Int32 → Prop} {a r : Int32} (h : ct_nx U a r) (e : ∀ k, U k ↔ U' k) : ct_nx U' a r := by
  rcases h with ⟨h1, h2⟩ | ⟨h1, h2, h3⟩
  · exact Or.inl ⟨h1, fun k hk => h2 k ((e k).mpr hk)⟩
  · exact Or.inr ⟨(e r).mp h1, h2, fun k hk => h3 k ((e k).mpr hk)⟩
def ct_rpy (rk rv : Nat → Int32) (rp : List ct_D4) : Prop := ∀ i (h : i < rp.length), rk i = (rp[i]).1 ∧ rv (i * 3) = (rp[i]).2.1 ∧ rv (i * 3 + 1) = (rp[i]).2.2.1 ∧ rv (i * 3 + 2) = (rp[i]).2.2.2
theorem ct_rpy_nil {rk rv : Nat → Int32} : ct_rpy rk rv [] := fun i h => absurd h (by simp)
theorem ct_rpy_snoc {rk rv : Nat → Int32} {rp : List ct_D4} (H : ct_rpy rk rv rp) (k x y z : Int32) :
    ct_rpy (upd rk rp.length k) (upd (upd (upd rv (rp.length * 3) x) (rp.length * 3 + 1) y) (rp.length * 3 + 2) z) (rp ++ [(k, x, y, z)]) := by
  intro i h
  rw [List.length_append, List.length_singleton] at h
  by_cases w : i = rp.length
  · subst w
    have hg : (rp ++ [(k, x, y, z)])[rp.length]'(by simp) = (k, x, y, z) := by simp
    rw [hg]
    refine ⟨pk_us, ?_, ?_, pk_us⟩
    · rw [pk_un (by omega), pk_un (by omega), pk_us]
    · rw [pk_un (by omega), pk_us]
  · rw [List.getElem_append_left (by omega)]
    obtain ⟨a1, a2, a3, a4⟩ := H i (by omega)
    refine ⟨?_, ?_, ?_, ?_⟩
    · rw [pk_un w]; exact a1
    · rw [pk_un (by omega), pk_un (by omega), pk_un (by omega)]; exact a2
    · rw [pk_un (by omega), pk_un (by omega), pk_un (by omega)]; exact a3
    · rw [pk_un (by omega), pk_un (by omega), pk_un (by omega)]; exact a4
theorem cy_mul (s : Nat) : nI s * 32 = nI (s * 32) := pk_mul s 32
theorem cy_end (s : Nat) : nI s * 32 + 32 = nI (s * 32 + 32) := by rw [cy_mul]; exact nI_add _ 32
section
variable {f_recCount f_slotCount f_cap : Int32} {a_keys a_vals a_newKeys a_newVals a_recKeys a_recVals : Nat → Int32} {sc s : Nat} {M : List ct_E}
theorem cy_valid1 {post : Int32 → Prop} (hsc : f_slotCount = nI sc) (h6 : sc ≤ 6) (hs : s < sc) (hp : post 1) : wpY_valid post (f_recCount, f_slotCount, f_cap, a_keys, a_vals, a_newKeys, a_newVals, a_recKeys, a_recVals) (nI s) := by
  subst hsc
  exact br_f (nI_pos (by omega)) (br_f (nI_ge hs (by omega)) hp)
theorem cy_valid0 {post : Int32 → Prop} {p : Int32} (hsc : f_slotCount = nI sc) (hi : p < 0 ∨ nI sc ≤ p) (hp : post 0) : wpY_valid post (f_recCount, f_slotCount, f_cap, a_keys, a_vals, a_newKeys, a_newVals, a_recKeys, a_recVals) p := by
  subst hsc
  by_cases z : p < 0
  · exact br_t z hp
  · rcases hi with w | w
    · exact absurd w z
    · exact br_f z (br_t w hp)
theorem cy_valueIn_5 {post : Int32 → Prop} {k : Int32} (hs : s < 6) : ∀ d i, i + d = s * 32 + 32 → post (ct_get (ct_bg a_keys a_vals i d) k) → wY_valueIn_5 post (nI s) k f_recCount f_slotCount f_cap a_keys a_vals a_newKeys a_newVals a_recKeys a_recVals (d + 1) (nI i) := by
  intro d
  induction d with
  | zero =>
    intro i hi hp
    exact br_t (by rw [cy_end]; exact nI_le (by omega) (by omega)) hp
  | succ d ih =>
    intro i hi hp
    have hv : vp_in (nI i) 192 := vp_in_nI (by omega) (by omega)
    have cl := nI_clamp (n := i) (by omega)
    refine br_f (by rw [cy_end]; exact nI_ge (by omega) (by omega)) ⟨hv, ?_⟩
    rw [cl]
    by_cases z : a_vals i = 0
    · rw [ct_bg_z z] at hp
      exact br_t z (nm_r (nI_1 i) (ih (i + 1) (by omega) hp))
    · rw [ct_bg_s z] at hp
      refine br_f z ⟨hv, ?_⟩
      by_cases q : a_keys i = k
      · rw [ct_get_cons q] at hp
        exact br_t q ⟨hv, hp⟩
      · rw [ct_get_cons' q] at hp
        exact br_f q (nm_r (nI_1 i) (ih (i + 1) (by omega) hp))
theorem cy_valueIn {post : Int32 → Prop} {k : Int32} (hs : s < 6) (hb : (ct_bg a_keys a_vals (s * 32) 32).Perm M) (hM : ct_map M) (hp : post (ct_get M k)) : wpY_valueIn post (f_recCount, f_slotCount, f_cap, a_keys, a_vals, a_newKeys, a_newVals, a_recKeys, a_recVals) (nI s) k := by
  unfold wpY_valueIn
  dsimp only
  exact nm_r (cy_mul s) ⟨33, cy_valueIn_5 hs 32 (s * 32) (by omega) (by rw [ct_get_perm hb hM]; exact hp)⟩
theorem cy_size_17 {post : Int32 → Prop} (hs : s < 6) : ∀ d i c, i + d = s * 32 + 32 → post (nI (c + (ct_bg a_keys a_vals i d).length)) → wY_size_17 post (nI s) f_recCount f_slotCount f_cap a_keys a_vals a_newKeys a_newVals a_recKeys a_recVals (d + 1) (nI c) (nI i) := by
  intro d
  induction d with
  | zero =>
    intro i c hi hp
    exact br_t (by rw [cy_end]; exact nI_le (by omega) (by omega)) hp
  | succ d ih =>
    intro i c hi hp
    have hv : vp_in (nI i) 192 := vp_in_nI (by omega) (by omega)
    have cl := nI_clamp (n := i) (by omega)
    refine br_f (by rw [cy_end]; exact nI_ge (by omega) (by omega)) ⟨hv, ?_⟩
    rw [cl]
    by_cases z : a_vals i = 0
    · rw [ct_bg_z z] at hp
      exact br_t z (nm_r (nI_1 i) (ih (i + 1) c (by omega) hp))
    · rw [ct_bg_s z, List.length_cons, show c + ((ct_bg a_keys a_vals (i + 1) d).length + 1) = c + 1 + (ct_bg a_keys a_vals (i + 1) d).length by omega] at hp
      exact br_f z (nm_r (nI_1 c) (nm_r (nI_1 i) (ih (i + 1) (c + 1) (by omega) hp)))
theorem cy_size {post : Int32 → Prop} (hsc : f_slotCount = nI sc) (h6 : sc ≤ 6) (hs : s < sc) (hb : (ct_bg a_keys a_vals (s * 32) 32).Perm M) (hp : post (nI M.length)) : wpY_size post (f_recCount, f_slotCount, f_cap, a_keys, a_vals, a_newKeys, a_newVals, a_recKeys, a_recVals) (nI s) := by
  unfold wpY_size
  dsimp only
  refine cy_valid1 hsc h6 hs ?_
  exact br_f (by decide) (nm_r (cy_mul s) ⟨33, cy_size_17 (by omega) 32 (s * 32) 0 (by omega) (by rw [hb.length_eq, Nat.zero_add]; exact hp)⟩)
theorem cy_rank_18 {post : Int32 → Prop} {b : Int32} (hs : s < 6) : ∀ d i c, i + d = s * 32 + 32 → post (nI (c + (ct_bg a_keys a_vals i d).countP (fun e => decide (e.1 < b)))) → wY_rank_18 post (nI s) b f_recCount f_slotCount f_cap a_keys a_vals a_newKeys a_newVals a_recKeys a_recVals (d + 1) (nI c) (nI i) := by
  intro d
  induction d with
  | zero =>
    intro i c hi hp
    exact br_t (by rw [cy_end]; exact nI_le (by omega) (by omega)) hp
  | succ d ih =>
    intro i c hi hp
    have hv : vp_in (nI i) 192 := vp_in_nI (by omega) (by omega)
    have cl := nI_clamp (n := i) (by omega)
    refine br_f (by rw [cy_end]; exact nI_ge (by omega) (by omega)) ⟨hv, ?_⟩
    rw [cl]
    by_cases z : a_vals i = 0
    · rw [ct_bg_z z] at hp
      exact br_t z (nm_r (nI_1 i) (ih (i + 1) c (by omega) hp))
    · rw [ct_bg_s z, List.countP_cons] at hp
      refine br_f z ⟨hv, ?_⟩
      by_cases q : b ≤ a_keys i
      · have q' : ¬ a_keys i < b := Int32.not_lt.mpr q
        rw [if_neg (by simpa using q), Nat.add_zero] at hp
        exact br_t q (nm_r (nI_1 i) (ih (i + 1) c (by omega) hp))
      · rw [if_pos (by simpa using Int32.not_le.mp q), show c + ((ct_bg a_keys a_vals (i + 1) d).countP (fun e => decide (e.1 < b)) + 1) = c + 1 + (ct_bg a_keys a_vals (i + 1) d).countP (fun e => decide (e.1 < b)) by omega] at hp
        exact br_f q (nm_r (nI_1 c) (nm_r (nI_1 i) (ih (i + 1) (c + 1) (by omega) hp)))
theorem cy_rank {post : Int32 → Prop} {b : Int32} (hsc : f_slotCount = nI sc) (h6 : sc ≤ 6) (hs : s < sc) (hb : (ct_bg a_keys a_vals (s * 32) 32).Perm M) (hp : post (nI (M.countP (fun e => decide (e.1 < b))))) : wpY_rank post (f_recCount, f_slotCount, f_cap, a_keys, a_vals, a_newKeys, a_newVals, a_recKeys, a_recVals) (nI s) b := by
  unfold wpY_rank
  dsimp only
  refine cy_valid1 hsc h6 hs ?_
  exact br_f (by decide) (nm_r (cy_mul s) ⟨33, cy_rank_18 (by omega) 32 (s * 32) 0 (by omega) (by rw [hb.countP_eq, Nat.zero_add]; exact hp)⟩)
theorem cy_put_6 {post : SY → Prop} {k v : Int32} (hs : s < 6) (K : ∀ vs, (∀ j, (j < s * 32 ∨ s * 32 + 32 ≤ j) → vs j = a_vals j) → (∀ j, s * 32 ≤ j → j < s * 32 + 32 → vs j = if decide (a_keys j = k) = true then 0 else a_vals j) →
      ((v = 0 → post (f_recCount, f_slotCount, f_cap, a_keys, vs, a_newKeys, a_newVals, a_recKeys, a_recVals)) ∧ (¬ v = 0 → ∃ n54, wY_put_54 post (nI s) k v f_recCount f_slotCount f_cap a_keys vs a_newKeys a_newVals a_recKeys a_recVals n54 (nI (s * 32))))) :
    ∀ d i (vs : Nat → Int32), i + d = s * 32 + 32 → s * 32 ≤ i → (∀ j, (j < s * 32 ∨ i ≤ j) → vs j = a_vals j) → (∀ j, s * 32 ≤ j → j < i → vs j = if decide (a_keys j = k) = true then 0 else a_vals j) → wY_put_6 post (nI s) k v f_recCount f_slotCount f_cap (d + 1) (nI i) a_keys vs a_newKeys a_newVals a_recKeys a_recVals := by
  intro d
  induction d with
  | zero =>
    intro i vs hi hle h1 h2
    have : i = s * 32 + 32 := by omega
    subst this
    refine br_t (by rw [cy_end]; exact nI_le (by omega) (by omega)) ?_
    obtain ⟨k1, k2⟩ := K vs h1 h2
    exact ⟨k1, fun z => nm_r (cy_mul s) (k2 z)⟩
  | succ d ih =>
    intro i vs hi hle h1 h2
    have hv : vp_in (nI i) 192 := vp_in_nI (by omega) (by omega)
    have cl := nI_clamp (n := i) (by omega)
    refine br_f (by rw [cy_end]; exact nI_ge (by omega) (by omega)) ⟨hv, ?_⟩
    rw [cl]
    by_cases z : a_keys i = k
    · refine br_t z ⟨hv, nm_r (e' := upd vs i 0) rfl (nm_r (nI_1 i) (ih (i + 1) _ (by omega) (by omega) ?_ ?_))⟩
      · intro j hj
        rw [pk_un (by omega)]
        exact h1 j (by omega)
      · intro j j1 j2
        by_cases w : j = i
        · subst w
          rw [pk_us, if_pos (by simpa using z)]
        · rw [pk_un w]
          exact h2 j j1 (by omega)
    · refine br_f z (nm_r (nI_1 i) (ih (i + 1) _ (by omega) (by omega) (fun j hj => h1 j (by omega)) ?_))
      intro j j1 j2
      by_cases w : j = i
      · subst w
        rw [h1 j (by omega), if_neg (by simpa using z)]
      · exact h2 j j1 (by omega)
theorem cy_put_54 {post : SY → Prop} {k v : Int32} (hs : s < 6) (K : ∀ j, s * 32 ≤ j → j < s * 32 + 32 → a_vals j = 0 → post (f_recCount, f_slotCount, f_cap, upd a_keys j k, upd a_vals j v, a_newKeys, a_newVals, a_recKeys, a_recVals)) :
    ∀ d i, i + d = s * 32 + 32 → s * 32 ≤ i → (∃ j, i ≤ j ∧ j < s * 32 + 32 ∧ a_vals j = 0) → wY_put_54 post (nI s) k v f_recCount f_slotCount f_cap a_keys a_vals a_newKeys a_newVals a_recKeys a_recVals (d + 1) (nI i) := by
  intro d
  induction d with
  | zero =>
    rintro i hi hle ⟨j, j1, j2, _⟩
    omega
  | succ d ih =>
    rintro i hi hle ⟨j, j1, j2, j3⟩
    have hv : vp_in (nI i) 192 := vp_in_nI (by omega) (by omega)
    have cl := nI_clamp (n := i) (by omega)
    refine br_f (by rw [cy_end]; exact nI_ge (by omega) (by omega)) ⟨hv, ?_⟩
    rw [cl]
    by_cases z : a_vals i = 0
    · exact br_t z ⟨hv, nm_r (e' := upd a_keys i k) rfl ⟨hv, nm_r (e' := upd a_vals i v) rfl (K i hle (by omega) z)⟩⟩
    · refine br_f z (nm_r (nI_1 i) (ih (i + 1) (by omega) (by omega) ⟨j, ?_, j2, j3⟩))
      have : j ≠ i := fun w => z (w ▸ j3)
      omega
theorem cy_put {post : SY → Prop} {k v : Int32} (hs : s < 6) (hb : (ct_bg a_keys a_vals (s * 32) 32).Perm M) (hM : ct_map M) (hl : (ct_set M k v).length ≤ 32)
    (hp : ∀ ks vs, (ct_bg ks vs (s * 32) 32).Perm (ct_set M k v) → (∀ j, (j < s * 32 ∨ s * 32 + 32 ≤ j) → ks j = a_keys j ∧ vs j = a_vals j) → post (f_recCount, f_slotCount, f_cap, ks, vs, a_newKeys, a_newVals, a_recKeys, a_recVals)) : wpY_put post (f_recCount, f_slotCount, f_cap, a_keys, a_vals, a_newKeys, a_newVals, a_recKeys, a_recVals) (nI s) k v := by
  have hsp := ct_set_perm hM.1 k v
  unfold wpY_put
  dsimp only
  refine nm_r (cy_mul s) ⟨33, cy_put_6 hs ?_ 32 (s * 32) a_vals (by omega) (by omega) (fun _ _ => rfl) (fun j j1 j2 => by omega)⟩
  intro vs h1 h2
  have hz := ct_bg_zap (ks := a_keys) (vs := a_vals) (vs' := vs) (p := fun x => decide (x = k)) (n := 32) (a := s * 32) h2
  have hz2 : (ct_bg a_keys vs (s * 32) 32).Perm (M.filter (fun e => !decide (e.1 = k))) := by rw [hz]; exact hb.filter _
  constructor
  · intro z
    refine hp a_keys vs ?_ (fun j hj => ⟨rfl, h1 j hj⟩)
    have hone : ct_one k v = [] := by unfold ct_one; rw [if_pos z]
    rw [hone, List.nil_append] at hsp
    exact hz2.trans hsp.symm
  · intro z
    have hone : ct_one k v = [(k, v)] := by unfold ct_one; rw [if_neg z]
    rw [hone] at hsp
    have hlen : (ct_bg a_keys vs (s * 32) 32).length < 32 := by
      have e1 := hz2.length_eq
      have e2 := hsp.length_eq
      rw [List.length_append, List.length_singleton] at e2
      omega
    obtain ⟨j, j1, j2, j3⟩ := ct_bg_free hlen
    refine ⟨33, cy_put_54 hs ?_ 32 (s * 32) (by omega) (by omega) ⟨j, j1, j2, j3⟩⟩
    intro i i1 i2 i3
    refine hp _ _ ?_ (fun j hj => ⟨pk_un (by omega), by rw [pk_un (by omega)]; exact h1 j hj⟩)
    exact ((ct_bg_put z i3 i1 i2).trans (List.Perm.cons _ hz2)).trans hsp.symm
theorem cy_addRecord {post : SY → Prop} {rp : List ct_D4} {k x y z : Int32} (hc : f_recCount = nI rp.length) (hr : ct_rpy a_recKeys a_recVals rp) (h64 : rp.length < 64)
    (hp : ∀ rk rv, ct_rpy rk rv (rp ++ [(k, x, y, z)]) → post (nI (rp ++ [(k, x, y, z)]).length, f_slotCount, f_cap, a_keys, a_vals, a_newKeys, a_newVals, rk, rv)) : wpY_addRecord post (f_recCount, f_slotCount, f_cap, a_keys, a_vals, a_newKeys, a_newVals, a_recKeys, a_recVals) k x y z := by
  subst hc
  have e0 : nI rp.length * 3 = nI (rp.length * 3) := pk_mul _ 3
  have e1 : nI rp.length * 3 + 1 = nI (rp.length * 3 + 1) := by rw [e0]; exact nI_1 _
  have e2 : nI rp.length * 3 + 2 = nI (rp.length * 3 + 2) := by rw [e0]; exact nI_add _ 2
  have cl := nI_clamp (n := rp.length) (by omega)
  have cl0 := nI_clamp (n := rp.length * 3) (by omega)
  have cl1 := nI_clamp (n := rp.length * 3 + 1) (by omega)
  have cl2 := nI_clamp (n := rp.length * 3 + 2) (by omega)
  refine br_f (nI_pos (by omega)) (br_t (nI_lt (b := 64) h64 (by omega)) ⟨vp_in_nI (by omega) (by omega), nm_r (e' := upd a_recKeys rp.length k) (by rw [cl]) ⟨by rw [e0]; exact vp_in_nI (by omega) (by omega), nm_r (e' := upd a_recVals (rp.length * 3) x) (by rw [e0, cl0]) ⟨by rw [e1]; exact vp_in_nI (by omega) (by omega),
    nm_r (e' := upd (upd a_recVals (rp.length * 3) x) (rp.length * 3 + 1) y) (by rw [e1, cl1]) ⟨by rw [e2]; exact vp_in_nI (by omega) (by omega), nm_r (e' := upd (upd (upd a_recVals (rp.length * 3) x) (rp.length * 3 + 1) y) (rp.length * 3 + 2) z) (by rw [e2, cl2]) (nm_r (e' := nI (rp ++ [(k, x, y, z)]).length) (by rw [nI_1, List.length_append]; rfl) (hp _ _ (ct_rpy_snoc hr k x y z)))⟩⟩⟩⟩)
end
end
section
/-! the reference: nextKey, keyAt, same -/
theorem ct_nx_skip {U : Int32 → Prop} {a r k0 : Int32} (h : ct_nx U a r) (hk : k0 ≤ a) : ct_nx (fun k => U k ∨ k0 = k) a r := by
  rcases h with ⟨h1, h2⟩ | ⟨h1, h2, h3⟩
  · refine Or.inl ⟨h1, fun k hk' => ?_⟩
    rcases hk' with w | w
    · exact h2 k w
    · rw [← w]; exact hk
  · refine Or.inr ⟨Or.inl h1, h2, fun k hk' hak => ?_⟩
    rcases hk' with w | w
    · exact h3 k w hak
    · rw [← w] at hak
      exact absurd hak (Int32.not_lt.mpr hk)
theorem ct_nx_neg {U : Int32 → Prop} {a r : Int32} (h : ct_nx U a r) (ha : -1 ≤ a) : r < 0 ↔ (r = -1 ∧ ∀ k, U k → k ≤ a) := by
  constructor
  · intro hr
    rcases h with h | ⟨h1, h2, h3⟩
    · exact h
    · exfalso
      rw [Int32.lt_iff_toInt_lt] at h2 hr
      rw [Int32.le_iff_toInt_le] at ha
      have e1 : (-1 : Int32).toInt = -1 := by decide
      have e2 : (0 : Int32).toInt = 0 := by decide
      omega
  · rintro ⟨h, _⟩
    rw [h]
    decide
theorem ct_nx_first {U : Int32 → Prop} {a r k0 : Int32} (h : ct_nx U a r) (ha : -1 ≤ a) (hk : a < k0) (hr : r < 0) : ct_nx (fun k => U k ∨ k0 = k) a k0 := by
  obtain ⟨h1, h2⟩ := (ct_nx_neg h ha).mp hr
  refine Or.inr ⟨Or.inr rfl, hk, fun k hk' hak => ?_⟩
  rcases hk' with w | w
  · exact absurd (h2 k w) (Int32.not_le.mpr hak)
  · rw [w]; exact Int32.le_refl _
theorem ct_nx_keep {U : Int32 → Prop} {a r k0 : Int32} (h : ct_nx U a r) (ha : -1 ≤ a) (hr : ¬ r < 0) (hk : r ≤ k0) : ct_nx (fun k => U k ∨ k0 = k) a r := by
  rcases h with ⟨h1, h2⟩ | ⟨h1, h2, h3⟩
  · rw [h1] at hr; exact absurd (by decide) hr
  · refine Or.inr ⟨Or.inl h1, h2, fun k hk' hak => ?_⟩
    rcases hk' with w | w
    · exact h3 k w hak
    · rw [← w]; exact hk
theorem ct_nx_less {U : Int32 → Prop} {a r k0 : Int32} (h : ct_nx U a r) (ha : -1 ≤ a) (hr : ¬ r < 0) (hk : ¬ r ≤ k0) (hak0 : a < k0) : ct_nx (fun k => U k ∨ k0 = k) a k0 := by
  rcases h with ⟨h1, h2⟩ | ⟨h1, h2, h3⟩
  · rw [h1] at hr; exact absurd (by decide) hr
  · refine Or.inr ⟨Or.inr rfl, hak0, fun k hk' hak => ?_⟩
    rcases hk' with w | w
    · exact Int32.le_trans (Int32.le_of_lt (Int32.not_le.mp hk)) (h3 k w hak)
    · rw [w]; exact Int32.le_refl _
section
variable {f_recCount f_slotCount f_cap : Int32} {a_keys a_vals a_newKeys a_newVals a_recKeys a_recVals : Nat → Int32} {sc s : Nat} {M : List ct_E}
theorem cy_nk_43 {post : Int32 → Prop} {J : Int32 → Int32 → Prop} {x1 x2 x3 a : Int32} (hs : s < 6) (ha : -1 ≤ a) :
    ∀ d i (U : Int32 → Prop) (best : Int32), i + d = s * 32 + 32 → ct_nx U a best → (∀ best', ct_nx (fun k => U k ∨ ∃ e ∈ ct_bg a_keys a_vals i d, e.1 = k) a best' → J best' (nI (s + 1))) → wY_nextKey_43 post J x1 x2 x3 a (nI s) f_recCount f_slotCount f_cap a_keys a_vals a_newKeys a_newVals a_recKeys a_recVals (d + 1) best (nI i) := by
  intro d
  induction d with
  | zero =>
    intro i U best hi hb K
    refine br_t (by rw [cy_end]; exact nI_le (by omega) (by omega)) (nm_r (nI_1 s) (K best (ct_nx_congr hb (fun k => ?_))))
    constructor
    · exact Or.inl
    · rintro (w | ⟨e, he, _⟩)
      · exact w
      · rw [ct_bg_0] at he; simp at he
  | succ d ih =>
    intro i U best hi hb K
    have hv : vp_in (nI i) 192 := vp_in_nI (by omega) (by omega)
    have cl := nI_clamp (n := i) (by omega)
    refine br_f (by rw [cy_end]; exact nI_ge (by omega) (by omega)) ⟨hv, ?_⟩
    rw [cl]
    by_cases z : a_vals i = 0
    · rw [ct_bg_z z] at K
      exact br_t z (nm_r (nI_1 i) (ih (i + 1) U best (by omega) hb K))
    · rw [ct_bg_s z] at K
      refine br_f z ⟨hv, ?_⟩
      have K2 : ∀ best', ct_nx (fun k => (U k ∨ a_keys i = k) ∨ ∃ e ∈ ct_bg a_keys a_vals (i + 1) d, e.1 = k) a best' → J best' (nI (s + 1)) := by
        intro best' hb'
        refine K best' (ct_nx_congr hb' (fun k => ?_))
        constructor
        · rintro ((w | w) | ⟨e, he, hk⟩)
          · exact Or.inl w
          · exact Or.inr ⟨(a_keys i, a_vals i), by simp, w⟩
          · exact Or.inr ⟨e, by simp [he], hk⟩
        · rintro (w | ⟨e, he, hk⟩)
          · exact Or.inl (Or.inl w)
          · rcases List.mem_cons.mp he with y | y
            · rw [y] at hk; exact Or.inl (Or.inr hk)
            · exact Or.inr ⟨e, y, hk⟩
      by_cases q : a_keys i ≤ a
      · exact br_t q (nm_r (nI_1 i) (ih (i + 1) _ best (by omega) (ct_nx_skip hb q) K2))
      · refine br_f q ?_
        have q' := Int32.not_le.mp q
        by_cases w : best < 0
        · exact br_t w ⟨hv, nm_e (nm_r (nI_1 i) (ih (i + 1) _ _ (by omega) (ct_nx_first hb ha q' w) K2))⟩
        · refine br_f w ⟨hv, ?_⟩
          by_cases y : best ≤ a_keys i
          · exact br_t y (nm_r (nI_1 i) (ih (i + 1) _ best (by omega) (ct_nx_keep hb ha w y) K2))
          · exact br_f y ⟨hv, nm_e (nm_r (nI_1 i) (ih (i + 1) _ _ (by omega) (ct_nx_less hb ha w y q') K2))⟩
theorem cy_nextKey {post : Int32 → Prop} {p q t : Nat} {a : Int32} {mp mq mt : List ct_E} (hsc : f_slotCount = nI sc) (h6 : sc ≤ 6) (hp : p < sc) (hq : q < sc) (ht : t < sc) (ha : -1 ≤ a) (bp : (ct_bg a_keys a_vals (p * 32) 32).Perm mp) (bq : (ct_bg a_keys a_vals (q * 32) 32).Perm mq) (bt : (ct_bg a_keys a_vals (t * 32) 32).Perm mt)
    (hpost : ∀ r, ct_nx (fun k => ∃ e ∈ mp ++ mq ++ mt, e.1 = k) a r → post r) : wpY_nextKey post (f_recCount, f_slotCount, f_cap, a_keys, a_vals, a_newKeys, a_newVals, a_recKeys, a_recVals) (nI p) (nI q) (nI t) a := by
  subst hsc
  have key : ∀ d s best, s + d = sc → ct_nx (fun k => ∃ s', s' < s ∧ (s' = p ∨ s' = q ∨ s' = t) ∧ ∃ e ∈ ct_bg a_keys a_vals (s' * 32) 32, e.1 = k) a best → wY_nextKey_6 post (nI p) (nI q) (nI t) a f_recCount (nI sc) f_cap a_keys a_vals a_newKeys a_newVals a_recKeys a_recVals (d + 1) best (nI s) := by
    intro d
    induction d with
    | zero =>
      intro s best hs hb
      have : s = sc := by omega
      subst this
      refine br_t (Int32.le_refl _) (hpost best (ct_nx_congr hb (fun k => ?_)))
      constructor
      · rintro ⟨s', _, hs', e, he, hk⟩
        refine ⟨e, ?_, hk⟩
        simp only [List.mem_append]
        rcases hs' with w | w | w
        · subst w; exact Or.inl (Or.inl (bp.mem_iff.mp he))
        · subst w; exact Or.inl (Or.inr (bq.mem_iff.mp he))
        · subst w; exact Or.inr (bt.mem_iff.mp he)
      · rintro ⟨e, he, hk⟩
        simp only [List.mem_append] at he
        rcases he with (w | w) | w
        · exact ⟨p, hp, Or.inl rfl, e, bp.mem_iff.mpr w, hk⟩
        · exact ⟨q, hq, Or.inr (Or.inl rfl), e, bq.mem_iff.mpr w, hk⟩
        · exact ⟨t, ht, Or.inr (Or.inr rfl), e, bt.mem_iff.mpr w, hk⟩
    | succ d ih =>
      intro s best hs hb
      have hin : (s = p ∨ s = q ∨ s = t) → ∃ n43, wY_nextKey_43 post (wY_nextKey_6 post (nI p) (nI q) (nI t) a f_recCount (nI sc) f_cap a_keys a_vals a_newKeys a_newVals a_recKeys a_recVals (d + 1)) (nI p) (nI q) (nI t) a (nI s) f_recCount (nI sc) f_cap a_keys a_vals a_newKeys a_newVals a_recKeys a_recVals n43 best (nI (s * 32)) := by
        intro hc
        refine ⟨33, cy_nk_43 (by omega) ha 32 (s * 32) _ best (by omega) hb ?_⟩
        intro best' hb'
        refine ih (s + 1) best' (by omega) (ct_nx_congr hb' (fun k => ?_))
        constructor
        · rintro (⟨s', h1, h2⟩ | ⟨e, he, hk⟩)
          · exact ⟨s', by omega, h2⟩
          · exact ⟨s, by omega, hc, e, he, hk⟩
        · rintro ⟨s', h1, h2, e, he, hk⟩
          by_cases z : s' = s
          · subst z; exact Or.inr ⟨e, he, hk⟩
          · exact Or.inl ⟨s', by omega, h2, e, he, hk⟩
      have inj : ∀ x, x < sc → (nI s = nI x ↔ s = x) := fun x hx => nI_eq (by omega) (by omega)
      refine br_f (nI_ge (by omega) (by omega)) ?_
      by_cases z1 : s = p
      · exact br_t ((inj p hp).mpr z1) (nm_r (cy_mul s) (hin (Or.inl z1)))
      · refine br_f (fun w => z1 ((inj p hp).mp w)) ?_
        by_cases z2 : s = q
        · exact br_t ((inj q hq).mpr z2) (nm_r (cy_mul s) (hin (Or.inr (Or.inl z2))))
        · refine br_f (fun w => z2 ((inj q hq).mp w)) ?_
          by_cases z3 : s = t
          · exact br_t ((inj t ht).mpr z3) (nm_r (cy_mul s) (hin (Or.inr (Or.inr z3))))
          · refine br_f (fun w => z3 ((inj t ht).mp w)) (nm_r (nI_1 s) (ih (s + 1) best (by omega) (ct_nx_congr hb (fun k => ?_))))
            constructor
            · rintro ⟨s', h1, h2⟩
              exact ⟨s', by omega, h2⟩
            · rintro ⟨s', h1, h2, e, he, hk⟩
              have : s' ≠ s := by
                intro w
                subst w
                rcases h2 with h2 | h2 | h2
                · exact z1 h2
                · exact z2 h2
                · exact z3 h2
              exact ⟨s', by omega, h2, e, he, hk⟩
  unfold wpY_nextKey
  dsimp only
  refine ⟨sc + 1, key sc 0 (-1) (by omega) (Or.inl ⟨rfl, ?_⟩)⟩
  rintro k ⟨s', h1, _⟩
  omega
theorem ct_rank_at {M : List ct_E} (hM : ct_srt M) {i : Nat} (hi : i < M.length) : M.countP (fun e => decide (e.1 < (M[i]).1)) = i := by
  have h1 : M = M.take i ++ M[i] :: M.drop (i + 1) := by rw [← List.drop_eq_getElem_cons hi, List.take_append_drop]
  have hs := hM
  rw [h1] at hs
  have hs1 := List.pairwise_append.mp hs
  have hs2 := List.pairwise_cons.mp hs1.2.1
  generalize hx : M[i] = x at *
  rw [h1, List.countP_append, List.countP_cons]
  have a1 : (M.take i).countP (fun e => decide (e.1 < x.1)) = i := by
    rw [List.countP_eq_length.mpr, List.length_take]
    · omega
    · intro e he
      rw [decide_eq_true_eq]
      exact hs1.2.2 e he x (by simp)
  have a2 : (M.drop (i + 1)).countP (fun e => decide (e.1 < x.1)) = 0 := by
    rw [List.countP_eq_zero]
    intro e he
    rw [decide_eq_true_eq]
    exact Int32.lt_asymm (hs2.1 e he)
  rw [a1, a2, if_neg (by simp)]
  omega
theorem cy_keyAt {post : Int32 → Prop} {p : Int32} (hsc : f_slotCount = nI sc) (h6 : sc ≤ 6) (hs : s < sc) (hb : (ct_bg a_keys a_vals (s * 32) 32).Perm M) (hM : ct_map M) (hl : M.length ≤ 32)
    (h0 : (p < 0 ∨ nI M.length ≤ p) → post (-5)) (h1 : ∀ i e, p = nI i → M[i]? = some e → post e.1) : wpY_keyAt post (f_recCount, f_slotCount, f_cap, a_keys, a_vals, a_newKeys, a_newVals, a_recKeys, a_recVals) (nI s) p := by
  have key : ∀ d i, i + d = s * 32 + 32 → s * 32 ≤ i → (∀ e ∈ M, nI (M.countP (fun x => decide (x.1 < e.1))) = p → ∃ j, i ≤ j ∧ j < s * 32 + 32 ∧ a_vals j ≠ 0 ∧ e = (a_keys j, a_vals j)) → wY_keyAt_15 post (nI s) p f_recCount f_slotCount f_cap a_keys a_vals a_newKeys a_newVals a_recKeys a_recVals (d + 1) (nI i) := by
    intro d
    induction d with
    | zero =>
      intro i hi hle hno
      refine br_t (by rw [cy_end]; exact nI_le (by omega) (by omega)) (h0 ?_)
      rcases pk_ix p (n := M.length) (by omega) with z | z | ⟨j, hj, z⟩
      · exact Or.inl z
      · exact Or.inr z
      · exfalso
        have := hno (M[j]) (List.getElem_mem hj) (by rw [ct_rank_at hM.1 hj, z])
        obtain ⟨x, x1, x2, _⟩ := this
        omega
    | succ d ih =>
      intro i hi hle hno
      have hv : vp_in (nI i) 192 := vp_in_nI (by omega) (by omega)
      have cl := nI_clamp (n := i) (by omega)
      refine br_f (by rw [cy_end]; exact nI_ge (by omega) (by omega)) ⟨hv, ?_⟩
      rw [cl]
      by_cases z : a_vals i = 0
      · refine br_t z (nm_r (nI_1 i) (ih (i + 1) (by omega) (by omega) ?_))
        intro e he hr
        obtain ⟨j, j1, j2, j3, j4⟩ := hno e he hr
        refine ⟨j, ?_, j2, j3, j4⟩
        have : j ≠ i := fun w => j3 (w ▸ z)
        omega
      · refine br_f z ⟨hv, ?_⟩
        refine cy_rank hsc h6 hs hb ?_
        have hmem : (a_keys i, a_vals i) ∈ M := hb.mem_iff.mp (ct_bg_mem.mpr ⟨i, hle, by omega, z, rfl⟩)
        by_cases q : nI (M.countP (fun e => decide (e.1 < a_keys i))) = p
        · refine br_t q ⟨hv, ?_⟩
          obtain ⟨j, hj, hjm⟩ := List.getElem_of_mem hmem
          have hr := ct_rank_at hM.1 hj
          rw [hjm] at hr
          rw [hr] at q
          exact h1 j (a_keys i, a_vals i) q.symm (by rw [List.getElem?_eq_getElem hj, hjm])
        · refine br_f q (nm_r (nI_1 i) (ih (i + 1) (by omega) (by omega) ?_))
          intro e he hr
          obtain ⟨j, j1, j2, j3, j4⟩ := hno e he hr
          refine ⟨j, ?_, j2, j3, j4⟩
          have : j ≠ i := by
            intro w
            subst w
            rw [j4] at hr
            exact q hr
          omega
  unfold wpY_keyAt
  dsimp only
  refine cy_valid1 hsc h6 hs ?_
  refine br_f (by decide) (nm_r (cy_mul s) ⟨33, key 32 (s * 32) (by omega) (by omega) ?_⟩)
  intro e he _
  exact ct_bg_mem.mp (hb.mem_iff.mpr he)
theorem cy_same {post : Int32 → Prop} {t : Nat} {M2 : List ct_E} (hsc : f_slotCount = nI sc) (h6 : sc ≤ 6) (hs : s < sc) (ht : t < sc) (hb : (ct_bg a_keys a_vals (s * 32) 32).Perm M) (hM : ct_map M) (hb2 : (ct_bg a_keys a_vals (t * 32) 32).Perm M2) (hM2 : ct_map M2)
    (h1 : M = M2 → post 1) (h0 : ¬ M = M2 → post 0) : wpY_same post (f_recCount, f_slotCount, f_cap, a_keys, a_vals, a_newKeys, a_newVals, a_recKeys, a_recVals) (nI s) (nI t) := by
  have key : ∀ d i, i + d = 32 → (∀ j, j < i → (a_vals (s * 32 + j) ≠ 0 → ct_get M2 (a_keys (s * 32 + j)) = a_vals (s * 32 + j)) ∧ (a_vals (t * 32 + j) ≠ 0 → ct_get M (a_keys (t * 32 + j)) = a_vals (t * 32 + j))) → wY_same_20 post (nI s) (nI t) f_recCount f_slotCount f_cap a_keys a_vals a_newKeys a_newVals a_recKeys a_recVals (d + 1) (nI i) := by
    intro d
    induction d with
    | zero =>
      intro i hi hag
      have : i = 32 := by omega
      subst this
      refine br_t (Int32.le_refl _) (h1 (ct_map_ext hM hM2 (fun k => ?_)))
      by_cases z : ct_get M k = 0
      · by_cases w : ct_get M2 k = 0
        · rw [z, w]
        · have hm := hb2.mem_iff.mpr (ct_mem_get w)
          obtain ⟨j, j1, j2, j3, j4⟩ := ct_bg_mem.mp hm
          simp only [Prod.mk.injEq] at j4
          have := (hag (j - t * 32) (by omega)).2
          rw [show t * 32 + (j - t * 32) = j by omega] at this
          have h9 := this j3
          rw [← j4.1, z] at h9
          exact absurd h9.symm j3
      · have hm := hb.mem_iff.mpr (ct_mem_get z)
        obtain ⟨j, j1, j2, j3, j4⟩ := ct_bg_mem.mp hm
        simp only [Prod.mk.injEq] at j4
        have := (hag (j - s * 32) (by omega)).1
        rw [show s * 32 + (j - s * 32) = j by omega] at this
        have h9 := this j3
        rw [← j4.1, ← j4.2] at h9
        exact h9.symm
    | succ d ih =>
      intro i hi hag
      have ea : nI s * 32 + nI i = nI (s * 32 + i) := by rw [cy_mul, nI_add]
      have eb : nI t * 32 + nI i = nI (t * 32 + i) := by rw [cy_mul, nI_add]
      have va : vp_in (nI (s * 32 + i)) 192 := vp_in_nI (by omega) (by omega)
      have vb : vp_in (nI (t * 32 + i)) 192 := vp_in_nI (by omega) (by omega)
      have ca := nI_clamp (n := s * 32 + i) (by omega)
      have cb := nI_clamp (n := t * 32 + i) (by omega)
      refine br_f (nI_ge (b := 32) (by omega) (by omega)) (nm_r ea (nm_r eb ⟨va, ?_⟩))
      refine cy_valueIn (by omega) hb2 hM2 ?_
      refine ⟨vb, ?_⟩
      refine cy_valueIn (by omega) hb hM ?_
      refine ⟨va, ?_⟩
      rw [ca, cb]
      have next : (a_vals (s * 32 + i) ≠ 0 → ct_get M2 (a_keys (s * 32 + i)) = a_vals (s * 32 + i)) → (a_vals (t * 32 + i) ≠ 0 → ct_get M (a_keys (t * 32 + i)) = a_vals (t * 32 + i)) → wY_same_20 post (nI s) (nI t) f_recCount f_slotCount f_cap a_keys a_vals a_newKeys a_newVals a_recKeys a_recVals (d + 1) (nI (i + 1)) := by
        intro p1 p2
        refine ih (i + 1) (by omega) ?_
        intro j hj
        by_cases z : j = i
        · subst z; exact ⟨p1, p2⟩
        · exact hag j (by omega)
      have rest : (a_vals (s * 32 + i) ≠ 0 → ct_get M2 (a_keys (s * 32 + i)) = a_vals (s * 32 + i)) → wY_same_94 post (wY_same_20 post (nI s) (nI t) f_recCount f_slotCount f_cap a_keys a_vals a_newKeys a_newVals a_recKeys a_recVals (d + 1)) (nI s) (nI t) (nI i) (nI (t * 32 + i)) (ct_get M (a_keys (t * 32 + i))) f_recCount f_slotCount f_cap a_keys a_vals a_newKeys a_newVals a_recKeys a_recVals := by
        intro p1
        refine ⟨vb, ?_⟩
        rw [cb]
        by_cases z : a_vals (t * 32 + i) = 0
        · exact br_t z (nm_r (nI_1 i) (next p1 (fun w => absurd z w)))
        · refine br_f z ⟨vb, ?_⟩
          by_cases w : ct_get M (a_keys (t * 32 + i)) = a_vals (t * 32 + i)
          · exact br_t w (nm_r (nI_1 i) (next p1 (fun _ => w)))
          · refine br_f w (h0 ?_)
            intro e
            subst e
            apply w
            exact ct_get_mem hM.1 (hb2.mem_iff.mp (ct_bg_mem.mpr ⟨t * 32 + i, by omega, by omega, z, rfl⟩))
      by_cases z : a_vals (s * 32 + i) = 0
      · exact br_t z (rest (fun w => absurd z w))
      · refine br_f z ⟨va, ?_⟩
        by_cases w : ct_get M2 (a_keys (s * 32 + i)) = a_vals (s * 32 + i)
        · exact br_t w (rest (fun _ => w))
        · refine br_f w (h0 ?_)
          intro e
          subst e
          apply w
          exact ct_get_mem hM.1 (hb.mem_iff.mp (ct_bg_mem.mpr ⟨s * 32 + i, by omega, by omega, z, rfl⟩))
  unfold wpY_same
  dsimp only
  refine cy_valid1 hsc h6 hs ?_
  refine br_f (by decide) ?_
  refine cy_valid1 hsc h6 ht ?_
  exact br_f (by decide) ⟨33, key 32 0 (by omega) (fun j hj => by omega)⟩
end
end
section
/-! the reference against the abstract state: set, fill, copy -/
def ct_RYs (f_recCount f_slotCount f_cap : Int32) (a_keys a_vals a_recKeys a_recVals : Nat → Int32) (sc lim : Nat) (m : Nat → List ct_E) (rp : List ct_D4) : Prop :=
  f_slotCount = nI sc ∧ f_cap = nI lim ∧ 2 ≤ sc ∧ sc ≤ 6 ∧ 4 ≤ lim ∧ lim ≤ 32 ∧ (∀ s, s < 6 → (ct_bg a_keys a_vals (s * 32) 32).Perm (m s) ∧ ct_map (m s) ∧ (m s).length ≤ lim) ∧ f_recCount = nI rp.length ∧ rp.length ≤ 64 ∧ ct_rpy a_recKeys a_recVals rp
def ct_RY (v : SY) (sc lim : Nat) (m : Nat → List ct_E) (rp : List ct_D4) : Prop := match v with
  | (f_recCount, f_slotCount, f_cap, a_keys, a_vals, a_newKeys, a_newVals, a_recKeys, a_recVals) => ct_RYs f_recCount f_slotCount f_cap a_keys a_vals a_recKeys a_recVals sc lim m rp
theorem zz_ey {P : SY → Prop} (h : ∀ (f_recCount f_slotCount f_cap : Int32) (a_keys a_vals a_newKeys a_newVals a_recKeys a_recVals : Nat → Int32), P (f_recCount, f_slotCount, f_cap, a_keys, a_vals, a_newKeys, a_newVals, a_recKeys, a_recVals)) (v : SY) : P v := match v with
  | (f_recCount, f_slotCount, f_cap, a_keys, a_vals, a_newKeys, a_newVals, a_recKeys, a_recVals) => h f_recCount f_slotCount f_cap a_keys a_vals a_newKeys a_newVals a_recKeys a_recVals
theorem ct_set_fit {m : List ct_E} (hm : ct_map m) {lim : Nat} {k v : Int32} (hl : m.length ≤ lim) (hc : ¬ (¬ v = 0 ∧ ct_get m k = 0 ∧ lim ≤ m.length)) : (ct_set m k v).length ≤ lim := by
  have hlen := ct_set_len hm k v
  by_cases a : v = 0
  · rw [if_pos a] at hlen
    omega
  · rw [if_neg a] at hlen
    by_cases b : ct_get m k = 0
    · have : ¬ lim ≤ m.length := fun w => hc ⟨a, b, w⟩
      omega
    · rw [if_neg b] at hlen
      omega
theorem ct_lt1 {v : Int32} (hv : 0 ≤ v) : v < 1 ↔ v = 0 := by
  rw [Int32.lt_iff_toInt_lt, ← Int32.toInt_inj, show (1 : Int32).toInt = 1 from by decide, show (0 : Int32).toInt = 0 from by decide]
  rw [Int32.le_iff_toInt_le, show (0 : Int32).toInt = 0 from by decide] at hv
  omega
theorem ct_fit {m M : List ct_E} {lo hi : Int32} {w : Nat} (hm : ct_map m) (hM : ct_map M) (hlo : 0 ≤ lo) (hlh : lo ≤ hi) (hw : (w : Int) = hi.toInt - lo.toInt + 1) (h : ∀ k, ¬ (lo ≤ k ∧ k ≤ hi) → ct_get M k = ct_get m k) :
    M.length + ct_ins m lo hi ≤ m.length + w := by
  have h1 := ct_rng_len hM.1 hlo hlh []
  have h2 := ct_rng_len hm.1 hlo hlh []
  have e : ct_rng M lo hi [] = ct_rng m lo hi [] := by
    apply ct_map_ext (ct_rng_map hM ct_map_nil (by simp) hlh) (ct_rng_map hm ct_map_nil (by simp) hlh)
    intro k
    rw [ct_rng_get (by simp) hlh, ct_rng_get (by simp) hlh]
    by_cases z : lo ≤ k ∧ k ≤ hi
    · rw [if_pos z, if_pos z]
    · rw [if_neg z, if_neg z, h k z]
  have h3 : ct_ins M lo hi ≤ w := by
    unfold ct_ins
    rw [List.countP_eq_length_filter]
    have hnd : ((M.filter (fun e => decide (lo ≤ e.1) && decide (e.1 ≤ hi))).map (·.1)).Nodup := by
      refine List.pairwise_map.mpr (List.Pairwise.imp ?_ (hM.1.filter _))
      intro a b hab
      exact Int32.ne_of_lt hab
    have hsub : ((M.filter (fun e => decide (lo ≤ e.1) && decide (e.1 ≤ hi))).map (·.1)) ⊆ (List.range w).map (fun i => lo + nI i) := by
      intro k hk
      obtain ⟨e, he, rfl⟩ := List.mem_map.mp hk
      rw [List.mem_filter, Bool.and_eq_true, decide_eq_true_eq, decide_eq_true_eq] at he
      have hz := he.2
      rw [Int32.le_iff_toInt_le, Int32.le_iff_toInt_le] at hz
      refine List.mem_map.mpr ⟨(e.1.toInt - lo.toInt).toNat, List.mem_range.mpr (by omega), ?_⟩
      apply Int32.toInt_inj.mp
      rw [ct_rl_toInt hlo hw (by omega)]
      omega
    have := List.Nodup.length_le_of_subset hnd hsub
    rw [List.length_map, List.length_map, List.length_range] at this
    exact this
  rw [e] at h1
  simp only [List.length_nil, Nat.add_zero] at h1 h2
  omega
section
variable {f_recCount f_slotCount f_cap : Int32} {a_keys a_vals a_newKeys a_newVals a_recKeys a_recVals : Nat → Int32} {sc lim : Nat} {m : Nat → List ct_E} {rp : List ct_D4}
theorem cy_upd {s : Nat} {ks vs : Nat → Int32} {M : List ct_E} (R : ct_RYs f_recCount f_slotCount f_cap a_keys a_vals a_recKeys a_recVals sc lim m rp) (hb : (ct_bg ks vs (s * 32) 32).Perm M) (hM : ct_map M) (hl : M.length ≤ lim) (hf : ∀ j, (j < s * 32 ∨ s * 32 + 32 ≤ j) → ks j = a_keys j ∧ vs j = a_vals j) :
    ct_RYs f_recCount f_slotCount f_cap ks vs a_recKeys a_recVals sc lim (ct_up1 m s M) rp := by
  obtain ⟨r1, r2, r3, r4, r5, r6, r7, r8⟩ := R
  refine ⟨r1, r2, r3, r4, r5, r6, ?_, r8⟩
  intro t ht
  unfold ct_up1
  by_cases z : t = s
  · subst z
    rw [if_pos rfl]
    exact ⟨hb, hM, hl⟩
  · rw [if_neg z, ct_bg_congr (fun j j1 j2 => hf j (by omega))]
    exact r7 t ht
theorem cy_m_set {post : Int32 → SY → Prop} {s : Nat} {k v : Int32} (R : ct_RYs f_recCount f_slotCount f_cap a_keys a_vals a_recKeys a_recVals sc lim m rp) (hs : s < sc) (hk : 0 ≤ k) (hv : 0 ≤ v)
    (hF : ¬ v = 0 ∧ ct_get (m s) k = 0 ∧ lim ≤ (m s).length → post (-4) (f_recCount, f_slotCount, f_cap, a_keys, a_vals, a_newKeys, a_newVals, a_recKeys, a_recVals)) (hO : ¬ (¬ v = 0 ∧ ct_get (m s) k = 0 ∧ lim ≤ (m s).length) → ∀ v', ct_RY v' sc lim (ct_up1 m s (ct_set (m s) k v)) rp → post (ct_get (m s) k) v') : wpY_set post (f_recCount, f_slotCount, f_cap, a_keys, a_vals, a_newKeys, a_newVals, a_recKeys, a_recVals) (nI s) k v := by
  have RR := R
  obtain ⟨r1, r2, r3, r4, r5, r6, r7, r8⟩ := R
  obtain ⟨b1, b2, b3⟩ := r7 s (by omega)
  have go : ¬ (¬ v = 0 ∧ ct_get (m s) k = 0 ∧ lim ≤ (m s).length) → wY_set_61 post (nI s) k v (ct_get (m s) k) f_recCount f_slotCount f_cap a_keys a_vals a_newKeys a_newVals a_recKeys a_recVals := by
    intro hc
    have hl := ct_set_fit (k := k) (v := v) b2 b3 hc
    unfold wY_set_61
    refine cy_put (by omega) b1 b2 (by omega) ?_
    intro ks vs g1 g2
    exact hO hc _ (cy_upd RR g1 (ct_set_map b2 hk hv) hl g2)
  unfold wpY_set
  dsimp only
  refine cy_valid1 r1 r4 hs ?_
  refine br_f (by decide) (br_t hk (br_t hv ?_))
  refine cy_valueIn (by omega) b1 b2 ?_
  refine cy_size r1 r4 hs b1 ?_
  by_cases z0 : v = 0
  · exact br_t ((ct_lt1 hv).mpr z0) (go (fun w => w.1 z0))
  · refine br_f (fun w => z0 ((ct_lt1 hv).mp w)) ?_
    by_cases z1 : ct_get (m s) k = 0
    · refine br_t z1 ?_
      by_cases z2 : (m s).length < lim
      · exact br_t (by rw [r2]; exact nI_lt z2 (by omega)) (go (fun w => by have := w.2.2; omega))
      · exact br_f (by rw [r2]; exact nI_nlt (by omega) (by omega)) (hF ⟨z0, z1, by omega⟩)
    · exact br_f z1 (go (fun w => z1 w.2.1))
theorem cy_fill_150 {post : Int32 → SY → Prop} {s : Nat} {lo hi x7 : Int32} (hs : s < 6) (K : ∀ vs, (∀ j, (j < s * 32 ∨ s * 32 + 32 ≤ j) → vs j = a_vals j) → (∀ j, s * 32 ≤ j → j < s * 32 + 32 → vs j = if (decide (lo ≤ a_keys j) && decide (a_keys j ≤ hi)) = true then 0 else a_vals j) → post x7 (f_recCount, f_slotCount, f_cap, a_keys, vs, a_newKeys, a_newVals, a_recKeys, a_recVals)) :
    ∀ d i (vs : Nat → Int32), i + d = s * 32 + 32 → s * 32 ≤ i → (∀ j, (j < s * 32 ∨ i ≤ j) → vs j = a_vals j) → (∀ j, s * 32 ≤ j → j < i → vs j = if (decide (lo ≤ a_keys j) && decide (a_keys j ≤ hi)) = true then 0 else a_vals j) → wY_fill_150 post (nI s) lo hi x7 f_recCount f_slotCount f_cap (d + 1) (nI i) a_keys vs a_newKeys a_newVals a_recKeys a_recVals := by
  intro d
  induction d with
  | zero =>
    intro i vs hi hle h1 h2
    have : i = s * 32 + 32 := by omega
    subst this
    exact br_t (by rw [cy_end]; exact nI_le (by omega) (by omega)) (K vs h1 h2)
  | succ d ih =>
    intro i vs hi' hle h1 h2
    have hv : vp_in (nI i) 192 := vp_in_nI (by omega) (by omega)
    have cl := nI_clamp (n := i) (by omega)
    have keep : ¬ (lo ≤ a_keys i ∧ a_keys i ≤ hi) → wY_fill_150 post (nI s) lo hi x7 f_recCount f_slotCount f_cap (d + 1) (nI (i + 1)) a_keys vs a_newKeys a_newVals a_recKeys a_recVals := by
      intro hn
      refine ih (i + 1) _ (by omega) (by omega) (fun j hj => h1 j (by omega)) ?_
      intro j j1 j2
      by_cases w : j = i
      · subst w
        rw [h1 j (by omega), if_neg (by simpa using hn)]
      · exact h2 j j1 (by omega)
    refine br_f (by rw [cy_end]; exact nI_ge (by omega) (by omega)) ⟨hv, ?_⟩
    rw [cl]
    by_cases z1 : a_keys i < lo
    · exact br_t z1 (nm_r (nI_1 i) (keep (fun w => Int32.not_le.mpr z1 w.1)))
    · refine br_f z1 ⟨hv, ?_⟩
      by_cases z2 : hi < a_keys i
      · exact br_t z2 (nm_r (nI_1 i) (keep (fun w => Int32.not_le.mpr z2 w.2)))
      · refine br_f z2 ⟨hv, nm_r (e' := upd vs i 0) rfl (nm_r (nI_1 i) (ih (i + 1) _ (by omega) (by omega) ?_ ?_))⟩
        · intro j hj
          rw [pk_un (by omega)]
          exact h1 j (by omega)
        · intro j j1 j2
          by_cases w : j = i
          · subst w
            rw [pk_us, if_pos (by simp [Int32.not_lt.mp z1, Int32.not_lt.mp z2])]
          · rw [pk_un w]
            exact h2 j j1 (by omega)
theorem cy_fill_207 {post : Int32 → SY → Prop} {s w : Nat} {lo hi v : Int32} {m0 : List ct_E} (hs : s < 6) (hm0 : ct_map m0) (hlo : 0 ≤ lo) (hlh : lo ≤ hi) (hw : (w : Int) = hi.toInt - lo.toInt + 1) (hw32 : w + m0.length ≤ 32 + ct_ins m0 lo hi) (hw2 : w ≤ 32) (hv : 0 < v)
    (hp : ∀ ks vs, (ct_bg ks vs (s * 32) 32).Perm (ct_rng m0 lo hi (ct_rl lo w v)) → (∀ j, (j < s * 32 ∨ s * 32 + 32 ≤ j) → ks j = a_keys j ∧ vs j = a_vals j) → post (nI (ct_chg m0 lo w v)) (f_recCount, f_slotCount, f_cap, ks, vs, a_newKeys, a_newVals, a_recKeys, a_recVals)) :
    ∀ d i (ks vs : Nat → Int32) (M : List ct_E), i + d = w → (ct_bg ks vs (s * 32) 32).Perm M → ct_map M → (∀ k, ct_get M k = if lo.toInt ≤ k.toInt ∧ k.toInt < lo.toInt + i then v else ct_get m0 k) → (∀ j, (j < s * 32 ∨ s * 32 + 32 ≤ j) → ks j = a_keys j ∧ vs j = a_vals j) →
      wY_fill_207 post (nI s) lo v (lN w) (d + 1) (nI (ct_chg m0 lo i v)) (nI i) f_recCount f_slotCount f_cap ks vs a_newKeys a_newVals a_recKeys a_recVals := by
  have hlo' := hlo
  rw [Int32.le_iff_toInt_le, show (0 : Int32).toInt = 0 from by decide] at hlo'
  obtain ⟨a1, a2, a3⟩ := ct_rl_map hlo hw hv
  intro d
  induction d with
  | zero =>
    intro i ks vs M hi' hb hM hg hf
    have : i = w := by omega
    subst this
    have hfin : post (nI (ct_chg m0 lo i v)) (f_recCount, f_slotCount, f_cap, ks, vs, a_newKeys, a_newVals, a_recKeys, a_recVals) := by
      have e : M = ct_rng m0 lo hi (ct_rl lo i v) := by
        apply ct_map_ext hM (ct_rng_map hm0 a1 a2 hlh)
        intro k
        rw [hg, ct_rng_get a2 hlh, a3]
        by_cases z : lo ≤ k ∧ k ≤ hi
        · rw [if_pos z, if_pos z, if_pos]
          rw [Int32.le_iff_toInt_le, Int32.le_iff_toInt_le] at z
          omega
        · rw [if_neg z, if_neg]
          rw [Int32.le_iff_toInt_le, Int32.le_iff_toInt_le] at z
          omega
      exact hp ks vs (e ▸ hb) hf
    by_cases z : i = 32
    · exact br_t (by rw [z]; exact Int32.le_refl _) hfin
    · refine br_f (nI_ge (b := 32) (by omega) (by omega)) (br_t ?_ hfin)
      rw [nI_l (by omega), lN_le (by omega) (by omega)]
      exact Nat.le_refl _
  | succ d ih =>
    intro i ks vs M hi' hb hM hg hf
    have hti := ct_rl_toInt hlo hw (i := i) (by omega)
    have hk0 : 0 ≤ lo + nI i := by
      rw [Int32.le_iff_toInt_le, hti, show (0 : Int32).toInt = 0 from by decide]
      omega
    have hgi : ct_get M (lo + nI i) = ct_get m0 (lo + nI i) := by
      rw [hg, if_neg (by rw [hti]; omega)]
    have hset : ct_map (ct_set M (lo + nI i) v) := ct_set_map hM hk0 (Int32.le_of_lt hv)
    have hgs : ∀ k, ct_get (ct_set M (lo + nI i) v) k = if lo.toInt ≤ k.toInt ∧ k.toInt < lo.toInt + ((i + 1 : Nat) : Int) then v else ct_get m0 k := by
      intro k
      rw [ct_set_get hk0 (Int32.le_of_lt hv), hg]
      by_cases z : k = lo + nI i
      · rw [if_pos z, if_pos (by rw [z, hti]; omega)]
      · have hz : k.toInt ≠ lo.toInt + i := by
          intro y
          exact z (Int32.toInt_inj.mp (by rw [hti, y]))
        rw [if_neg z]
        by_cases y : lo.toInt ≤ k.toInt ∧ k.toInt < lo.toInt + i
        · rw [if_pos y, if_pos (by omega)]
        · rw [if_neg y, if_neg (by omega)]
    have hfit := ct_fit (M := ct_set M (lo + nI i) v) hm0 hset hlo hlh hw (by
      intro k hk
      rw [hgs, if_neg]
      rw [Int32.le_iff_toInt_le, Int32.le_iff_toInt_le] at hk
      omega)
    have hcg : ct_chg m0 lo (i + 1) v = ct_chg m0 lo i v + if ct_get m0 (lo + nI i) = v then 0 else 1 := by
      unfold ct_chg
      rw [List.range_succ, List.countP_append, List.countP_singleton]
      by_cases z : ct_get m0 (lo + nI i) = v
      · rw [if_pos z]; simp [z]
      · rw [if_neg z]; simp [z]
    have put : wY_fill_244 post (wY_fill_207 post (nI s) lo v (lN w) (d + 1)) (nI s) lo v (lN w) (nI (ct_chg m0 lo (i + 1) v)) (nI i) f_recCount f_slotCount f_cap ks vs a_newKeys a_newVals a_recKeys a_recVals := by
      unfold wY_fill_244
      refine cy_put hs hb hM (by omega) ?_
      intro ks' vs' g1 g2
      refine nm_r (nI_1 i) (ih (i + 1) ks' vs' _ (by omega) g1 hset hgs ?_)
      intro j hj
      rw [(g2 j hj).1, (g2 j hj).2]
      exact hf j hj
    refine br_f (nI_ge (b := 32) (by omega) (by omega)) (br_f ?_ ?_)
    · rw [nI_l (by omega), lN_le (by omega) (by omega)]
      omega
    · refine cy_valueIn hs hb hM ?_
      rw [hgi]
      by_cases z : ct_get m0 (lo + nI i) = v
      · rw [hcg, if_pos z] at put
        exact br_t z put
      · rw [hcg, if_neg z] at put
        exact br_f z (nm_r (nI_1 _) put)
theorem cy_fill_53 {post : Int32 → SY → Prop} {s : Nat} {lo hi v : Int32} {x5 : Int64} {ci co : Nat} (hs : s < 6) (hlh : lo ≤ hi)
    (K : ((v < 1 → wY_fill_139 post (nI s) lo hi v x5 (nI ci) f_recCount f_slotCount f_cap a_keys a_vals a_newKeys a_newVals a_recKeys a_recVals) ∧ (¬ v < 1 → (((x5 + (nI co).toInt64) ≤ f_cap.toInt64 → wY_fill_139 post (nI s) lo hi v x5 (nI ci) f_recCount f_slotCount f_cap a_keys a_vals a_newKeys a_newVals a_recKeys a_recVals) ∧ (¬ (x5 + (nI co).toInt64) ≤ f_cap.toInt64 → post (-4) (f_recCount, f_slotCount, f_cap, a_keys, a_vals, a_newKeys, a_newVals, a_recKeys, a_recVals)))))) :
    ∀ d i c1 c2, i + d = s * 32 + 32 → c1 + ct_ins (ct_bg a_keys a_vals i d) lo hi = ci → c2 + (ct_bg a_keys a_vals i d).length = co + ct_ins (ct_bg a_keys a_vals i d) lo hi → wY_fill_53 post (nI s) lo hi v x5 f_recCount f_slotCount f_cap a_keys a_vals a_newKeys a_newVals a_recKeys a_recVals (d + 1) (nI c1) (nI c2) (nI i) := by
  intro d
  induction d with
  | zero =>
    intro i c1 c2 hi' h1 h2
    have e1 : ct_ins (ct_bg a_keys a_vals i 0) lo hi = 0 := rfl
    have e2 : (ct_bg a_keys a_vals i 0).length = 0 := rfl
    rw [e1] at h1 h2
    rw [e2] at h2
    have e3 : c1 = ci := by omega
    have e4 : c2 = co := by omega
    subst e3 e4
    exact br_t (by rw [cy_end]; exact nI_le (by omega) (by omega)) K
  | succ d ih =>
    intro i c1 c2 hi' h1 h2
    have hv : vp_in (nI i) 192 := vp_in_nI (by omega) (by omega)
    have cl := nI_clamp (n := i) (by omega)
    refine br_f (by rw [cy_end]; exact nI_ge (by omega) (by omega)) ⟨hv, ?_⟩
    rw [cl]
    by_cases z : a_vals i = 0
    · rw [ct_bg_z z] at h1 h2
      exact br_t z (nm_r (nI_1 i) (ih (i + 1) c1 c2 (by omega) h1 h2))
    · rw [ct_bg_s z] at h1 h2
      rw [List.length_cons] at h2
      have hins : ct_ins ((a_keys i, a_vals i) :: ct_bg a_keys a_vals (i + 1) d) lo hi = ct_ins (ct_bg a_keys a_vals (i + 1) d) lo hi + if lo ≤ a_keys i ∧ a_keys i ≤ hi then 1 else 0 := by
        unfold ct_ins
        rw [List.countP_cons]
        congr 1
        by_cases y : lo ≤ a_keys i ∧ a_keys i ≤ hi
        · rw [if_pos y, if_pos (by simpa using y)]
        · rw [if_neg y, if_neg (by simpa using y)]
      rw [hins] at h1 h2
      refine br_f z ⟨hv, ?_⟩
      by_cases z1 : a_keys i < lo
      · rw [if_neg (fun w => Int32.not_le.mpr z1 w.1)] at h1 h2
        exact br_t z1 (nm_r (nI_1 c2) (nm_r (nI_1 i) (ih (i + 1) c1 (c2 + 1) (by omega) (by omega) (by omega))))
      · refine br_f z1 ⟨hv, ?_⟩
        by_cases z2 : hi < a_keys i
        · rw [if_neg (fun w => Int32.not_le.mpr z2 w.2)] at h1 h2
          exact br_t z2 (nm_r (nI_1 c2) (nm_r (nI_1 i) (ih (i + 1) c1 (c2 + 1) (by omega) (by omega) (by omega))))
        · rw [if_pos ⟨Int32.not_lt.mp z1, Int32.not_lt.mp z2⟩] at h1 h2
          exact br_f z2 (nm_r (nI_1 c1) (nm_r (nI_1 i) (ih (i + 1) (c1 + 1) c2 (by omega) (by omega) (by omega))))
theorem cy_m_fill {post : Int32 → SY → Prop} {s w : Nat} {lo hi v : Int32} (R : ct_RYs f_recCount f_slotCount f_cap a_keys a_vals a_recKeys a_recVals sc lim m rp) (hs : s < sc) (hlo : 0 ≤ lo) (hlh : lo ≤ hi) (hv : 0 ≤ v) (hw : (w : Int) = hi.toInt - lo.toInt + 1)
    (hF : ¬ v = 0 → lim < w + ((m s).length - ct_ins (m s) lo hi) → post (-4) (f_recCount, f_slotCount, f_cap, a_keys, a_vals, a_newKeys, a_newVals, a_recKeys, a_recVals)) (hZ : v = 0 → ∀ v', ct_RY v' sc lim (ct_up1 m s (ct_rng (m s) lo hi [])) rp → post (nI (ct_ins (m s) lo hi)) v')
    (hP : ¬ v = 0 → ¬ lim < w + ((m s).length - ct_ins (m s) lo hi) → ∀ v', ct_RY v' sc lim (ct_up1 m s (ct_rng (m s) lo hi (ct_rl lo w v))) rp → post (nI (ct_chg (m s) lo w v)) v') : wpY_fill post (f_recCount, f_slotCount, f_cap, a_keys, a_vals, a_newKeys, a_newVals, a_recKeys, a_recVals) (nI s) lo hi v := by
  have RR := R
  obtain ⟨r1, r2, r3, r4, r5, r6, r7, r8⟩ := R
  obtain ⟨b1, b2, b3⟩ := r7 s (by omega)
  obtain ⟨w1, w31, hsub⟩ := ct_wid hlo hlh hw
  have hinl := ct_ins_le (m s) lo hi
  have hib : ct_ins (ct_bg a_keys a_vals (s * 32) 32) lo hi = ct_ins (m s) lo hi := b1.countP_eq _
  have hlb := b1.length_eq
  have hx5 : (hi.toInt64 - lo.toInt64) + 1 = lN w := by
    obtain ⟨ln, hln, el⟩ := nI_of (x := lo) (Int32.not_lt.mpr hlo)
    obtain ⟨hn, hhn, eh⟩ := nI_of (x := hi) (Int32.not_lt.mpr (Int32.le_trans hlo hlh))
    subst el eh
    rw [nI_toInt hln, nI_toInt hhn] at hw
    rw [nI_l hln, nI_l hhn, lN_sub (by omega), lN_1]
    exact congrArg lN (by omega)
  unfold wpY_fill
  dsimp only
  refine cy_valid1 r1 r4 hs ?_
  refine br_f (by decide) (br_t hlo (br_t hv (br_t hlh (nm_r hx5 (nm_r (cy_mul s) ⟨33, ?_⟩)))))
  refine cy_fill_53 (ci := ct_ins (m s) lo hi) (co := (m s).length - ct_ins (m s) lo hi) (by omega) hlh ?_ 32 (s * 32) 0 0 (by omega) (by omega) (by omega)
  by_cases z : v = 0
  · refine br_t ((ct_lt1 hv).mpr z) ?_
    have hl := ct_rng_len b2.1 hlo hlh []
    rw [List.length_nil] at hl
    refine br_t z (nm_r (cy_mul s) ⟨33, cy_fill_150 (by omega) ?_ 32 (s * 32) a_vals (by omega) (by omega) (fun _ _ => rfl) (fun j j1 j2 => by omega)⟩)
    intro vs h1 h2
    have hz := ct_bg_zap (ks := a_keys) (vs := a_vals) (vs' := vs) (p := fun x => decide (lo ≤ x) && decide (x ≤ hi)) (n := 32) (a := s * 32) h2
    refine hZ z _ (cy_upd RR ?_ (ct_rng_map b2 ct_map_nil (by simp) hlh) (by omega) (fun j hj => ⟨rfl, h1 j hj⟩))
    rw [hz]
    have := ct_perm_filter b2.1 lo hi hlh []
    rw [List.nil_append] at this
    exact (b1.filter _).trans this.symm
  · have hvp : 0 < v := Int32.lt_of_le_of_ne hv (Ne.symm z)
    obtain ⟨a1, a2, a3⟩ := ct_rl_map hlo hw hvp
    refine br_f (fun y => z ((ct_lt1 hv).mp y)) ?_
    have hcmp : lN w + (nI ((m s).length - ct_ins (m s) lo hi)).toInt64 ≤ f_cap.toInt64 ↔ ¬ lim < w + ((m s).length - ct_ins (m s) lo hi) := by
      rw [r2, nI_l (by omega), nI_l (by omega), lN_add, pk_lLE (by omega) (by omega)]
      omega
    by_cases q : lim < w + ((m s).length - ct_ins (m s) lo hi)
    · exact br_f (fun y => (hcmp.mp y) q) (hF z q)
    · refine br_t (hcmp.mpr q) (br_f z ⟨w + 1, ?_⟩)
      have hl := ct_rng_len b2.1 hlo hlh (ct_rl lo w v)
      rw [ct_rl_len] at hl
      refine cy_fill_207 (m0 := m s) (hi := hi) (by omega) b2 hlo hlh hw (by omega) (by omega) hvp ?_ w 0 a_keys a_vals (m s) (by omega) b1 b2 ?_ (fun _ _ => ⟨rfl, rfl⟩)
      · intro ks vs g1 g2
        exact hP z q _ (cy_upd RR g1 (ct_rng_map b2 a1 a2 hlh) (by omega) g2)
      · intro k
        rw [if_neg (by omega)]
theorem cy_m_copy {post : Int32 → SY → Prop} {s t : Nat} (R : ct_RYs f_recCount f_slotCount f_cap a_keys a_vals a_recKeys a_recVals sc lim m rp) (hs : s < sc) (ht : t < sc)
    (hO : ∀ v', ct_RY v' sc lim (ct_up1 m t (m s)) rp → post (nI (m s).length) v') : wpY_copy post (f_recCount, f_slotCount, f_cap, a_keys, a_vals, a_newKeys, a_newVals, a_recKeys, a_recVals) (nI s) (nI t) := by
  have RR := R
  obtain ⟨r1, r2, r3, r4, r5, r6, r7, r8⟩ := R
  obtain ⟨b1, b2, b3⟩ := r7 s (by omega)
  have key : ∀ d i (ks vs : Nat → Int32), i + d = 32 → (∀ j, (j < t * 32 ∨ t * 32 + i ≤ j) → ks j = a_keys j ∧ vs j = a_vals j) → (∀ j, j < i → ks (t * 32 + j) = a_keys (s * 32 + j) ∧ vs (t * 32 + j) = a_vals (s * 32 + j)) →
      wY_copy_20 post (nI s) (nI t) f_recCount f_slotCount f_cap (d + 1) (nI i) ks vs a_newKeys a_newVals a_recKeys a_recVals := by
    intro d
    induction d with
    | zero =>
      intro i ks vs hi h1 h2
      have : i = 32 := by omega
      subst this
      have hbt : ct_bg ks vs (t * 32) 32 = ct_bg a_keys a_vals (s * 32) 32 := by
        unfold ct_bg
        rw [List.range'_eq_map_range, List.range'_eq_map_range, List.filter_map, List.filter_map, List.map_map, List.map_map]
        have ef : (List.range 32).filter ((fun i => decide (vs i ≠ 0)) ∘ fun x => t * 32 + x) = (List.range 32).filter ((fun i => decide (a_vals i ≠ 0)) ∘ fun x => s * 32 + x) := by
          apply List.filter_congr
          intro j hj
          rw [List.mem_range] at hj
          simp only [Function.comp]
          rw [(h2 j hj).2]
        rw [ef]
        apply List.map_congr_left
        intro j hj
        have hj2 := List.mem_range.mp (List.mem_filter.mp hj).1
        simp only [Function.comp]
        rw [(h2 j hj2).1, (h2 j hj2).2]
      have R2 := cy_upd (s := t) (ks := ks) (vs := vs) RR (by rw [hbt]; exact b1) b2 b3 (fun j hj => h1 j (by omega))
      have b1' := (R2.2.2.2.2.2.2.1 s (by omega)).1
      have es : ct_up1 m t (m s) s = m s := by
        unfold ct_up1
        by_cases z : s = t
        · rw [if_pos z]
        · rw [if_neg z]
      rw [es] at b1'
      refine br_t (Int32.le_refl _) ?_
      refine cy_size r1 r4 hs b1' ?_
      exact hO _ R2
    | succ d ih =>
      intro i ks vs hi h1 h2
      have ea : nI s * 32 + nI i = nI (s * 32 + i) := by rw [cy_mul, nI_add]
      have eb : nI t * 32 + nI i = nI (t * 32 + i) := by rw [cy_mul, nI_add]
      have va : vp_in (nI s * 32 + nI i) 192 := by rw [ea]; exact vp_in_nI (by omega) (by omega)
      have vb : vp_in (nI t * 32 + nI i) 192 := by rw [eb]; exact vp_in_nI (by omega) (by omega)
      have ca : (nI s * 32 + nI i).toNatClampNeg = s * 32 + i := by rw [ea, nI_clamp (by omega)]
      have cb : (nI t * 32 + nI i).toNatClampNeg = t * 32 + i := by rw [eb, nI_clamp (by omega)]
      have hsame : ks (s * 32 + i) = a_keys (s * 32 + i) ∧ vs (s * 32 + i) = a_vals (s * 32 + i) := by
        by_cases z : s = t
        · subst z; exact h1 _ (by omega)
        · exact h1 _ (by omega)
      refine br_f (nI_ge (b := 32) (by omega) (by omega)) ⟨va, vb, nm_r (e' := upd ks (t * 32 + i) (a_keys (s * 32 + i))) (by rw [ca, cb, hsame.1]) ⟨va, vb, nm_r (e' := upd vs (t * 32 + i) (a_vals (s * 32 + i))) (by rw [ca, cb, hsame.2]) (nm_r (nI_1 i) (ih (i + 1) _ _ (by omega) ?_ ?_))⟩⟩
      · intro j hj
        rw [pk_un (by omega), pk_un (by omega)]
        exact h1 j (by omega)
      · intro j hj
        by_cases z : j = i
        · subst z
          rw [pk_us, pk_us]
          exact ⟨rfl, rfl⟩
        · rw [pk_un (by omega), pk_un (by omega)]
          exact h2 j (by omega)
  unfold wpY_copy
  dsimp only
  refine cy_valid1 r1 r4 hs ?_
  refine br_f (by decide) ?_
  refine cy_valid1 r1 r4 ht ?_
  exact br_f (by decide) ⟨33, key 32 0 a_keys a_vals (by omega) (fun _ _ => ⟨rfl, rfl⟩) (fun j hj => by omega)⟩
end
end
section
/-! the reference against the abstract state: diff, merge -/
theorem ct_cnt_dec {L : List ct_E} {a r : Int32} (har : a < r) (h : ∃ e ∈ L, e.1 = r) : L.countP (fun e => decide (r < e.1)) + 1 ≤ L.countP (fun e => decide (a < e.1)) := by
  obtain ⟨e, he, hk⟩ := h
  obtain ⟨l1, l2, rfl⟩ := List.append_of_mem he
  have mono : ∀ l : List ct_E, l.countP (fun e => decide (r < e.1)) ≤ l.countP (fun e => decide (a < e.1)) := by
    intro l
    apply List.countP_mono_left
    intro x _ hx
    rw [decide_eq_true_eq] at hx ⊢
    exact Int32.lt_trans har hx
  have m1 := mono l1
  have m2 := mono l2
  rw [List.countP_append, List.countP_append, List.countP_cons, List.countP_cons, if_neg (by rw [hk]; simp), if_pos (by rw [hk]; simpa using har)]
  omega
theorem ct_cnt_0 {L : List ct_E} {a : Int32} (h : L.countP (fun e => decide (a < e.1)) = 0) : ∀ e ∈ L, ¬ a < e.1 := by
  rw [List.countP_eq_zero] at h
  intro e he
  have := h e he
  rw [decide_eq_true_eq] at this
  exact this
theorem ct_pf_len {β : Type} (L : List (Int32 × β)) (a : Int32) : (L.filter (fun e => decide (e.1 ≤ a))).length ≤ L.length := List.length_filter_le _ _
theorem ct_mv0 : ct_mv 0 0 0 = 0 := rfl
theorem ct_mv_key {A O T : List ct_E} {k : Int32} (h : ct_mv (ct_get A k) (ct_get O k) (ct_get T k) ≠ 0) : ∃ e ∈ A ++ O ++ T, e.1 = k := by
  by_cases z1 : ct_get A k = 0
  · by_cases z2 : ct_get O k = 0
    · by_cases z3 : ct_get T k = 0
      · rw [z1, z2, z3] at h; exact absurd ct_mv0 h
      · obtain ⟨e, he, hk⟩ := ct_get_key z3
        exact ⟨e, by simp [he], hk⟩
    · obtain ⟨e, he, hk⟩ := ct_get_key z2
      exact ⟨e, by simp [he], hk⟩
  · obtain ⟨e, he, hk⟩ := ct_get_key z1
    exact ⟨e, by simp [he], hk⟩
theorem ct_cs_key {A O T : List ct_E} {C : List ct_D4} (h : ct_cs A O T C) {x : ct_D4} (hx : x ∈ C) : ∃ e ∈ A ++ O ++ T, e.1 = x.1 := by
  obtain ⟨k, a, b, c⟩ := x
  obtain ⟨h1, h2, h3, h4, h5, h6⟩ := (h.2 k a b c).mp hx
  by_cases z1 : ct_get A k = 0
  · have z2 : ct_get O k ≠ 0 := by
      intro w
      rw [h1, h2, z1, w] at h4
      exact h4 rfl
    obtain ⟨e, he, hk⟩ := ct_get_key z2
    exact ⟨e, by simp [he], hk⟩
  · obtain ⟨e, he, hk⟩ := ct_get_key z1
    exact ⟨e, by simp [he], hk⟩
theorem ct_bg_list {ks vs : Nat → Int32} : ∀ {M : List ct_E} {a n : Nat}, (∀ e ∈ M, e.2 ≠ 0) → M.length ≤ n → (∀ j (h : j < M.length), ks (a + j) = (M[j]).1 ∧ vs (a + j) = (M[j]).2) → (∀ j, M.length ≤ j → j < n → vs (a + j) = 0) → ct_bg ks vs a n = M
  | [], a, n, _, _, _, h2 => by
    induction n generalizing a with
    | zero => rfl
    | succ n ih =>
      have h0 := h2 0 (by simp) (by omega)
      rw [Nat.add_zero] at h0
      rw [ct_bg_z h0]
      refine ih (a := a + 1) (by simp) (fun j hj => absurd hj (by simp)) ?_
      intro j _ j2
      have := h2 (j + 1) (by simp) (by omega)
      rw [show a + 1 + j = a + (j + 1) by omega]
      exact this
  | e :: M, a, n, hz, hn, h1, h2 => by
    match n, hn with
    | n + 1, hn =>
      have h0 := h1 0 (by simp)
      rw [Nat.add_zero] at h0
      have hz0 := hz e (by simp)
      have e1 : ks a = e.1 := h0.1
      have e2 : vs a = e.2 := h0.2
      rw [ct_bg_s (by rw [e2]; exact hz0), e1, e2]
      rw [List.length_cons] at hn
      rw [ct_bg_list (M := M) (a := a + 1) (n := n) (fun x hx => hz x (by simp [hx])) (by omega)]
      · intro j hj
        have := h1 (j + 1) (by rw [List.length_cons]; omega)
        rw [show a + 1 + j = a + (j + 1) by omega]
        exact this
      · intro j j1 j2
        have := h2 (j + 1) (by rw [List.length_cons]; omega) (by omega)
        rw [show a + 1 + j = a + (j + 1) by omega]
        exact this
section
variable {f_recCount f_slotCount f_cap : Int32} {a_keys a_vals a_newKeys a_newVals a_recKeys a_recVals : Nat → Int32} {sc lim : Nat} {m : Nat → List ct_E} {rp : List ct_D4}
theorem cy_m_diff {post : Int32 → SY → Prop} {s t : Nat} {D : List ct_D3} (R : ct_RYs f_recCount f_slotCount f_cap a_keys a_vals a_recKeys a_recVals sc lim m rp) (hs : s < sc) (ht : t < sc) (hD : ct_ds (m s) (m t) D)
    (hO : ∀ v', ct_RY v' sc lim m (D.map (fun x => (x.1, x.2.1, x.2.2, (0 : Int32)))) → post (nI (D.map (fun x => (x.1, x.2.1, x.2.2, (0 : Int32)))).length) v') : wpY_diff post (f_recCount, f_slotCount, f_cap, a_keys, a_vals, a_newKeys, a_newVals, a_recKeys, a_recVals) (nI s) (nI t) := by
  obtain ⟨r1, r2, r3, r4, r5, r6, r7, r8⟩ := R
  obtain ⟨b1, b2, b3⟩ := r7 s (by omega)
  obtain ⟨c1, c2, c3⟩ := r7 t (by omega)
  have hDl := ct_ds_len hD
  have key : ∀ (d ctr : Nat) (a f_recCount : Int32) (a_recKeys a_recVals : Nat → Int32), (m s ++ m t).countP (fun e => decide (a < e.1)) ≤ d → ctr + (m s ++ m t).countP (fun e => decide (a < e.1)) ≤ 64 → -1 ≤ a →
      f_recCount = nI ((D.filter (fun e => decide (e.1 ≤ a))).map (fun x => (x.1, x.2.1, x.2.2, (0 : Int32)))).length → ct_rpy a_recKeys a_recVals ((D.filter (fun e => decide (e.1 ≤ a))).map (fun x => (x.1, x.2.1, x.2.2, (0 : Int32)))) →
      wY_diff_28 post (nI s) (nI t) (d + 1) a (nI ctr) f_recCount f_slotCount f_cap a_keys a_vals a_newKeys a_newVals a_recKeys a_recVals := by
    intro d
    induction d with
    | zero =>
      intro ctr a f_recCount a_recKeys a_recVals hd hctr ha hc hr
      have hall := ct_cnt_0 (Nat.le_zero.mp hd)
      have hfin : post f_recCount (f_recCount, f_slotCount, f_cap, a_keys, a_vals, a_newKeys, a_newVals, a_recKeys, a_recVals) := by
        have e : D.filter (fun e => decide (e.1 ≤ a)) = D := ct_pf_all (fun x hx w => by
          obtain ⟨e, he, hk⟩ := ct_ds_key hD hx
          rw [← hk] at w
          exact hall e he w)
        rw [e] at hc hr
        subst hc
        exact hO _ ⟨r1, r2, r3, r4, r5, r6, r7, rfl, by rw [List.length_map]; omega, hr⟩
      by_cases q : 64 ≤ ctr
      · exact br_t (nI_le (a := 64) q (by omega)) hfin
      · refine br_f (nI_ge (b := 64) (by omega) (by omega)) ?_
        refine cy_nextKey r1 r4 hs ht ht ha b1 c1 c1 ?_
        intro r hr'
        rcases hr' with ⟨h1, h2⟩ | ⟨⟨e, he, hk⟩, h2, h3⟩
        · exact br_f (by rw [h1]; decide) hfin
        · exfalso
          refine hall e ?_ (by rw [hk]; exact h2)
          simp only [List.mem_append] at he ⊢
          rcases he with (w | w) | w
          · exact Or.inl w
          · exact Or.inr w
          · exact Or.inr w
    | succ d ih =>
      intro ctr a f_recCount a_recKeys a_recVals hd hctr ha hc hr
      have hfin : (∀ e ∈ m s ++ m t, ¬ a < e.1) → post f_recCount (f_recCount, f_slotCount, f_cap, a_keys, a_vals, a_newKeys, a_newVals, a_recKeys, a_recVals) := by
        intro hall
        have e : D.filter (fun e => decide (e.1 ≤ a)) = D := ct_pf_all (fun x hx w => by
          obtain ⟨e, he, hk⟩ := ct_ds_key hD hx
          rw [← hk] at w
          exact hall e he w)
        rw [e] at hc hr
        subst hc
        exact hO _ ⟨r1, r2, r3, r4, r5, r6, r7, rfl, by rw [List.length_map]; omega, hr⟩
      by_cases q : 64 ≤ ctr
      · exact br_t (nI_le (a := 64) q (by omega)) (hfin (ct_cnt_0 (by omega)))
      · refine br_f (nI_ge (b := 64) (by omega) (by omega)) ?_
        refine cy_nextKey r1 r4 hs ht ht ha b1 c1 c1 ?_
        intro r hr'
        rcases hr' with ⟨h1, h2⟩ | ⟨⟨e, he, hk⟩, h2, h3⟩
        · refine br_f (by rw [h1]; decide) (hfin (fun e he w => ?_))
          refine Int32.not_le.mpr w (h2 e.1 ⟨e, ?_, rfl⟩)
          simp only [List.mem_append] at he ⊢
          rcases he with w | w
          · exact Or.inl (Or.inl w)
          · exact Or.inr w
        · have hr0 : 0 ≤ r := by
            rw [Int32.lt_iff_toInt_lt] at h2
            rw [Int32.le_iff_toInt_le] at ha ⊢
            have e1 : (-1 : Int32).toInt = -1 := by decide
            have e2 : (0 : Int32).toInt = 0 := by decide
            omega
          have hin : ∃ e ∈ m s ++ m t, e.1 = r := by
            refine ⟨e, ?_, hk⟩
            simp only [List.mem_append] at he ⊢
            rcases he with (w | w) | w
            · exact Or.inl w
            · exact Or.inr w
            · exact Or.inr w
          have hdec := ct_cnt_dec h2 hin
          have hst := ct_pf_step (L := D) (a := a) (r := r) hD.1 h2 (by
            intro x hx hax
            obtain ⟨e', he', hk'⟩ := ct_ds_key hD hx
            refine h3 x.1 ⟨e', ?_, hk'⟩ hax
            simp only [List.mem_append] at he' ⊢
            rcases he' with w | w
            · exact Or.inl (Or.inl w)
            · exact Or.inr w)
          have har : -1 ≤ r := Int32.le_trans (by decide) hr0
          refine br_t hr0 ?_
          refine cy_valueIn (by omega) b1 b2 ?_
          refine cy_valueIn (by omega) c1 c2 ?_
          by_cases z : ct_get (m s) r = ct_get (m t) r
          · have hno : D.filter (fun e => decide (e.1 = r)) = [] := ct_pf_none (by
              rintro ⟨k', x, y⟩ hx hkk
              obtain ⟨g1, g2, g3⟩ := (hD.2 k' x y).mp hx
              dsimp only at hkk
              subst hkk
              exact g3 (g1.trans (z.trans g2.symm)))
            rw [hno, List.append_nil] at hst
            exact br_t z (nm_r (nI_1 ctr) (ih (ctr + 1) r f_recCount a_recKeys a_recVals (by omega) (by omega) har (by rw [hst]; exact hc) (by rw [hst]; exact hr)))
          · have hx : (r, ct_get (m s) r, ct_get (m t) r) ∈ D := (hD.2 _ _ _).mpr ⟨rfl, rfl, z⟩
            rw [ct_pf_one (x := (r, ct_get (m s) r, ct_get (m t) r)) hD.1 hx] at hst
            have hl2 := congrArg List.length hst
            have hl3 := ct_pf_len D r
            rw [List.length_append, List.length_singleton] at hl2
            have hl4 : (D.filter (fun e => decide (e.1 ≤ a))).length < 64 := by
              have h7 := ct_pf_len D a
              have h8 : D.length ≤ 64 := by omega
              exact Nat.lt_of_lt_of_le (Nat.lt_of_succ_le (Nat.le_trans (Nat.le_of_eq hl2.symm) hl3)) h8
            refine br_f z ?_
            refine cy_addRecord hc hr (by rw [List.length_map]; exact hl4) ?_
            intro rk rv hr2
            have em : (D.filter (fun e => decide (e.1 ≤ a))).map (fun x => (x.1, x.2.1, x.2.2, (0 : Int32))) ++ [(r, ct_get (m s) r, ct_get (m t) r, (0 : Int32))] = (D.filter (fun e => decide (e.1 ≤ r))).map (fun x => (x.1, x.2.1, x.2.2, (0 : Int32))) := by
              rw [hst, List.map_append]; rfl
            rw [em] at hr2
            exact nm_r (nI_1 ctr) (ih (ctr + 1) r _ rk rv (by omega) (by omega) har (by rw [em]) hr2)
  have hcnt : (m s ++ m t).countP (fun e => decide ((-1 : Int32) < e.1)) ≤ 64 := by
    refine Nat.le_trans List.countP_le_length ?_
    rw [List.length_append]
    omega
  have h0 : D.filter (fun e => decide (e.1 ≤ (-1 : Int32))) = [] := ct_pf_0 (fun x hx => (ct_ds_nn hD b2 c2 x hx).1)
  unfold wpY_diff
  dsimp only
  refine cy_valid1 r1 r4 hs ?_
  refine br_f (by decide) ?_
  refine cy_valid1 r1 r4 ht ?_
  exact br_f (by decide) ⟨65, key 64 0 (-1) 0 a_recKeys a_recVals hcnt (by omega) (Int32.le_refl _) (by rw [h0]; rfl) (by rw [h0]; exact ct_rpy_nil)⟩
theorem cy_mval {post : Int32 → Prop} {b o t : Int32} (hp : post (ct_mv b o t)) : wpY_mergedValue post (f_recCount, f_slotCount, f_cap, a_keys, a_vals, a_newKeys, a_newVals, a_recKeys, a_recVals) b o t := by
  unfold ct_mv at hp
  by_cases z1 : o = t
  · rw [if_pos z1] at hp; exact br_t z1 hp
  · rw [if_neg z1] at hp
    refine br_f z1 ?_
    by_cases z2 : o = b
    · rw [if_pos z2] at hp; exact br_t z2 hp
    · rw [if_neg z2] at hp; exact br_f z2 hp
theorem ct_mv_step {A O T M : List ct_E} {a r : Int32} (hM : ct_map M) (hg : ∀ k, ct_get M k = ct_mv (ct_get A k) (ct_get O k) (ct_get T k)) (har : a < r) (h3 : ∀ k, (∃ e ∈ A ++ O ++ T, e.1 = k) → a < k → r ≤ k) :
    M.filter (fun e => decide (e.1 ≤ r)) = M.filter (fun e => decide (e.1 ≤ a)) ++ (if ct_get M r = 0 then [] else [(r, ct_get M r)]) := by
  have hst := ct_pf_step (L := M) (a := a) (r := r) hM.1 har (by
    intro x hx hax
    refine h3 x.1 (ct_mv_key ?_) hax
    rw [← hg]
    rw [ct_get_mem hM.1 (k := x.1) (v := x.2) hx]
    exact ct_map_nz hM hx)
  rw [hst]
  congr 1
  by_cases z : ct_get M r = 0
  · rw [if_pos z]
    apply ct_pf_none
    intro e he w
    have := ct_get_mem hM.1 (k := r) (v := e.2) (by rw [← w]; exact he)
    rw [z] at this
    exact ct_map_nz hM he this.symm
  · rw [if_neg z]
    exact ct_pf_one (x := (r, ct_get M r)) hM.1 (ct_mem_get z)
theorem cy_mg_44 {post : Int32 → SY → Prop} {b o t i : Nat} {M : List ct_E} (R : ct_RYs f_recCount f_slotCount f_cap a_keys a_vals a_recKeys a_recVals sc lim m rp) (hb : b < sc) (ho : o < sc) (ht : t < sc) (hM : ct_map M) (hg : ∀ k, ct_get M k = ct_mv (ct_get (m b) k) (ct_get (m o) k) (ct_get (m t) k))
    (K : wY_merge_123 post (nI b) (nI o) (nI t) (nI i) (nI M.length) f_recCount f_slotCount f_cap a_keys a_vals a_newKeys a_newVals a_recKeys a_recVals) :
    ∀ (d ctr : Nat) (a : Int32), (m b ++ m o ++ m t).countP (fun e => decide (a < e.1)) ≤ d → ctr + (m b ++ m o ++ m t).countP (fun e => decide (a < e.1)) ≤ 96 → -1 ≤ a → wY_merge_44 post (nI b) (nI o) (nI t) (nI i) f_recCount f_slotCount f_cap a_keys a_vals a_newKeys a_newVals a_recKeys a_recVals (d + 1) (nI (M.filter (fun e => decide (e.1 ≤ a))).length) a (nI ctr) := by
  obtain ⟨r1, r2, r3, r4, r5, r6, r7, r8⟩ := R
  obtain ⟨b1, b2, b3⟩ := r7 b (by omega)
  obtain ⟨o1, o2, o3⟩ := r7 o (by omega)
  obtain ⟨t1, t2, t3⟩ := r7 t (by omega)
  intro d
  induction d with
  | zero =>
    intro ctr a hd hctr ha
    have hall := ct_cnt_0 (Nat.le_zero.mp hd)
    have e : M.filter (fun e => decide (e.1 ≤ a)) = M := ct_pf_all (fun x hx w => by
      obtain ⟨e, he, hk⟩ := ct_mv_key (A := m b) (O := m o) (T := m t) (k := x.1) (by rw [← hg, ct_get_mem hM.1 (k := x.1) (v := x.2) hx]; exact ct_map_nz hM hx)
      rw [← hk] at w
      exact hall e he w)
    rw [e]
    by_cases q : 96 ≤ ctr
    · exact br_t (nI_le (a := 96) q (by omega)) K
    · refine br_f (nI_ge (b := 96) (by omega) (by omega)) ?_
      refine cy_nextKey r1 r4 hb ho ht ha b1 o1 t1 ?_
      intro r hr'
      rcases hr' with ⟨h1, h2⟩ | ⟨⟨e, he, hk⟩, h2, h3⟩
      · exact br_f (by rw [h1]; decide) K
      · exact absurd (by rw [hk]; exact h2) (hall e he)
  | succ d ih =>
    intro ctr a hd hctr ha
    have hfin : (∀ e ∈ m b ++ m o ++ m t, ¬ a < e.1) → wY_merge_123 post (nI b) (nI o) (nI t) (nI i) (nI (M.filter (fun e => decide (e.1 ≤ a))).length) f_recCount f_slotCount f_cap a_keys a_vals a_newKeys a_newVals a_recKeys a_recVals := by
      intro hall
      have e : M.filter (fun e => decide (e.1 ≤ a)) = M := ct_pf_all (fun x hx w => by
        obtain ⟨e, he, hk⟩ := ct_mv_key (A := m b) (O := m o) (T := m t) (k := x.1) (by rw [← hg, ct_get_mem hM.1 (k := x.1) (v := x.2) hx]; exact ct_map_nz hM hx)
        rw [← hk] at w
        exact hall e he w)
      rw [e]
      exact K
    by_cases q : 96 ≤ ctr
    · exact br_t (nI_le (a := 96) q (by omega)) (hfin (ct_cnt_0 (by omega)))
    · refine br_f (nI_ge (b := 96) (by omega) (by omega)) ?_
      refine cy_nextKey r1 r4 hb ho ht ha b1 o1 t1 ?_
      intro r hr'
      rcases hr' with ⟨h1, h2⟩ | ⟨hU, h2, h3⟩
      · exact br_f (by rw [h1]; decide) (hfin (fun e he w => Int32.not_le.mpr w (h2 e.1 ⟨e, he, rfl⟩)))
      · have hr0 : 0 ≤ r := by
          rw [Int32.lt_iff_toInt_lt] at h2
          rw [Int32.le_iff_toInt_le] at ha ⊢
          have e1 : (-1 : Int32).toInt = -1 := by decide
          have e2 : (0 : Int32).toInt = 0 := by decide
          omega
        have hdec := ct_cnt_dec h2 hU
        have hst := ct_mv_step hM hg h2 h3
        have har : -1 ≤ r := Int32.le_trans (by decide) hr0
        have ih9 := ih (ctr + 1) r (by omega) (by omega) har
        rw [hst, List.length_append] at ih9
        refine br_t hr0 ?_
        refine cy_valueIn (by omega) b1 b2 ?_
        refine cy_valueIn (by omega) o1 o2 ?_
        refine cy_valueIn (by omega) t1 t2 ?_
        refine cy_mval ?_
        rw [← hg r]
        by_cases z : ct_get M r = 0
        · rw [if_pos z] at ih9
          exact br_t z (nm_r (nI_1 ctr) ih9)
        · rw [if_neg z] at ih9
          exact br_f z (nm_r (nI_1 _) (nm_r (nI_1 ctr) ih9))
theorem cy_mg_321 {post : Int32 → SY → Prop} {i : Nat} {M : List ct_E} {C : List ct_D4} (hi : i < 6) (hc : f_recCount = nI C.length)
    (K : ∀ ks vs, (∀ j, (j < i * 32 ∨ i * 32 + 32 ≤ j) → ks j = a_keys j ∧ vs j = a_vals j) → (∀ j, j < 32 → ks (i * 32 + j) = a_newKeys j ∧ vs (i * 32 + j) = a_newVals j) → post (nI C.length) (nI C.length, f_slotCount, f_cap, ks, vs, a_newKeys, a_newVals, a_recKeys, a_recVals)) :
    ∀ d j (ks vs : Nat → Int32), j + d = 32 → (∀ x, (x < i * 32 ∨ i * 32 + j ≤ x) → ks x = a_keys x ∧ vs x = a_vals x) → (∀ x, x < j → ks (i * 32 + x) = a_newKeys x ∧ vs (i * 32 + x) = a_newVals x) → wY_merge_321 post (nI i) f_recCount f_slotCount f_cap (d + 1) (nI j) ks vs a_newKeys a_newVals a_recKeys a_recVals := by
  subst hc
  intro d
  induction d with
  | zero =>
    intro j ks vs hj h1 h2
    have : j = 32 := by omega
    subst this
    exact br_t (Int32.le_refl _) (K ks vs (fun x hx => h1 x (by omega)) h2)
  | succ d ih =>
    intro j ks vs hj h1 h2
    have eb : nI i * 32 + nI j = nI (i * 32 + j) := by rw [cy_mul, nI_add]
    have va : vp_in (nI j) 32 := vp_in_nI (by omega) (by omega)
    have vb : vp_in (nI i * 32 + nI j) 192 := by rw [eb]; exact vp_in_nI (by omega) (by omega)
    have ca := nI_clamp (n := j) (by omega)
    have cb : (nI i * 32 + nI j).toNatClampNeg = i * 32 + j := by rw [eb, nI_clamp (by omega)]
    refine br_f (nI_ge (b := 32) (by omega) (by omega)) ⟨va, vb, nm_r (e' := upd ks (i * 32 + j) (a_newKeys j)) (by rw [ca, cb]) ⟨va, vb, nm_r (e' := upd vs (i * 32 + j) (a_newVals j)) (by rw [ca, cb]) (nm_r (nI_1 j) (ih (j + 1) _ _ (by omega) ?_ ?_))⟩⟩
    · intro x hx
      rw [pk_un (by omega), pk_un (by omega)]
      exact h1 x (by omega)
    · intro x hx
      by_cases z : x = j
      · subst z
        rw [pk_us, pk_us]
        exact ⟨rfl, rfl⟩
      · rw [pk_un (by omega), pk_un (by omega)]
        exact h2 x (by omega)
end
end
section
/-! the reference: merge's second pass, the readers, the constructor -/
section
variable {f_recCount f_slotCount f_cap : Int32} {a_keys a_vals a_newKeys a_newVals a_recKeys a_recVals : Nat → Int32} {sc lim : Nat} {m : Nat → List ct_E} {rp : List ct_D4}
theorem cy_mg_181 {post : Int32 → SY → Prop} {b o t i : Nat} {M : List ct_E} {C : List ct_D4} (r1 : f_slotCount = nI sc) (r4 : sc ≤ 6) (hb : b < sc) (ho : o < sc) (ht : t < sc) (hi : i < sc) (bb : (ct_bg a_keys a_vals (b * 32) 32).Perm (m b) ∧ ct_map (m b)) (bo : (ct_bg a_keys a_vals (o * 32) 32).Perm (m o) ∧ ct_map (m o)) (bt : (ct_bg a_keys a_vals (t * 32) 32).Perm (m t) ∧ ct_map (m t))
    (hM : ct_map M) (hM32 : M.length ≤ 32) (hg : ∀ k, ct_get M k = ct_mv (ct_get (m b) k) (ct_get (m o) k) (ct_get (m t) k)) (hC : ct_cs (m b) (m o) (m t) C) (hC64 : C.length ≤ 64)
    (K : ∀ (f_recCount : Int32) (a_newKeys a_newVals a_recKeys a_recVals : Nat → Int32), f_recCount = nI C.length → ct_at a_newKeys a_newVals M → (∀ j, M.length ≤ j → j < 32 → a_newVals j = 0) → ct_rpy a_recKeys a_recVals C → ∃ n321, wY_merge_321 post (nI i) f_recCount f_slotCount f_cap n321 0 a_keys a_vals a_newKeys a_newVals a_recKeys a_recVals) :
    ∀ (d ctr : Nat) (a f_recCount : Int32) (a_newKeys a_newVals a_recKeys a_recVals : Nat → Int32), (m b ++ m o ++ m t).countP (fun e => decide (a < e.1)) ≤ d → ctr + (m b ++ m o ++ m t).countP (fun e => decide (a < e.1)) ≤ 96 → -1 ≤ a →
      f_recCount = nI (C.filter (fun e => decide (e.1 ≤ a))).length → ct_at a_newKeys a_newVals (M.filter (fun e => decide (e.1 ≤ a))) → (∀ j, (M.filter (fun e => decide (e.1 ≤ a))).length ≤ j → j < 32 → a_newVals j = 0) → ct_rpy a_recKeys a_recVals (C.filter (fun e => decide (e.1 ≤ a))) →
      wY_merge_181 post (nI b) (nI o) (nI t) (nI i) (d + 1) a (nI (M.filter (fun e => decide (e.1 ≤ a))).length) (nI ctr) f_recCount f_slotCount f_cap a_keys a_vals a_newKeys a_newVals a_recKeys a_recVals := by
  have allM : ∀ a : Int32, (∀ e ∈ m b ++ m o ++ m t, ¬ a < e.1) → M.filter (fun e => decide (e.1 ≤ a)) = M := by
    intro a hall
    refine ct_pf_all (fun x hx w => ?_)
    obtain ⟨e, he, hk⟩ := ct_mv_key (A := m b) (O := m o) (T := m t) (k := x.1) (by rw [← hg, ct_get_mem hM.1 (k := x.1) (v := x.2) hx]; exact ct_map_nz hM hx)
    rw [← hk] at w
    exact hall e he w
  have allC : ∀ a : Int32, (∀ e ∈ m b ++ m o ++ m t, ¬ a < e.1) → C.filter (fun e => decide (e.1 ≤ a)) = C := by
    intro a hall
    refine ct_pf_all (fun x hx w => ?_)
    obtain ⟨e, he, hk⟩ := ct_cs_key hC hx
    rw [← hk] at w
    exact hall e he w
  intro d
  induction d with
  | zero =>
    intro ctr a f_recCount a_newKeys a_newVals a_recKeys a_recVals hd hctr ha hc hat hz hr
    have hall := ct_cnt_0 (Nat.le_zero.mp hd)
    rw [allM a hall] at hat hz
    rw [allC a hall] at hc hr
    have hfin := K f_recCount a_newKeys a_newVals a_recKeys a_recVals hc hat hz hr
    by_cases q : 96 ≤ ctr
    · exact br_t (nI_le (a := 96) q (by omega)) hfin
    · refine br_f (nI_ge (b := 96) (by omega) (by omega)) ?_
      refine cy_nextKey r1 r4 hb ho ht ha bb.1 bo.1 bt.1 ?_
      intro r hr'
      rcases hr' with ⟨h1, h2⟩ | ⟨⟨e, he, hk⟩, h2, h3⟩
      · exact br_f (by rw [h1]; decide) hfin
      · exact absurd (by rw [hk]; exact h2) (hall e he)
  | succ d ih =>
    intro ctr a f_recCount a_newKeys a_newVals a_recKeys a_recVals hd hctr ha hc hat hz hr
    have hfin : (∀ e ∈ m b ++ m o ++ m t, ¬ a < e.1) → ∃ n321, wY_merge_321 post (nI i) f_recCount f_slotCount f_cap n321 0 a_keys a_vals a_newKeys a_newVals a_recKeys a_recVals := by
      intro hall
      rw [allM a hall] at hat hz
      rw [allC a hall] at hc hr
      exact K f_recCount a_newKeys a_newVals a_recKeys a_recVals hc hat hz hr
    by_cases q : 96 ≤ ctr
    · exact br_t (nI_le (a := 96) q (by omega)) (hfin (ct_cnt_0 (by omega)))
    · refine br_f (nI_ge (b := 96) (by omega) (by omega)) ?_
      refine cy_nextKey r1 r4 hb ho ht ha bb.1 bo.1 bt.1 ?_
      intro r hr'
      rcases hr' with ⟨h1, h2⟩ | ⟨hU, h2, h3⟩
      · exact br_f (by rw [h1]; decide) (hfin (fun e he w => Int32.not_le.mpr w (h2 e.1 ⟨e, he, rfl⟩)))
      · have hr0 : 0 ≤ r := by
          rw [Int32.lt_iff_toInt_lt] at h2
          rw [Int32.le_iff_toInt_le] at ha ⊢
          have e1 : (-1 : Int32).toInt = -1 := by decide
          have e2 : (0 : Int32).toInt = 0 := by decide
          omega
        have hdec := ct_cnt_dec h2 hU
        have hst := ct_mv_step hM hg h2 h3
        have hsc := ct_pf_step (L := C) (a := a) (r := r) hC.1 h2 (fun x hx hax => h3 x.1 (ct_cs_key hC hx) hax)
        have har : -1 ≤ r := Int32.le_trans (by decide) hr0
        -- behind the store of the merged value
        have tail : ∀ (a_newKeys a_newVals : Nat → Int32), ct_at a_newKeys a_newVals (M.filter (fun e => decide (e.1 ≤ r))) → (∀ j, (M.filter (fun e => decide (e.1 ≤ r))).length ≤ j → j < 32 → a_newVals j = 0) →
            wY_merge_279 post (wY_merge_181 post (nI b) (nI o) (nI t) (nI i) (d + 1)) (nI b) (nI o) (nI t) (nI i) r (nI (M.filter (fun e => decide (e.1 ≤ r))).length) (nI ctr) (ct_get (m b) r) (ct_get (m o) r) (ct_get (m t) r) f_recCount f_slotCount f_cap a_keys a_vals a_newKeys a_newVals a_recKeys a_recVals := by
          intro a_newKeys a_newVals hat2 hz2
          have skip : ¬ (ct_get (m b) r ≠ ct_get (m o) r ∧ ct_get (m o) r ≠ ct_get (m t) r ∧ ct_get (m b) r ≠ ct_get (m t) r) → wY_merge_181 post (nI b) (nI o) (nI t) (nI i) (d + 1) r (nI (M.filter (fun e => decide (e.1 ≤ r))).length) (nI (ctr + 1)) f_recCount f_slotCount f_cap a_keys a_vals a_newKeys a_newVals a_recKeys a_recVals := by
            intro hn
            have hno : C.filter (fun e => decide (e.1 = r)) = [] := ct_pf_none (by
              rintro ⟨k', x, y, z⟩ hx hkk
              obtain ⟨g1, g2, g3, g4, g5, g6⟩ := (hC.2 k' x y z).mp hx
              dsimp only at hkk
              subst hkk g1 g2 g3
              exact hn ⟨g4, g5, g6⟩)
            rw [hno, List.append_nil] at hsc
            exact ih (ctr + 1) r f_recCount a_newKeys a_newVals a_recKeys a_recVals (by omega) (by omega) har (by rw [hsc]; exact hc) hat2 hz2 (by rw [hsc]; exact hr)
          by_cases z1 : ct_get (m b) r = ct_get (m o) r
          · exact br_t z1 (nm_r (nI_1 ctr) (skip (fun w => w.1 z1)))
          · refine br_f z1 ?_
            by_cases z2 : ct_get (m o) r = ct_get (m t) r
            · exact br_t z2 (nm_r (nI_1 ctr) (skip (fun w => w.2.1 z2)))
            · refine br_f z2 ?_
              by_cases z3 : ct_get (m b) r = ct_get (m t) r
              · exact br_t z3 (nm_r (nI_1 ctr) (skip (fun w => w.2.2 z3)))
              · refine br_f z3 ?_
                have hx : (r, ct_get (m b) r, ct_get (m o) r, ct_get (m t) r) ∈ C := (hC.2 _ _ _ _).mpr ⟨rfl, rfl, rfl, z1, z2, z3⟩
                rw [ct_pf_one (x := (r, ct_get (m b) r, ct_get (m o) r, ct_get (m t) r)) hC.1 hx] at hsc
                have hl2 := congrArg List.length hsc
                have hl3 := ct_pf_len C r
                rw [List.length_append, List.length_singleton] at hl2
                have hl4 : (C.filter (fun e => decide (e.1 ≤ a))).length < 64 := Nat.lt_of_lt_of_le (Nat.lt_of_succ_le (Nat.le_trans (Nat.le_of_eq hl2.symm) hl3)) hC64
                refine cy_addRecord hc hr hl4 ?_
                intro rk rv hr2
                rw [← hsc] at hr2
                exact nm_r (nI_1 ctr) (ih (ctr + 1) r _ a_newKeys a_newVals rk rv (by omega) (by omega) har (by rw [hsc]) hat2 hz2 hr2)
        refine br_t hr0 ?_
        refine cy_valueIn (by omega) bb.1 bb.2 ?_
        refine cy_valueIn (by omega) bo.1 bo.2 ?_
        refine cy_valueIn (by omega) bt.1 bt.2 ?_
        refine cy_mval ?_
        rw [← hg r]
        by_cases z : ct_get M r = 0
        · rw [if_pos z, List.append_nil] at hst
          rw [hst] at tail
          exact br_t z (tail _ _ hat hz)
        · rw [if_neg z] at hst
          have hl2 := congrArg List.length hst
          have hl3 := ct_pf_len M r
          rw [List.length_append, List.length_singleton] at hl2
          have hl5 : (M.filter (fun e => decide (e.1 ≤ a))).length < 32 := Nat.lt_of_lt_of_le (Nat.lt_of_succ_le (Nat.le_trans (Nat.le_of_eq hl2.symm) hl3)) hM32
          have hv : vp_in (nI (M.filter (fun e => decide (e.1 ≤ a))).length) 32 := vp_in_nI hl5 (by omega)
          have cl := nI_clamp (n := (M.filter (fun e => decide (e.1 ≤ a))).length) (by omega)
          have tl := tail (upd a_newKeys (M.filter (fun e => decide (e.1 ≤ a))).length r) (upd a_newVals (M.filter (fun e => decide (e.1 ≤ a))).length (ct_get M r)) (by rw [hst]; exact ct_at_snoc hat rfl r (ct_get M r)) (by
            intro j j1 j2
            rw [hl2] at j1
            rw [pk_un (by omega)]
            exact hz j (by omega) j2)
          rw [hl2] at tl
          generalize (M.filter (fun e => decide (e.1 ≤ a))).length = u at hl5 hv cl tl ⊢
          refine br_f z ?_
          refine br_f (nI_ge (b := 32) hl5 (by omega)) ?_
          refine ⟨hv, ?_⟩
          refine nm_r (e' := upd a_newKeys u r) (by rw [cl]) ?_
          refine ⟨hv, ?_⟩
          refine nm_r (e' := upd a_newVals u (ct_get M r)) (by rw [cl]) ?_
          exact nm_r (nI_1 u) tl
theorem cy_m_merge {post : Int32 → SY → Prop} {b o t i : Nat} {M : List ct_E} {C : List ct_D4} (R : ct_RYs f_recCount f_slotCount f_cap a_keys a_vals a_recKeys a_recVals sc lim m rp) (hb : b < sc) (ho : o < sc) (ht : t < sc) (hi : i < sc)
    (hM : ct_map M) (hg : ∀ k, ct_get M k = ct_mv (ct_get (m b) k) (ct_get (m o) k) (ct_get (m t) k)) (hM96 : M.length ≤ 96) (hC : ct_cs (m b) (m o) (m t) C) (hC64 : C.length ≤ 64)
    (hF : lim < M.length → post (-4) (f_recCount, f_slotCount, f_cap, a_keys, a_vals, a_newKeys, a_newVals, a_recKeys, a_recVals)) (hO : ¬ lim < M.length → ∀ v', ct_RY v' sc lim (ct_up1 m i M) C → post (nI C.length) v') : wpY_merge post (f_recCount, f_slotCount, f_cap, a_keys, a_vals, a_newKeys, a_newVals, a_recKeys, a_recVals) (nI b) (nI o) (nI t) (nI i) := by
  have RR := R
  obtain ⟨r1, r2, r3, r4, r5, r6, r7, r8⟩ := R
  obtain ⟨b1, b2, b3⟩ := r7 b (by omega)
  obtain ⟨o1, o2, o3⟩ := r7 o (by omega)
  obtain ⟨t1, t2, t3⟩ := r7 t (by omega)
  have hcnt : (m b ++ m o ++ m t).countP (fun e => decide ((-1 : Int32) < e.1)) ≤ 96 := by
    refine Nat.le_trans List.countP_le_length ?_
    rw [List.length_append, List.length_append]
    omega
  have m0 : M.filter (fun e => decide (e.1 ≤ (-1 : Int32))) = [] := ct_pf_0 (fun x hx => (hM.2 x hx).1)
  have c0 : C.filter (fun e => decide (e.1 ≤ (-1 : Int32))) = [] := ct_pf_0 (fun x hx => by
    obtain ⟨e, he, hk⟩ := ct_cs_key hC hx
    rw [← hk]
    simp only [List.mem_append] at he
    rcases he with (w | w) | w
    · exact (b2.2 e w).1
    · exact (o2.2 e w).1
    · exact (t2.2 e w).1)
  have zero : ¬ lim < M.length → ∀ (d j : Nat) (a_newKeys a_newVals : Nat → Int32), j + d = 32 → (∀ x, x < j → a_newVals x = 0) → wY_merge_138 post (nI b) (nI o) (nI t) (nI i) f_recCount f_slotCount f_cap (d + 1) (nI j) a_keys a_vals a_newKeys a_newVals a_recKeys a_recVals := by
    intro hlim d
    induction d with
    | zero =>
      intro j a_newKeys a_newVals hj hz
      have : j = 32 := by omega
      subst this
      refine br_t (Int32.le_refl _) ⟨96 + 1, ?_⟩
      have h9 := cy_mg_181 (f_slotCount := f_slotCount) (f_cap := f_cap) (a_keys := a_keys) (a_vals := a_vals) (post := post) (m := m) (i := i) (M := M) (C := C) r1 r4 hb ho ht hi ⟨b1, b2⟩ ⟨o1, o2⟩ ⟨t1, t2⟩ hM (by omega) hg hC hC64 ?_ 96 0 (-1) 0 a_newKeys a_newVals a_recKeys a_recVals hcnt (by omega) (Int32.le_refl _) (by rw [c0]; rfl) (by rw [m0]; exact ct_at_nil) (fun j _ j2 => hz j j2) (by rw [c0]; exact ct_rpy_nil)
      · rw [m0] at h9
        exact h9
      · intro rc nk nv rk rv hc hat hnz hr
        refine ⟨33, cy_mg_321 (f_recCount := rc) (a_newKeys := nk) (a_newVals := nv) (a_recKeys := rk) (a_recVals := rv) (M := M) (C := C) (by omega) hc ?_ 32 0 a_keys a_vals (by omega) (fun _ _ => ⟨rfl, rfl⟩) (fun x hx => by omega)⟩
        intro ks vs k1 k2
        have hbag : ct_bg ks vs (i * 32) 32 = M := by
          refine ct_bg_list (fun e he => ct_map_nz hM he) (by omega) ?_ ?_
          · intro j hj
            rw [(k2 j (by omega)).1, (k2 j (by omega)).2]
            exact hat j hj
          · intro j j1 j2
            rw [(k2 j j2).2]
            exact hnz j j1 j2
        have R2 := cy_upd (s := i) (ks := ks) (vs := vs) (M := M) RR (by rw [hbag]) hM (by omega) k1
        obtain ⟨q1, q2, q3, q4, q5, q6, q7, q8⟩ := R2
        exact hO hlim _ ⟨q1, q2, q3, q4, q5, q6, q7, rfl, hC64, hr⟩
    | succ d ih =>
      intro j a_newKeys a_newVals hj hz
      have hv : vp_in (nI j) 32 := vp_in_nI (by omega) (by omega)
      have cl := nI_clamp (n := j) (by omega)
      refine br_f (nI_ge (b := 32) (by omega) (by omega)) ⟨hv, nm_e ⟨hv, nm_r (e' := upd a_newVals j 0) (by rw [cl]) (nm_r (nI_1 j) (ih (j + 1) _ _ (by omega) ?_))⟩⟩
      intro x hx
      by_cases z : x = j
      · subst z; rw [pk_us]
      · rw [pk_un z]; exact hz x (by omega)
  unfold wpY_merge
  dsimp only
  refine cy_valid1 r1 r4 hb ?_
  refine br_f (by decide) ?_
  refine cy_valid1 r1 r4 ho ?_
  refine br_f (by decide) ?_
  refine cy_valid1 r1 r4 ht ?_
  refine br_f (by decide) ?_
  refine cy_valid1 r1 r4 hi ?_
  refine br_f (by decide) ⟨96 + 1, ?_⟩
  have h9 := cy_mg_44 (post := post) (a_newKeys := a_newKeys) (a_newVals := a_newVals) (i := i) RR hb ho ht hM hg ?_ 96 0 (-1) hcnt (by omega) (Int32.le_refl _)
  · rw [m0] at h9
    exact h9
  · by_cases q : lim < M.length
    · exact br_f (by rw [r2]; exact nI_ge q (by omega)) (hF q)
    · exact br_t (by rw [r2]; exact nI_le (by omega) (by omega)) ⟨33, zero q 32 0 _ _ (by omega) (fun x hx => by omega)⟩
theorem cy_m_get {post : Int32 → Prop} {s : Nat} {k : Int32} (R : ct_RYs f_recCount f_slotCount f_cap a_keys a_vals a_recKeys a_recVals sc lim m rp) (hs : s < sc) (hk : 0 ≤ k) (hp : post (ct_get (m s) k)) : wpY_get post (f_recCount, f_slotCount, f_cap, a_keys, a_vals, a_newKeys, a_newVals, a_recKeys, a_recVals) (nI s) k := by
  obtain ⟨r1, r2, r3, r4, r5, r6, r7, r8⟩ := R
  obtain ⟨b1, b2, b3⟩ := r7 s (by omega)
  unfold wpY_get
  dsimp only
  refine cy_valid1 r1 r4 hs ?_
  refine br_f (by decide) (br_t hk ?_)
  exact cy_valueIn (by omega) b1 b2 hp
theorem cy_m_twin {post : Int32 → Prop} {s t0 : Nat} (R : ct_RYs f_recCount f_slotCount f_cap a_keys a_vals a_recKeys a_recVals sc lim m rp) (hs : s < sc) (ht0 : t0 ≤ s) (he : m t0 = m s) (hne : ∀ j, j < t0 → m j ≠ m s) (hp : post (nI t0)) : wpY_twin post (f_recCount, f_slotCount, f_cap, a_keys, a_vals, a_newKeys, a_newVals, a_recKeys, a_recVals) (nI s) := by
  obtain ⟨r1, r2, r3, r4, r5, r6, r7, r8⟩ := R
  obtain ⟨b1, b2, b3⟩ := r7 s (by omega)
  have key : ∀ d t, t + d = s → t ≤ t0 → wY_twin_12 post (nI s) f_recCount f_slotCount f_cap a_keys a_vals a_newKeys a_newVals a_recKeys a_recVals (d + 1) (nI t) := by
    intro d
    induction d with
    | zero =>
      intro t ht ht1
      have e1 : t = s := by omega
      have e2 : t0 = s := by omega
      rw [e2] at hp
      rw [e1]
      exact br_t (Int32.le_refl _) hp
    | succ d ih =>
      intro t ht ht1
      obtain ⟨c1, c2, c3⟩ := r7 t (by omega)
      refine br_f (nI_ge (by omega) (by omega)) ?_
      refine cy_same r1 r4 (s := t) (t := s) (by omega) hs c1 c2 b1 b2 ?_ ?_
      · intro z
        refine br_f (by decide) ?_
        have : t = t0 := by
          apply Classical.byContradiction
          intro w
          exact hne t (by omega) z
        rw [this]
        exact hp
      · intro z
        refine br_t rfl (nm_r (nI_1 t) (ih (t + 1) (by omega) ?_))
        have : t ≠ t0 := by
          intro w
          rw [w] at z
          exact z he
        omega
  unfold wpY_twin
  dsimp only
  refine cy_valid1 r1 r4 hs ?_
  exact br_f (by decide) ⟨s + 1, key s 0 (by omega) (by omega)⟩
theorem cy_m_reportKey {post : Int32 → Prop} {p : Int32} (R : ct_RYs f_recCount f_slotCount f_cap a_keys a_vals a_recKeys a_recVals sc lim m rp) (h0 : p < 0 ∨ nI rp.length ≤ p → post (-5)) (h1 : ∀ i (h : i < rp.length), p = nI i → post (rp[i]).1) : wpY_reportKey post (f_recCount, f_slotCount, f_cap, a_keys, a_vals, a_newKeys, a_newVals, a_recKeys, a_recVals) p := by
  obtain ⟨r1, r2, r3, r4, r5, r6, _, r8, r9, r10⟩ := R
  subst r8
  rcases pk_ix p (n := rp.length) (by omega) with z | z | ⟨i, hi, z⟩
  · exact br_t z (h0 (Or.inl z))
  · by_cases y : p < 0
    · exact br_t y (h0 (Or.inl y))
    · exact br_f y (br_t z (h0 (Or.inr z)))
  · subst z
    refine br_f (nI_pos (by omega)) (br_f (nI_ge hi (by omega)) (br_t (nI_lt (b := 64) (by omega) (by omega)) ⟨vp_in_nI (by omega) (by omega), ?_⟩))
    rw [nI_clamp (by omega), (r10 i hi).1]
    exact h1 i hi rfl
theorem cy_m_reportValue {post : Int32 → Prop} {p q : Int32} (R : ct_RYs f_recCount f_slotCount f_cap a_keys a_vals a_recKeys a_recVals sc lim m rp) (h0 : p < 0 ∨ nI rp.length ≤ p ∨ q < 0 ∨ nI 3 ≤ q → post (-5)) (h1 : ∀ i (h : i < rp.length) c, c < 3 → p = nI i → q = nI c → post (ct_col (rp[i]) c)) : wpY_reportValue post (f_recCount, f_slotCount, f_cap, a_keys, a_vals, a_newKeys, a_newVals, a_recKeys, a_recVals) p q := by
  obtain ⟨r1, r2, r3, r4, r5, r6, _, r8, r9, r10⟩ := R
  subst r8
  rcases pk_ix p (n := rp.length) (by omega) with z | z | ⟨i, hi, z⟩
  · exact br_t z (h0 (Or.inl z))
  · by_cases y : p < 0
    · exact br_t y (h0 (Or.inl y))
    · exact br_f y (br_t z (h0 (Or.inr (Or.inl z))))
  · subst z
    refine br_f (nI_pos (by omega)) (br_f (nI_ge hi (by omega)) (br_t (nI_lt (b := 64) (by omega) (by omega)) ?_))
    rcases pk_ix q (n := 3) (by omega) with w | w | ⟨c, hc, w⟩
    · exact br_t w (h0 (Or.inr (Or.inr (Or.inl w))))
    · by_cases y : q < 0
      · exact br_t y (h0 (Or.inr (Or.inr (Or.inl y))))
      · refine br_f y (br_f ?_ (h0 (Or.inr (Or.inr (Or.inr w)))))
        intro y2
        have := Int32.le_trans w y2
        exact absurd this (by decide)
    · subst w
      have e1 : nI i * 3 + nI c = nI (i * 3 + c) := by rw [show nI i * 3 = nI (i * 3) from pk_mul i 3, nI_add]
      refine br_f (nI_pos (by omega)) (br_t (nI_le (b := 2) (by omega) (by omega)) ⟨by rw [e1]; exact vp_in_nI (by omega) (by omega), ?_⟩)
      rw [e1, nI_clamp (by omega)]
      have hh := h1 i hi c hc rfl rfl
      obtain ⟨_, b1, b2, b3⟩ := r10 i hi
      unfold ct_col at hh
      by_cases c0 : c = 0
      · subst c0; rw [Nat.add_zero, b1]; exact hh
      · by_cases c1 : c = 1
        · subst c1; rw [b2]; exact hh
        · have c2 : c = 2 := by omega
          subst c2; rw [b3]; exact hh
end
theorem cy_init {post : SY → Prop} (k0 k1 : Int32) (hp : ∀ v, ct_RY v (ct_clamp k0 2 6) (ct_clamp k1 4 32) (fun _ => []) [] → post v) : wpY_init post k0 k1 := by
  have hsc := ct_clamp_in k0 (a := 2) (b := 6) (by omega) (by omega)
  have hlm := ct_clamp_in k1 (a := 4) (b := 32) (by omega) (by omega)
  have fin : ∀ (z0 x2 : Int32), z0 = nI (ct_clamp k0 2 6) → x2 = nI (ct_clamp k1 4 32) → post (0, z0, x2, (fun _ => 0), (fun _ => 0), (fun _ => 0), (fun _ => 0), (fun _ => 0), (fun _ => 0)) := by
    intro z0 x2 e1 e2
    refine hp _ ⟨e1, e2, hsc.1, hsc.2, hlm.1, hlm.2, ?_, rfl, by simp, ct_rpy_nil⟩
    intro s hs
    refine ⟨?_, ct_map_nil, by simp⟩
    have : ct_bg (fun _ => 0) (fun _ => 0) (s * 32) 32 = [] := ct_bg_list (M := []) (by simp) (by simp) (fun j hj => absurd hj (by simp)) (fun j _ _ => rfl)
    rw [this]
  have f2 : ∀ z0 : Int32, z0 = nI (ct_clamp k0 2 6) → wY_init_77 post k1 z0 0 0 0 (fun _ => 0) (fun _ => 0) (fun _ => 0) (fun _ => 0) (fun _ => 0) (fun _ => 0) := by
    intro z0 e1
    unfold ct_clamp at fin hlm
    by_cases z : (4 : Int32) ≤ k1
    · refine br_t z ?_
      by_cases w : k1 ≤ 32
      · refine br_t w (fin z0 k1 e1 ?_)
        have z' : nI 4 ≤ k1 := z
        have w' : k1 ≤ nI 32 := w
        rw [if_pos z', if_pos w']
        obtain ⟨j, hj, ej⟩ := nI_of (x := k1) (fun y => absurd (Int32.lt_of_le_of_lt z' y) (by decide))
        rw [ej, nI_clamp hj]
      · refine br_f w (fin z0 32 e1 ?_)
        have z' : nI 4 ≤ k1 := z
        have w' : ¬ k1 ≤ nI 32 := w
        rw [if_pos z', if_neg w']
        rfl
    · refine br_f z (fin z0 4 e1 ?_)
      have z' : ¬ nI 4 ≤ k1 := z
      rw [if_neg z']
      rfl
  by_cases z : (2 : Int32) ≤ k0
  · refine br_t z ?_
    by_cases w : k0 ≤ 6
    · refine br_t w (f2 k0 ?_)
      unfold ct_clamp
      have z' : nI 2 ≤ k0 := z
      have w' : k0 ≤ nI 6 := w
      rw [if_pos z', if_pos w']
      obtain ⟨j, hj, ej⟩ := nI_of (x := k0) (fun y => absurd (Int32.lt_of_le_of_lt z' y) (by decide))
      rw [ej, nI_clamp hj]
    · refine br_f w (f2 6 ?_)
      unfold ct_clamp
      have z' : nI 2 ≤ k0 := z
      have w' : ¬ k0 ≤ nI 6 := w
      rw [if_pos z', if_neg w']
      rfl
  · refine br_f z (f2 2 ?_)
    unfold ct_clamp
    have z' : ¬ nI 2 ≤ k0 := z
    rw [if_neg z']
    rfl
end
section
/-! the relation and the owed statements -/
/-- both objects hold the same abstract state: slots, limit, a sorted map a slot, the report -/
def i_Rel (k : Nat) (u : SX) (v : SY) : Prop := ∃ sc lim m rp, ct_RX u sc lim m rp ∧ ct_RY v sc lim m rp
theorem i_up {k : Nat} {u : SX} {v : SY} (h : i_Rel k u v) : i_Rel (k + 5) u v := h
theorem i_vc0 (k0 : Int32) (k1 : Int32) : wpX_init (fun u => wpY_init (fun v => i_Rel 2 u v) k0 k1) k0 k1 :=
  cx_init k0 k1 (fun _ hu => cy_init k0 k1 (fun _ hv => ⟨_, _, _, _, hu, hv⟩))
theorem zz_all {P : SX → SY → Prop} (h : ∀ (f_minWidth f_maxWidth f_slotCount f_limit f_freeHead f_inCount f_pendCount f_outCount f_difCount f_repCount : Int32) (a_roots a_keys a_vals a_count a_level a_total a_refs a_bucketOf a_nextNode a_buckets a_stack a_curNode a_curIdx a_curHeight a_curDone a_inKey a_inVal a_pendKey a_pendVal a_outKey a_outVal a_difKey a_difA a_difB a_difOurs a_repKey a_repVal : Nat → Int32) (f_recCount g_slotCount f_cap : Int32) (b_keys b_vals a_newKeys a_newVals a_recKeys a_recVals : Nat → Int32) (sc lim : Nat) (m : Nat → List ct_E) (rp : List ct_D4),
      ct_RXs f_slotCount f_limit f_repCount a_roots f_freeHead a_keys a_vals a_count a_level a_total a_refs a_bucketOf a_nextNode a_buckets a_repKey a_repVal sc lim m rp → ct_RYs f_recCount g_slotCount f_cap b_keys b_vals a_recKeys a_recVals sc lim m rp → P (f_minWidth, f_maxWidth, f_slotCount, f_limit, f_freeHead, f_inCount, f_pendCount, f_outCount, f_difCount, f_repCount, a_roots, a_keys, a_vals, a_count, a_level, a_total, a_refs, a_bucketOf, a_nextNode, a_buckets, a_stack, a_curNode, a_curIdx, a_curHeight, a_curDone, a_inKey, a_inVal, a_pendKey, a_pendVal, a_outKey, a_outVal, a_difKey, a_difA, a_difB, a_difOurs, a_repKey, a_repVal) (f_recCount, g_slotCount, f_cap, b_keys, b_vals, a_newKeys, a_newVals, a_recKeys, a_recVals)) {k : Nat} {u : SX} {v : SY} (I : i_Rel k u v) : P u v := by
  obtain ⟨sc, lim, m, rp, RX, RY⟩ := I
  revert RX
  refine zz_el (P := fun u => ct_RX u sc lim m rp → P u v) ?_ u
  intro f_minWidth f_maxWidth f_slotCount f_limit f_freeHead f_inCount f_pendCount f_outCount f_difCount f_repCount a_roots a_keys a_vals a_count a_level a_total a_refs a_bucketOf a_nextNode a_buckets a_stack a_curNode a_curIdx a_curHeight a_curDone a_inKey a_inVal a_pendKey a_pendVal a_outKey a_outVal a_difKey a_difA a_difB a_difOurs a_repKey a_repVal RX
  revert RY
  refine zz_ey (P := fun v => ct_RY v sc lim m rp → P (f_minWidth, f_maxWidth, f_slotCount, f_limit, f_freeHead, f_inCount, f_pendCount, f_outCount, f_difCount, f_repCount, a_roots, a_keys, a_vals, a_count, a_level, a_total, a_refs, a_bucketOf, a_nextNode, a_buckets, a_stack, a_curNode, a_curIdx, a_curHeight, a_curDone, a_inKey, a_inVal, a_pendKey, a_pendVal, a_outKey, a_outVal, a_difKey, a_difA, a_difB, a_difOurs, a_repKey, a_repVal) v) ?_ v
  intro f_recCount g_slotCount f_cap b_keys b_vals a_newKeys a_newVals a_recKeys a_recVals RY
  exact h f_minWidth f_maxWidth f_slotCount f_limit f_freeHead f_inCount f_pendCount f_outCount f_difCount f_repCount a_roots a_keys a_vals a_count a_level a_total a_refs a_bucketOf a_nextNode a_buckets a_stack a_curNode a_curIdx a_curHeight a_curDone a_inKey a_inVal a_pendKey a_pendVal a_outKey a_outVal a_difKey a_difA a_difB a_difOurs a_repKey a_repVal f_recCount g_slotCount f_cap b_keys b_vals a_newKeys a_newVals a_recKeys a_recVals sc lim m rp RX RY
theorem zz_sl (v : Int32) {sc : Nat} (h : sc ≤ 6) : (v < 0 ∨ nI sc ≤ v) ∨ ∃ s, s < sc ∧ v = nI s := by
  rcases pk_ix v (n := sc) (by omega) with z | z | z
  · exact Or.inl (Or.inl z)
  · exact Or.inl (Or.inr z)
  · exact Or.inr z
theorem i_vc_slots {k : Nat} {u : SX} {v : SY} (I : i_Rel k u v) (hk : k + 5 ≤ 2562) : wpX_slots (fun r => wpY_slots (fun r' => r' = r ∧ i_Rel (k + 5) u v) v) u := by
  refine zz_all (P := fun u v => wpX_slots (fun r => wpY_slots (fun r' => r' = r ∧ i_Rel (k + 5) u v) v) u) ?_ I
  intro f_minWidth f_maxWidth f_slotCount f_limit f_freeHead f_inCount f_pendCount f_outCount f_difCount f_repCount a_roots a_keys a_vals a_count a_level a_total a_refs a_bucketOf a_nextNode a_buckets a_stack a_curNode a_curIdx a_curHeight a_curDone a_inKey a_inVal a_pendKey a_pendVal a_outKey a_outVal a_difKey a_difA a_difB a_difOurs a_repKey a_repVal f_recCount g_slotCount f_cap b_keys b_vals a_newKeys a_newVals a_recKeys a_recVals sc lim m rp RX RY
  have base : i_Rel (k + 5) (f_minWidth, f_maxWidth, f_slotCount, f_limit, f_freeHead, f_inCount, f_pendCount, f_outCount, f_difCount, f_repCount, a_roots, a_keys, a_vals, a_count, a_level, a_total, a_refs, a_bucketOf, a_nextNode, a_buckets, a_stack, a_curNode, a_curIdx, a_curHeight, a_curDone, a_inKey, a_inVal, a_pendKey, a_pendVal, a_outKey, a_outVal, a_difKey, a_difA, a_difB, a_difOurs, a_repKey, a_repVal) (f_recCount, g_slotCount, f_cap, b_keys, b_vals, a_newKeys, a_newVals, a_recKeys, a_recVals) := ⟨sc, lim, m, rp, RX, RY⟩
  exact ⟨RY.1.trans RX.1.symm, base⟩
theorem i_vc_capacity {k : Nat} {u : SX} {v : SY} (I : i_Rel k u v) (hk : k + 5 ≤ 2562) : wpX_capacity (fun r => wpY_capacity (fun r' => r' = r ∧ i_Rel (k + 5) u v) v) u := by
  refine zz_all (P := fun u v => wpX_capacity (fun r => wpY_capacity (fun r' => r' = r ∧ i_Rel (k + 5) u v) v) u) ?_ I
  intro f_minWidth f_maxWidth f_slotCount f_limit f_freeHead f_inCount f_pendCount f_outCount f_difCount f_repCount a_roots a_keys a_vals a_count a_level a_total a_refs a_bucketOf a_nextNode a_buckets a_stack a_curNode a_curIdx a_curHeight a_curDone a_inKey a_inVal a_pendKey a_pendVal a_outKey a_outVal a_difKey a_difA a_difB a_difOurs a_repKey a_repVal f_recCount g_slotCount f_cap b_keys b_vals a_newKeys a_newVals a_recKeys a_recVals sc lim m rp RX RY
  have base : i_Rel (k + 5) (f_minWidth, f_maxWidth, f_slotCount, f_limit, f_freeHead, f_inCount, f_pendCount, f_outCount, f_difCount, f_repCount, a_roots, a_keys, a_vals, a_count, a_level, a_total, a_refs, a_bucketOf, a_nextNode, a_buckets, a_stack, a_curNode, a_curIdx, a_curHeight, a_curDone, a_inKey, a_inVal, a_pendKey, a_pendVal, a_outKey, a_outVal, a_difKey, a_difA, a_difB, a_difOurs, a_repKey, a_repVal) (f_recCount, g_slotCount, f_cap, b_keys, b_vals, a_newKeys, a_newVals, a_recKeys, a_recVals) := ⟨sc, lim, m, rp, RX, RY⟩
  exact ⟨RY.2.1.trans RX.2.1.symm, base⟩
theorem i_vc_reportCount {k : Nat} {u : SX} {v : SY} (I : i_Rel k u v) (hk : k + 5 ≤ 2562) : wpX_reportCount (fun r => wpY_reportCount (fun r' => r' = r ∧ i_Rel (k + 5) u v) v) u := by
  refine zz_all (P := fun u v => wpX_reportCount (fun r => wpY_reportCount (fun r' => r' = r ∧ i_Rel (k + 5) u v) v) u) ?_ I
  intro f_minWidth f_maxWidth f_slotCount f_limit f_freeHead f_inCount f_pendCount f_outCount f_difCount f_repCount a_roots a_keys a_vals a_count a_level a_total a_refs a_bucketOf a_nextNode a_buckets a_stack a_curNode a_curIdx a_curHeight a_curDone a_inKey a_inVal a_pendKey a_pendVal a_outKey a_outVal a_difKey a_difA a_difB a_difOurs a_repKey a_repVal f_recCount g_slotCount f_cap b_keys b_vals a_newKeys a_newVals a_recKeys a_recVals sc lim m rp RX RY
  have base : i_Rel (k + 5) (f_minWidth, f_maxWidth, f_slotCount, f_limit, f_freeHead, f_inCount, f_pendCount, f_outCount, f_difCount, f_repCount, a_roots, a_keys, a_vals, a_count, a_level, a_total, a_refs, a_bucketOf, a_nextNode, a_buckets, a_stack, a_curNode, a_curIdx, a_curHeight, a_curDone, a_inKey, a_inVal, a_pendKey, a_pendVal, a_outKey, a_outVal, a_difKey, a_difA, a_difB, a_difOurs, a_repKey, a_repVal) (f_recCount, g_slotCount, f_cap, b_keys, b_vals, a_newKeys, a_newVals, a_recKeys, a_recVals) := ⟨sc, lim, m, rp, RX, RY⟩
  exact ⟨RY.2.2.2.2.2.2.2.1.trans RX.2.2.2.2.2.2.2.1.symm, base⟩
theorem i_vc_set {k : Nat} {u : SX} {v : SY} (I : i_Rel k u v) (hk : k + 5 ≤ 2562) (v1 : Int32) (v2 : Int32) (v3 : Int32) : wpX_set (fun r u' => wpY_set (fun r' v' => r' = r ∧ i_Rel (k + 5) u' v') v v1 v2 v3) u v1 v2 v3 := by
  refine zz_all (P := fun u v => wpX_set (fun r u' => wpY_set (fun r' v' => r' = r ∧ i_Rel (k + 5) u' v') v v1 v2 v3) u v1 v2 v3) ?_ I
  intro f_minWidth f_maxWidth f_slotCount f_limit f_freeHead f_inCount f_pendCount f_outCount f_difCount f_repCount a_roots a_keys a_vals a_count a_level a_total a_refs a_bucketOf a_nextNode a_buckets a_stack a_curNode a_curIdx a_curHeight a_curDone a_inKey a_inVal a_pendKey a_pendVal a_outKey a_outVal a_difKey a_difA a_difB a_difOurs a_repKey a_repVal f_recCount g_slotCount f_cap b_keys b_vals a_newKeys a_newVals a_recKeys a_recVals sc lim m rp RX RY
  have base : i_Rel (k + 5) (f_minWidth, f_maxWidth, f_slotCount, f_limit, f_freeHead, f_inCount, f_pendCount, f_outCount, f_difCount, f_repCount, a_roots, a_keys, a_vals, a_count, a_level, a_total, a_refs, a_bucketOf, a_nextNode, a_buckets, a_stack, a_curNode, a_curIdx, a_curHeight, a_curDone, a_inKey, a_inVal, a_pendKey, a_pendVal, a_outKey, a_outVal, a_difKey, a_difA, a_difB, a_difOurs, a_repKey, a_repVal) (f_recCount, g_slotCount, f_cap, b_keys, b_vals, a_newKeys, a_newVals, a_recKeys, a_recVals) := ⟨sc, lim, m, rp, RX, RY⟩
  rcases zz_sl v1 RX.2.2.2.1 with z | ⟨s1, hs1, z1⟩
  · unfold wpX_set wpY_set
    dsimp only
    refine cx_valid0 RX.1 z ?_
    refine br_t rfl ?_
    refine cy_valid0 RY.1 z ?_
    exact br_t rfl ⟨rfl, base⟩
  subst z1
  by_cases h2 : 0 ≤ v2
  · by_cases h3 : 0 ≤ v3
    · refine cx_m_set RX hs1 h2 h3 ?_ ?_
      · intro c
        exact cy_m_set RY hs1 h2 h3 (fun _ => ⟨rfl, base⟩) (fun c' => absurd c c')
      · intro c u' RX'
        exact cy_m_set RY hs1 h2 h3 (fun c' => absurd c' c) (fun _ v' RY' => ⟨rfl, sc, lim, _, _, RX', RY'⟩)
    · unfold wpX_set wpY_set
      dsimp only
      refine cx_valid1 RX.1 RX.2.2.2.1 hs1 ?_
      refine br_f (by decide) (br_t h2 (br_f h3 ?_))
      refine cy_valid1 RY.1 RX.2.2.2.1 hs1 ?_
      exact br_f (by decide) (br_t h2 (br_f h3 ⟨rfl, base⟩))
  · unfold wpX_set wpY_set
    dsimp only
    refine cx_valid1 RX.1 RX.2.2.2.1 hs1 ?_
    refine br_f (by decide) (br_f h2 ?_)
    refine cy_valid1 RY.1 RX.2.2.2.1 hs1 ?_
    exact br_f (by decide) (br_f h2 ⟨rfl, base⟩)
theorem i_vc_fill {k : Nat} {u : SX} {v : SY} (I : i_Rel k u v) (hk : k + 5 ≤ 2562) (v1 : Int32) (v2 : Int32) (v3 : Int32) (v4 : Int32) : wpX_fill (fun r u' => wpY_fill (fun r' v' => r' = r ∧ i_Rel (k + 5) u' v') v v1 v2 v3 v4) u v1 v2 v3 v4 := by
  refine zz_all (P := fun u v => wpX_fill (fun r u' => wpY_fill (fun r' v' => r' = r ∧ i_Rel (k + 5) u' v') v v1 v2 v3 v4) u v1 v2 v3 v4) ?_ I
  intro f_minWidth f_maxWidth f_slotCount f_limit f_freeHead f_inCount f_pendCount f_outCount f_difCount f_repCount a_roots a_keys a_vals a_count a_level a_total a_refs a_bucketOf a_nextNode a_buckets a_stack a_curNode a_curIdx a_curHeight a_curDone a_inKey a_inVal a_pendKey a_pendVal a_outKey a_outVal a_difKey a_difA a_difB a_difOurs a_repKey a_repVal f_recCount g_slotCount f_cap b_keys b_vals a_newKeys a_newVals a_recKeys a_recVals sc lim m rp RX RY
  have base : i_Rel (k + 5) (f_minWidth, f_maxWidth, f_slotCount, f_limit, f_freeHead, f_inCount, f_pendCount, f_outCount, f_difCount, f_repCount, a_roots, a_keys, a_vals, a_count, a_level, a_total, a_refs, a_bucketOf, a_nextNode, a_buckets, a_stack, a_curNode, a_curIdx, a_curHeight, a_curDone, a_inKey, a_inVal, a_pendKey, a_pendVal, a_outKey, a_outVal, a_difKey, a_difA, a_difB, a_difOurs, a_repKey, a_repVal) (f_recCount, g_slotCount, f_cap, b_keys, b_vals, a_newKeys, a_newVals, a_recKeys, a_recVals) := ⟨sc, lim, m, rp, RX, RY⟩
  rcases zz_sl v1 RX.2.2.2.1 with z | ⟨s1, hs1, z1⟩
  · unfold wpX_fill wpY_fill
    dsimp only
    refine cx_valid0 RX.1 z ?_
    refine br_t rfl ?_
    refine cy_valid0 RY.1 z ?_
    exact br_t rfl ⟨rfl, base⟩
  subst z1
  by_cases h2 : 0 ≤ v2
  · by_cases h4 : 0 ≤ v4
    · by_cases h3 : v2 ≤ v3
      · have hw : (((v3.toInt - v2.toInt + 1).toNat : Nat) : Int) = v3.toInt - v2.toInt + 1 := by
          rw [Int32.le_iff_toInt_le] at h3
          omega
        refine cx_m_fill RX hs1 h2 h3 h4 hw ?_ ?_ ?_
        · intro c1 c2
          exact cy_m_fill RY hs1 h2 h3 h4 hw (fun _ _ => ⟨rfl, base⟩) (fun c => absurd c c1) (fun _ c => absurd c2 c)
        · intro c1 u' RX'
          exact cy_m_fill RY hs1 h2 h3 h4 hw (fun c => absurd c1 c) (fun _ v' RY' => ⟨rfl, sc, lim, _, _, RX', RY'⟩) (fun c => absurd c1 c)
        · intro c1 c2 u' RX'
          exact cy_m_fill RY hs1 h2 h3 h4 hw (fun _ c => absurd c c2) (fun c => absurd c c1) (fun _ _ v' RY' => ⟨rfl, sc, lim, _, _, RX', RY'⟩)
      · unfold wpX_fill wpY_fill
        dsimp only
        refine cx_valid1 RX.1 RX.2.2.2.1 hs1 ?_
        refine br_f (by decide) (br_t h2 (br_t h4 (br_f h3 ?_)))
        refine cy_valid1 RY.1 RX.2.2.2.1 hs1 ?_
        exact br_f (by decide) (br_t h2 (br_t h4 (br_f h3 ⟨rfl, base⟩)))
    · unfold wpX_fill wpY_fill
      dsimp only
      refine cx_valid1 RX.1 RX.2.2.2.1 hs1 ?_
      refine br_f (by decide) (br_t h2 (br_f h4 ?_))
      refine cy_valid1 RY.1 RX.2.2.2.1 hs1 ?_
      exact br_f (by decide) (br_t h2 (br_f h4 ⟨rfl, base⟩))
  · unfold wpX_fill wpY_fill
    dsimp only
    refine cx_valid1 RX.1 RX.2.2.2.1 hs1 ?_
    refine br_f (by decide) (br_f h2 ?_)
    refine cy_valid1 RY.1 RX.2.2.2.1 hs1 ?_
    exact br_f (by decide) (br_f h2 ⟨rfl, base⟩)
theorem i_vc_copy {k : Nat} {u : SX} {v : SY} (I : i_Rel k u v) (hk : k + 5 ≤ 2562) (v1 : Int32) (v2 : Int32) : wpX_copy (fun r u' => wpY_copy (fun r' v' => r' = r ∧ i_Rel (k + 5) u' v') v v1 v2) u v1 v2 := by
  refine zz_all (P := fun u v => wpX_copy (fun r u' => wpY_copy (fun r' v' => r' = r ∧ i_Rel (k + 5) u' v') v v1 v2) u v1 v2) ?_ I
  intro f_minWidth f_maxWidth f_slotCount f_limit f_freeHead f_inCount f_pendCount f_outCount f_difCount f_repCount a_roots a_keys a_vals a_count a_level a_total a_refs a_bucketOf a_nextNode a_buckets a_stack a_curNode a_curIdx a_curHeight a_curDone a_inKey a_inVal a_pendKey a_pendVal a_outKey a_outVal a_difKey a_difA a_difB a_difOurs a_repKey a_repVal f_recCount g_slotCount f_cap b_keys b_vals a_newKeys a_newVals a_recKeys a_recVals sc lim m rp RX RY
  have base : i_Rel (k + 5) (f_minWidth, f_maxWidth, f_slotCount, f_limit, f_freeHead, f_inCount, f_pendCount, f_outCount, f_difCount, f_repCount, a_roots, a_keys, a_vals, a_count, a_level, a_total, a_refs, a_bucketOf, a_nextNode, a_buckets, a_stack, a_curNode, a_curIdx, a_curHeight, a_curDone, a_inKey, a_inVal, a_pendKey, a_pendVal, a_outKey, a_outVal, a_difKey, a_difA, a_difB, a_difOurs, a_repKey, a_repVal) (f_recCount, g_slotCount, f_cap, b_keys, b_vals, a_newKeys, a_newVals, a_recKeys, a_recVals) := ⟨sc, lim, m, rp, RX, RY⟩
  rcases zz_sl v1 RX.2.2.2.1 with z | ⟨s1, hs1, z1⟩
  · unfold wpX_copy wpY_copy
    dsimp only
    refine cx_valid0 RX.1 z ?_
    refine br_t rfl ?_
    refine cy_valid0 RY.1 z ?_
    exact br_t rfl ⟨rfl, base⟩
  subst z1
  rcases zz_sl v2 RX.2.2.2.1 with z | ⟨s2, hs2, z2⟩
  · unfold wpX_copy wpY_copy
    dsimp only
    refine cx_valid1 RX.1 RX.2.2.2.1 hs1 ?_
    refine br_f (by decide) ?_
    refine cx_valid0 RX.1 z ?_
    refine br_t rfl ?_
    refine cy_valid1 RY.1 RX.2.2.2.1 hs1 ?_
    refine br_f (by decide) ?_
    refine cy_valid0 RY.1 z ?_
    exact br_t rfl ⟨rfl, base⟩
  subst z2
  refine cx_m_copy RX hs1 hs2 ?_
  intro u' RX'
  exact cy_m_copy RY hs1 hs2 (fun v' RY' => ⟨rfl, sc, lim, _, _, RX', RY'⟩)
theorem i_vc_diff {k : Nat} {u : SX} {v : SY} (I : i_Rel k u v) (hk : k + 5 ≤ 2562) (v1 : Int32) (v2 : Int32) : wpX_diff (fun r u' => wpY_diff (fun r' v' => r' = r ∧ i_Rel (k + 5) u' v') v v1 v2) u v1 v2 := by
  refine zz_all (P := fun u v => wpX_diff (fun r u' => wpY_diff (fun r' v' => r' = r ∧ i_Rel (k + 5) u' v') v v1 v2) u v1 v2) ?_ I
  intro f_minWidth f_maxWidth f_slotCount f_limit f_freeHead f_inCount f_pendCount f_outCount f_difCount f_repCount a_roots a_keys a_vals a_count a_level a_total a_refs a_bucketOf a_nextNode a_buckets a_stack a_curNode a_curIdx a_curHeight a_curDone a_inKey a_inVal a_pendKey a_pendVal a_outKey a_outVal a_difKey a_difA a_difB a_difOurs a_repKey a_repVal f_recCount g_slotCount f_cap b_keys b_vals a_newKeys a_newVals a_recKeys a_recVals sc lim m rp RX RY
  have base : i_Rel (k + 5) (f_minWidth, f_maxWidth, f_slotCount, f_limit, f_freeHead, f_inCount, f_pendCount, f_outCount, f_difCount, f_repCount, a_roots, a_keys, a_vals, a_count, a_level, a_total, a_refs, a_bucketOf, a_nextNode, a_buckets, a_stack, a_curNode, a_curIdx, a_curHeight, a_curDone, a_inKey, a_inVal, a_pendKey, a_pendVal, a_outKey, a_outVal, a_difKey, a_difA, a_difB, a_difOurs, a_repKey, a_repVal) (f_recCount, g_slotCount, f_cap, b_keys, b_vals, a_newKeys, a_newVals, a_recKeys, a_recVals) := ⟨sc, lim, m, rp, RX, RY⟩
  rcases zz_sl v1 RX.2.2.2.1 with z | ⟨s1, hs1, z1⟩
  · unfold wpX_diff wpY_diff
    dsimp only
    refine cx_valid0 RX.1 z ?_
    refine br_t rfl ?_
    refine cy_valid0 RY.1 z ?_
    exact br_t rfl ⟨rfl, base⟩
  subst z1
  rcases zz_sl v2 RX.2.2.2.1 with z | ⟨s2, hs2, z2⟩
  · unfold wpX_diff wpY_diff
    dsimp only
    refine cx_valid1 RX.1 RX.2.2.2.1 hs1 ?_
    refine br_f (by decide) ?_
    refine cx_valid0 RX.1 z ?_
    refine br_t rfl ?_
    refine cy_valid1 RY.1 RX.2.2.2.1 hs1 ?_
    refine br_f (by decide) ?_
    refine cy_valid0 RY.1 z ?_
    exact br_t rfl ⟨rfl, base⟩
  subst z2
  refine cx_m_diff RX hs1 hs2 ?_
  intro D u' hD RX'
  exact cy_m_diff RY hs1 hs2 hD (fun v' RY' => ⟨rfl, sc, lim, _, _, RX', RY'⟩)
theorem i_vc_merge {k : Nat} {u : SX} {v : SY} (I : i_Rel k u v) (hk : k + 5 ≤ 2562) (v1 : Int32) (v2 : Int32) (v3 : Int32) (v4 : Int32) : wpX_merge (fun r u' => wpY_merge (fun r' v' => r' = r ∧ i_Rel (k + 5) u' v') v v1 v2 v3 v4) u v1 v2 v3 v4 := by
  refine zz_all (P := fun u v => wpX_merge (fun r u' => wpY_merge (fun r' v' => r' = r ∧ i_Rel (k + 5) u' v') v v1 v2 v3 v4) u v1 v2 v3 v4) ?_ I
  intro f_minWidth f_maxWidth f_slotCount f_limit f_freeHead f_inCount f_pendCount f_outCount f_difCount f_repCount a_roots a_keys a_vals a_count a_level a_total a_refs a_bucketOf a_nextNode a_buckets a_stack a_curNode a_curIdx a_curHeight a_curDone a_inKey a_inVal a_pendKey a_pendVal a_outKey a_outVal a_difKey a_difA a_difB a_difOurs a_repKey a_repVal f_recCount g_slotCount f_cap b_keys b_vals a_newKeys a_newVals a_recKeys a_recVals sc lim m rp RX RY
  have base : i_Rel (k + 5) (f_minWidth, f_maxWidth, f_slotCount, f_limit, f_freeHead, f_inCount, f_pendCount, f_outCount, f_difCount, f_repCount, a_roots, a_keys, a_vals, a_count, a_level, a_total, a_refs, a_bucketOf, a_nextNode, a_buckets, a_stack, a_curNode, a_curIdx, a_curHeight, a_curDone, a_inKey, a_inVal, a_pendKey, a_pendVal, a_outKey, a_outVal, a_difKey, a_difA, a_difB, a_difOurs, a_repKey, a_repVal) (f_recCount, g_slotCount, f_cap, b_keys, b_vals, a_newKeys, a_newVals, a_recKeys, a_recVals) := ⟨sc, lim, m, rp, RX, RY⟩
  rcases zz_sl v1 RX.2.2.2.1 with z | ⟨s1, hs1, z1⟩
  · unfold wpX_merge wpY_merge
    dsimp only
    refine cx_valid0 RX.1 z ?_
    refine br_t rfl ?_
    refine cy_valid0 RY.1 z ?_
    exact br_t rfl ⟨rfl, base⟩
  subst z1
  rcases zz_sl v2 RX.2.2.2.1 with z | ⟨s2, hs2, z2⟩
  · unfold wpX_merge wpY_merge
    dsimp only
    refine cx_valid1 RX.1 RX.2.2.2.1 hs1 ?_
    refine br_f (by decide) ?_
    refine cx_valid0 RX.1 z ?_
    refine br_t rfl ?_
    refine cy_valid1 RY.1 RX.2.2.2.1 hs1 ?_
    refine br_f (by decide) ?_
    refine cy_valid0 RY.1 z ?_
    exact br_t rfl ⟨rfl, base⟩
  subst z2
  rcases zz_sl v3 RX.2.2.2.1 with z | ⟨s3, hs3, z3⟩
  · unfold wpX_merge wpY_merge
    dsimp only
    refine cx_valid1 RX.1 RX.2.2.2.1 hs1 ?_
    refine br_f (by decide) ?_
    refine cx_valid1 RX.1 RX.2.2.2.1 hs2 ?_
    refine br_f (by decide) ?_
    refine cx_valid0 RX.1 z ?_
    refine br_t rfl ?_
    refine cy_valid1 RY.1 RX.2.2.2.1 hs1 ?_
    refine br_f (by decide) ?_
    refine cy_valid1 RY.1 RX.2.2.2.1 hs2 ?_
    refine br_f (by decide) ?_
    refine cy_valid0 RY.1 z ?_
    exact br_t rfl ⟨rfl, base⟩
  subst z3
  rcases zz_sl v4 RX.2.2.2.1 with z | ⟨s4, hs4, z4⟩
  · unfold wpX_merge wpY_merge
    dsimp only
    refine cx_valid1 RX.1 RX.2.2.2.1 hs1 ?_
    refine br_f (by decide) ?_
    refine cx_valid1 RX.1 RX.2.2.2.1 hs2 ?_
    refine br_f (by decide) ?_
    refine cx_valid1 RX.1 RX.2.2.2.1 hs3 ?_
    refine br_f (by decide) ?_
    refine cx_valid0 RX.1 z ?_
    refine br_t rfl ?_
    refine cy_valid1 RY.1 RX.2.2.2.1 hs1 ?_
    refine br_f (by decide) ?_
    refine cy_valid1 RY.1 RX.2.2.2.1 hs2 ?_
    refine br_f (by decide) ?_
    refine cy_valid1 RY.1 RX.2.2.2.1 hs3 ?_
    refine br_f (by decide) ?_
    refine cy_valid0 RY.1 z ?_
    exact br_t rfl ⟨rfl, base⟩
  subst z4
  obtain ⟨y1, y2, y3, y4, y5, y6, y7, y8⟩ := RY
  obtain ⟨b1, b2, b3⟩ := y7 s1 (by omega)
  obtain ⟨o1, o2, o3⟩ := y7 s2 (by omega)
  obtain ⟨t1, t2, t3⟩ := y7 s3 (by omega)
  have RY : ct_RYs f_recCount g_slotCount f_cap b_keys b_vals a_recKeys a_recVals sc lim m rp := ⟨y1, y2, y3, y4, y5, y6, y7, y8⟩
  have pure : ∀ D, ct_ds (m s1) (m s3) D → ct_map (ct_mg (m s2) D) ∧ (∀ k, ct_get (ct_mg (m s2) D) k = ct_mv (ct_get (m s1) k) (ct_get (m s2) k) (ct_get (m s3) k)) ∧ (ct_mg (m s2) D).length ≤ 96 ∧ ct_cs (m s1) (m s2) (m s3) (ct_cx (m s2) D) ∧ (ct_cx (m s2) D).length ≤ 64 := by
    intro D hD
    have hnn := ct_ds_nn hD b2 t2
    have hl := ct_ds_len hD
    have hmg := ct_mg_len (mo := m s2) hnn hD.1 o2 (ct_ds_ne hD)
    have hnp : ct_np (m s2) D ≤ D.length := by
      unfold ct_np
      exact List.countP_le_length
    refine ⟨ct_mg_map hnn o2, fun k => ct_mg_get hD b2 t2 k, by omega, ct_cx_cs hD, ?_⟩
    unfold ct_cx
    rw [List.length_map]
    refine Nat.le_trans (List.length_filter_le _ _) ?_
    omega
  refine cx_m_merge RX hs1 hs2 hs3 hs4 ?_ ?_
  · intro D u' hD hq RX'
    obtain ⟨p1, p2, p3, p4, p5⟩ := pure D hD
    exact cy_m_merge RY hs1 hs2 hs3 hs4 p1 p2 p3 p4 p5 (fun _ => ⟨rfl, sc, lim, m, rp, RX', RY⟩) (fun c => absurd hq c)
  · intro D u' hD hq RX'
    obtain ⟨p1, p2, p3, p4, p5⟩ := pure D hD
    exact cy_m_merge RY hs1 hs2 hs3 hs4 p1 p2 p3 p4 p5 (fun c => absurd c hq) (fun _ v' RY' => ⟨rfl, sc, lim, _, _, RX', RY'⟩)
theorem i_vc_get {k : Nat} {u : SX} {v : SY} (I : i_Rel k u v) (hk : k + 5 ≤ 2562) (v1 : Int32) (v2 : Int32) : wpX_get (fun r => wpY_get (fun r' => r' = r ∧ i_Rel (k + 5) u v) v v1 v2) u v1 v2 := by
  refine zz_all (P := fun u v => wpX_get (fun r => wpY_get (fun r' => r' = r ∧ i_Rel (k + 5) u v) v v1 v2) u v1 v2) ?_ I
  intro f_minWidth f_maxWidth f_slotCount f_limit f_freeHead f_inCount f_pendCount f_outCount f_difCount f_repCount a_roots a_keys a_vals a_count a_level a_total a_refs a_bucketOf a_nextNode a_buckets a_stack a_curNode a_curIdx a_curHeight a_curDone a_inKey a_inVal a_pendKey a_pendVal a_outKey a_outVal a_difKey a_difA a_difB a_difOurs a_repKey a_repVal f_recCount g_slotCount f_cap b_keys b_vals a_newKeys a_newVals a_recKeys a_recVals sc lim m rp RX RY
  have base : i_Rel (k + 5) (f_minWidth, f_maxWidth, f_slotCount, f_limit, f_freeHead, f_inCount, f_pendCount, f_outCount, f_difCount, f_repCount, a_roots, a_keys, a_vals, a_count, a_level, a_total, a_refs, a_bucketOf, a_nextNode, a_buckets, a_stack, a_curNode, a_curIdx, a_curHeight, a_curDone, a_inKey, a_inVal, a_pendKey, a_pendVal, a_outKey, a_outVal, a_difKey, a_difA, a_difB, a_difOurs, a_repKey, a_repVal) (f_recCount, g_slotCount, f_cap, b_keys, b_vals, a_newKeys, a_newVals, a_recKeys, a_recVals) := ⟨sc, lim, m, rp, RX, RY⟩
  rcases zz_sl v1 RX.2.2.2.1 with z | ⟨s1, hs1, z1⟩
  · unfold wpX_get wpY_get
    dsimp only
    refine cx_valid0 RX.1 z ?_
    refine br_t rfl ?_
    refine cy_valid0 RY.1 z ?_
    exact br_t rfl ⟨rfl, base⟩
  subst z1
  by_cases h2 : 0 ≤ v2
  · refine cx_m_get RX hs1 h2 ?_
    exact cy_m_get RY hs1 h2 ⟨rfl, base⟩
  · unfold wpX_get wpY_get
    dsimp only
    refine cx_valid1 RX.1 RX.2.2.2.1 hs1 ?_
    refine br_f (by decide) (br_f h2 ?_)
    refine cy_valid1 RY.1 RX.2.2.2.1 hs1 ?_
    exact br_f (by decide) (br_f h2 ⟨rfl, base⟩)
theorem i_vc_size {k : Nat} {u : SX} {v : SY} (I : i_Rel k u v) (hk : k + 5 ≤ 2562) (v1 : Int32) : wpX_size (fun r => wpY_size (fun r' => r' = r ∧ i_Rel (k + 5) u v) v v1) u v1 := by
  refine zz_all (P := fun u v => wpX_size (fun r => wpY_size (fun r' => r' = r ∧ i_Rel (k + 5) u v) v v1) u v1) ?_ I
  intro f_minWidth f_maxWidth f_slotCount f_limit f_freeHead f_inCount f_pendCount f_outCount f_difCount f_repCount a_roots a_keys a_vals a_count a_level a_total a_refs a_bucketOf a_nextNode a_buckets a_stack a_curNode a_curIdx a_curHeight a_curDone a_inKey a_inVal a_pendKey a_pendVal a_outKey a_outVal a_difKey a_difA a_difB a_difOurs a_repKey a_repVal f_recCount g_slotCount f_cap b_keys b_vals a_newKeys a_newVals a_recKeys a_recVals sc lim m rp RX RY
  have base : i_Rel (k + 5) (f_minWidth, f_maxWidth, f_slotCount, f_limit, f_freeHead, f_inCount, f_pendCount, f_outCount, f_difCount, f_repCount, a_roots, a_keys, a_vals, a_count, a_level, a_total, a_refs, a_bucketOf, a_nextNode, a_buckets, a_stack, a_curNode, a_curIdx, a_curHeight, a_curDone, a_inKey, a_inVal, a_pendKey, a_pendVal, a_outKey, a_outVal, a_difKey, a_difA, a_difB, a_difOurs, a_repKey, a_repVal) (f_recCount, g_slotCount, f_cap, b_keys, b_vals, a_newKeys, a_newVals, a_recKeys, a_recVals) := ⟨sc, lim, m, rp, RX, RY⟩
  rcases zz_sl v1 RX.2.2.2.1 with z | ⟨s1, hs1, z1⟩
  · unfold wpX_size wpY_size
    dsimp only
    refine cx_valid0 RX.1 z ?_
    refine br_t rfl ?_
    refine cy_valid0 RY.1 z ?_
    exact br_t rfl ⟨rfl, base⟩
  subst z1
  have hb := (RY.2.2.2.2.2.2.1 s1 (by have := RX.2.2.2.1; omega)).1
  refine cx_m_size RX hs1 ?_
  exact cy_size RY.1 RX.2.2.2.1 hs1 hb ⟨rfl, base⟩
theorem i_vc_keyAt {k : Nat} {u : SX} {v : SY} (I : i_Rel k u v) (hk : k + 5 ≤ 2562) (v1 : Int32) (v2 : Int32) : wpX_keyAt (fun r => wpY_keyAt (fun r' => r' = r ∧ i_Rel (k + 5) u v) v v1 v2) u v1 v2 := by
  refine zz_all (P := fun u v => wpX_keyAt (fun r => wpY_keyAt (fun r' => r' = r ∧ i_Rel (k + 5) u v) v v1 v2) u v1 v2) ?_ I
  intro f_minWidth f_maxWidth f_slotCount f_limit f_freeHead f_inCount f_pendCount f_outCount f_difCount f_repCount a_roots a_keys a_vals a_count a_level a_total a_refs a_bucketOf a_nextNode a_buckets a_stack a_curNode a_curIdx a_curHeight a_curDone a_inKey a_inVal a_pendKey a_pendVal a_outKey a_outVal a_difKey a_difA a_difB a_difOurs a_repKey a_repVal f_recCount g_slotCount f_cap b_keys b_vals a_newKeys a_newVals a_recKeys a_recVals sc lim m rp RX RY
  have base : i_Rel (k + 5) (f_minWidth, f_maxWidth, f_slotCount, f_limit, f_freeHead, f_inCount, f_pendCount, f_outCount, f_difCount, f_repCount, a_roots, a_keys, a_vals, a_count, a_level, a_total, a_refs, a_bucketOf, a_nextNode, a_buckets, a_stack, a_curNode, a_curIdx, a_curHeight, a_curDone, a_inKey, a_inVal, a_pendKey, a_pendVal, a_outKey, a_outVal, a_difKey, a_difA, a_difB, a_difOurs, a_repKey, a_repVal) (f_recCount, g_slotCount, f_cap, b_keys, b_vals, a_newKeys, a_newVals, a_recKeys, a_recVals) := ⟨sc, lim, m, rp, RX, RY⟩
  rcases zz_sl v1 RX.2.2.2.1 with z | ⟨s1, hs1, z1⟩
  · unfold wpX_keyAt wpY_keyAt
    dsimp only
    refine cx_valid0 RX.1 z ?_
    refine br_t rfl ?_
    refine cy_valid0 RY.1 z ?_
    exact br_t rfl ⟨rfl, base⟩
  subst z1
  obtain ⟨hb, hm, hl⟩ := RY.2.2.2.2.2.2.1 s1 (by have := RX.2.2.2.1; omega)
  have hl32 : (m s1).length ≤ 32 := by have := RX.2.2.2.2.2.1; omega
  have huni : ∀ i j, i < (m s1).length → j < 2 ^ 31 → nI i = nI j → i = j := fun i j hi hj e => (nI_eq (by omega) hj).mp e
  refine cx_m_keyAt RX hs1 ?_ ?_
  · intro z
    refine cy_keyAt RY.1 RX.2.2.2.1 hs1 hb hm hl32 (fun _ => ⟨rfl, base⟩) ?_
    intro i e hi he
    exfalso
    have hlt : i < (m s1).length := by
      apply Classical.byContradiction
      intro w
      rw [List.getElem?_eq_none (by omega)] at he
      exact absurd he (by simp)
    rw [hi] at z
    rcases z with z | z
    · exact nI_pos (by omega) z
    · exact nI_ge hlt (by omega) z
  · intro i e hi he
    have hlt : i < (m s1).length := by
      apply Classical.byContradiction
      intro w
      rw [List.getElem?_eq_none (by omega)] at he
      exact absurd he (by simp)
    refine cy_keyAt RY.1 RX.2.2.2.1 hs1 hb hm hl32 ?_ ?_
    · intro z
      exfalso
      rw [hi] at z
      rcases z with z | z
      · exact nI_pos (by omega) z
      · exact nI_ge hlt (by omega) z
    · intro j e' hj he'
      have hlt' : j < (m s1).length := by
        apply Classical.byContradiction
        intro w
        rw [List.getElem?_eq_none (by omega)] at he'
        exact absurd he' (by simp)
      have : i = j := huni i j hlt (by omega) (hi.symm.trans hj)
      subst this
      rw [he] at he'
      injection he' with he'
      exact ⟨by rw [he'], base⟩
theorem i_vc_rank {k : Nat} {u : SX} {v : SY} (I : i_Rel k u v) (hk : k + 5 ≤ 2562) (v1 : Int32) (v2 : Int32) : wpX_rank (fun r => wpY_rank (fun r' => r' = r ∧ i_Rel (k + 5) u v) v v1 v2) u v1 v2 := by
  refine zz_all (P := fun u v => wpX_rank (fun r => wpY_rank (fun r' => r' = r ∧ i_Rel (k + 5) u v) v v1 v2) u v1 v2) ?_ I
  intro f_minWidth f_maxWidth f_slotCount f_limit f_freeHead f_inCount f_pendCount f_outCount f_difCount f_repCount a_roots a_keys a_vals a_count a_level a_total a_refs a_bucketOf a_nextNode a_buckets a_stack a_curNode a_curIdx a_curHeight a_curDone a_inKey a_inVal a_pendKey a_pendVal a_outKey a_outVal a_difKey a_difA a_difB a_difOurs a_repKey a_repVal f_recCount g_slotCount f_cap b_keys b_vals a_newKeys a_newVals a_recKeys a_recVals sc lim m rp RX RY
  have base : i_Rel (k + 5) (f_minWidth, f_maxWidth, f_slotCount, f_limit, f_freeHead, f_inCount, f_pendCount, f_outCount, f_difCount, f_repCount, a_roots, a_keys, a_vals, a_count, a_level, a_total, a_refs, a_bucketOf, a_nextNode, a_buckets, a_stack, a_curNode, a_curIdx, a_curHeight, a_curDone, a_inKey, a_inVal, a_pendKey, a_pendVal, a_outKey, a_outVal, a_difKey, a_difA, a_difB, a_difOurs, a_repKey, a_repVal) (f_recCount, g_slotCount, f_cap, b_keys, b_vals, a_newKeys, a_newVals, a_recKeys, a_recVals) := ⟨sc, lim, m, rp, RX, RY⟩
  rcases zz_sl v1 RX.2.2.2.1 with z | ⟨s1, hs1, z1⟩
  · unfold wpX_rank wpY_rank
    dsimp only
    refine cx_valid0 RX.1 z ?_
    refine br_t rfl ?_
    refine cy_valid0 RY.1 z ?_
    exact br_t rfl ⟨rfl, base⟩
  subst z1
  have hb := (RY.2.2.2.2.2.2.1 s1 (by have := RX.2.2.2.1; omega)).1
  refine cx_m_rank RX hs1 ?_
  exact cy_rank RY.1 RX.2.2.2.1 hs1 hb ⟨rfl, base⟩
theorem i_vc_same {k : Nat} {u : SX} {v : SY} (I : i_Rel k u v) (hk : k + 5 ≤ 2562) (v1 : Int32) (v2 : Int32) : wpX_same (fun r => wpY_same (fun r' => r' = r ∧ i_Rel (k + 5) u v) v v1 v2) u v1 v2 := by
  refine zz_all (P := fun u v => wpX_same (fun r => wpY_same (fun r' => r' = r ∧ i_Rel (k + 5) u v) v v1 v2) u v1 v2) ?_ I
  intro f_minWidth f_maxWidth f_slotCount f_limit f_freeHead f_inCount f_pendCount f_outCount f_difCount f_repCount a_roots a_keys a_vals a_count a_level a_total a_refs a_bucketOf a_nextNode a_buckets a_stack a_curNode a_curIdx a_curHeight a_curDone a_inKey a_inVal a_pendKey a_pendVal a_outKey a_outVal a_difKey a_difA a_difB a_difOurs a_repKey a_repVal f_recCount g_slotCount f_cap b_keys b_vals a_newKeys a_newVals a_recKeys a_recVals sc lim m rp RX RY
  have base : i_Rel (k + 5) (f_minWidth, f_maxWidth, f_slotCount, f_limit, f_freeHead, f_inCount, f_pendCount, f_outCount, f_difCount, f_repCount, a_roots, a_keys, a_vals, a_count, a_level, a_total, a_refs, a_bucketOf, a_nextNode, a_buckets, a_stack, a_curNode, a_curIdx, a_curHeight, a_curDone, a_inKey, a_inVal, a_pendKey, a_pendVal, a_outKey, a_outVal, a_difKey, a_difA, a_difB, a_difOurs, a_repKey, a_repVal) (f_recCount, g_slotCount, f_cap, b_keys, b_vals, a_newKeys, a_newVals, a_recKeys, a_recVals) := ⟨sc, lim, m, rp, RX, RY⟩
  rcases zz_sl v1 RX.2.2.2.1 with z | ⟨s1, hs1, z1⟩
  · unfold wpX_same wpY_same
    dsimp only
    refine cx_valid0 RX.1 z ?_
    refine br_t rfl ?_
    refine cy_valid0 RY.1 z ?_
    exact br_t rfl ⟨rfl, base⟩
  subst z1
  rcases zz_sl v2 RX.2.2.2.1 with z | ⟨s2, hs2, z2⟩
  · unfold wpX_same wpY_same
    dsimp only
    refine cx_valid1 RX.1 RX.2.2.2.1 hs1 ?_
    refine br_f (by decide) ?_
    refine cx_valid0 RX.1 z ?_
    refine br_t rfl ?_
    refine cy_valid1 RY.1 RX.2.2.2.1 hs1 ?_
    refine br_f (by decide) ?_
    refine cy_valid0 RY.1 z ?_
    exact br_t rfl ⟨rfl, base⟩
  subst z2
  obtain ⟨hb, hm, hl⟩ := RY.2.2.2.2.2.2.1 s1 (by have := RX.2.2.2.1; omega)
  obtain ⟨hb2, hm2, hl2⟩ := RY.2.2.2.2.2.2.1 s2 (by have := RX.2.2.2.1; omega)
  refine cx_m_same RX hs1 hs2 ?_ ?_
  · intro c
    exact cy_same RY.1 RX.2.2.2.1 hs1 hs2 hb hm hb2 hm2 (fun _ => ⟨rfl, base⟩) (fun c' => absurd c c')
  · intro c
    exact cy_same RY.1 RX.2.2.2.1 hs1 hs2 hb hm hb2 hm2 (fun c' => absurd c' c) (fun _ => ⟨rfl, base⟩)
theorem i_vc_twin {k : Nat} {u : SX} {v : SY} (I : i_Rel k u v) (hk : k + 5 ≤ 2562) (v1 : Int32) : wpX_twin (fun r => wpY_twin (fun r' => r' = r ∧ i_Rel (k + 5) u v) v v1) u v1 := by
  refine zz_all (P := fun u v => wpX_twin (fun r => wpY_twin (fun r' => r' = r ∧ i_Rel (k + 5) u v) v v1) u v1) ?_ I
  intro f_minWidth f_maxWidth f_slotCount f_limit f_freeHead f_inCount f_pendCount f_outCount f_difCount f_repCount a_roots a_keys a_vals a_count a_level a_total a_refs a_bucketOf a_nextNode a_buckets a_stack a_curNode a_curIdx a_curHeight a_curDone a_inKey a_inVal a_pendKey a_pendVal a_outKey a_outVal a_difKey a_difA a_difB a_difOurs a_repKey a_repVal f_recCount g_slotCount f_cap b_keys b_vals a_newKeys a_newVals a_recKeys a_recVals sc lim m rp RX RY
  have base : i_Rel (k + 5) (f_minWidth, f_maxWidth, f_slotCount, f_limit, f_freeHead, f_inCount, f_pendCount, f_outCount, f_difCount, f_repCount, a_roots, a_keys, a_vals, a_count, a_level, a_total, a_refs, a_bucketOf, a_nextNode, a_buckets, a_stack, a_curNode, a_curIdx, a_curHeight, a_curDone, a_inKey, a_inVal, a_pendKey, a_pendVal, a_outKey, a_outVal, a_difKey, a_difA, a_difB, a_difOurs, a_repKey, a_repVal) (f_recCount, g_slotCount, f_cap, b_keys, b_vals, a_newKeys, a_newVals, a_recKeys, a_recVals) := ⟨sc, lim, m, rp, RX, RY⟩
  rcases zz_sl v1 RX.2.2.2.1 with z | ⟨s1, hs1, z1⟩
  · unfold wpX_twin wpY_twin
    dsimp only
    refine cx_valid0 RX.1 z ?_
    refine br_t rfl ?_
    refine cy_valid0 RY.1 z ?_
    exact br_t rfl ⟨rfl, base⟩
  subst z1
  refine cx_m_twin RX hs1 ?_
  intro t ht he hne
  exact cy_m_twin RY hs1 ht he hne ⟨rfl, base⟩
theorem i_vc_reportKey {k : Nat} {u : SX} {v : SY} (I : i_Rel k u v) (hk : k + 5 ≤ 2562) (v1 : Int32) : wpX_reportKey (fun r => wpY_reportKey (fun r' => r' = r ∧ i_Rel (k + 5) u v) v v1) u v1 := by
  refine zz_all (P := fun u v => wpX_reportKey (fun r => wpY_reportKey (fun r' => r' = r ∧ i_Rel (k + 5) u v) v v1) u v1) ?_ I
  intro f_minWidth f_maxWidth f_slotCount f_limit f_freeHead f_inCount f_pendCount f_outCount f_difCount f_repCount a_roots a_keys a_vals a_count a_level a_total a_refs a_bucketOf a_nextNode a_buckets a_stack a_curNode a_curIdx a_curHeight a_curDone a_inKey a_inVal a_pendKey a_pendVal a_outKey a_outVal a_difKey a_difA a_difB a_difOurs a_repKey a_repVal f_recCount g_slotCount f_cap b_keys b_vals a_newKeys a_newVals a_recKeys a_recVals sc lim m rp RX RY
  have base : i_Rel (k + 5) (f_minWidth, f_maxWidth, f_slotCount, f_limit, f_freeHead, f_inCount, f_pendCount, f_outCount, f_difCount, f_repCount, a_roots, a_keys, a_vals, a_count, a_level, a_total, a_refs, a_bucketOf, a_nextNode, a_buckets, a_stack, a_curNode, a_curIdx, a_curHeight, a_curDone, a_inKey, a_inVal, a_pendKey, a_pendVal, a_outKey, a_outVal, a_difKey, a_difA, a_difB, a_difOurs, a_repKey, a_repVal) (f_recCount, g_slotCount, f_cap, b_keys, b_vals, a_newKeys, a_newVals, a_recKeys, a_recVals) := ⟨sc, lim, m, rp, RX, RY⟩
  have h64 := RX.2.2.2.2.2.2.2.2.1
  refine cx_m_reportKey RX ?_ ?_
  · intro z
    refine cy_m_reportKey RY (fun _ => ⟨rfl, base⟩) ?_
    intro i hi e
    exfalso
    rw [e] at z
    rcases z with z | z
    · exact nI_pos (by omega) z
    · exact nI_ge hi (by omega) z
  · intro i hi e
    refine cy_m_reportKey RY ?_ ?_
    · intro z
      exfalso
      rw [e] at z
      rcases z with z | z
      · exact nI_pos (by omega) z
      · exact nI_ge hi (by omega) z
    · intro j hj e'
      have : i = j := (nI_eq (by omega) (by omega)).mp (e.symm.trans e')
      subst this
      exact ⟨rfl, base⟩
theorem i_vc_reportValue {k : Nat} {u : SX} {v : SY} (I : i_Rel k u v) (hk : k + 5 ≤ 2562) (v1 : Int32) (v2 : Int32) : wpX_reportValue (fun r => wpY_reportValue (fun r' => r' = r ∧ i_Rel (k + 5) u v) v v1 v2) u v1 v2 := by
  refine zz_all (P := fun u v => wpX_reportValue (fun r => wpY_reportValue (fun r' => r' = r ∧ i_Rel (k + 5) u v) v v1 v2) u v1 v2) ?_ I
  intro f_minWidth f_maxWidth f_slotCount f_limit f_freeHead f_inCount f_pendCount f_outCount f_difCount f_repCount a_roots a_keys a_vals a_count a_level a_total a_refs a_bucketOf a_nextNode a_buckets a_stack a_curNode a_curIdx a_curHeight a_curDone a_inKey a_inVal a_pendKey a_pendVal a_outKey a_outVal a_difKey a_difA a_difB a_difOurs a_repKey a_repVal f_recCount g_slotCount f_cap b_keys b_vals a_newKeys a_newVals a_recKeys a_recVals sc lim m rp RX RY
  have base : i_Rel (k + 5) (f_minWidth, f_maxWidth, f_slotCount, f_limit, f_freeHead, f_inCount, f_pendCount, f_outCount, f_difCount, f_repCount, a_roots, a_keys, a_vals, a_count, a_level, a_total, a_refs, a_bucketOf, a_nextNode, a_buckets, a_stack, a_curNode, a_curIdx, a_curHeight, a_curDone, a_inKey, a_inVal, a_pendKey, a_pendVal, a_outKey, a_outVal, a_difKey, a_difA, a_difB, a_difOurs, a_repKey, a_repVal) (f_recCount, g_slotCount, f_cap, b_keys, b_vals, a_newKeys, a_newVals, a_recKeys, a_recVals) := ⟨sc, lim, m, rp, RX, RY⟩
  have h64 := RX.2.2.2.2.2.2.2.2.1
  have bad : ∀ i c, i < rp.length → c < 3 → v1 = nI i → v2 = nI c → (v1 < 0 ∨ nI rp.length ≤ v1 ∨ v2 < 0 ∨ nI 3 ≤ v2) → False := by
    intro i c hi hc e1 e2 z
    rw [e1, e2] at z
    rcases z with z | z | z | z
    · exact nI_pos (by omega) z
    · exact nI_ge hi (by omega) z
    · exact nI_pos (by omega) z
    · exact nI_ge hc (by omega) z
  refine cx_m_reportValue RX ?_ ?_
  · intro z
    refine cy_m_reportValue RY (fun _ => ⟨rfl, base⟩) ?_
    intro i hi c hc e1 e2
    exact (bad i c hi hc e1 e2 z).elim
  · intro i hi c hc e1 e2
    refine cy_m_reportValue RY (fun z => (bad i c hi hc e1 e2 z).elim) ?_
    intro j hj c' hc' e1' e2'
    have h1 : i = j := (nI_eq (by omega) (by omega)).mp (e1.symm.trans e1')
    have h2 : c = c' := (nI_eq (by omega) (by omega)).mp (e2.symm.trans e2')
    subst h1 h2
    exact ⟨rfl, base⟩
end
