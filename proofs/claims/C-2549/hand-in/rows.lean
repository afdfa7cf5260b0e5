section
/-! rows of kit/rows/PURE-ROWS, taken over as they stand (a starting text) -/
theorem pk_us {f : Nat → Int32} {k : Nat} {x : Int32} : upd f k x k = x := if_pos rfl
theorem pk_un {f : Nat → Int32} {k j : Nat} {x : Int32} (h : j ≠ k) : upd f k x j = f j := if_neg h
theorem pk_sub {a b : Nat} (h : b ≤ a) : nI a - nI b = nI (a - b) := by
  obtain ⟨c, rfl⟩ : ∃ c, a = c + b := ⟨a - b, by omega⟩
  rw [← nI_add, Int32.add_sub_cancel, Nat.add_sub_cancel]
theorem pk_m1 (n : Nat) : nI (n + 1) + (-1) = nI n := by
  rw [← nI_1, Int32.add_assoc, show (1 : Int32) + (-1) = 0 from rfl, Int32.add_zero]
theorem pk_mul (a b : Nat) : nI a * nI b = nI (a * b) := (Int32.ofNat_mul a b).symm
theorem pk_div {a d : Nat} (ha : a < 2 ^ 31) (h0 : 0 < d) (hd : d < 2 ^ 31) : nI a / nI d = nI (a / d) := by
  apply Int32.toInt_inj.mp
  rw [lg_idiv_nonneg (by rw [nI_toInt ha]; omega) (by rw [nI_toInt hd]; omega), nI_toInt ha, nI_toInt hd, nI_toInt (Nat.lt_of_le_of_lt (Nat.div_le_self a d) ha)]
  first | rfl | exact (Int.natCast_ediv _ _).symm
theorem pk_rem {a d : Nat} (ha : a < 2 ^ 31) (h0 : 0 < d) (hd : d < 2 ^ 31) : nI a - nI a / nI d * nI d = nI (a % d) := by
  rw [pk_div ha h0 hd, pk_mul, pk_sub (Nat.div_mul_le_self a d)]
  exact congrArg nI (by have := Nat.div_add_mod' a d; omega)
theorem pk_ix (x : Int32) {n : Nat} (hn : n < 2 ^ 31) : x < 0 ∨ nI n ≤ x ∨ ∃ j : Nat, j < n ∧ x = nI j := by
  by_cases h : x < 0
  · exact Or.inl h
  · obtain ⟨j, hj, rfl⟩ := nI_of h
    by_cases h2 : j < n
    · exact Or.inr (Or.inr ⟨j, h2, rfl⟩)
    · exact Or.inr (Or.inl (nI_le (by omega) hj))
theorem pk_le {x y : Int32} {A B : Prop} (a b : Nat) (f : a ≤ b → A) (g : b < a → B) (hx : x = nI a := by rfl) (hy : y = nI b := by rfl) (ha : a < 2 ^ 31 := by omega) (hb : b < 2 ^ 31 := by omega) : (x ≤ y → A) ∧ (¬ x ≤ y → B) := by
  subst hx hy
  rw [nI_leI ha hb]
  exact ⟨f, fun z => g (by omega)⟩
theorem pk_lt {x y : Int32} {A B : Prop} (a b : Nat) (f : a < b → A) (g : b ≤ a → B) (hx : x = nI a := by rfl) (hy : y = nI b := by rfl) (ha : a < 2 ^ 31 := by omega) (hb : b < 2 ^ 31 := by omega) : (x < y → A) ∧ (¬ x < y → B) := by
  subst hx hy
  rw [nI_ltI ha hb]
  exact ⟨f, fun z => g (by omega)⟩
theorem pk_eq {x y : Int32} {A B : Prop} (a b : Nat) (f : a = b → A) (g : a ≠ b → B) (hx : x = nI a := by rfl) (hy : y = nI b := by rfl) (ha : a < 2 ^ 31 := by omega) (hb : b < 2 ^ 31 := by omega) : (x = y → A) ∧ (¬ x = y → B) := by
  subst hx hy
  rw [nI_eq ha hb]
  exact ⟨f, g⟩
theorem pk_in {x : Int32} (n N : Nat) (h : n < N) (hx : x = nI n := by rfl) (hN : N < 2 ^ 31 := by omega) : vp_in x N := by
  subst hx
  exact vp_in_nI h hN
theorem pk_cl {x : Int32} (n : Nat) (hx : x = nI n := by rfl) (h : n < 2 ^ 31 := by omega) : x.toNatClampNeg = n := by
  subst hx
  exact nI_clamp h
theorem pk_tn {n : Nat} (h : n < 2 ^ 32) : (nI n).toBitVec.toNat = n := Nat.mod_eq_of_lt h
theorem pk_and (x : Int32) {m : Int32} (k : Nat) (hm : m.toBitVec.toNat = 2 ^ k - 1) : x &&& m = nI (x.toBitVec.toNat % 2 ^ k) := by
  apply Int32.toBitVec_inj.mp
  apply BitVec.eq_of_toNat_eq
  rw [Int32.toBitVec_and, BitVec.toNat_and, hm, Nat.and_two_pow_sub_one_eq_mod]
  show _ = (BitVec.ofNat 32 _).toNat
  rw [BitVec.toNat_ofNat]
  exact (Nat.mod_eq_of_lt (Nat.lt_of_le_of_lt (Nat.mod_le _ _) x.toBitVec.isLt)).symm
theorem pk_andN {n : Nat} (h : n < 2 ^ 32) {m : Int32} (k : Nat) (hm : m.toBitVec.toNat = 2 ^ k - 1) : nI n &&& m = nI (n % 2 ^ k) := by
  rw [pk_and _ k hm, pk_tn h]
theorem pk_least (P : Nat → Prop) (h : ∃ k, P k) : ∃ k, P k ∧ ∀ j, j < k → ¬ P j := by
  obtain ⟨k, hk⟩ := h
  induction k using Nat.strongRecOn with
  | ind k ih =>
    by_cases e : ∃ j, j < k ∧ P j
    · obtain ⟨j, hj, pj⟩ := e
      exact ih j hj pj
    · exact ⟨k, hk, fun j hj pj => e ⟨j, hj, pj⟩⟩
end
section
/-! the pure picture: threads' places, steps, schedules, sleep sets; no program in sight -/
section
variable (S K : Nat → Nat) (M : Nat → Int32)
/-- whether thread t holds lock l when it has done its first k steps -/
def sr_hd (t : Nat) (l : Int32) : Nat → Bool
  | 0 => false
  | k + 1 => if M (4 * t + k) = l ∧ 4 ≤ K (4 * t + k) then decide (K (4 * t + k) = 4) else sr_hd t l k
/-- nobody holds lock l -/
def sr_fr (p : Nat → Nat) (l : Int32) : Bool := !(sr_hd K M 0 l (p 0)) && !(sr_hd K M 1 l (p 1)) && !(sr_hd K M 2 l (p 2))
/-- thread t can have a turn at places p -/
def sr_en (p : Nat → Nat) (t : Nat) : Bool := decide (p t < S t) && (decide (K (4 * t + p t) ≠ 4) || sr_fr K M p (M (4 * t + p t)))
def sr_bp (p : Nat → Nat) (t : Nat) : Nat → Nat := fun j => if j = t then p j + 1 else p j
/-- two steps touch -/
def sr_tc (a b : Nat) : Bool := decide (M a = M b) && ((decide (K a ≤ 2) && decide (K b ≤ 2) && !(decide (K a = 0) && decide (K b = 0))) || (decide (4 ≤ K a) && decide (4 ≤ K b)))
/-- the values (variables 0 1 2, accumulators 3 4 5) behind step c of thread t -/
def sr_ex (v : Nat → Int32) (t c : Nat) : Nat → Int32 := fun j =>
  if K c ≤ 2 then
    (if j = 3 + t then (if K c = 1 then v (3 + t) else v (M c).toNatClampNeg)
     else if j = (M c).toNatClampNeg then (if K c = 0 then v (M c).toNatClampNeg else v (3 + t)) else v j)
  else if K c = 3 ∧ j = 3 + t then v j + M c else v j
/-- nobody can have a turn -/
def sr_sk (p : Nat → Nat) : Bool := !(sr_en S K M p 0) && !(sr_en S K M p 1) && !(sr_en S K M p 2)
def sr_rm (p : Nat → Nat) : Nat := (S 0 - p 0) + (S 1 - p 1) + (S 2 - p 2)
def sr_gd : Prop := (∀ t, t < 3 → S t ≤ 4) ∧ (∀ i, i < 12 → K i ≤ 5 ∧ (K i ≤ 2 → ∃ n, n ≤ 2 ∧ M i = nI n) ∧ (4 ≤ K i → ∃ n, n ≤ 1 ∧ M i = nI n))
def sr_bl (b : Bool) (t : Nat) (l : List (List Nat)) : List (List Nat) := if b = true then l.map (fun w => t :: w) else []
/-- all complete schedules from p, in the dictionary order -/
def sr_al : Nat → (Nat → Nat) → List (List Nat)
  | 0, _ => [[]]
  | d + 1, p => if sr_sk S K M p = true then [[]] else
      sr_bl (sr_en S K M p 0) 0 (sr_al d (sr_bp p 0)) ++ (sr_bl (sr_en S K M p 1) 1 (sr_al d (sr_bp p 1)) ++ sr_bl (sr_en S K M p 2) 2 (sr_al d (sr_bp p 2)))
/-- w is a complete schedule from p -/
def sr_cm : List Nat → (Nat → Nat) → Prop
  | [], p => sr_sk S K M p = true
  | t :: w, p => t < 3 ∧ sr_en S K M p t = true ∧ sr_cm w (sr_bp p t)
def sr_fp : List Nat → (Nat → Nat) → Nat → Nat
  | [], p => p
  | t :: w, p => sr_fp w (sr_bp p t)
def sr_rn : List Nat → (Nat → Nat) → (Nat → Int32) → Nat → Int32
  | [], _, v => v
  | t :: w, p, v => sr_rn w (sr_bp p t) (sr_ex K M v t (4 * t + p t))
/-- who sleeps behind a turn of t -/
def sr_zc (p : Nat → Nat) (z : Nat → Bool) (t : Nat) : Nat → Bool := fun s => (z s || (decide (s < t) && sr_en S K M p s)) && !(sr_tc K M (4 * t + p t) (4 * s + p s))
def sr_ok : List Nat → (Nat → Nat) → (Nat → Bool) → Bool
  | [], _, _ => true
  | t :: w, p, z => !(z t) && sr_ok w (sr_bp p t) (sr_zc S K M p z t)
/-- what the walk with sleeping threads meets -/
def sr_xs : Nat → (Nat → Nat) → (Nat → Bool) → List (List Nat)
  | 0, _, _ => [[]]
  | d + 1, p, z => if sr_sk S K M p = true then [[]] else
      sr_bl (sr_en S K M p 0 && !(z 0)) 0 (sr_xs d (sr_bp p 0) (sr_zc S K M p z 0)) ++ (sr_bl (sr_en S K M p 1 && !(z 1)) 1 (sr_xs d (sr_bp p 1) (sr_zc S K M p z 1)) ++ sr_bl (sr_en S K M p 2 && !(z 2)) 2 (sr_xs d (sr_bp p 2) (sr_zc S K M p z 2)))
end
section
variable {S K : Nat → Nat} {M : Nat → Int32}
theorem sr_bp_s (p : Nat → Nat) (t : Nat) : sr_bp p t t = p t + 1 := if_pos rfl
theorem sr_bp_n {p : Nat → Nat} {t s : Nat} (h : s ≠ t) : sr_bp p t s = p s := if_neg h
theorem sr_bp_comm (p : Nat → Nat) (s t : Nat) (h : s ≠ t) : sr_bp (sr_bp p t) s = sr_bp (sr_bp p s) t := by
  funext j
  unfold sr_bp
  by_cases h1 : j = s
  · have h2 : j ≠ t := by omega
    simp [h1, h2, h]
  · by_cases h2 : j = t
    · have h3 : ¬ t = s := fun z => h z.symm
      simp [h2, h3]
    · simp [h1, h2]
theorem sr_tc_comm (a b : Nat) : sr_tc K M a b = sr_tc K M b a := by
  unfold sr_tc
  have e : decide (M a = M b) = decide (M b = M a) := by
    by_cases h : M a = M b
    · rw [decide_eq_true h, decide_eq_true h.symm]
    · rw [decide_eq_false h, decide_eq_false (fun z => h z.symm)]
  rw [e, Bool.and_comm (decide (K a ≤ 2)), Bool.and_comm (decide (K a = 0)), Bool.and_comm (decide (4 ≤ K a))]
theorem sr_en_lt {p : Nat → Nat} {t : Nat} (h : sr_en S K M p t = true) : p t < S t := by
  unfold sr_en at h
  rw [Bool.and_eq_true, decide_eq_true_eq] at h
  exact h.1
theorem sr_sk_iff {p : Nat → Nat} : sr_sk S K M p = true ↔ ∀ t, t < 3 → sr_en S K M p t = false := by
  unfold sr_sk
  rw [Bool.and_eq_true, Bool.and_eq_true, Bool.not_eq_true', Bool.not_eq_true', Bool.not_eq_true']
  constructor
  · rintro ⟨⟨h0, h1⟩, h2⟩ t ht
    match t, ht with
    | 0, _ => exact h0
    | 1, _ => exact h1
    | 2, _ => exact h2
  · intro h
    exact ⟨⟨h 0 (by decide), h 1 (by decide)⟩, h 2 (by decide)⟩
theorem sr_rm_bp {p : Nat → Nat} {t : Nat} (ht : t < 3) (h : sr_en S K M p t = true) : sr_rm S (sr_bp p t) + 1 = sr_rm S p := by
  have hl := sr_en_lt h
  match t, ht, hl with
  | 0, _, hl =>
    have e1 : sr_bp p 0 0 = p 0 + 1 := sr_bp_s p 0
    have e2 : sr_bp p 0 1 = p 1 := sr_bp_n (by decide)
    have e3 : sr_bp p 0 2 = p 2 := sr_bp_n (by decide)
    unfold sr_rm; rw [e1, e2, e3]; omega
  | 1, _, hl =>
    have e1 : sr_bp p 1 1 = p 1 + 1 := sr_bp_s p 1
    have e2 : sr_bp p 1 0 = p 0 := sr_bp_n (by decide)
    have e3 : sr_bp p 1 2 = p 2 := sr_bp_n (by decide)
    unfold sr_rm; rw [e1, e2, e3]; omega
  | 2, _, hl =>
    have e1 : sr_bp p 2 2 = p 2 + 1 := sr_bp_s p 2
    have e2 : sr_bp p 2 0 = p 0 := sr_bp_n (by decide)
    have e3 : sr_bp p 2 1 = p 1 := sr_bp_n (by decide)
    unfold sr_rm; rw [e1, e2, e3]; omega
theorem sr_rm0 {p : Nat → Nat} (h : sr_rm S p = 0) : sr_sk S K M p = true := by
  rw [sr_sk_iff]
  intro t ht
  cases he : sr_en S K M p t with
  | false => rfl
  | true =>
    have := sr_rm_bp ht he
    omega
theorem sr_mem_bl {b : Bool} {t : Nat} {l : List (List Nat)} {w : List Nat} : w ∈ sr_bl b t l ↔ b = true ∧ ∃ w', w' ∈ l ∧ w = t :: w' := by
  unfold sr_bl
  cases b with
  | false => simp
  | true =>
    simp only [if_true, List.mem_map, true_and]
    constructor
    · rintro ⟨a, ha, e⟩; exact ⟨a, ha, e.symm⟩
    · rintro ⟨a, ha, e⟩; exact ⟨a, ha, e.symm⟩
theorem sr_cm_nil {p : Nat → Nat} {w : List Nat} (h : sr_sk S K M p = true) : sr_cm S K M w p ↔ w = [] := by
  cases w with
  | nil => exact ⟨fun _ => rfl, fun _ => h⟩
  | cons t w =>
    constructor
    · rintro ⟨h1, h2, _⟩
      rw [sr_sk_iff.mp h t h1] at h2
      exact absurd h2 (by decide)
    · intro e; exact absurd e (by simp)
theorem sr_mem : ∀ (d : Nat) (p : Nat → Nat) (w : List Nat), sr_rm S p ≤ d → (w ∈ sr_al S K M d p ↔ sr_cm S K M w p) := by
  intro d
  induction d with
  | zero =>
    intro p w h
    rw [sr_cm_nil (sr_rm0 (by omega))]
    unfold sr_al
    exact List.mem_singleton
  | succ d ih =>
    intro p w h
    unfold sr_al
    by_cases hs : sr_sk S K M p = true
    · rw [if_pos hs, sr_cm_nil hs]
      exact List.mem_singleton
    · rw [if_neg hs]
      have key : ∀ t, t < 3 → (w ∈ sr_bl (sr_en S K M p t) t (sr_al S K M d (sr_bp p t)) ↔ sr_en S K M p t = true ∧ ∃ w', sr_cm S K M w' (sr_bp p t) ∧ w = t :: w') := by
        intro t ht
        rw [sr_mem_bl]
        constructor
        · rintro ⟨h1, w', h2, h3⟩
          have := sr_rm_bp ht h1
          exact ⟨h1, w', (ih _ _ (by omega)).mp h2, h3⟩
        · rintro ⟨h1, w', h2, h3⟩
          have := sr_rm_bp ht h1
          exact ⟨h1, w', (ih _ _ (by omega)).mpr h2, h3⟩
      rw [List.mem_append, List.mem_append, key 0 (by decide), key 1 (by decide), key 2 (by decide)]
      constructor
      · rintro (⟨h1, w', h2, rfl⟩ | ⟨h1, w', h2, rfl⟩ | ⟨h1, w', h2, rfl⟩)
        · exact ⟨by decide, h1, h2⟩
        · exact ⟨by decide, h1, h2⟩
        · exact ⟨by decide, h1, h2⟩
      · intro hc
        cases w with
        | nil => exact absurd hc hs
        | cons t w =>
          obtain ⟨h1, h2, h3⟩ := hc
          match t, h1, h2, h3 with
          | 0, _, h2, h3 => exact Or.inl ⟨h2, w, h3, rfl⟩
          | 1, _, h2, h3 => exact Or.inr (Or.inl ⟨h2, w, h3, rfl⟩)
          | 2, _, h2, h3 => exact Or.inr (Or.inr ⟨h2, w, h3, rfl⟩)
theorem sr_bl_filter (b : Bool) (t : Nat) (l : List (List Nat)) (p : Nat → Nat) (z : Nat → Bool) :
    (sr_bl b t l).filter (fun w => sr_ok S K M w p z) = sr_bl (b && !(z t)) t (l.filter (fun w => sr_ok S K M w (sr_bp p t) (sr_zc S K M p z t))) := by
  unfold sr_bl
  cases b with
  | false => simp
  | true =>
    cases hz : z t with
    | true =>
      have e : (fun w => sr_ok S K M w p z) ∘ (fun w => t :: w) = fun _ => false := by
        funext w
        show sr_ok S K M (t :: w) p z = false
        unfold sr_ok
        rw [hz]; rfl
      rw [if_pos rfl, List.filter_map, e]
      simp
    | false =>
      have e : (fun w => sr_ok S K M w p z) ∘ (fun w => t :: w) = fun w => sr_ok S K M w (sr_bp p t) (sr_zc S K M p z t) := by
        funext w
        show sr_ok S K M (t :: w) p z = _
        rw [sr_ok, hz]; rfl
      rw [if_pos rfl, List.filter_map, e]
      simp
theorem sr_xs_eq : ∀ (d : Nat) (p : Nat → Nat) (z : Nat → Bool), sr_xs S K M d p z = (sr_al S K M d p).filter (fun w => sr_ok S K M w p z) := by
  intro d
  induction d with
  | zero => intro p z; rfl
  | succ d ih =>
    intro p z
    unfold sr_xs sr_al
    by_cases hs : sr_sk S K M p = true
    · rw [if_pos hs, if_pos hs]; rfl
    · rw [if_neg hs, if_neg hs, List.filter_append, List.filter_append, sr_bl_filter, sr_bl_filter, sr_bl_filter, ih, ih, ih]
theorem sr_fp_append (a b : List Nat) (p : Nat → Nat) : sr_fp (a ++ b) p = sr_fp b (sr_fp a p) := by
  induction a generalizing p with
  | nil => rfl
  | cons t a ih => exact ih _
theorem sr_rn_append (a b : List Nat) (p : Nat → Nat) (v : Nat → Int32) : sr_rn K M (a ++ b) p v = sr_rn K M b (sr_fp a p) (sr_rn K M a p v) := by
  induction a generalizing p v with
  | nil => rfl
  | cons t a ih => exact ih _ _
end
end
section
/-! steps that don't touch can be exchanged; every complete schedule has an equal one that the walk with sleeping threads meets -/
section
variable {S K : Nat → Nat} {M : Nat → Int32}
theorem sr_en_bp {p : Nat → Nat} {t s : Nat} (hst : s ≠ t) (h : sr_tc K M (4 * t + p t) (4 * s + p s) = false) :
    sr_en S K M (sr_bp p t) s = sr_en S K M p s := by
  have e1 : sr_bp p t s = p s := sr_bp_n hst
  unfold sr_en
  rw [e1]
  by_cases h4 : K (4 * s + p s) = 4
  · have key : ∀ j, sr_hd K M j (M (4 * s + p s)) (sr_bp p t j) = sr_hd K M j (M (4 * s + p s)) (p j) := by
      intro j
      by_cases hj : j = t
      · subst hj
        rw [sr_bp_s]
        show (if M (4 * j + p j) = M (4 * s + p s) ∧ 4 ≤ K (4 * j + p j) then decide (K (4 * j + p j) = 4) else sr_hd K M j (M (4 * s + p s)) (p j)) = _
        rw [if_neg]
        rintro ⟨h1, h2⟩
        unfold sr_tc at h
        rw [decide_eq_true h1, decide_eq_true h2, h4] at h
        revert h
        cases (decide (K (4 * j + p j) ≤ 2) && decide (4 ≤ 2) && !(decide (K (4 * j + p j) = 0) && decide (4 = 0))) <;> decide
      · rw [sr_bp_n hj]
    have e2 : sr_fr K M (sr_bp p t) (M (4 * s + p s)) = sr_fr K M p (M (4 * s + p s)) := by
      unfold sr_fr
      rw [key, key, key]
    rw [e2]
  · have e3 : decide (K (4 * s + p s) ≠ 4) = true := decide_eq_true h4
    rw [e3]
    rfl
theorem sr_ex_aux {A B x y s t j : Nat} {m n : Int32} {v : Nat → Int32} (hst : s ≠ t)
    (hx : A ≤ 2 → x ≤ 2) (hy : B ≤ 2 → y ≤ 2) (hxy : A ≤ 2 → B ≤ 2 → x ≠ y ∨ (A = 0 ∧ B = 0)) (f g : Nat → Int32)
    (hf : ∀ j, f j = if A ≤ 2 then (if j = 3 + t then (if A = 1 then v (3 + t) else v x) else if j = x then (if A = 0 then v x else v (3 + t)) else v j) else if A = 3 ∧ j = 3 + t then v j + m else v j)
    (hg : ∀ j, g j = if B ≤ 2 then (if j = 3 + s then (if B = 1 then v (3 + s) else v y) else if j = y then (if B = 0 then v y else v (3 + s)) else v j) else if B = 3 ∧ j = 3 + s then v j + n else v j) :
    (if B ≤ 2 then (if j = 3 + s then (if B = 1 then f (3 + s) else f y) else if j = y then (if B = 0 then f y else f (3 + s)) else f j) else if B = 3 ∧ j = 3 + s then f j + n else f j)
    = (if A ≤ 2 then (if j = 3 + t then (if A = 1 then g (3 + t) else g x) else if j = x then (if A = 0 then g x else g (3 + t)) else g j) else if A = 3 ∧ j = 3 + t then g j + m else g j) := by
  have n1 : ¬ (3 + s = 3 + t) := by omega
  have n2 : ¬ (3 + t = 3 + s) := by omega
  by_cases hA : A ≤ 2
  · have hx' := hx hA
    have n3 : ¬ (x = 3 + t) := by omega
    have n4 : ¬ (x = 3 + s) := by omega
    have n5 : ¬ (3 + s = x) := by omega
    by_cases hB : B ≤ 2
    · have hy' := hy hB
      have n6 : ¬ (y = 3 + t) := by omega
      have n7 : ¬ (y = 3 + s) := by omega
      have n8 : ¬ (3 + t = y) := by omega
      rcases hxy hA hB with h | ⟨h1, h2⟩
      · simp only [hA, hB, if_true, hf, hg, n1, n2, n3, n4, n5, n6, n7, n8, if_false]
        have h' : ¬ (y = x) := fun z => h z.symm
        simp only [h, h', if_false]
        by_cases j1 : j = 3 + s
        · have j2 : ¬ (j = 3 + t) := by omega
          have j3 : ¬ (j = x) := by omega
          simp only [j1, n1, n5, if_true, if_false]
        · by_cases j2 : j = 3 + t
          · simp only [j2, n2, n8, if_true, if_false]
          · by_cases j3 : j = x
            · have j4 : ¬ (x = y) := h
              simp only [j3, n4, n3, j4, if_true, if_false]
            · by_cases j4 : j = y
              · simp only [j4, n7, n6, h', if_true, if_false]
              · simp only [j1, j2, j3, j4, if_false]
      · subst h1
        subst h2
        have z1 : ¬ (0 : Nat) = 1 := by decide
        have hf0 : ∀ j, f j = if j = 3 + t then v x else v j := by
          intro j
          rw [hf, if_pos hA, if_neg z1, if_pos rfl]
          by_cases e : j = x
          · rw [if_pos e, e]
          · rw [if_neg e]
        have hg0 : ∀ j, g j = if j = 3 + s then v y else v j := by
          intro j
          rw [hg, if_pos hB, if_neg z1, if_pos rfl]
          by_cases e : j = y
          · rw [if_pos e, e]
          · rw [if_neg e]
        rw [if_pos hA, if_pos hB, if_neg z1, if_neg z1, if_pos rfl, if_pos rfl, hf0, hf0, hg0, hg0, if_neg n6, if_neg n4]
        by_cases j1 : j = 3 + s
        · have j2 : ¬ (j = 3 + t) := by omega
          have j3 : ¬ (j = x) := by omega
          rw [if_pos j1, if_neg j2, if_neg j3, if_pos j1]
        · rw [if_neg j1, if_neg j1]
          by_cases j2 : j = 3 + t
          · have j3 : ¬ (j = y) := by omega
            rw [if_pos j2, if_neg j3, if_pos j2]
          · rw [if_neg j2, if_neg j2]
            by_cases j3 : j = x
            · by_cases j4 : j = y
              · rw [if_pos j3, if_pos j4, ← j3, ← j4]
              · rw [if_pos j3, if_neg j4, j3]
            · by_cases j4 : j = y
              · rw [if_neg j3, if_pos j4, j4]
              · rw [if_neg j3, if_neg j4]
    · have hB3 : ¬ B ≤ 2 := hB
      simp only [hA, hB3, if_true, if_false, hf, hg, n1, n2, n3, n4, n5, and_false, if_false]
      by_cases b3 : B = 3
      · by_cases j1 : j = 3 + s
        · have j2 : ¬ (j = 3 + t) := by omega
          have j3 : ¬ (j = x) := by omega
          simp [b3, j1, n5, hst]
        · simp [b3, j1]
      · simp [b3]
  · have hA3 : ¬ A ≤ 2 := hA
    by_cases hB : B ≤ 2
    · have hy' := hy hB
      have n6 : ¬ (y = 3 + t) := by omega
      have n7 : ¬ (y = 3 + s) := by omega
      have n8 : ¬ (3 + t = y) := by omega
      simp only [hA3, hB, if_true, if_false, hf, hg, n1, n2, n6, n7, n8, and_false, if_false]
      by_cases a3 : A = 3
      · by_cases j1 : j = 3 + t
        · have hts : ¬ t = s := fun z => hst z.symm
          simp [a3, j1, n8, hts]
        · simp [a3, j1]
      · simp [a3]
    · have hB3 : ¬ B ≤ 2 := hB
      simp only [hA3, hB3, if_false, hf, hg]
      by_cases j1 : j = 3 + s
      · have j2 : ¬ (j = 3 + t) := by omega
        simp only [j2, and_false, if_false]
      · simp only [j1, and_false, if_false]
theorem sr_ex_comm {v : Nat → Int32} {s t a b : Nat} (hst : s ≠ t) (ha : K a ≤ 2 → ∃ n, n ≤ 2 ∧ M a = nI n) (hb : K b ≤ 2 → ∃ n, n ≤ 2 ∧ M b = nI n)
    (h : sr_tc K M a b = false) : sr_ex K M (sr_ex K M v t a) s b = sr_ex K M (sr_ex K M v s b) t a := by
  funext j
  have cl : ∀ c, (K c ≤ 2 → ∃ n, n ≤ 2 ∧ M c = nI n) → K c ≤ 2 → (M c).toNatClampNeg ≤ 2 ∧ M c = nI (M c).toNatClampNeg := by
    intro c hc h2
    obtain ⟨n, hn, e⟩ := hc h2
    rw [e, nI_clamp (by omega)]
    exact ⟨hn, rfl⟩
  refine sr_ex_aux (m := M a) (n := M b) (v := v) hst (fun z => (cl a ha z).1) (fun z => (cl b hb z).1) ?_ (sr_ex K M v t a) (sr_ex K M v s b) (fun _ => rfl) (fun _ => rfl)
  intro h1 h2
  by_cases e : (M a).toNatClampNeg = (M b).toNatClampNeg
  · right
    have e2 : M a = M b := by rw [(cl a ha h1).2, (cl b hb h2).2, e]
    unfold sr_tc at h
    rw [decide_eq_true e2, decide_eq_true h1, decide_eq_true h2] at h
    by_cases z1 : K a = 0
    · by_cases z2 : K b = 0
      · exact ⟨z1, z2⟩
      · rw [decide_eq_false z2] at h
        exfalso
        revert h
        cases decide (K a = 0) <;> cases (decide (4 ≤ K a) && decide (4 ≤ K b)) <;> decide
    · rw [decide_eq_false z1] at h
      exfalso
      revert h
      cases decide (K b = 0) <;> cases (decide (4 ≤ K a) && decide (4 ≤ K b)) <;> decide
  · exact Or.inl e
theorem sr_cell {p : Nat → Nat} {t : Nat} (G : sr_gd S K M) (ht : t < 3) (h : sr_en S K M p t = true) : 4 * t + p t < 12 := by
  have h1 := sr_en_lt h
  have h2 := G.1 t ht
  omega
/-- two turns that don't touch, exchanged -/
theorem sr_swap {p : Nat → Nat} {v : Nat → Int32} {s t : Nat} {w : List Nat} (G : sr_gd S K M) (hst : s ≠ t)
    (h : sr_tc K M (4 * t + p t) (4 * s + p s) = false) (hc : sr_cm S K M (t :: s :: w) p) :
    sr_cm S K M (s :: t :: w) p ∧ sr_rn K M (s :: t :: w) p v = sr_rn K M (t :: s :: w) p v := by
  obtain ⟨h1, h2, h3, h4, h5⟩ := hc
  have e1 : sr_bp p t s = p s := sr_bp_n hst
  have e2 : sr_bp p s t = p t := sr_bp_n (fun z => hst z.symm)
  rw [sr_en_bp hst h] at h4
  have e3 : sr_en S K M (sr_bp p s) t = true := by
    rw [sr_en_bp (fun z => hst z.symm) (by rw [sr_tc_comm]; exact h)]
    exact h2
  refine ⟨⟨h3, h4, h1, e3, ?_⟩, ?_⟩
  · rw [← sr_bp_comm p s t hst]; exact h5
  · show sr_rn K M w (sr_bp (sr_bp p s) t) (sr_ex K M (sr_ex K M v s (4 * s + p s)) t (4 * t + sr_bp p s t)) = sr_rn K M w (sr_bp (sr_bp p t) s) (sr_ex K M (sr_ex K M v t (4 * t + p t)) s (4 * s + sr_bp p t s))
    rw [e1, e2, sr_bp_comm p s t hst]
    rw [sr_ex_comm hst (G.2 _ (sr_cell G h1 h2)).2.1 (G.2 _ (sr_cell G h3 h4)).2.1 h]
theorem sr_cover (G : sr_gd S K M) : ∀ (n : Nat) (p : Nat → Nat) (v : Nat → Int32) (z : Nat → Bool) (w : List Nat), w.length = n → sr_cm S K M w p →
    (∃ w', sr_cm S K M w' p ∧ sr_ok S K M w' p z = true ∧ sr_rn K M w' p v = sr_rn K M w p v) ∨
    (∃ s w', z s = true ∧ w'.length + 1 = n ∧ sr_cm S K M (s :: w') p ∧ sr_rn K M (s :: w') p v = sr_rn K M w p v) := by
  intro n
  induction n with
  | zero =>
    intro p v z w hl hc
    have e : w = [] := List.eq_nil_of_length_eq_zero hl
    exact Or.inl ⟨w, hc, by rw [e]; rfl, rfl⟩
  | succ n ih =>
    intro p v z w hl hc
    by_cases hz : ∃ s w', z s = true ∧ w'.length + 1 = n + 1 ∧ sr_cm S K M (s :: w') p ∧ sr_rn K M (s :: w') p v = sr_rn K M w p v
    · exact Or.inr hz
    · left
      have hq : ∃ s, ∃ w' : List Nat, w'.length = n ∧ sr_cm S K M (s :: w') p ∧ sr_rn K M (s :: w') p v = sr_rn K M w p v := by
        cases w with
        | nil => exact absurd hl (by simp)
        | cons t w => exact ⟨t, w, by simpa using hl, hc, rfl⟩
      obtain ⟨t, ⟨w1, hl1, hc1, he1⟩, hmin⟩ := pk_least _ hq
      have hzt : z t = false := by
        cases e : z t with
        | false => rfl
        | true => exact absurd ⟨t, w1, e, by omega, hc1, he1⟩ hz
      rcases ih (sr_bp p t) (sr_ex K M v t (4 * t + p t)) (sr_zc S K M p z t) w1 hl1 hc1.2.2 with ⟨w', hc', ho', he'⟩ | ⟨s, w', hs, hl', hc', he'⟩
      · refine ⟨t :: w', ⟨hc1.1, hc1.2.1, hc'⟩, ?_, he'.trans he1⟩
        show (!(z t) && sr_ok S K M w' (sr_bp p t) (sr_zc S K M p z t)) = true
        rw [hzt, ho']
        rfl
      · exfalso
        unfold sr_zc at hs
        rw [Bool.and_eq_true, Bool.or_eq_true, Bool.and_eq_true, decide_eq_true_eq, Bool.not_eq_true'] at hs
        obtain ⟨hs1, hs2⟩ := hs
        have hst : s ≠ t := by
          intro e
          subst e
          rcases hs1 with h | ⟨h, _⟩
          · rw [hzt] at h; exact absurd h (by decide)
          · omega
        have sw := sr_swap (v := v) (w := w') G hst hs2 ⟨hc1.1, hc1.2.1, hc'⟩
        have he2 : sr_rn K M (s :: t :: w') p v = sr_rn K M w p v := sw.2.trans (he'.trans he1)
        rcases hs1 with h | ⟨h, _⟩
        · exact hz ⟨s, t :: w', h, by simpa using hl', sw.1, he2⟩
        · exact hmin s h ⟨t :: w', by simpa using hl', sw.1, he2⟩
/-- the walk with sleeping threads meets every end -/
theorem sr_cover0 (G : sr_gd S K M) {d : Nat} {p : Nat → Nat} {v : Nat → Int32} {w : List Nat} (hd : sr_rm S p ≤ d) (hw : w ∈ sr_al S K M d p) :
    ∃ w', w' ∈ sr_xs S K M d p (fun _ => false) ∧ sr_rn K M w' p v = sr_rn K M w p v := by
  rcases sr_cover G w.length p v (fun _ => false) w rfl ((sr_mem d p w hd).mp hw) with ⟨w', h1, h2, h3⟩ | ⟨s, w', h1, _⟩
  · refine ⟨w', ?_, h3⟩
    rw [sr_xs_eq, List.mem_filter]
    exact ⟨(sr_mem d p w' hd).mpr h1, h2⟩
  · exact absurd h1 (by simp)
theorem sr_xs_sub {d : Nat} {p : Nat → Nat} {z : Nat → Bool} {w : List Nat} (h : w ∈ sr_xs S K M d p z) : w ∈ sr_al S K M d p := by
  rw [sr_xs_eq, List.mem_filter] at h
  exact h.1
end
end
section
/-! the next schedule in the dictionary order, and that it goes through all of them -/
section
variable (S K : Nat → Nat) (M : Nat → Int32)
/-- on with the least thread that can have a turn -/
def sr_fs : Nat → (Nat → Nat) → List Nat
  | 0, _ => []
  | d + 1, p => if sr_en S K M p 0 = true then 0 :: sr_fs d (sr_bp p 0) else if sr_en S K M p 1 = true then 1 :: sr_fs d (sr_bp p 1) else if sr_en S K M p 2 = true then 2 :: sr_fs d (sr_bp p 2) else []
/-- the first schedule that begins with thread i or a greater one -/
def sr_nb (d : Nat) (p : Nat → Nat) (i : Nat) : Option (List Nat) :=
  if i ≤ 0 ∧ sr_en S K M p 0 = true then some (0 :: sr_fs S K M d (sr_bp p 0)) else if i ≤ 1 ∧ sr_en S K M p 1 = true then some (1 :: sr_fs S K M d (sr_bp p 1)) else if i ≤ 2 ∧ sr_en S K M p 2 = true then some (2 :: sr_fs S K M d (sr_bp p 2)) else none
end
def sr_or (pre : List Nat) (o e : Option (List Nat)) : Option (List Nat) := match o with
  | some x => some (pre ++ x)
  | none => e
theorem sr_or_s (pre x : List Nat) (e : Option (List Nat)) : sr_or pre (some x) e = some (pre ++ x) := rfl
theorem sr_or_n (pre : List Nat) (e : Option (List Nat)) : sr_or pre none e = e := rfl
section
variable (S K : Nat → Nat) (M : Nat → Int32)
def sr_nx : List Nat → Nat → (Nat → Nat) → Option (List Nat)
  | [], _, _ => none
  | _ :: _, 0, _ => none
  | t :: w, d + 1, p => sr_or [t] (sr_nx w d (sr_bp p t)) (sr_nb S K M d p (t + 1))
def sr_bk (d : Nat) : List Nat → (Nat → Nat) → Option (List Nat)
  | [], _ => none
  | t :: w, p => sr_or [t] (sr_bk d w (sr_bp p t)) (sr_nb S K M (d + w.length) p (t + 1))
end
def sr_ch (f : List Nat → Option (List Nat)) : List (List Nat) → Option (List Nat) → Prop
  | [], _ => True
  | a :: l, e => f a = (l.head?).or e ∧ sr_ch f l e
theorem sr_ch_append (f : List Nat → Option (List Nat)) (l1 l2 : List (List Nat)) (e : Option (List Nat)) (h1 : sr_ch f l1 ((l2.head?).or e)) (h2 : sr_ch f l2 e) : sr_ch f (l1 ++ l2) e := by
  induction l1 with
  | nil => exact h2
  | cons a l ih =>
    refine ⟨?_, ih h1.2⟩
    rw [h1.1]
    cases l with
    | nil => rfl
    | cons b l => rfl
theorem sr_ch_map (f g : List Nat → Option (List Nat)) (t : Nat) (e : Option (List Nat)) (hf : ∀ w, f (t :: w) = sr_or [t] (g w) e) (l : List (List Nat)) (h : sr_ch g l none) : sr_ch f (l.map (fun w => t :: w)) e := by
  induction l with
  | nil => trivial
  | cons a l ih =>
    refine ⟨?_, ih h.2⟩
    rw [hf, h.1]
    cases l with
    | nil => rfl
    | cons b l => rfl
section
variable {S K : Nat → Nat} {M : Nat → Int32}
theorem sr_bl_head (b : Bool) (t : Nat) (l : List (List Nat)) (x : List Nat) (h : l.head? = some x) : (sr_bl b t l).head? = if b = true then some (t :: x) else none := by
  unfold sr_bl
  cases b with
  | false => rfl
  | true =>
    cases l with
    | nil => exact absurd h (by simp)
    | cons a l =>
      have e : a = x := by simpa using h
      subst e
      rfl
theorem sr_al_head : ∀ (d : Nat) (p : Nat → Nat), (sr_al S K M d p).head? = some (sr_fs S K M d p) := by
  intro d
  induction d with
  | zero => intro p; rfl
  | succ d ih =>
    intro p
    unfold sr_al sr_fs
    by_cases hs : sr_sk S K M p = true
    · have h := sr_sk_iff.mp hs
      rw [if_pos hs, h 0 (by decide), h 1 (by decide), h 2 (by decide)]
      rfl
    · rw [if_neg hs, List.head?_append, List.head?_append, sr_bl_head _ _ _ _ (ih _), sr_bl_head _ _ _ _ (ih _), sr_bl_head _ _ _ _ (ih _)]
      cases e0 : sr_en S K M p 0 with
      | true => rfl
      | false =>
        cases e1 : sr_en S K M p 1 with
        | true => rfl
        | false =>
          cases e2 : sr_en S K M p 2 with
          | true => rfl
          | false => exact absurd (show sr_sk S K M p = true by unfold sr_sk; rw [e0, e1, e2]; rfl) hs
theorem sr_nb3 (d : Nat) (p : Nat → Nat) (i : Nat) (h : 3 ≤ i) : sr_nb S K M d p i = none := by
  unfold sr_nb
  rw [if_neg (by omega), if_neg (by omega), if_neg (by omega)]
theorem sr_nb2 (d : Nat) (p : Nat → Nat) : sr_nb S K M d p 2 = (sr_bl (sr_en S K M p 2) 2 (sr_al S K M d (sr_bp p 2))).head? := by
  rw [sr_bl_head _ _ _ _ (sr_al_head d _)]
  unfold sr_nb
  rw [if_neg (by omega), if_neg (by omega)]
  cases sr_en S K M p 2 with
  | true => rw [if_pos ⟨by decide, rfl⟩, if_pos rfl]
  | false => rw [if_neg (fun z => absurd z.2 (by decide)), if_neg (by decide)]
theorem sr_nb1 (d : Nat) (p : Nat → Nat) : sr_nb S K M d p 1 = (sr_bl (sr_en S K M p 1) 1 (sr_al S K M d (sr_bp p 1)) ++ sr_bl (sr_en S K M p 2) 2 (sr_al S K M d (sr_bp p 2))).head? := by
  rw [List.head?_append, sr_bl_head _ _ _ _ (sr_al_head d _), sr_bl_head _ _ _ _ (sr_al_head d _)]
  unfold sr_nb
  cases sr_en S K M p 1 <;> cases sr_en S K M p 2 <;> simp
theorem sr_chain : ∀ (d : Nat) (p : Nat → Nat), sr_ch (fun w => sr_nx S K M w d p) (sr_al S K M d p) none := by
  intro d
  induction d with
  | zero => intro p; exact ⟨rfl, trivial⟩
  | succ d ih =>
    intro p
    unfold sr_al
    by_cases hs : sr_sk S K M p = true
    · rw [if_pos hs]; exact ⟨rfl, trivial⟩
    · rw [if_neg hs]
      have key : ∀ t, t < 3 → sr_ch (fun w => sr_nx S K M w (d + 1) p) (sr_bl (sr_en S K M p t) t (sr_al S K M d (sr_bp p t))) (sr_nb S K M d p (t + 1)) := by
        intro t ht
        unfold sr_bl
        cases sr_en S K M p t with
        | false => exact trivial
        | true =>
          rw [if_pos rfl]
          exact sr_ch_map _ (fun w => sr_nx S K M w d (sr_bp p t)) t _ (fun w => rfl) _ (ih _)
      refine sr_ch_append _ _ _ _ ?_ (sr_ch_append _ _ _ _ ?_ ?_)
      · rw [Option.or_none, ← sr_nb1]; exact key 0 (by decide)
      · rw [Option.or_none, ← sr_nb2]; exact key 1 (by decide)
      · have := key 2 (by decide)
        rw [sr_nb3 d p (2 + 1) (by decide)] at this
        exact this
theorem sr_nx_nil (d : Nat) (p : Nat → Nat) : sr_nx S K M [] d p = none := rfl
theorem sr_nx_pre : ∀ (pre suf : List Nat) (d : Nat) (p : Nat → Nat), sr_nx S K M (pre ++ suf) (pre.length + d) p = sr_or pre (sr_nx S K M suf d (sr_fp pre p)) (sr_bk S K M d pre p) := by
  intro pre
  induction pre with
  | nil =>
    intro suf d p
    rw [List.length_nil, Nat.zero_add]
    show sr_nx S K M suf d p = sr_or [] (sr_nx S K M suf d p) none
    cases sr_nx S K M suf d p with
    | none => rfl
    | some x => rfl
  | cons t pre ih =>
    intro suf d p
    have e : (t :: pre).length + d = (pre.length + d) + 1 := by rw [List.length_cons]; omega
    rw [e]
    show sr_or [t] (sr_nx S K M (pre ++ suf) (pre.length + d) (sr_bp p t)) (sr_nb S K M (pre.length + d) p (t + 1)) = sr_or (t :: pre) (sr_nx S K M suf d (sr_fp pre (sr_bp p t))) (sr_or [t] (sr_bk S K M d pre (sr_bp p t)) (sr_nb S K M (d + pre.length) p (t + 1)))
    rw [ih, Nat.add_comm d pre.length]
    cases sr_nx S K M suf d (sr_fp pre (sr_bp p t)) with
    | none => rfl
    | some x => rfl
theorem sr_nx_bk (w : List Nat) (d : Nat) (p : Nat → Nat) : sr_nx S K M w (w.length + d) p = sr_bk S K M d w p := by
  have h := sr_nx_pre (S := S) (K := K) (M := M) w [] d p
  rw [List.append_nil, sr_nx_nil] at h
  exact h
theorem sr_bk_snoc : ∀ (pre : List Nat) (t d : Nat) (p : Nat → Nat), sr_bk S K M d (pre ++ [t]) p = sr_or pre (sr_nb S K M d (sr_fp pre p) (t + 1)) (sr_bk S K M (d + 1) pre p) := by
  intro pre
  induction pre with
  | nil =>
    intro t d p
    show sr_or [t] none (sr_nb S K M (d + 0) p (t + 1)) = sr_or [] (sr_nb S K M d p (t + 1)) none
    rw [Nat.add_zero, sr_or_n]
    cases sr_nb S K M d p (t + 1) with
    | none => rfl
    | some x => rfl
  | cons s pre ih =>
    intro t d p
    show sr_or [s] (sr_bk S K M d (pre ++ [t]) (sr_bp p s)) (sr_nb S K M (d + (pre ++ [t]).length) p (s + 1)) = sr_or (s :: pre) (sr_nb S K M d (sr_fp pre (sr_bp p s)) (t + 1)) (sr_or [s] (sr_bk S K M (d + 1) pre (sr_bp p s)) (sr_nb S K M (d + 1 + pre.length) p (s + 1)))
    have e : d + (pre ++ [t]).length = d + 1 + pre.length := by rw [List.length_append]; simp; omega
    rw [ih, e]
    cases sr_nb S K M d (sr_fp pre (sr_bp p s)) (t + 1) with
    | none => rfl
    | some x => rfl
/-- validity of a beginning: every turn can be had -/
theorem sr_cm_at : ∀ (w : List Nat) (p : Nat → Nat) (i : Nat), sr_cm S K M w p → i < w.length → w.getD i 0 < 3 ∧ sr_en S K M (sr_fp (w.take i) p) (w.getD i 0) = true := by
  intro w
  induction w with
  | nil => intro p i _ h; exact absurd h (by simp)
  | cons t w ih =>
    intro p i hc hi
    cases i with
    | zero => exact ⟨hc.1, hc.2.1⟩
    | succ i =>
      exact ih (sr_bp p t) i hc.2.2 (by simpa using hi)
theorem sr_cm_len : ∀ (w : List Nat) (p : Nat → Nat), sr_cm S K M w p → w.length ≤ sr_rm S p := by
  intro w
  induction w with
  | nil => intro p _; simp
  | cons t w ih =>
    intro p hc
    have h1 := ih _ hc.2.2
    have h2 := sr_rm_bp hc.1 hc.2.1
    rw [List.length_cons]
    omega
theorem sr_take_s (w : List Nat) (i : Nat) (h : i < w.length) : w.take (i + 1) = w.take i ++ [w.getD i 0] := by
  rw [List.take_add_one, List.getD_eq_getElem?_getD]
  rw [List.getElem?_eq_getElem h]
  rfl
end
end
section
/-! counting: complete schedules are at most 34650; the sum over states -/
def sr_tb : List Nat := [1, 1, 1, 1, 1, 1, 2, 3, 4, 5, 1, 3, 6, 10, 15, 1, 4, 10, 20, 35, 1, 5, 15, 35, 70, 1, 2, 3, 4, 5, 2, 6, 12, 20, 30, 3, 12, 30, 60, 105, 4, 20, 60, 140, 280, 5, 30, 105, 280, 630, 1, 3, 6, 10, 15, 3, 12, 30, 60, 105, 6, 30, 90, 210, 420, 10, 60, 210, 560, 1260, 15, 105, 420, 1260, 3150, 1, 4, 10, 20, 35, 4, 20, 60, 140, 280, 10, 60, 210, 560, 1260, 20, 140, 560, 1680, 4200, 35, 280, 1260, 4200, 11550, 1, 5, 15, 35, 70, 5, 30, 105, 280, 630, 15, 105, 420, 1260, 3150, 35, 280, 1260, 4200, 11550, 70, 630, 3150, 11550, 34650]
def sr_T (a b c : Nat) : Nat := sr_tb.getD (25 * a + 5 * b + c) 0
theorem sr_T1 : ∀ a, a < 5 → ∀ b, b < 5 → ∀ c, c < 5 → 1 ≤ sr_T a b c ∧ sr_T a b c ≤ 34650 := by decide +kernel
theorem sr_T2 : ∀ a, a < 5 → ∀ b, b < 5 → ∀ c, c < 5 → 0 < a + b + c → (if 0 < a then sr_T (a - 1) b c else 0) + ((if 0 < b then sr_T a (b - 1) c else 0) + (if 0 < c then sr_T a b (c - 1) else 0)) ≤ sr_T a b c := by decide +kernel
section
variable (S K : Nat → Nat) (M : Nat → Int32)
def sr_cw (lf : (Nat → Nat) → Nat) : Nat → (Nat → Nat) → Nat
  | 0, p => lf p
  | d + 1, p => if sr_sk S K M p = true then lf p else (if sr_en S K M p 0 = true then sr_cw lf d (sr_bp p 0) else 0) + ((if sr_en S K M p 1 = true then sr_cw lf d (sr_bp p 1) else 0) + (if sr_en S K M p 2 = true then sr_cw lf d (sr_bp p 2) else 0))
end
section
variable {S K : Nat → Nat} {M : Nat → Int32}
theorem sr_bl_sum (lf : (Nat → Nat) → Nat) (b : Bool) (t : Nat) (l : List (List Nat)) (p : Nat → Nat) :
    ((sr_bl b t l).map (fun w => lf (sr_fp w p))).sum = if b = true then (l.map (fun w => lf (sr_fp w (sr_bp p t)))).sum else 0 := by
  unfold sr_bl
  cases b with
  | false => rfl
  | true =>
    rw [if_pos rfl, if_pos rfl, List.map_map]
    rfl
theorem sr_cw_al (lf : (Nat → Nat) → Nat) : ∀ (d : Nat) (p : Nat → Nat), sr_cw S K M lf d p = ((sr_al S K M d p).map (fun w => lf (sr_fp w p))).sum := by
  intro d
  induction d with
  | zero => intro p; simp [sr_cw, sr_al, sr_fp]
  | succ d ih =>
    intro p
    unfold sr_cw sr_al
    by_cases hs : sr_sk S K M p = true
    · rw [if_pos hs, if_pos hs]; simp [sr_fp]
    · rw [if_neg hs, if_neg hs, List.map_append, List.map_append, List.sum_append, List.sum_append, sr_bl_sum, sr_bl_sum, sr_bl_sum, ih, ih, ih]
theorem sr_cw_fuel (lf : (Nat → Nat) → Nat) : ∀ (d e : Nat) (p : Nat → Nat), sr_rm S p ≤ d → sr_rm S p ≤ e → sr_cw S K M lf d p = sr_cw S K M lf e p := by
  intro d
  induction d with
  | zero =>
    intro e p h1 h2
    have hs : sr_sk S K M p = true := sr_rm0 (by omega)
    cases e with
    | zero => rfl
    | succ e => unfold sr_cw; rw [if_pos hs]
  | succ d ih =>
    intro e p h1 h2
    by_cases hs : sr_sk S K M p = true
    · cases e with
      | zero => unfold sr_cw; rw [if_pos hs]
      | succ e => unfold sr_cw; rw [if_pos hs, if_pos hs]
    · cases e with
      | zero => exact absurd (sr_rm0 (by omega)) hs
      | succ e =>
        have key : ∀ t, t < 3 → (if sr_en S K M p t = true then sr_cw S K M lf d (sr_bp p t) else 0) = (if sr_en S K M p t = true then sr_cw S K M lf e (sr_bp p t) else 0) := by
          intro t ht
          by_cases he : sr_en S K M p t = true
          · have := sr_rm_bp ht he
            rw [if_pos he, if_pos he]
            exact ih e _ (by omega) (by omega)
          · rw [if_neg he, if_neg he]
        unfold sr_cw
        rw [if_neg hs, if_neg hs, key 0 (by decide), key 1 (by decide), key 2 (by decide)]
theorem sr_rm12 (G : sr_gd S K M) (p : Nat → Nat) : sr_rm S p ≤ 12 := by
  have h0 := G.1 0 (by decide)
  have h1 := G.1 1 (by decide)
  have h2 := G.1 2 (by decide)
  unfold sr_rm
  omega
/-- the sum at p out of the sums behind the turns -/
theorem sr_cw_step (G : sr_gd S K M) (lf : (Nat → Nat) → Nat) (p : Nat → Nat) : sr_cw S K M lf 12 p = if sr_sk S K M p = true then lf p else (if sr_en S K M p 0 = true then sr_cw S K M lf 12 (sr_bp p 0) else 0) + ((if sr_en S K M p 1 = true then sr_cw S K M lf 12 (sr_bp p 1) else 0) + (if sr_en S K M p 2 = true then sr_cw S K M lf 12 (sr_bp p 2) else 0)) := by
  have e : sr_cw S K M lf 12 p = sr_cw S K M lf 13 p := sr_cw_fuel lf 12 13 p (sr_rm12 G p) (Nat.le_succ_of_le (sr_rm12 G p))
  rw [e]
  rfl
theorem sr_cw_le (lf lg : (Nat → Nat) → Nat) (h : ∀ p, lf p ≤ lg p) : ∀ (d : Nat) (p : Nat → Nat), sr_cw S K M lf d p ≤ sr_cw S K M lg d p := by
  intro d
  induction d with
  | zero => intro p; exact h p
  | succ d ih =>
    intro p
    unfold sr_cw
    by_cases hs : sr_sk S K M p = true
    · rw [if_pos hs, if_pos hs]; exact h p
    · rw [if_neg hs, if_neg hs]
      have key : ∀ t, (if sr_en S K M p t = true then sr_cw S K M lf d (sr_bp p t) else 0) ≤ (if sr_en S K M p t = true then sr_cw S K M lg d (sr_bp p t) else 0) := by
        intro t
        by_cases he : sr_en S K M p t = true
        · rw [if_pos he, if_pos he]; exact ih _
        · rw [if_neg he, if_neg he]; exact Nat.le_refl _
      exact Nat.add_le_add (key 0) (Nat.add_le_add (key 1) (key 2))
theorem sr_cw_pos : ∀ (d : Nat) (p : Nat → Nat), 1 ≤ sr_cw S K M (fun _ => 1) d p := by
  intro d
  induction d with
  | zero => intro p; exact Nat.le_refl 1
  | succ d ih =>
    intro p
    unfold sr_cw
    by_cases hs : sr_sk S K M p = true
    · rw [if_pos hs]; exact Nat.le_refl 1
    · rw [if_neg hs]
      have h0 := ih (sr_bp p 0)
      have h1 := ih (sr_bp p 1)
      have h2 := ih (sr_bp p 2)
      cases e0 : sr_en S K M p 0 with
      | true => rw [if_pos rfl]; omega
      | false =>
        cases e1 : sr_en S K M p 1 with
        | true => rw [if_pos rfl]; omega
        | false =>
          cases e2 : sr_en S K M p 2 with
          | true => rw [if_pos rfl]; omega
          | false => exact absurd (show sr_sk S K M p = true by unfold sr_sk; rw [e0, e1, e2]; rfl) hs
theorem sr_cw_T (G : sr_gd S K M) : ∀ (d : Nat) (p : Nat → Nat), sr_cw S K M (fun _ => 1) d p ≤ sr_T (S 0 - p 0) (S 1 - p 1) (S 2 - p 2) := by
  have g0 := G.1 0 (by decide)
  have g1 := G.1 1 (by decide)
  have g2 := G.1 2 (by decide)
  intro d
  induction d with
  | zero => intro p; exact (sr_T1 _ (by omega) _ (by omega) _ (by omega)).1
  | succ d ih =>
    intro p
    unfold sr_cw
    by_cases hs : sr_sk S K M p = true
    · rw [if_pos hs]; exact (sr_T1 _ (by omega) _ (by omega) _ (by omega)).1
    · rw [if_neg hs]
      have k0 : (if sr_en S K M p 0 = true then sr_cw S K M (fun _ => 1) d (sr_bp p 0) else 0) ≤ (if 0 < S 0 - p 0 then sr_T (S 0 - p 0 - 1) (S 1 - p 1) (S 2 - p 2) else 0) := by
        by_cases he : sr_en S K M p 0 = true
        · have hl := sr_en_lt he
          rw [if_pos he, if_pos (by omega)]
          have := ih (sr_bp p 0)
          rw [sr_bp_s, sr_bp_n (t := 0) (s := 1) (by decide), sr_bp_n (t := 0) (s := 2) (by decide)] at this
          exact this
        · rw [if_neg he]; exact Nat.zero_le _
      have k1 : (if sr_en S K M p 1 = true then sr_cw S K M (fun _ => 1) d (sr_bp p 1) else 0) ≤ (if 0 < S 1 - p 1 then sr_T (S 0 - p 0) (S 1 - p 1 - 1) (S 2 - p 2) else 0) := by
        by_cases he : sr_en S K M p 1 = true
        · have hl := sr_en_lt he
          rw [if_pos he, if_pos (by omega)]
          have := ih (sr_bp p 1)
          rw [sr_bp_s, sr_bp_n (t := 1) (s := 0) (by decide), sr_bp_n (t := 1) (s := 2) (by decide)] at this
          exact this
        · rw [if_neg he]; exact Nat.zero_le _
      have k2 : (if sr_en S K M p 2 = true then sr_cw S K M (fun _ => 1) d (sr_bp p 2) else 0) ≤ (if 0 < S 2 - p 2 then sr_T (S 0 - p 0) (S 1 - p 1) (S 2 - p 2 - 1) else 0) := by
        by_cases he : sr_en S K M p 2 = true
        · have hl := sr_en_lt he
          rw [if_pos he, if_pos (by omega)]
          have := ih (sr_bp p 2)
          rw [sr_bp_s, sr_bp_n (t := 2) (s := 0) (by decide), sr_bp_n (t := 2) (s := 1) (by decide)] at this
          exact this
        · rw [if_neg he]; exact Nat.zero_le _
      have hp : 0 < (S 0 - p 0) + (S 1 - p 1) + (S 2 - p 2) := by
        by_cases hr : sr_rm S p = 0
        · exact absurd (sr_rm0 hr) hs
        · unfold sr_rm at hr; omega
      exact Nat.le_trans (Nat.add_le_add k0 (Nat.add_le_add k1 k2)) (sr_T2 _ (by omega) _ (by omega) _ (by omega) hp)
theorem sr_cw_max (G : sr_gd S K M) (d : Nat) (p : Nat → Nat) : sr_cw S K M (fun _ => 1) d p ≤ 34650 := by
  have g0 := G.1 0 (by decide)
  have g1 := G.1 1 (by decide)
  have g2 := G.1 2 (by decide)
  exact Nat.le_trans (sr_cw_T G d p) (sr_T1 _ (by omega) _ (by omega) _ (by omega)).2
theorem sr_cw_len (d : Nat) (p : Nat → Nat) : sr_cw S K M (fun _ => 1) d p = (sr_al S K M d p).length := by
  rw [sr_cw_al]
  generalize sr_al S K M d p = l
  induction l with
  | nil => rfl
  | cons a l ih => rw [List.map_cons, List.sum_cons, ih, List.length_cons]; omega
theorem sr_al_max (G : sr_gd S K M) (d : Nat) (p : Nat → Nat) : (sr_al S K M d p).length ≤ 34650 := by
  rw [← sr_cw_len]
  exact sr_cw_max G d p
end
/-! a sum over a stretch -/
def sr_sm (g : Nat → Nat) : Nat → Nat → Nat
  | _, 0 => 0
  | s, c + 1 => g s + sr_sm g (s + 1) c
theorem sr_sm_congr {g h : Nat → Nat} : ∀ (c s : Nat), (∀ j, s ≤ j → j < s + c → g j = h j) → sr_sm g s c = sr_sm h s c := by
  intro c
  induction c with
  | zero => intro s _; rfl
  | succ c ih =>
    intro s H
    show g s + sr_sm g (s + 1) c = h s + sr_sm h (s + 1) c
    rw [H s (Nat.le_refl s) (by omega), ih (s + 1) (fun j h1 h2 => H j (by omega) (by omega))]
theorem sr_sm_add {g h : Nat → Nat} {k x : Nat} (hk : h k = g k + x) (hn : ∀ j, j ≠ k → h j = g j) : ∀ (c s : Nat), s ≤ k → k < s + c → sr_sm h s c = sr_sm g s c + x := by
  intro c
  induction c with
  | zero => intro s h1 h2; omega
  | succ c ih =>
    intro s h1 h2
    show h s + sr_sm h (s + 1) c = g s + sr_sm g (s + 1) c + x
    by_cases e : s = k
    · subst e
      rw [hk, sr_sm_congr (g := h) (h := g) c (s + 1) (fun j h3 h4 => hn j (by omega))]
      omega
    · rw [hn s e, ih (s + 1) (by omega) (by omega)]
      omega
theorem sr_sm_le {g : Nat → Nat} : ∀ (c s k : Nat), s ≤ k → k < s + c → g k ≤ sr_sm g s c := by
  intro c
  induction c with
  | zero => intro s k h1 h2; omega
  | succ c ih =>
    intro s k h1 h2
    show g k ≤ g s + sr_sm g (s + 1) c
    by_cases e : s = k
    · subst e; omega
    · have := ih (s + 1) k (by omega) (by omega)
      omega
theorem sr_sm_0 {g : Nat → Nat} : ∀ (c s : Nat), (∀ j, s ≤ j → j < s + c → g j = 0) → sr_sm g s c = 0 := by
  intro c
  induction c with
  | zero => intro s _; rfl
  | succ c ih =>
    intro s H
    show g s + sr_sm g (s + 1) c = 0
    rw [H s (Nat.le_refl s) (by omega), ih (s + 1) (fun j h1 h2 => H j (by omega) (by omega))]
/-! places by cells -/
def sr_pl (s : Nat) : Nat → Nat := fun j => if j = 0 then s / 25 else if j = 1 then s / 5 % 5 else if j = 2 then s % 5 else 0
def sr_sd (t : Nat) : Nat := if t = 0 then 25 else if t = 1 then 5 else 1
theorem sr_pl0 : sr_pl 0 = fun _ => 0 := by
  funext j
  unfold sr_pl
  simp
theorem sr_pl_bp (s t : Nat) (ht : t < 3) (h : sr_pl s t < 4) : sr_bp (sr_pl s) t = sr_pl (s + sr_sd t) := by
  match t, ht, h with
  | 0, _, h =>
    have h' : s / 25 < 4 := h
    funext j
    match j with
    | 0 => show s / 25 + 1 = (s + 25) / 25; omega
    | 1 => show s / 5 % 5 = (s + 25) / 5 % 5; omega
    | 2 => show s % 5 = (s + 25) % 5; omega
    | j + 3 => rfl
  | 1, _, h =>
    have h' : s / 5 % 5 < 4 := h
    funext j
    match j with
    | 0 => show s / 25 = (s + 5) / 25; omega
    | 1 => show s / 5 % 5 + 1 = (s + 5) / 5 % 5; omega
    | 2 => show s % 5 = (s + 5) % 5; omega
    | j + 3 => rfl
  | 2, _, h =>
    have h' : s % 5 < 4 := h
    funext j
    match j with
    | 0 => show s / 25 = (s + 1) / 25; omega
    | 1 => show s / 5 % 5 = (s + 1) / 5 % 5; omega
    | 2 => show s % 5 + 1 = (s + 1) % 5; omega
    | j + 3 => rfl
end
section
/-! the reference's test 'settled' is the walk's test 'nobody who sleeps has a turn' -/
section
variable (S K : Nat → Nat) (M : Nat → Int32)
def sr_vs (T C : Nat → Nat) (s c : Nat) : Nat → Bool
  | 0 => false
  | i + 1 => (decide (T i ≠ s) && !(sr_tc K M (C i) c)) && (decide (s < T i) || sr_vs T C s c i)
def sr_st (T C : Nat → Nat) : Nat → Bool
  | 0 => true
  | j + 1 => sr_st T C j && !(sr_vs K M T C (T j) (C j) j)
def sr_zz : List Nat → (Nat → Nat) → (Nat → Bool) → Nat → Bool
  | [], _, z => z
  | t :: w, p, z => sr_zz w (sr_bp p t) (sr_zc S K M p z t)
def sr_tT (w : List Nat) (i : Nat) : Nat := w.getD i 0
def sr_tC (w : List Nat) (p : Nat → Nat) (i : Nat) : Nat := 4 * w.getD i 0 + sr_fp (w.take i) p (w.getD i 0)
end
section
variable {S K : Nat → Nat} {M : Nat → Int32}
theorem sr_ok_append : ∀ (a b : List Nat) (p : Nat → Nat) (z : Nat → Bool), sr_ok S K M (a ++ b) p z = (sr_ok S K M a p z && sr_ok S K M b (sr_fp a p) (sr_zz S K M a p z)) := by
  intro a
  induction a with
  | nil => intro b p z; show _ = (true && _); rw [Bool.true_and]; rfl
  | cons t a ih =>
    intro b p z
    show (!(z t) && sr_ok S K M (a ++ b) (sr_bp p t) (sr_zc S K M p z t)) = ((!(z t) && sr_ok S K M a (sr_bp p t) (sr_zc S K M p z t)) && _)
    rw [ih, Bool.and_assoc]
    rfl
theorem sr_zz_snoc : ∀ (a : List Nat) (t : Nat) (p : Nat → Nat) (z : Nat → Bool), sr_zz S K M (a ++ [t]) p z = sr_zc S K M (sr_fp a p) (sr_zz S K M a p z) t := by
  intro a
  induction a with
  | nil => intro t p z; rfl
  | cons s a ih => intro t p z; exact ih t _ _
theorem sr_settle_a (w : List Nat) (p : Nat → Nat) : ∀ (i : Nat), i ≤ w.length → sr_ok S K M (w.take i) p (fun _ => false) = true →
    ∀ s, sr_en S K M (sr_fp (w.take i) p) s = true → sr_zz S K M (w.take i) p (fun _ => false) s = sr_vs K M (sr_tT w) (sr_tC w p) s (4 * s + sr_fp (w.take i) p s) i := by
  intro i
  induction i with
  | zero => intro _ _ s _; rfl
  | succ i ih =>
    intro hi ho s he
    rw [sr_take_s w i (by omega)] at ho he ⊢
    rw [sr_ok_append, Bool.and_eq_true] at ho
    obtain ⟨ho1, ho2⟩ := ho
    have ho3 : sr_zz S K M (w.take i) p (fun _ => false) (w.getD i 0) = false := by
      have : (!(sr_zz S K M (w.take i) p (fun _ => false) (w.getD i 0)) && true) = true := ho2
      revert this
      cases sr_zz S K M (w.take i) p (fun _ => false) (w.getD i 0) <;> decide
    rw [sr_zz_snoc]
    have ef : sr_fp (w.take i ++ [w.getD i 0]) p = sr_bp (sr_fp (w.take i) p) (w.getD i 0) := by rw [sr_fp_append]; rfl
    rw [ef] at he ⊢
    have ih' := ih (by omega) ho1
    generalize hP : sr_fp (w.take i) p = P at *
    have hC : sr_tC w p i = 4 * w.getD i 0 + P (w.getD i 0) := by unfold sr_tC; rw [hP]
    have hT : sr_tT w i = w.getD i 0 := rfl
    generalize hZ : sr_zz S K M (w.take i) p (fun _ => false) = Z at *
    show sr_zc S K M P Z (w.getD i 0) s = ((decide (sr_tT w i ≠ s) && !(sr_tc K M (sr_tC w p i) (4 * s + sr_bp P (w.getD i 0) s))) && (decide (s < sr_tT w i) || sr_vs K M (sr_tT w) (sr_tC w p) s (4 * s + sr_bp P (w.getD i 0) s) i))
    rw [hC, hT]
    generalize ht : w.getD i 0 = t at *
    unfold sr_zc
    by_cases hst : s = t
    · subst hst
      rw [ho3, decide_eq_false (Nat.lt_irrefl s), decide_eq_false (fun z : s ≠ s => z rfl)]
      rfl
    · rw [sr_bp_n hst, decide_eq_true (show t ≠ s from fun z => hst z.symm)]
      cases htc : sr_tc K M (4 * t + P t) (4 * s + P s) with
      | true =>
        rw [Bool.not_true, Bool.and_false, Bool.and_false, Bool.false_and]
      | false =>
        rw [sr_en_bp hst htc] at he
        rw [ih' s he, he]
        rw [Bool.and_true, Bool.not_false, Bool.and_true, Bool.and_true, Bool.true_and, Bool.or_comm]
theorem sr_settle_b (w : List Nat) (p : Nat → Nat) (hc : sr_cm S K M w p) : ∀ (i : Nat), i ≤ w.length → sr_ok S K M (w.take i) p (fun _ => false) = sr_st K M (sr_tT w) (sr_tC w p) i := by
  intro i
  induction i with
  | zero => intro _; rfl
  | succ i ih =>
    intro hi
    have ih' := ih (by omega)
    rw [sr_take_s w i (by omega), sr_ok_append, ih']
    show _ = (sr_st K M (sr_tT w) (sr_tC w p) i && !(sr_vs K M (sr_tT w) (sr_tC w p) (sr_tT w i) (sr_tC w p i) i))
    cases h : sr_st K M (sr_tT w) (sr_tC w p) i with
    | false => rfl
    | true =>
      rw [h] at ih'
      have h1 := sr_settle_a w p i (by omega) ih' (w.getD i 0) (sr_cm_at w p i hc (by omega)).2
      show (true && (!(sr_zz S K M (w.take i) p (fun _ => false) (w.getD i 0)) && true)) = _
      rw [h1, Bool.and_true]
      rfl
theorem sr_settle (w : List Nat) (p : Nat → Nat) (hc : sr_cm S K M w p) : sr_ok S K M w p (fun _ => false) = sr_st K M (sr_tT w) (sr_tC w p) w.length := by
  have h := sr_settle_b w p hc w.length (Nat.le_refl _)
  rw [List.take_length] at h
  exact h
end
end
section
/-! the reference's steps against the pure picture: can, carryOut -/
def sr_b (b : Bool) : Int32 := if b = true then 1 else 0
theorem sr_b1 : sr_b true = 1 := rfl
theorem sr_b0 : sr_b false = 0 := rfl
theorem sr_nb01 (b : Bool) : narrow .boolean (.int (sr_b b)) = .int (sr_b b) := by cases b <;> rfl
theorem sr_l4 : (4 : Int32) = nI 4 := by decide
theorem sr_l3 : (3 : Int32) = nI 3 := by decide
theorem sr_c4 (t k : Nat) : (4 : Int32) * nI t + nI k = nI (4 * t + k) := by rw [sr_l4, pk_mul, nI_add]
theorem sr_c4x (t k : Nat) : nI t * 4 + nI k = nI (4 * t + k) := by rw [sr_l4, pk_mul, nI_add, Nat.mul_comm]
theorem sr_c3 (t : Nat) : (3 : Int32) + nI t = nI (3 + t) := by rw [sr_l3, nI_add]
theorem sr_m1 {n : Nat} (h : n ≤ 1) : nI n &&& 1 = nI n := by
  match n, h with
  | 0, _ => decide
  | 1, _ => decide
def sy_gd (S K : Nat → Nat) (sz kd : Nat → Int32) : Prop := (∀ t, t < 3 → sz t = nI (S t)) ∧ (∀ i, i < 12 → kd i = nI (K i))
def sy_hl (K : Nat → Nat) (nm : Nat → Int32) (p : Nat → Nat) (l h : Int32) : Prop :=
  (h = -1 ∧ ∀ j, j < 3 → sr_hd K nm j l (p j) = false) ∨ (∃ t, t < 3 ∧ h = nI t ∧ ∀ j, j < 3 → sr_hd K nm j l (p j) = decide (j = t))
def sy_lv (K : Nat → Nat) (nm : Nat → Int32) (p : Nat → Nat) (v vl aa ho : Nat → Int32) : Prop :=
  (∀ t, t < 3 → aa t = nI (p t)) ∧ (∀ j, j < 6 → vl j = v j) ∧ (∀ l, l < 2 → sy_hl K nm p (nI l) (ho l)) ∧ (∀ t, t < 3 → p t ≤ 4)
section
variable {S K : Nat → Nat} {nm : Nat → Int32}
theorem sr_fr_iff {p : Nat → Nat} {l : Int32} : sr_fr K nm p l = true ↔ ∀ j, j < 3 → sr_hd K nm j l (p j) = false := by
  unfold sr_fr
  rw [Bool.and_eq_true, Bool.and_eq_true, Bool.not_eq_true', Bool.not_eq_true', Bool.not_eq_true']
  constructor
  · rintro ⟨⟨h0, h1⟩, h2⟩ t ht
    match t, ht with
    | 0, _ => exact h0
    | 1, _ => exact h1
    | 2, _ => exact h2
  · intro h
    exact ⟨⟨h 0 (by decide), h 1 (by decide)⟩, h 2 (by decide)⟩
theorem sr_hd_s (p : Nat → Nat) (t : Nat) (l : Int32) : sr_hd K nm t l (sr_bp p t t) = if nm (4 * t + p t) = l ∧ 4 ≤ K (4 * t + p t) then decide (K (4 * t + p t) = 4) else sr_hd K nm t l (p t) := by
  rw [sr_bp_s]
  rfl
theorem sr_hd_k {p : Nat → Nat} {t : Nat} {l : Int32} (h : ¬ (nm (4 * t + p t) = l ∧ 4 ≤ K (4 * t + p t))) (j : Nat) : sr_hd K nm j l (sr_bp p t j) = sr_hd K nm j l (p j) := by
  by_cases e : j = t
  · subst e
    rw [sr_hd_s, if_neg h]
  · rw [sr_bp_n e]
theorem sy_hl_k {p : Nat → Nat} {t : Nat} {l h : Int32} (hk : ¬ (nm (4 * t + p t) = l ∧ 4 ≤ K (4 * t + p t))) (H : sy_hl K nm p l h) : sy_hl K nm (sr_bp p t) l h := by
  rcases H with ⟨h1, h2⟩ | ⟨u, hu, h1, h2⟩
  · exact Or.inl ⟨h1, fun j hj => by rw [sr_hd_k hk]; exact h2 j hj⟩
  · exact Or.inr ⟨u, hu, h1, fun j hj => by rw [sr_hd_k hk]; exact h2 j hj⟩
theorem sy_hl_take {p : Nat → Nat} {t : Nat} {l : Int32} (ht : t < 3) (e : nm (4 * t + p t) = l) (h4 : K (4 * t + p t) = 4) (hf : ∀ j, j < 3 → sr_hd K nm j l (p j) = false) : sy_hl K nm (sr_bp p t) l (nI t) := by
  refine Or.inr ⟨t, ht, rfl, fun j hj => ?_⟩
  by_cases ej : j = t
  · subst ej
    rw [sr_hd_s, if_pos ⟨e, by omega⟩, h4, decide_eq_true (rfl : j = j)]
    rfl
  · rw [sr_bp_n ej, hf j hj, decide_eq_false ej]
theorem sy_hl_give {p : Nat → Nat} {t : Nat} {l h : Int32} (ht : t < 3) (e : nm (4 * t + p t) = l) (h4 : 4 < K (4 * t + p t)) (H : sy_hl K nm p l h) :
    sy_hl K nm (sr_bp p t) l (if h = nI t then -1 else h) := by
  have et : sr_hd K nm t l (sr_bp p t t) = false := by
    rw [sr_hd_s, if_pos ⟨e, by omega⟩, decide_eq_false (by omega)]
  rcases H with ⟨h1, h2⟩ | ⟨u, hu, h1, h2⟩
  · have hn : ¬ h = nI t := by
      rw [h1]
      match t, ht with
      | 0, _ => decide
      | 1, _ => decide
      | 2, _ => decide
    rw [if_neg hn]
    refine Or.inl ⟨h1, fun j hj => ?_⟩
    by_cases ej : j = t
    · subst ej; exact et
    · rw [sr_bp_n ej]; exact h2 j hj
  · by_cases hut : u = t
    · subst hut
      rw [if_pos h1]
      refine Or.inl ⟨rfl, fun j hj => ?_⟩
      by_cases ej : j = u
      · subst ej; exact et
      · rw [sr_bp_n ej, h2 j hj, decide_eq_false ej]
    · have hn : ¬ h = nI t := by
        rw [h1, nI_eq (by omega) (by omega)]
        exact hut
      rw [if_neg hn]
      refine Or.inr ⟨u, hu, h1, fun j hj => ?_⟩
      by_cases ej : j = t
      · subst ej
        rw [et, decide_eq_false (fun z => hut z.symm)]
      · rw [sr_bp_n ej]; exact h2 j hj
section
variable {sz kd bg tu sp vl aa ho : Nat → Int32} {tn : Int32} {p : Nat → Nat} {v : Nat → Int32}
theorem sy_can {post : Int32 → Prop} (G : sr_gd S K nm) (E : sy_gd S K sz kd) (L : sy_lv K nm p v vl aa ho) {t : Nat} (ht : t < 3)
    (h : post (sr_b (sr_en S K nm p t))) : wpY_can post (tn, sz, kd, nm, bg, tu, sp, vl, aa, ho) (nI t) := by
  have c : (nI t).toNatClampNeg = t := nI_clamp (by omega)
  have hS := G.1 t ht
  unfold wpY_can
  dsimp only
  rw [c, L.1 t ht, E.1 t ht]
  refine ⟨vp_in_nI ht (by decide), vp_in_nI ht (by decide), ?_⟩
  by_cases hp : p t < S t
  · have hc : 4 * t + p t < 12 := by omega
    have c2 : (nI (4 * t + p t)).toNatClampNeg = 4 * t + p t := nI_clamp (by omega)
    refine br_t (nI_lt hp (by omega)) ⟨vp_in_nI ht (by decide), nm_r (sr_c4 t (p t)) ?_⟩
    rw [c2, E.2 _ hc]
    refine ⟨vp_in_nI hc (by decide), ?_⟩
    by_cases h4 : K (4 * t + p t) = 4
    · obtain ⟨n, hn, en⟩ := (G.2 _ hc).2.2 (by omega)
      have c3 : (nI n).toNatClampNeg = n := nI_clamp (by omega)
      refine br_t (by rw [h4]; rfl) ⟨vp_in_nI hc (by decide), ?_⟩
      rw [en, sr_m1 hn, c3]
      refine ⟨vp_in_nI (by omega) (by decide), ?_⟩
      rcases L.2.2.1 n (by omega) with ⟨h1, h2⟩ | ⟨u, hu, h1, h2⟩
      · have ee : sr_en S K nm p t = true := by
          unfold sr_en
          rw [decide_eq_true hp, en, sr_fr_iff.mpr h2, Bool.or_true]
          rfl
        rw [ee] at h
        rw [h1]
        exact br_f (by decide) h
      · have ee : sr_en S K nm p t = false := by
          have hf : sr_fr K nm p (nI n) = false := by
            cases hf : sr_fr K nm p (nI n) with
            | false => rfl
            | true =>
              have q := sr_fr_iff.mp hf u hu
              rw [h2 u hu, decide_eq_true rfl] at q
              exact absurd q (by decide)
          unfold sr_en
          rw [en, hf, h4]
          simp
        rw [ee] at h
        rw [h1]
        exact br_t (nI_pos' (by omega)) h
    · have ee : sr_en S K nm p t = true := by
        unfold sr_en
        rw [decide_eq_true hp, decide_eq_true h4]
        rfl
      rw [ee] at h
      have hK := (G.2 _ hc).1
      refine br_f ?_ h
      rw [sr_l4, nI_eq (by omega) (by omega)]
      exact h4
  · have ee : sr_en S K nm p t = false := by
      unfold sr_en
      rw [decide_eq_false hp]
      rfl
    rw [ee] at h
    have hb := L.2.2.2 t ht
    exact br_f (nI_nlt (by omega) (by omega)) h
theorem sy_car153 {post : SY → Prop} {v' : Nat → Int32} {t : Nat} (ht : t < 3) (ha : aa t = nI (p t)) (haa : ∀ t, t < 3 → aa t = nI (p t))
    (hb : ∀ s, s < 3 → sr_bp p t s ≤ 4) (hv : ∀ j, j < 6 → vl j = v' j) (hh : ∀ l, l < 2 → sy_hl K nm (sr_bp p t) (nI l) (ho l))
    (h : ∀ vl' aa' ho' : Nat → Int32, sy_lv K nm (sr_bp p t) v' vl' aa' ho' → post (tn, sz, kd, nm, bg, tu, sp, vl', aa', ho')) : wY_carryOut_153 post (nI t) tn sz kd nm bg tu sp vl aa ho := by
  have c : (nI t).toNatClampNeg = t := nI_clamp (by omega)
  unfold wY_carryOut_153
  rw [c]
  refine ⟨vp_in_nI ht (by decide), vp_in_nI ht (by decide), fun q eq => h vl q ho ⟨fun s hs => ?_, hv, hh, hb⟩⟩
  subst eq
  by_cases e : s = t
  · subst e
    rw [pk_us, sr_bp_s, ha, nI_1]
  · rw [pk_un e, sr_bp_n e]
    exact haa s hs
theorem sy_car {post : SY → Prop} (G : sr_gd S K nm) (E : sy_gd S K sz kd) (L : sy_lv K nm p v vl aa ho) {t : Nat} (ht : t < 3) (he : sr_en S K nm p t = true)
    (h : ∀ vl' aa' ho' : Nat → Int32, sy_lv K nm (sr_bp p t) (sr_ex K nm v t (4 * t + p t)) vl' aa' ho' → post (tn, sz, kd, nm, bg, tu, sp, vl', aa', ho')) : wpY_carryOut post (tn, sz, kd, nm, bg, tu, sp, vl, aa, ho) (nI t) := by
  have c : (nI t).toNatClampNeg = t := nI_clamp (by omega)
  have hc : 4 * t + p t < 12 := sr_cell G ht he
  have c2 : (nI (4 * t + p t)).toNatClampNeg = 4 * t + p t := nI_clamp (by omega)
  have c3 : (nI (3 + t)).toNatClampNeg = 3 + t := nI_clamp (by omega)
  obtain ⟨g1, g2, g3⟩ := G.2 _ hc
  have hbp : ∀ s, s < 3 → sr_bp p t s ≤ 4 := by
    intro s hs
    by_cases e : s = t
    · subst e
      have q1 := sr_en_lt he
      have q2 := G.1 s hs
      rw [sr_bp_s]
      omega
    · rw [sr_bp_n e]
      exact L.2.2.2 s hs
  unfold wpY_carryOut
  dsimp only
  rw [c, L.1 t ht, sr_c3, c3]
  refine ⟨vp_in_nI ht (by decide), nm_r (sr_c4 t (p t)) ?_⟩
  rw [c2, E.2 _ hc]
  refine ⟨vp_in_nI hc (by decide), nm_e ⟨vp_in_nI hc (by decide), nm_e ⟨vp_in_nI (by omega) (by decide), nm_e ?_⟩⟩⟩
  by_cases k2 : K (4 * t + p t) ≤ 2
  · obtain ⟨n, hn, en⟩ := g2 k2
    have c4 : (nI n).toNatClampNeg = n := nI_clamp (by omega)
    have hq : ∀ l, l < 2 → sy_hl K nm (sr_bp p t) (nI l) (ho l) := fun l hl => sy_hl_k (fun z => by have := z.2; omega) (L.2.2.1 l hl)
    refine br_f (nI_nlt (a := 2) k2 (by decide)) ?_
    rw [en, c4]
    refine ⟨vp_in_nI (by omega) (by decide), nm_e ?_⟩
    have fin : ∀ (x y : Int32), x = (if K (4 * t + p t) = 1 then v (3 + t) else v n) → y = (if K (4 * t + p t) = 0 then v n else v (3 + t)) →
        wY_carryOut_87 post (nI t) y (nI n) tn sz kd nm bg tu sp (upd vl (3 + t) x) aa ho := by
      intro x y ex ey
      unfold wY_carryOut_87
      rw [c4]
      refine ⟨vp_in_nI (by omega) (by decide), fun q eq => sy_car153 ht (L.1 t ht) L.1 hbp (fun j hj => ?_) hq h⟩
      subst eq
      unfold sr_ex
      rw [if_pos k2, en, c4]
      by_cases j1 : j = 3 + t
      · rw [if_pos j1, pk_un (by omega), j1, pk_us, ex]
      · rw [if_neg j1]
        by_cases j2 : j = n
        · rw [if_pos j2, j2, pk_us, ey]
        · rw [if_neg j2, pk_un j2, pk_un j1]
          exact L.2.1 j hj
    have v3 : vl (3 + t) = v (3 + t) := L.2.1 _ (by omega)
    have vn : vl n = v n := L.2.1 _ (by omega)
    by_cases k1 : K (4 * t + p t) = 1
    · refine br_t (by rw [k1]; rfl) ?_
      unfold wY_carryOut_69
      rw [c3]
      refine ⟨vp_in_nI (by omega) (by decide), nm_e ?_⟩
      refine br_f (by rw [k1]; decide) (fin _ _ ?_ ?_)
      · rw [if_pos k1, v3]
      · rw [if_neg (by omega), v3]
    · refine br_f (fun z => k1 ((nI_eq (b := 1) (by omega) (by omega)).mp z)) ?_
      unfold wY_carryOut_69
      rw [c3]
      refine ⟨vp_in_nI (by omega) (by decide), nm_e ?_⟩
      by_cases k0 : K (4 * t + p t) = 0
      · refine br_t (by rw [k0]; rfl) (fin _ _ ?_ ?_)
        · rw [if_neg k1, vn]
        · rw [if_pos k0, vn]
      · refine br_f (fun z => k0 ((nI_eq (b := 0) (by omega) (by omega)).mp z)) (fin _ _ ?_ ?_)
        · rw [if_neg k1, vn]
        · rw [if_neg k0, v3]
  · refine br_t (nI_lt (a := 2) (by omega) (by omega)) ?_
    by_cases k3 : K (4 * t + p t) = 3
    · have hq : ∀ l, l < 2 → sy_hl K nm (sr_bp p t) (nI l) (ho l) := fun l hl => sy_hl_k (fun z => by have := z.2; omega) (L.2.2.1 l hl)
      refine br_t (by rw [k3]; rfl) ⟨vp_in_nI (by omega) (by decide), fun q eq => sy_car153 ht (L.1 t ht) L.1 hbp (fun j hj => ?_) hq h⟩
      subst eq
      unfold sr_ex
      rw [if_neg k2]
      by_cases j1 : j = 3 + t
      · rw [if_pos ⟨k3, j1⟩, j1, pk_us, L.2.1 _ (by omega)]
      · rw [if_neg (fun z => j1 z.2), pk_un j1]
        exact L.2.1 j hj
    · refine br_f (fun z => k3 ((nI_eq (b := 3) (by omega) (by omega)).mp z)) ?_
      obtain ⟨n, hn, en⟩ := g3 (by omega)
      have c4 : (nI n).toNatClampNeg = n := nI_clamp (by omega)
      rw [en, sr_m1 hn, c4]
      have hv : ∀ j, j < 6 → vl j = sr_ex K nm v t (4 * t + p t) j := by
        intro j hj
        unfold sr_ex
        rw [if_neg k2, if_neg (fun z => k3 z.1)]
        exact L.2.1 j hj
      have ho1 : ∀ (l : Nat) , l < 2 → l ≠ n → sy_hl K nm (sr_bp p t) (nI l) (ho l) := by
        intro l hl hne
        refine sy_hl_k (fun z => hne ?_) (L.2.2.1 l hl)
        have q := z.1
        rw [en, nI_eq (by omega) (by omega)] at q
        exact q.symm
      by_cases k4 : K (4 * t + p t) = 4
      · refine br_t (by rw [k4]; rfl) ⟨vp_in_nI (by omega) (by decide), fun q eq => sy_car153 ht (L.1 t ht) L.1 hbp hv (fun l hl => ?_) h⟩
        subst eq
        by_cases e : l = n
        · subst e
          rw [pk_us]
          refine sy_hl_take ht en k4 ?_
          unfold sr_en at he
          rw [Bool.and_eq_true, decide_eq_false (p := K (4 * t + p t) ≠ 4) (fun z => z k4), Bool.false_or, en] at he
          exact sr_fr_iff.mp he.2
        · rw [pk_un e]
          exact ho1 l hl e
      · refine br_f (fun z => k4 ((nI_eq (b := 4) (by omega) (by omega)).mp z)) ⟨vp_in_nI (by omega) (by decide), ?_⟩
        have hg := sy_hl_give ht en (by omega) (L.2.2.1 n (by omega))
        by_cases e1 : ho n = nI t
        · rw [if_pos e1] at hg
          refine br_t e1 ⟨vp_in_nI (by omega) (by decide), fun q eq => sy_car153 ht (L.1 t ht) L.1 hbp hv (fun l hl => ?_) h⟩
          subst eq
          by_cases e : l = n
          · subst e
            rw [pk_us]
            exact hg
          · rw [pk_un e]
            exact ho1 l hl e
        · rw [if_neg e1] at hg
          refine br_f e1 (sy_car153 ht (L.1 t ht) L.1 hbp hv (fun l hl => ?_) h)
          by_cases e : l = n
          · subst e
            exact hg
          · exact ho1 l hl e
end
end
end
section
/-! the reference: replay, extend, first, next -/
def sr_p0 : Nat → Nat := fun _ => 0
section
variable (S K : Nat → Nat) (M : Nat → Int32)
def sr_va : List Nat → (Nat → Nat) → Prop
  | [], _ => True
  | t :: w, p => t < 3 ∧ sr_en S K M p t = true ∧ sr_va w (sr_bp p t)
end
section
variable {S K : Nat → Nat} {M : Nat → Int32}
theorem sr_va_append : ∀ (a b : List Nat) (p : Nat → Nat), sr_va S K M (a ++ b) p ↔ sr_va S K M a p ∧ sr_va S K M b (sr_fp a p) := by
  intro a
  induction a with
  | nil => intro b p; exact ⟨fun h => ⟨trivial, h⟩, fun h => h.2⟩
  | cons t a ih =>
    intro b p
    constructor
    · rintro ⟨h1, h2, h3⟩
      have := (ih b _).mp h3
      exact ⟨⟨h1, h2, this.1⟩, this.2⟩
    · rintro ⟨⟨h1, h2, h3⟩, h4⟩
      exact ⟨h1, h2, (ih b _).mpr ⟨h3, h4⟩⟩
theorem sr_cm_va : ∀ (w : List Nat) (p : Nat → Nat), sr_cm S K M w p → sr_va S K M w p := by
  intro w
  induction w with
  | nil => intro p _; trivial
  | cons t w ih => intro p h; exact ⟨h.1, h.2.1, ih _ h.2.2⟩
theorem sr_va_take (w : List Nat) (p : Nat → Nat) (i : Nat) (h : sr_va S K M w p) : sr_va S K M (w.take i) p := by
  have e : w = w.take i ++ w.drop i := (List.take_append_drop i w).symm
  rw [e] at h
  exact ((sr_va_append _ _ _).mp h).1
theorem sr_tC_0 (t : Nat) (b : List Nat) (P : Nat → Nat) : sr_tC (t :: b) P 0 = 4 * t + P t := rfl
theorem sr_tC_s (t : Nat) (b : List Nat) (P : Nat → Nat) (i : Nat) : sr_tC (t :: b) P (i + 1) = sr_tC b (sr_bp P t) i := rfl
theorem sr_tT_0 (t : Nat) (b : List Nat) : sr_tT (t :: b) 0 = t := rfl
theorem sr_tT_s (t : Nat) (b : List Nat) (i : Nat) : sr_tT (t :: b) (i + 1) = sr_tT b i := rfl
theorem sr_tT_l : ∀ (a b : List Nat) (i : Nat), i < a.length → sr_tT (a ++ b) i = sr_tT a i := by
  intro a
  induction a with
  | nil => intro b i h; exact absurd h (Nat.not_lt_zero _)
  | cons t a ih =>
    intro b i h
    cases i with
    | zero => rfl
    | succ i => exact ih b i (Nat.lt_of_succ_lt_succ h)
theorem sr_tT_r : ∀ (a b : List Nat) (i : Nat), sr_tT (a ++ b) (a.length + i) = sr_tT b i := by
  intro a
  induction a with
  | nil => intro b i; rw [List.length_nil, Nat.zero_add]; rfl
  | cons t a ih =>
    intro b i
    rw [List.length_cons, show a.length + 1 + i = (a.length + i) + 1 by omega]
    exact ih b i
theorem sr_tC_l : ∀ (a b : List Nat) (P : Nat → Nat) (i : Nat), i < a.length → sr_tC (a ++ b) P i = sr_tC a P i := by
  intro a
  induction a with
  | nil => intro b P i h; exact absurd h (Nat.not_lt_zero _)
  | cons t a ih =>
    intro b P i h
    cases i with
    | zero => rfl
    | succ i => exact ih b _ i (Nat.lt_of_succ_lt_succ h)
theorem sr_tC_r : ∀ (a b : List Nat) (P : Nat → Nat) (i : Nat), sr_tC (a ++ b) P (a.length + i) = sr_tC b (sr_fp a P) i := by
  intro a
  induction a with
  | nil => intro b P i; rw [List.length_nil, Nat.zero_add]; rfl
  | cons t a ih =>
    intro b P i
    rw [List.length_cons, show a.length + 1 + i = (a.length + i) + 1 by omega]
    exact ih b _ i
theorem sr_fs_sk (d : Nat) (p : Nat → Nat) (h : ∀ t, t < 3 → sr_en S K M p t = false) : sr_fs S K M d p = [] := by
  cases d with
  | zero => rfl
  | succ d =>
    unfold sr_fs
    rw [h 0 (by decide), h 1 (by decide), h 2 (by decide)]
    rfl
theorem sr_fs_t (d : Nat) (p : Nat → Nat) (t : Nat) (ht : t < 3) (he : sr_en S K M p t = true) (h : ∀ s, s < t → sr_en S K M p s = false) : sr_fs S K M (d + 1) p = t :: sr_fs S K M d (sr_bp p t) := by
  match t, ht, he, h with
  | 0, _, he, _ => rw [sr_fs, if_pos he]
  | 1, _, he, h => rw [sr_fs, h 0 (by decide), if_neg (by decide), if_pos he]
  | 2, _, he, h => rw [sr_fs, h 0 (by decide), h 1 (by decide), if_neg (by decide), if_neg (by decide), if_pos he]
theorem sr_nb_t (d : Nat) (p : Nat → Nat) (t : Nat) (ht : t < 3) (he : sr_en S K M p t = true) : sr_nb S K M d p t = some (t :: sr_fs S K M d (sr_bp p t)) := by
  match t, ht, he with
  | 0, _, he => rw [sr_nb, if_pos ⟨Nat.le_refl _, he⟩]
  | 1, _, he => rw [sr_nb, if_neg (by omega), if_pos ⟨Nat.le_refl _, he⟩]
  | 2, _, he => rw [sr_nb, if_neg (by omega), if_neg (by omega), if_pos ⟨Nat.le_refl _, he⟩]
theorem sr_nb_f (d : Nat) (p : Nat → Nat) (t : Nat) (ht : t < 3) (he : sr_en S K M p t = false) : sr_nb S K M d p t = sr_nb S K M d p (t + 1) := by
  match t, ht, he with
  | 0, _, he =>
    unfold sr_nb
    rw [he]
    simp
  | 1, _, he =>
    unfold sr_nb
    rw [he]
    simp
  | 2, _, he =>
    unfold sr_nb
    rw [he]
    simp
end
section
variable {S K : Nat → Nat} {nm sz kd bg : Nat → Int32}
section
variable {tu : Nat → Int32} {tn : Int32}
theorem sy_rep62 {post : SY → Prop} (G : sr_gd S K nm) (E : sy_gd S K sz kd) : ∀ (b : List Nat) (P : Nat → Nat) (V : Nat → Int32) (k fuel : Nat) (sp vl aa ho : Nat → Int32), b.length < fuel → sr_va S K nm b P → k + b.length ≤ 12 →
    (∀ i, i < b.length → tu (k + i) = nI (sr_tT b i)) → sy_lv K nm P V vl aa ho →
    (∀ sp' vl' aa' ho' : Nat → Int32, (∀ i, i < b.length → sp' (k + i) = nI (sr_tC b P i)) → (∀ i, (i < k ∨ k + b.length ≤ i) → sp' i = sp i) → sy_lv K nm (sr_fp b P) (sr_rn K nm b P V) vl' aa' ho' → post (tn, sz, kd, nm, bg, tu, sp', vl', aa', ho')) →
    wY_replay_62 post (nI (k + b.length)) fuel (nI k) tn sz kd nm bg tu sp vl aa ho := by
  intro b
  induction b with
  | nil =>
    intro P V k fuel sp vl aa ho hf _ hk _ hl h
    cases fuel with
    | zero => exact absurd hf (Nat.not_lt_zero _)
    | succ n =>
      rw [wY_replay_62]
      exact br_t (nI_le (Nat.le_refl k) (by omega)) (h sp vl aa ho (fun i hi => absurd hi (Nat.not_lt_zero _)) (fun i _ => rfl) hl)
  | cons t b ih =>
    intro P V k fuel sp vl aa ho hf hv hk hT hl h
    have el : k + (t :: b).length = (k + 1) + b.length := by rw [List.length_cons]; omega
    rw [el] at hk h ⊢
    rw [List.length_cons] at hf
    cases fuel with
    | zero => omega
    | succ n =>
      obtain ⟨ht, he, hv'⟩ := hv
      have c : (nI k).toNatClampNeg = k := nI_clamp (by omega)
      have ct : (nI t).toNatClampNeg = t := nI_clamp (by omega)
      have eT : tu k = nI t := hT 0 (Nat.succ_pos _)
      have i12 : vp_in (nI k) 12 := vp_in_nI (by omega) (by decide)
      rw [wY_replay_62]
      dsimp only
      rw [c, eT, ct]
      refine br_f (nI_ge (by omega) (by omega)) ⟨i12, i12, vp_in_nI ht (by decide), i12, fun q eq => ⟨i12, ?_⟩⟩
      refine sy_car G E hl ht he ?_
      intro vl1 aa1 ho1 hl1
      dsimp only
      refine nm_r (nI_1 k) ?_
      refine ih (sr_bp P t) (sr_ex K nm V t (4 * t + P t)) (k + 1) n q vl1 aa1 ho1 (by omega) hv' hk (fun i hi => ?_) hl1 ?_
      · have q1 := hT (i + 1) (Nat.succ_lt_succ hi)
        rw [show k + (i + 1) = k + 1 + i by omega] at q1
        exact q1
      · intro sp' vl' aa' ho' h1 h2 h3
        refine h sp' vl' aa' ho' (fun i hi => ?_) (fun i hi => ?_) h3
        · cases i with
          | zero =>
            rw [Nat.add_zero, h2 k (Or.inl (by omega)), eq, pk_us, hl.1 t ht]
            exact sr_c4 t (P t)
          | succ i =>
            rw [show k + (i + 1) = k + 1 + i by omega]
            exact h1 i (Nat.lt_of_succ_lt_succ hi)
        · rw [h2 i (by omega), eq, pk_un (by omega)]
theorem sy_rep2 {post : SY → Prop} {x1 : Int32} {sp aa ho : Nat → Int32} : ∀ (k i : Nat) (vl : Nat → Int32), i + k = 6 → (∀ j, j < i → vl j = bg j) →
    (∀ vl' : Nat → Int32, (∀ j, j < 6 → vl' j = bg j) → ∃ n28 : Nat, wY_replay_28 post x1 tn n28 0 sz kd nm bg tu sp vl' aa ho) → wY_replay_2 post x1 tn (k + 1) (nI i) sz kd nm bg tu sp vl aa ho := by
  intro k
  induction k with
  | zero =>
    intro i vl hi hv h
    obtain rfl : i = 6 := by omega
    rw [wY_replay_2]
    exact br_t (by decide) (h vl hv)
  | succ k ih =>
    intro i vl hi hv h
    have c : (nI i).toNatClampNeg = i := nI_clamp (by omega)
    have i6 : vp_in (nI i) 6 := vp_in_nI (by omega) (by decide)
    rw [wY_replay_2]
    dsimp only
    rw [c]
    refine br_f (nI_ge (b := 6) (by omega) (by decide)) ⟨i6, i6, fun q eq => nm_r (nI_1 i) (ih (i + 1) q (by omega) (fun j hj => ?_) h)⟩
    subst eq
    by_cases e : j = i
    · subst e; exact pk_us
    · rw [pk_un e]; exact hv j (by omega)
theorem sy_rep28 {post : SY → Prop} {x1 : Int32} {sp vl ho : Nat → Int32} : ∀ (k i : Nat) (aa : Nat → Int32), i + k = 3 → (∀ j, j < i → aa j = nI 0) →
    (∀ aa' : Nat → Int32, (∀ j, j < 3 → aa' j = nI 0) → ∃ n62 : Nat, wY_replay_62 post x1 n62 0 tn sz kd nm bg tu sp vl aa' (upd (upd ho 0 (-1)) 1 (-1))) → wY_replay_28 post x1 tn (k + 1) (nI i) sz kd nm bg tu sp vl aa ho := by
  intro k
  induction k with
  | zero =>
    intro i aa hi hv h
    obtain rfl : i = 3 := by omega
    rw [wY_replay_28]
    exact br_t (by decide) (nm_e (nm_e (h aa hv)))
  | succ k ih =>
    intro i aa hi hv h
    have c : (nI i).toNatClampNeg = i := nI_clamp (by omega)
    have i3 : vp_in (nI i) 3 := vp_in_nI (by omega) (by decide)
    rw [wY_replay_28]
    dsimp only
    rw [c]
    refine br_f (nI_ge (b := 3) (by omega) (by decide)) ⟨i3, fun q eq => nm_r (nI_1 i) (ih (i + 1) q (by omega) (fun j hj => ?_) h)⟩
    subst eq
    by_cases e : j = i
    · subst e; exact pk_us
    · rw [pk_un e]; exact hv j (by omega)
theorem sy_replay {post : SY → Prop} {sp vl aa ho : Nat → Int32} (G : sr_gd S K nm) (E : sy_gd S K sz kd) (w : List Nat) (hv : sr_va S K nm w sr_p0) (hl : w.length ≤ 12)
    (hT : ∀ i, i < w.length → tu i = nI (sr_tT w i))
    (h : ∀ sp' vl' aa' ho' : Nat → Int32, (∀ i, i < w.length → sp' i = nI (sr_tC w sr_p0 i)) → (∀ i, w.length ≤ i → sp' i = sp i) → sy_lv K nm (sr_fp w sr_p0) (sr_rn K nm w sr_p0 bg) vl' aa' ho' → post (tn, sz, kd, nm, bg, tu, sp', vl', aa', ho')) :
    wpY_replay post (tn, sz, kd, nm, bg, tu, sp, vl, aa, ho) (nI w.length) := by
  unfold wpY_replay
  dsimp only
  refine ⟨7, sy_rep2 6 0 vl rfl (fun j hj => absurd hj (Nat.not_lt_zero _)) (fun vl1 hv1 => ⟨4, sy_rep28 3 0 aa rfl (fun j hj => absurd hj (Nat.not_lt_zero _)) (fun aa1 ha1 => ⟨w.length + 1, ?_⟩)⟩)⟩
  have q := sy_rep62 (post := post) (tn := tn) (bg := bg) (tu := tu) G E w sr_p0 bg 0 (w.length + 1) sp vl1 aa1 (upd (upd ho 0 (-1)) 1 (-1)) (by omega) hv (by omega)
    (fun i hi => by rw [Nat.zero_add]; exact hT i hi) ⟨ha1, hv1, fun l hl => ?_, fun _ _ => Nat.zero_le _⟩
    (fun sp' vl' aa' ho' h1 h2 h3 => h sp' vl' aa' ho' (fun i hi => by have := h1 i hi; rw [Nat.zero_add] at this; exact this) (fun i hi => h2 i (Or.inr (by omega))) h3)
  · rw [Nat.zero_add] at q
    exact q
  · refine Or.inl ⟨?_, fun j _ => rfl⟩
    match l, hl with
    | 0, _ => rw [pk_un (by decide), pk_us]
    | 1, _ => rw [pk_us]
end
theorem sy_ext2 {post : SY → Prop} (G : sr_gd S K nm) (E : sy_gd S K sz kd) : ∀ (fuel d t : Nat) (P : Nat → Nat) (V : Nat → Int32) (k : Nat) (tu sp vl aa ho : Nat → Int32), d * 4 + (3 - t) < fuel → t ≤ 3 → k + d = 12 →
    (∀ s, s < t → sr_en S K nm P s = false) → sy_lv K nm P V vl aa ho →
    (∀ tu' sp' vl' aa' ho' : Nat → Int32, (∀ i, i < (sr_fs S K nm d P).length → tu' (k + i) = nI (sr_tT (sr_fs S K nm d P) i) ∧ sp' (k + i) = nI (sr_tC (sr_fs S K nm d P) P i)) → (∀ i, i < k → tu' i = tu i ∧ sp' i = sp i) →
      post (nI (k + (sr_fs S K nm d P).length), sz, kd, nm, bg, tu', sp', vl', aa', ho')) →
    wY_extend_2 post fuel (nI t) (nI k) sz kd nm bg tu sp vl aa ho := by
  intro fuel
  induction fuel with
  | zero => intro d t P V k tu sp vl aa ho hf; omega
  | succ n ih =>
    intro d t P V k tu sp vl aa ho hf ht3 hk hs hl h
    have ck : (nI k).toNatClampNeg = k := nI_clamp (by omega)
    have ct : (nI t).toNatClampNeg = t := nI_clamp (by omega)
    have fin : sr_fs S K nm d P = [] → post (nI k, sz, kd, nm, bg, tu, sp, vl, aa, ho) := by
      intro e
      rw [e] at h
      exact h tu sp vl aa ho (fun i hi => absurd hi (Nat.not_lt_zero _)) (fun i _ => ⟨rfl, rfl⟩)
    rw [wY_extend_2]
    dsimp only
    rw [ck, ct]
    by_cases h3 : t = 3
    · subst h3
      exact br_t (by decide) (fin (sr_fs_sk d P hs))
    · have ht : t < 3 := by omega
      refine br_f (nI_ge (b := 3) (by omega) (by decide)) ?_
      cases d with
      | zero =>
        obtain rfl : k = 12 := by omega
        exact br_t (by decide) (fin rfl)
      | succ d =>
        refine br_f (nI_ge (b := 12) (by omega) (by decide)) ?_
        refine sy_can G E hl ht ?_
        cases he : sr_en S K nm P t with
        | false =>
          refine br_t rfl (nm_r (nI_1 t) (ih (d + 1) (t + 1) P V k tu sp vl aa ho (by omega) (by omega) hk (fun s hs1 => ?_) hl h))
          by_cases e : s = t
          · subst e; exact he
          · exact hs s (by omega)
        | true =>
          have ef := sr_fs_t d P t ht he hs
          rw [ef] at h
          refine br_f (by decide) ⟨vp_in_nI (by omega) (by decide), fun q eq => ⟨vp_in_nI ht (by decide), vp_in_nI (by omega) (by decide), fun q2 eq2 => nm_r (nI_1 k) ?_⟩⟩
          refine sy_car G E hl ht he ?_
          intro vl1 aa1 ho1 hl1
          dsimp only
          refine ih d 0 (sr_bp P t) (sr_ex K nm V t (4 * t + P t)) (k + 1) q q2 vl1 aa1 ho1 (by omega) (by omega) (by omega) (fun s hs1 => absurd hs1 (Nat.not_lt_zero _)) hl1 ?_
          intro tu' sp' vl' aa' ho' h1 h2
          have el : k + (t :: sr_fs S K nm d (sr_bp P t)).length = k + 1 + (sr_fs S K nm d (sr_bp P t)).length := by rw [List.length_cons]; omega
          rw [el] at h
          refine h tu' sp' vl' aa' ho' (fun i hi => ?_) (fun i hi => ?_)
          · cases i with
            | zero =>
              rw [Nat.add_zero, (h2 k (by omega)).1, (h2 k (by omega)).2, eq, eq2, pk_us, pk_us, hl.1 t ht]
              exact ⟨rfl, sr_c4 t (P t)⟩
            | succ i =>
              rw [show k + (i + 1) = k + 1 + i by omega]
              exact h1 i (Nat.lt_of_succ_lt_succ hi)
          · rw [(h2 i (by omega)).1, (h2 i (by omega)).2, eq, eq2, pk_un (by omega), pk_un (by omega)]
            exact ⟨rfl, rfl⟩
def sy_cu (w : List Nat) (tn : Int32) (tu sp : Nat → Int32) : Prop := tn = nI w.length ∧ ∀ i, i < w.length → tu i = nI (sr_tT w i) ∧ sp i = nI (sr_tC w sr_p0 i)
theorem sy_cu_app {b f : List Nat} {tu sp : Nat → Int32} (h1 : ∀ i, i < b.length → tu i = nI (sr_tT b i) ∧ sp i = nI (sr_tC b sr_p0 i))
    (h2 : ∀ i, i < f.length → tu (b.length + i) = nI (sr_tT f i) ∧ sp (b.length + i) = nI (sr_tC f (sr_fp b sr_p0) i)) : sy_cu (b ++ f) (nI (b.length + f.length)) tu sp := by
  refine ⟨by rw [List.length_append], fun i hi => ?_⟩
  rw [List.length_append] at hi
  by_cases h : i < b.length
  · rw [sr_tT_l b f i h, sr_tC_l b f _ i h]
    exact h1 i h
  · obtain ⟨j, rfl⟩ : ∃ j, i = b.length + j := ⟨i - b.length, by omega⟩
    rw [sr_tT_r, sr_tC_r]
    exact h2 j (by omega)
section
variable {tu sp vl aa ho : Nat → Int32} {tn : Int32}
theorem sy_first {post : SY → Prop} (G : sr_gd S K nm) (E : sy_gd S K sz kd)
    (h : ∀ (tn' : Int32) (tu' sp' vl' aa' ho' : Nat → Int32), sy_cu (sr_fs S K nm 12 sr_p0) tn' tu' sp' → post (tn', sz, kd, nm, bg, tu', sp', vl', aa', ho')) : wpY_first post (tn, sz, kd, nm, bg, tu, sp, vl, aa, ho) := by
  unfold wpY_first
  dsimp only
  refine sy_replay (tn := 0) G E [] trivial (Nat.zero_le _) (fun i hi => absurd hi (Nat.not_lt_zero _)) ?_
  intro sp1 vl1 aa1 ho1 _ _ hl
  dsimp only
  unfold wpY_extend
  dsimp only
  refine ⟨52, sy_ext2 G E 52 12 0 sr_p0 bg 0 tu sp1 vl1 aa1 ho1 (by decide) (by decide) rfl (fun s hs => absurd hs (Nat.not_lt_zero _)) hl ?_⟩
  intro tu' sp' vl' aa' ho' h1 _
  refine h _ tu' sp' vl' aa' ho' ?_
  exact sy_cu_app (b := []) (fun i hi => absurd hi (Nat.not_lt_zero _)) h1
theorem sy_nx25 {post : Int32 → SY → Prop} {J7 : Int32 → Int32 → (Nat → Int32) → (Nat → Int32) → (Nat → Int32) → (Nat → Int32) → (Nat → Int32) → (Nat → Int32) → (Nat → Int32) → (Nat → Int32) → (Nat → Int32) → Prop}
    (G : sr_gd S K nm) (E : sy_gd S K sz kd) {a : List Nat} {V : Nat → Int32} {d : Nat} (hv : sr_va S K nm a sr_p0) (hd : a.length + 1 + d = 12)
    (hT : ∀ i, i < a.length → tu i = nI (sr_tT a i)) (L : sy_lv K nm (sr_fp a sr_p0) V vl aa ho) : ∀ (k x : Nat), x + k = 3 →
    (sr_nb S K nm d (sr_fp a sr_p0) x = none → J7 (nI a.length + (-1)) tn sz kd nm bg tu sp vl aa ho) →
    (∀ y, sr_nb S K nm d (sr_fp a sr_p0) x = some y → ∀ (tn' : Int32) (tu' sp' vl' aa' ho' : Nat → Int32), sy_cu (a ++ y) tn' tu' sp' → post 1 (tn', sz, kd, nm, bg, tu', sp', vl', aa', ho')) →
    wY_next_25 post J7 (nI a.length) tn sz kd nm bg tu sp vl aa ho (k + 1) (nI x) := by
  have ca : (nI a.length).toNatClampNeg = a.length := nI_clamp (by omega)
  intro k
  induction k with
  | zero =>
    intro x hx hn _
    obtain rfl : x = 3 := by omega
    rw [wY_next_25]
    exact br_t (by decide) (nm_e (hn (sr_nb3 _ _ _ (Nat.le_refl 3))))
  | succ k ih =>
    intro x hx hn hs
    have hx3 : x < 3 := by omega
    rw [wY_next_25]
    dsimp only
    rw [ca]
    refine br_f (nI_ge (b := 3) (by omega) (by decide)) ?_
    refine sy_can G E L hx3 ?_
    cases he : sr_en S K nm (sr_fp a sr_p0) x with
    | false =>
      rw [sr_nb_f d _ x hx3 he] at hn hs
      exact br_t rfl (nm_r (nI_1 x) (ih (x + 1) (by omega) hn hs))
    | true =>
      have hs' := hs _ (sr_nb_t d _ x hx3 he)
      have ef : sr_fp (a ++ [x]) sr_p0 = sr_bp (sr_fp a sr_p0) x := by rw [sr_fp_append]; rfl
      have el : (a ++ [x]).length = a.length + 1 := by rw [List.length_append]; rfl
      have hv2 : sr_va S K nm (a ++ [x]) sr_p0 := (sr_va_append _ _ _).mpr ⟨hv, hx3, he, trivial⟩
      refine br_f (by decide) ⟨vp_in_nI (by omega) (by decide), fun q eq => nm_r (e' := nI (a ++ [x]).length) (by rw [nI_1, el]) ?_⟩
      have hq : ∀ i, i < (a ++ [x]).length → q i = nI (sr_tT (a ++ [x]) i) := by
        intro i hi
        rw [el] at hi
        rw [eq]
        by_cases e : i = a.length
        · subst e
          rw [pk_us]
          have := sr_tT_r a [x] 0
          rw [Nat.add_zero] at this
          rw [this]
          rfl
        · rw [pk_un e, sr_tT_l a [x] i (by omega)]
          exact hT i (by omega)
      refine sy_replay G E (a ++ [x]) hv2 (by omega) hq ?_
      intro sp1 vl1 aa1 ho1 h1 _ hl1
      dsimp only
      unfold wpY_extend
      dsimp only
      refine ⟨d * 4 + 4, sy_ext2 G E (d * 4 + 4) d 0 (sr_fp (a ++ [x]) sr_p0) _ (a ++ [x]).length q sp1 vl1 aa1 ho1 (by omega) (by omega) (by omega) (fun s hs => absurd hs (Nat.not_lt_zero _)) hl1 ?_⟩
      intro tu' sp' vl' aa' ho' h2 h3
      have hcu := sy_cu_app (b := a ++ [x]) (f := sr_fs S K nm d (sr_fp (a ++ [x]) sr_p0)) (tu := tu') (sp := sp') (fun i hi => ⟨by rw [(h3 i hi).1]; exact hq i hi, by rw [(h3 i hi).2]; exact h1 i hi⟩) h2
      have ew : a ++ [x] ++ sr_fs S K nm d (sr_fp (a ++ [x]) sr_p0) = a ++ (x :: sr_fs S K nm d (sr_bp (sr_fp a sr_p0) x)) := by
        rw [List.append_assoc, ef]
        rfl
      rw [ew] at hcu
      exact hs' _ tu' sp' vl' aa' ho' hcu
theorem sy_nx7 {post : Int32 → SY → Prop} (G : sr_gd S K nm) (E : sy_gd S K sz kd) {w : List Nat} (hv : sr_va S K nm w sr_p0) (hw : w.length ≤ 12) (hT : ∀ i, i < w.length → tu i = nI (sr_tT w i)) :
    ∀ (i fuel : Nat) (sp vl aa ho : Nat → Int32), i < fuel → i ≤ w.length →
    (sr_bk S K nm (12 - i) (w.take i) sr_p0 = none → ∀ sp' vl' aa' ho' : Nat → Int32, post 0 (tn, sz, kd, nm, bg, tu, sp', vl', aa', ho')) →
    (∀ y, sr_bk S K nm (12 - i) (w.take i) sr_p0 = some y → ∀ (tn' : Int32) (tu' sp' vl' aa' ho' : Nat → Int32), sy_cu y tn' tu' sp' → post 1 (tn', sz, kd, nm, bg, tu', sp', vl', aa', ho')) →
    wY_next_7 post fuel (nI i + (-1)) tn sz kd nm bg tu sp vl aa ho := by
  intro i
  induction i with
  | zero =>
    intro fuel sp vl aa ho hf hi hn _
    cases fuel with
    | zero => omega
    | succ n =>
      rw [wY_next_7]
      exact br_t (by decide) (hn rfl sp vl aa ho)
  | succ i ih =>
    intro fuel sp vl aa ho hf hi hn hs
    cases fuel with
    | zero => omega
    | succ n =>
      have ci : (nI i).toNatClampNeg = i := nI_clamp (by omega)
      rw [pk_m1, wY_next_7]
      dsimp only
      have el : (w.take i).length = i := by rw [List.length_take]; omega
      have hT1 : ∀ j, j < (w.take i).length → tu j = nI (sr_tT (w.take i) j) := by
        intro j hj
        rw [el] at hj
        have := hT j (by omega)
        rw [this]
        have e2 : sr_tT w j = sr_tT (w.take i ++ w.drop i) j := by rw [List.take_append_drop]
        rw [e2, sr_tT_l _ _ _ (by omega)]
      have e1 : w.take (i + 1) = w.take i ++ [w.getD i 0] := sr_take_s w i (by omega)
      have hva := sr_va_take w sr_p0 (i + 1) hv
      rw [e1] at hn hs hva
      rw [sr_bk_snoc, show 12 - (i + 1) + 1 = 12 - i by omega] at hn hs
      have hva2 := (sr_va_append _ _ _).mp hva
      have ht3 : w.getD i 0 < 3 := hva2.2.1
      refine br_f (nI_pos (by omega)) ?_
      have ei : nI i = nI (w.take i).length := by rw [el]
      rw [ei]
      refine sy_replay G E (w.take i) hva2.1 (by omega) hT1 ?_
      intro sp1 vl1 aa1 ho1 _ _ hl1
      dsimp only
      rw [el, ci]
      refine ⟨vp_in_nI (by omega) (by decide), nm_r (e' := nI (w.getD i 0 + 1)) (by rw [hT i (by omega), nI_1]; rfl) ⟨3 - (w.getD i 0 + 1) + 1, ?_⟩⟩
      have q := sy_nx25 (post := post) (J7 := wY_next_7 post n) (tu := tu) (sp := sp1) (vl := vl1) (aa := aa1) (ho := ho1) (tn := tn) (bg := bg) G E (a := w.take i) (V := sr_rn K nm (w.take i) sr_p0 bg) (d := 12 - (i + 1)) hva2.1 (by omega) hT1 hl1 (3 - (w.getD i 0 + 1)) (w.getD i 0 + 1) (by omega) ?_ ?_
      · rw [el] at q
        exact q
      · intro hb
        rw [hb, sr_or_n] at hn hs
        rw [el]
        exact ih n sp1 vl1 aa1 ho1 (by omega) (by omega) hn hs
      · intro y hy tn' tu' sp' vl' aa' ho' hcu
        rw [hy, sr_or_s] at hs
        exact hs _ rfl tn' tu' sp' vl' aa' ho' hcu
theorem sy_next {post : Int32 → SY → Prop} (G : sr_gd S K nm) (E : sy_gd S K sz kd) {w : List Nat} (hc : sr_cm S K nm w sr_p0) (hu : sy_cu w tn tu sp)
    (h0 : sr_nx S K nm w 12 sr_p0 = none → ∀ (tn' : Int32) (tu' sp' vl' aa' ho' : Nat → Int32), post 0 (tn', sz, kd, nm, bg, tu', sp', vl', aa', ho'))
    (h1 : ∀ y, sr_nx S K nm w 12 sr_p0 = some y → ∀ (tn' : Int32) (tu' sp' vl' aa' ho' : Nat → Int32), sy_cu y tn' tu' sp' → post 1 (tn', sz, kd, nm, bg, tu', sp', vl', aa', ho')) : wpY_next post (tn, sz, kd, nm, bg, tu, sp, vl, aa, ho) := by
  have hw : w.length ≤ 12 := Nat.le_trans (sr_cm_len w sr_p0 hc) (sr_rm12 G sr_p0)
  have e : sr_nx S K nm w 12 sr_p0 = sr_bk S K nm (12 - w.length) w sr_p0 := by
    have := sr_nx_bk (S := S) (K := K) (M := nm) w (12 - w.length) sr_p0
    rw [show w.length + (12 - w.length) = 12 by omega] at this
    exact this
  rw [e] at h0 h1
  unfold wpY_next
  dsimp only
  refine nm_r (e' := nI w.length + (-1)) ?_ ⟨w.length + 1, ?_⟩
  · rw [hu.1]
    exact Int32.sub_eq_add_neg _ _
  · refine sy_nx7 G E (sr_cm_va w sr_p0 hc) hw (fun i hi => (hu.2 i hi).1) w.length (w.length + 1) sp vl aa ho (by omega) (Nat.le_refl _) ?_ ?_
    · rw [List.take_length]
      intro hb sp' vl' aa' ho'
      exact h0 hb tn tu sp' vl' aa' ho'
    · rw [List.take_length]
      exact h1
end
end
end
section
/-! the reference: touch, settled -/
section
variable {S K : Nat → Nat} {nm sz kd bg tu sp vl aa ho : Nat → Int32} {tn : Int32}
theorem sy_t40 {post : Int32 → Prop} (G : sr_gd S K nm) {a b : Nat} (ha : a < 12) (hb : b < 12) (o : Bool)
    (h : post (sr_b (decide (nm a = nm b) && (o || (decide (4 ≤ K a) && decide (4 ≤ K b)))))) : wY_touch_40 post (nI a) (nI b) (nI (K a)) (nI (K b)) (sr_b o) tn sz kd nm bg tu sp vl aa ho := by
  have ca : (nI a).toNatClampNeg = a := nI_clamp (by omega)
  have cb : (nI b).toNatClampNeg = b := nI_clamp (by omega)
  have ga := (G.2 a ha).1
  have gb := (G.2 b hb).1
  unfold wY_touch_40
  rw [ca, cb]
  refine ⟨vp_in_nI ha (by decide), vp_in_nI hb (by decide), ?_⟩
  by_cases e : nm a = nm b
  · rw [decide_eq_true e, Bool.true_and] at h
    refine br_t e ?_
    cases o with
    | true => exact br_f (by decide) h
    | false =>
      rw [Bool.false_or] at h
      refine br_t rfl ?_
      by_cases h1 : 4 ≤ K a
      · rw [decide_eq_true h1, Bool.true_and] at h
        refine br_f (nI_nlt (b := 4) h1 (by omega)) ?_
        by_cases h2 : 4 ≤ K b
        · rw [decide_eq_true h2] at h
          exact br_f (nI_nlt (b := 4) h2 (by omega)) h
        · rw [decide_eq_false h2] at h
          exact br_t (nI_lt (b := 4) (by omega) (by omega)) h
      · rw [decide_eq_false h1, Bool.false_and] at h
        exact br_t (nI_lt (b := 4) (by omega) (by omega)) h
  · rw [decide_eq_false e, Bool.false_and] at h
    exact br_f e h
theorem sy_touch {post : Int32 → Prop} (G : sr_gd S K nm) (E : sy_gd S K sz kd) {a b : Nat} (ha : a < 12) (hb : b < 12) (h : post (sr_b (sr_tc K nm a b))) : wpY_touch post (tn, sz, kd, nm, bg, tu, sp, vl, aa, ho) (nI a) (nI b) := by
  have ca : (nI a).toNatClampNeg = a := nI_clamp (by omega)
  have cb : (nI b).toNatClampNeg = b := nI_clamp (by omega)
  have ga := (G.2 a ha).1
  have gb := (G.2 b hb).1
  unfold wpY_touch
  dsimp only
  rw [ca, cb, E.2 a ha, E.2 b hb]
  refine ⟨vp_in_nI ha (by decide), nm_e ⟨vp_in_nI hb (by decide), nm_e ?_⟩⟩
  unfold sr_tc at h
  by_cases h1 : K a ≤ 2
  · refine br_f (nI_nlt (a := 2) h1 (by decide)) ?_
    rw [decide_eq_true h1, Bool.true_and] at h
    by_cases h2 : K b ≤ 2
    · refine br_f (nI_nlt (a := 2) h2 (by decide)) ?_
      rw [decide_eq_true h2, Bool.true_and] at h
      by_cases h3 : K a = 0
      · refine br_t (by rw [h3]; rfl) ?_
        rw [decide_eq_true h3, Bool.true_and] at h
        by_cases h4 : K b = 0
        · rw [decide_eq_true h4] at h
          exact br_t (by rw [h4]; rfl) (sy_t40 G ha hb false h)
        · rw [decide_eq_false h4] at h
          exact br_f (nI_ne0 (by omega) (by omega)) (sy_t40 G ha hb true h)
      · rw [decide_eq_false h3, Bool.false_and] at h
        exact br_f (nI_ne0 (by omega) (by omega)) (sy_t40 G ha hb true h)
    · rw [decide_eq_false h2, Bool.false_and] at h
      exact br_t (nI_lt (a := 2) (by omega) (by omega)) (sy_t40 G ha hb false h)
  · rw [decide_eq_false h1, Bool.false_and, Bool.false_and] at h
    exact br_t (nI_lt (a := 2) (by omega) (by omega)) (sy_t40 G ha hb false h)
theorem sy_69_0 {post : Int32 → Prop} {J4 : Int32 → Int32 → Prop} {J19 : Int32 → Int32 → Int32 → Prop} {x2 x4 : Int32} (o : Bool) (h : J19 (sr_b o) 0 (x4 + (-1))) :
    wY_settled_69 post J4 J19 (sr_b o) x2 x4 0 tn sz kd nm bg tu sp vl aa ho := by
  unfold wY_settled_69
  cases o with
  | false => exact br_t rfl (nm_e h)
  | true => exact br_f (by decide) (br_t rfl (nm_e h))
theorem sy_69_1 {post : Int32 → Prop} {J4 : Int32 → Int32 → Prop} {J19 : Int32 → Int32 → Int32 → Prop} {i j a b : Nat} (hi : i < 12) (hj : j < 12) (ei : tu i = nI a) (ej : tu j = nI b) (ha : a < 3) (hb : b < 3) (o : Bool)
    (h : J19 (sr_b (o && !(decide (b < a)))) 1 (nI i + (-1))) : wY_settled_69 post J4 J19 (sr_b o) (nI j) (nI i) 1 tn sz kd nm bg tu sp vl aa ho := by
  have ci : (nI i).toNatClampNeg = i := nI_clamp (by omega)
  have cj : (nI j).toNatClampNeg = j := nI_clamp (by omega)
  unfold wY_settled_69
  cases o with
  | false => exact br_t rfl (nm_e h)
  | true =>
    rw [ci, cj, ei, ej]
    refine br_f (by decide) (br_f (by decide) ⟨vp_in_nI hj (by decide), vp_in_nI hi (by decide), ?_⟩)
    by_cases hlt : b < a
    · rw [decide_eq_true hlt] at h
      exact br_t (nI_lt hlt (by omega)) (nm_e h)
    · rw [decide_eq_false hlt] at h
      exact br_f (nI_nlt (by omega) (by omega)) (nm_e h)
theorem sy_19x {post : Int32 → Prop} {J4 : Int32 → Int32 → Prop} {j n : Nat} {x1 x4 : Int32} (h : J4 x1 (nI (j + 1))) : wY_settled_19 post J4 (nI j) tn sz kd nm bg tu sp vl aa ho (n + 1) x1 0 x4 := by
  rw [wY_settled_19]
  exact br_c (fun _ => nm_r (nI_1 j) h) (fun _ => br_t rfl (nm_r (nI_1 j) h))
theorem sy_set19 {post : Int32 → Prop} {J4 : Int32 → Int32 → Prop} (G : sr_gd S K nm) (E : sy_gd S K sz kd) {w : List Nat} (hw : w.length ≤ 12)
    (hc : ∀ i, i < w.length → sr_tT w i < 3 ∧ sr_tC w sr_p0 i < 12) (hu : ∀ i, i < w.length → tu i = nI (sr_tT w i) ∧ sp i = nI (sr_tC w sr_p0 i)) {j : Nat} (hj : j < w.length) :
    ∀ (i fuel : Nat) (o : Bool), i ≤ j → i < fuel → J4 (sr_b (o && !(sr_vs K nm (sr_tT w) (sr_tC w sr_p0) (sr_tT w j) (sr_tC w sr_p0 j) i))) (nI (j + 1)) →
    wY_settled_19 post J4 (nI j) tn sz kd nm bg tu sp vl aa ho fuel (sr_b o) 1 (nI i + (-1)) := by
  have cj : (nI j).toNatClampNeg = j := nI_clamp (by omega)
  intro i
  induction i with
  | zero =>
    intro fuel o _ hf h
    cases fuel with
    | zero => omega
    | succ n =>
      rw [show sr_vs K nm (sr_tT w) (sr_tC w sr_p0) (sr_tT w j) (sr_tC w sr_p0 j) 0 = false from rfl, Bool.not_false, Bool.and_true] at h
      rw [wY_settled_19]
      exact br_t (by decide) (nm_r (nI_1 j) h)
  | succ i ih =>
    intro fuel o hi hf h
    cases fuel with
    | zero => omega
    | succ n =>
      cases n with
      | zero => omega
      | succ n =>
        have ci : (nI i).toNatClampNeg = i := nI_clamp (by omega)
        have ui := hu i (by omega)
        have uj := hu j hj
        have bi := hc i (by omega)
        have bj := hc j hj
        rw [show sr_vs K nm (sr_tT w) (sr_tC w sr_p0) (sr_tT w j) (sr_tC w sr_p0 j) (i + 1) = ((decide (sr_tT w i ≠ sr_tT w j) && !(sr_tc K nm (sr_tC w sr_p0 i) (sr_tC w sr_p0 j))) && (decide (sr_tT w j < sr_tT w i) || sr_vs K nm (sr_tT w) (sr_tC w sr_p0) (sr_tT w j) (sr_tC w sr_p0 j) i)) from rfl] at h
        rw [pk_m1, wY_settled_19]
        dsimp only
        rw [ci, cj, ui.1, uj.1, ui.2, uj.2]
        refine br_f (nI_pos (by omega)) (br_f (by decide) ⟨vp_in_nI (by omega) (by decide), vp_in_nI (by omega) (by decide), ?_⟩)
        by_cases eT : sr_tT w i = sr_tT w j
        · rw [decide_eq_false (fun z => z eT), Bool.false_and, Bool.false_and, Bool.not_false, Bool.and_true] at h
          exact br_t (by rw [eT]) (sy_69_0 o (sy_19x h))
        · rw [decide_eq_true eT, Bool.true_and] at h
          refine br_f (fun z => eT ((nI_eq (by omega) (by omega)).mp z)) ⟨vp_in_nI (by omega) (by decide), vp_in_nI (by omega) (by decide), ?_⟩
          refine sy_touch G E bi.2 bj.2 ?_
          cases ht : sr_tc K nm (sr_tC w sr_p0 i) (sr_tC w sr_p0 j) with
          | true =>
            rw [ht, Bool.not_true, Bool.false_and, Bool.not_false, Bool.and_true] at h
            exact br_f (by decide) (sy_69_0 o (sy_19x h))
          | false =>
            rw [ht, Bool.not_false, Bool.true_and] at h
            refine br_t rfl (sy_69_1 (by omega) (by omega) ui.1 uj.1 bi.1 bj.1 o (ih (n + 1) _ (by omega) (by omega) ?_))
            rw [Bool.and_assoc, ← Bool.not_or]
            exact h
theorem sy_set4 {post : Int32 → Prop} (G : sr_gd S K nm) (E : sy_gd S K sz kd) {w : List Nat} (hw : w.length ≤ 12) (et : tn = nI w.length)
    (hc : ∀ i, i < w.length → sr_tT w i < 3 ∧ sr_tC w sr_p0 i < 12) (hu : ∀ i, i < w.length → tu i = nI (sr_tT w i) ∧ sp i = nI (sr_tC w sr_p0 i))
    (h : post (sr_b (sr_st K nm (sr_tT w) (sr_tC w sr_p0) w.length))) :
    ∀ (k j : Nat), j + k = w.length → wY_settled_4 post tn sz kd nm bg tu sp vl aa ho (k + 1) (sr_b (sr_st K nm (sr_tT w) (sr_tC w sr_p0) j)) (nI j) := by
  intro k
  induction k with
  | zero =>
    intro j hj
    obtain rfl : j = w.length := by omega
    rw [wY_settled_4]
    exact br_t (by rw [et]; exact nI_le (Nat.le_refl _) (by omega)) ⟨sr_nb01 _, h⟩
  | succ k ih =>
    intro j hj
    rw [wY_settled_4]
    refine br_f (by rw [et]; exact nI_ge (by omega) (by omega)) (nm_r (e' := nI j + (-1)) (Int32.sub_eq_add_neg _ _) ⟨j + 1, ?_⟩)
    exact sy_set19 G E hw hc hu (by omega) j (j + 1) _ (Nat.le_refl _) (by omega) (ih (j + 1) (by omega))
theorem sy_settled {post : Int32 → Prop} (G : sr_gd S K nm) (E : sy_gd S K sz kd) {w : List Nat} (hcm : sr_cm S K nm w sr_p0) (hu : sy_cu w tn tu sp)
    (h : post (sr_b (sr_ok S K nm w sr_p0 (fun _ => false)))) : wpY_settled post (tn, sz, kd, nm, bg, tu, sp, vl, aa, ho) := by
  have hw : w.length ≤ 12 := Nat.le_trans (sr_cm_len w sr_p0 hcm) (sr_rm12 G sr_p0)
  rw [sr_settle w sr_p0 hcm] at h
  unfold wpY_settled
  dsimp only
  refine ⟨w.length + 1, sy_set4 G E hw hu.1 (fun i hi => ?_) hu.2 h w.length 0 (Nat.zero_add _)⟩
  have q := sr_cm_at w sr_p0 i hcm hi
  exact ⟨q.1, sr_cell G q.1 q.2⟩
end
end
section
/-! the reference's rounds over all schedules -/
section
variable {S K : Nat → Nat} {nm sz kd bg : Nat → Int32}
/-- the state behind some rounds: what a run never changes is as it was -/
def sy_any (sz kd nm bg : Nat → Int32) (Q : SY → Prop) : Prop := ∀ (tn : Int32) (tu sp vl aa ho : Nat → Int32), Q (tn, sz, kd, nm, bg, tu, sp, vl, aa, ho)
theorem sy_step {post : Int32 → SY → Prop} (G : sr_gd S K nm) (E : sy_gd S K sz kd) {w : List Nat} {l : List (List Nat)} {tn : Int32} {tu sp vl aa ho : Nat → Int32}
    (hch : sr_ch (fun w => sr_nx S K nm w 12 sr_p0) (w :: l) none) (hcm : ∀ x, x ∈ w :: l → sr_cm S K nm x sr_p0) (hu : sy_cu w tn tu sp)
    (h0 : l = [] → sy_any sz kd nm bg (fun u => post 0 u))
    (h1 : ∀ w2 l2, l = w2 :: l2 → ∀ (tn' : Int32) (tu' sp' vl' aa' ho' : Nat → Int32), sy_cu w2 tn' tu' sp' → post 1 (tn', sz, kd, nm, bg, tu', sp', vl', aa', ho')) : wpY_next post (tn, sz, kd, nm, bg, tu, sp, vl, aa, ho) := by
  refine sy_next G E (hcm w (List.mem_cons_self)) hu ?_ ?_
  · intro e tn' tu' sp' vl' aa' ho'
    refine h0 ?_ tn' tu' sp' vl' aa' ho'
    have q : sr_nx S K nm w 12 sr_p0 = (l.head?).or none := hch.1
    cases l with
    | nil => rfl
    | cons a l => rw [e] at q; exact absurd q (by simp)
  · intro y e tn' tu' sp' vl' aa' ho' hcu
    have q : sr_nx S K nm w 12 sr_p0 = (l.head?).or none := hch.1
    cases l with
    | nil => rw [e] at q; exact absurd q (by simp)
    | cons a l =>
      rw [e] at q
      have ea : y = a := by simpa using q
      subst ea
      exact h1 y l rfl tn' tu' sp' vl' aa' ho' hcu
theorem sy_rep {post : SY → Prop} (G : sr_gd S K nm) (E : sy_gd S K sz kd) {w : List Nat} {tn : Int32} {tu sp vl aa ho : Nat → Int32} (hcm : sr_cm S K nm w sr_p0) (hu : sy_cu w tn tu sp)
    (h : ∀ sp' vl' aa' ho' : Nat → Int32, sy_cu w tn tu sp' → sy_lv K nm (sr_fp w sr_p0) (sr_rn K nm w sr_p0 bg) vl' aa' ho' → post (tn, sz, kd, nm, bg, tu, sp', vl', aa', ho')) : wpY_replay post (tn, sz, kd, nm, bg, tu, sp, vl, aa, ho) tn := by
  have hw : w.length ≤ 12 := Nat.le_trans (sr_cm_len w sr_p0 hcm) (sr_rm12 G sr_p0)
  have q := sy_replay (post := post) (bg := bg) (tn := tn) (tu := tu) (sp := sp) (vl := vl) (aa := aa) (ho := ho) G E w (sr_cm_va w sr_p0 hcm) hw (fun i hi => (hu.2 i hi).1)
    (fun sp' vl' aa' ho' h1 _ h3 => h sp' vl' aa' ho' ⟨hu.1, fun i hi => ⟨(hu.2 i hi).1, h1 i hi⟩⟩ h3)
  rw [← hu.1] at q
  exact q
theorem sy_sch8 {post : Int32 → SY → Prop} (G : sr_gd S K nm) (E : sy_gd S K sz kd) : ∀ (l : List (List Nat)) (w : List Nat) (c fuel : Nat) (tn : Int32) (tu sp vl aa ho : Nat → Int32),
    sr_ch (fun w => sr_nx S K nm w 12 sr_p0) (w :: l) none → (∀ x, x ∈ w :: l → sr_cm S K nm x sr_p0) → c + (l.length + 1) ≤ 34650 → l.length + 1 < fuel → sy_cu w tn tu sp →
    sy_any sz kd nm bg (post (nI (c + (l.length + 1)))) → wY_schedules_8 post fuel (nI c) 1 tn sz kd nm bg tu sp vl aa ho := by
  intro l
  induction l with
  | nil =>
    intro w c fuel tn tu sp vl aa ho hch hcm hc hf hu h
    obtain ⟨n, rfl⟩ : ∃ n, fuel = n + 2 := ⟨fuel - 2, by simp at hf; omega⟩
    rw [wY_schedules_8]
    refine br_f (by decide) (br_f (nI_ge (b := 34650) (by simp at hc; omega) (by decide)) (nm_r (nI_1 c) ?_))
    refine sy_step G E hch hcm hu ?_ ?_
    · intro _ tn' tu' sp' vl' aa' ho'
      dsimp only
      rw [wY_schedules_8]
      exact br_t rfl (h tn' tu' sp' vl' aa' ho')
    · intro w2 l2 e
      exact absurd e (by simp)
  | cons w2 l ih =>
    intro w c fuel tn tu sp vl aa ho hch hcm hc hf hu h
    rw [List.length_cons] at hc hf h
    obtain ⟨n, rfl⟩ : ∃ n, fuel = n + 1 := ⟨fuel - 1, by omega⟩
    rw [wY_schedules_8]
    refine br_f (by decide) (br_f (nI_ge (b := 34650) (by omega) (by decide)) (nm_r (nI_1 c) ?_))
    refine sy_step G E hch hcm hu ?_ ?_
    · intro e
      exact absurd e (by simp)
    · intro w3 l3 e tn' tu' sp' vl' aa' ho' hu'
      obtain ⟨rfl, rfl⟩ : w2 = w3 ∧ l = l3 := by simpa using e
      dsimp only
      refine ih w2 (c + 1) n tn' tu' sp' vl' aa' ho' hch.2 (fun x hx => hcm x (List.mem_cons_of_mem _ hx)) (by omega) (by omega) hu' ?_
      rw [show c + 1 + (l.length + 1) = c + (l.length + 1 + 1) by omega]
      exact h
theorem sy_cls10 {post : Int32 → SY → Prop} (G : sr_gd S K nm) (E : sy_gd S K sz kd) : ∀ (l : List (List Nat)) (w : List Nat) (m c fuel : Nat) (tn : Int32) (tu sp vl aa ho : Nat → Int32),
    sr_ch (fun w => sr_nx S K nm w 12 sr_p0) (w :: l) none → (∀ x, x ∈ w :: l → sr_cm S K nm x sr_p0) → c + (l.length + 1) ≤ 34650 → l.length + 1 < fuel → sy_cu w tn tu sp →
    sy_any sz kd nm bg (post (nI (m + ((w :: l).filter (fun x => sr_ok S K nm x sr_p0 (fun _ => false))).length))) → wY_classes_10 post fuel (nI m) 1 (nI c) tn sz kd nm bg tu sp vl aa ho := by
  intro l
  induction l with
  | nil =>
    intro w m c fuel tn tu sp vl aa ho hch hcm hc hf hu h
    obtain ⟨n, rfl⟩ : ∃ n, fuel = n + 2 := ⟨fuel - 2, by simp at hf; omega⟩
    rw [wY_classes_10]
    refine br_f (nI_ge (b := 34650) (by simp at hc; omega) (by decide)) (br_f (by decide) ?_)
    have fin : ∀ m', nI m' = nI (m + ([w].filter (fun x => sr_ok S K nm x sr_p0 (fun _ => false))).length) → wY_classes_34 post (wY_classes_10 post (n + 1)) (nI c) (nI m') tn sz kd nm bg tu sp vl aa ho := by
      intro m' em
      unfold wY_classes_34
      refine sy_step G E hch hcm hu ?_ ?_
      · intro _ tn' tu' sp' vl' aa' ho'
        dsimp only
        refine nm_e ?_
        rw [wY_classes_10]
        rw [em]
        exact br_c (fun _ => h tn' tu' sp' vl' aa' ho') (fun _ => br_t rfl (h tn' tu' sp' vl' aa' ho'))
      · intro w2 l2 e
        exact absurd e (by simp)
    refine sy_settled G E (hcm w List.mem_cons_self) hu ?_
    cases ho : sr_ok S K nm w sr_p0 (fun _ => false) with
    | false => exact br_t rfl (fin m (by simp [ho]))
    | true =>
      refine br_f (by decide) ?_
      rw [nI_1]
      exact fin (m + 1) (by simp [ho])
  | cons w2 l ih =>
    intro w m c fuel tn tu sp vl aa ho hch hcm hc hf hu h
    rw [List.length_cons] at hc hf
    obtain ⟨n, rfl⟩ : ∃ n, fuel = n + 1 := ⟨fuel - 1, by omega⟩
    rw [wY_classes_10]
    refine br_f (nI_ge (b := 34650) (by omega) (by decide)) (br_f (by decide) ?_)
    have fin : ∀ m', m' + ((w2 :: l).filter (fun x => sr_ok S K nm x sr_p0 (fun _ => false))).length = m + ((w :: w2 :: l).filter (fun x => sr_ok S K nm x sr_p0 (fun _ => false))).length → wY_classes_34 post (wY_classes_10 post n) (nI c) (nI m') tn sz kd nm bg tu sp vl aa ho := by
      intro m' em
      unfold wY_classes_34
      refine sy_step G E hch hcm hu ?_ ?_
      · intro e
        exact absurd e (by simp)
      · intro w3 l3 e tn' tu' sp' vl' aa' ho' hu'
        obtain ⟨rfl, rfl⟩ : w2 = w3 ∧ l = l3 := by simpa using e
        dsimp only
        refine nm_r (nI_1 c) ?_
        refine ih w2 m' (c + 1) n tn' tu' sp' vl' aa' ho' hch.2 (fun x hx => hcm x (List.mem_cons_of_mem _ hx)) (by omega) (by omega) hu' ?_
        rw [em]
        exact h
    refine sy_settled G E (hcm w List.mem_cons_self) hu ?_
    cases ho : sr_ok S K nm w sr_p0 (fun _ => false) with
    | false => exact br_t rfl (fin m (by rw [List.filter_cons_of_neg (a := w) (by simp [ho])]))
    | true =>
      refine br_f (by decide) ?_
      rw [nI_1]
      refine fin (m + 1) ?_
      rw [List.filter_cons_of_pos (a := w) (by simp [ho]), List.length_cons]
      omega
def sr_ue (S : Nat → Nat) (w : List Nat) : Bool := decide (sr_fp w sr_p0 0 < S 0) || (decide (sr_fp w sr_p0 1 < S 1) || decide (sr_fp w sr_p0 2 < S 2))
theorem sr_fp_le (G : sr_gd S K nm) : ∀ (w : List Nat) (p : Nat → Nat), (∀ t, t < 3 → p t ≤ 4) → sr_va S K nm w p → ∀ t, t < 3 → sr_fp w p t ≤ 4 := by
  intro w
  induction w with
  | nil => intro p h _; exact h
  | cons s w ih =>
    intro p h hv
    refine ih (sr_bp p s) (fun t ht => ?_) hv.2.2
    by_cases e : t = s
    · subst e
      have h1 := sr_en_lt hv.2.1
      have h2 := G.1 t ht
      rw [sr_bp_s]
      omega
    · rw [sr_bp_n e]
      exact h t ht
theorem sy_stk10 {post : Int32 → SY → Prop} (G : sr_gd S K nm) (E : sy_gd S K sz kd) : ∀ (l : List (List Nat)) (w : List Nat) (o : Bool) (c fuel : Nat) (tn : Int32) (tu sp vl aa ho : Nat → Int32),
    sr_ch (fun w => sr_nx S K nm w 12 sr_p0) (w :: l) none → (∀ x, x ∈ w :: l → sr_cm S K nm x sr_p0) → c + (l.length + 1) ≤ 34650 → l.length + 1 < fuel → sy_cu w tn tu sp →
    sy_any sz kd nm bg (post (sr_b (o || (w :: l).any (sr_ue S)))) → wY_canStick_10 post fuel (sr_b o) 1 (nI c) tn sz kd nm bg tu sp vl aa ho := by
  have body : ∀ (w : List Nat) (o : Bool) (c n : Nat) (tn : Int32) (tu sp vl aa ho : Nat → Int32), c < 34650 → sr_cm S K nm w sr_p0 → sy_cu w tn tu sp →
      (∀ sp' vl' aa' ho' : Nat → Int32, sy_cu w tn tu sp' → wY_canStick_82 post (wY_canStick_10 post n) (nI c) (sr_b (o || sr_ue S w)) tn sz kd nm bg tu sp' vl' aa' ho') → wY_canStick_10 post (n + 1) (sr_b o) 1 (nI c) tn sz kd nm bg tu sp vl aa ho := by
    intro w o c n tn tu sp vl aa ho hc hcm hu h
    rw [wY_canStick_10]
    refine br_f (nI_ge (b := 34650) hc (by decide)) (br_f (by decide) ?_)
    refine sy_rep G E hcm hu ?_
    intro sp' vl' aa' ho' hu' hl
    have h' := h sp' vl' aa' ho' hu'
    dsimp only
    cases o with
    | true => exact br_f (by decide) h'
    | false =>
      rw [Bool.false_or] at h'
      unfold sr_ue at h'
      have b0 := sr_fp_le G w sr_p0 (fun _ _ => Nat.zero_le _) (sr_cm_va w sr_p0 hcm) 0 (by decide)
      have b1 := sr_fp_le G w sr_p0 (fun _ _ => Nat.zero_le _) (sr_cm_va w sr_p0 hcm) 1 (by decide)
      have b2 := sr_fp_le G w sr_p0 (fun _ _ => Nat.zero_le _) (sr_cm_va w sr_p0 hcm) 2 (by decide)
      have s0 := G.1 0 (by decide)
      have s1 := G.1 1 (by decide)
      have s2 := G.1 2 (by decide)
      rw [hl.1 0 (by decide), hl.1 1 (by decide), hl.1 2 (by decide), E.1 0 (by decide), E.1 1 (by decide), E.1 2 (by decide)]
      refine br_t rfl ?_
      by_cases h0 : sr_fp w sr_p0 0 < S 0
      · rw [decide_eq_true h0] at h'
        exact br_t (nI_lt h0 (by omega)) h'
      · rw [decide_eq_false h0, Bool.false_or] at h'
        refine br_f (nI_nlt (by omega) (by omega)) ?_
        by_cases h1 : sr_fp w sr_p0 1 < S 1
        · rw [decide_eq_true h1] at h'
          exact br_t (nI_lt h1 (by omega)) h'
        · rw [decide_eq_false h1, Bool.false_or] at h'
          refine br_f (nI_nlt (by omega) (by omega)) ?_
          by_cases h2 : sr_fp w sr_p0 2 < S 2
          · rw [decide_eq_true h2] at h'
            exact br_f (nI_ge h2 (by omega)) h'
          · rw [decide_eq_false h2] at h'
            exact br_t (nI_le (by omega) (by omega)) h'
  intro l
  induction l with
  | nil =>
    intro w o c fuel tn tu sp vl aa ho hch hcm hc hf hu h
    obtain ⟨n, rfl⟩ : ∃ n, fuel = n + 2 := ⟨fuel - 2, by simp at hf; omega⟩
    refine body w o c (n + 1) tn tu sp vl aa ho (by simp at hc; omega) (hcm w List.mem_cons_self) hu ?_
    intro sp1 vl1 aa1 ho1 hu1
    unfold wY_canStick_82
    refine sy_step G E hch hcm hu1 ?_ ?_
    · intro _ tn' tu' sp' vl' aa' ho'
      dsimp only
      refine nm_e ?_
      rw [wY_canStick_10]
      have h' := h tn' tu' sp' vl' aa' ho'
      rw [List.any_cons, List.any_nil, Bool.or_false] at h'
      exact br_c (fun _ => ⟨sr_nb01 _, h'⟩) (fun _ => br_t rfl ⟨sr_nb01 _, h'⟩)
    · intro w2 l2 e
      exact absurd e (by simp)
  | cons w2 l ih =>
    intro w o c fuel tn tu sp vl aa ho hch hcm hc hf hu h
    rw [List.length_cons] at hc hf
    obtain ⟨n, rfl⟩ : ∃ n, fuel = n + 1 := ⟨fuel - 1, by omega⟩
    refine body w o c n tn tu sp vl aa ho (by omega) (hcm w List.mem_cons_self) hu ?_
    intro sp1 vl1 aa1 ho1 hu1
    unfold wY_canStick_82
    refine sy_step G E hch hcm hu1 ?_ ?_
    · intro e
      exact absurd e (by simp)
    · intro w3 l3 e tn' tu' sp' vl' aa' ho' hu'
      obtain ⟨rfl, rfl⟩ : w2 = w3 ∧ l = l3 := by simpa using e
      dsimp only
      refine nm_r (nI_1 c) ?_
      refine ih w2 _ (c + 1) n tn' tu' sp' vl' aa' ho' hch.2 (fun x hx => hcm x (List.mem_cons_of_mem _ hx)) (by omega) (by omega) hu' ?_
      rw [Bool.or_assoc, ← List.any_cons]
      exact h
end
end
section
/-! the reference: canEndBoth, end; then each asking method's answer -/
section
variable {S K : Nat → Nat} {nm sz kd bg : Nat → Int32}
def sr_me (K : Nat → Nat) (nm bg : Nat → Int32) (a : Nat) (x : Int32) (b : Nat) (y : Int32) (w : List Nat) : Bool := decide (sr_rn K nm w sr_p0 bg a = x) && decide (sr_rn K nm w sr_p0 bg b = y)
theorem sy_ceb33 {post : Int32 → SY → Prop} (G : sr_gd S K nm) (E : sy_gd S K sz kd) {a b : Nat} (ha : a < 3) (hb : b < 3) (x y : Int32) : ∀ (l : List (List Nat)) (w : List Nat) (o : Bool) (c fuel : Nat) (tn : Int32) (tu sp vl aa ho : Nat → Int32),
    sr_ch (fun w => sr_nx S K nm w 12 sr_p0) (w :: l) none → (∀ x, x ∈ w :: l → sr_cm S K nm x sr_p0) → c + (l.length + 1) ≤ 34650 → l.length + 1 < fuel → sy_cu w tn tu sp →
    sy_any sz kd nm bg (post (sr_b (o || (w :: l).any (sr_me K nm bg a x b y)))) → wY_canEndBoth_33 post (nI a) x (nI b) y fuel (sr_b o) 1 (nI c) tn sz kd nm bg tu sp vl aa ho := by
  have ca : (nI a).toNatClampNeg = a := nI_clamp (by omega)
  have cb : (nI b).toNatClampNeg = b := nI_clamp (by omega)
  have body : ∀ (w : List Nat) (o : Bool) (c n : Nat) (tn : Int32) (tu sp vl aa ho : Nat → Int32), c < 34650 → sr_cm S K nm w sr_p0 → sy_cu w tn tu sp →
      (∀ sp' vl' aa' ho' : Nat → Int32, sy_cu w tn tu sp' → wY_canEndBoth_84 post (wY_canEndBoth_33 post (nI a) x (nI b) y n) (nI a) x (nI b) y (nI c) (sr_b (o || sr_me K nm bg a x b y w)) tn sz kd nm bg tu sp' vl' aa' ho') → wY_canEndBoth_33 post (nI a) x (nI b) y (n + 1) (sr_b o) 1 (nI c) tn sz kd nm bg tu sp vl aa ho := by
    intro w o c n tn tu sp vl aa ho hc hcm hu h
    rw [wY_canEndBoth_33]
    refine br_f (nI_ge (b := 34650) hc (by decide)) (br_f (by decide) ?_)
    refine sy_rep G E hcm hu ?_
    intro sp' vl' aa' ho' hu' hl
    have h' := h sp' vl' aa' ho' hu'
    dsimp only
    cases o with
    | true => exact br_f (by decide) h'
    | false =>
      rw [Bool.false_or] at h'
      unfold sr_me at h'
      rw [ca, cb, hl.2.1 a (by omega), hl.2.1 b (by omega)]
      refine br_t rfl ⟨vp_in_nI (by omega) (by decide), ?_⟩
      by_cases h1 : sr_rn K nm w sr_p0 bg a = x
      · rw [decide_eq_true h1, Bool.true_and] at h'
        refine br_t h1 ⟨vp_in_nI (by omega) (by decide), ?_⟩
        by_cases h2 : sr_rn K nm w sr_p0 bg b = y
        · rw [decide_eq_true h2] at h'
          exact br_t h2 h'
        · rw [decide_eq_false h2] at h'
          exact br_f h2 h'
      · rw [decide_eq_false h1, Bool.false_and] at h'
        exact br_f h1 h'
  intro l
  induction l with
  | nil =>
    intro w o c fuel tn tu sp vl aa ho hch hcm hc hf hu h
    obtain ⟨n, rfl⟩ : ∃ n, fuel = n + 2 := ⟨fuel - 2, by simp at hf; omega⟩
    refine body w o c (n + 1) tn tu sp vl aa ho (by simp at hc; omega) (hcm w List.mem_cons_self) hu ?_
    intro sp1 vl1 aa1 ho1 hu1
    unfold wY_canEndBoth_84
    refine sy_step G E hch hcm hu1 ?_ ?_
    · intro _ tn' tu' sp' vl' aa' ho'
      dsimp only
      refine nm_e ?_
      rw [wY_canEndBoth_33]
      have h' := h tn' tu' sp' vl' aa' ho'
      rw [List.any_cons, List.any_nil, Bool.or_false] at h'
      exact br_c (fun _ => ⟨sr_nb01 _, h'⟩) (fun _ => br_t rfl ⟨sr_nb01 _, h'⟩)
    · intro w2 l2 e
      exact absurd e (by simp)
  | cons w2 l ih =>
    intro w o c fuel tn tu sp vl aa ho hch hcm hc hf hu h
    rw [List.length_cons] at hc hf
    obtain ⟨n, rfl⟩ : ∃ n, fuel = n + 1 := ⟨fuel - 1, by omega⟩
    refine body w o c n tn tu sp vl aa ho (by omega) (hcm w List.mem_cons_self) hu ?_
    intro sp1 vl1 aa1 ho1 hu1
    unfold wY_canEndBoth_84
    refine sy_step G E hch hcm hu1 ?_ ?_
    · intro e
      exact absurd e (by simp)
    · intro w3 l3 e tn' tu' sp' vl' aa' ho' hu'
      obtain ⟨rfl, rfl⟩ : w2 = w3 ∧ l = l3 := by simpa using e
      dsimp only
      refine nm_r (nI_1 c) ?_
      refine ih w2 _ (c + 1) n tn' tu' sp' vl' aa' ho' hch.2 (fun x hx => hcm x (List.mem_cons_of_mem _ hx)) (by omega) (by omega) hu' ?_
      rw [Bool.or_assoc, ← List.any_cons]
      exact h
def sr_bs (m : Bool) (b v : Int32) : Int32 := if m = true then (if b ≤ v then b else v) else (if v ≤ b then b else v)
theorem sy_end25 {post : Int32 → SY → Prop} (G : sr_gd S K nm) (E : sy_gd S K sz kd) {a : Nat} (ha : a < 6) (x : Int32) : ∀ (l : List (List Nat)) (w : List Nat) (b : Int32) (c fuel : Nat) (tn : Int32) (tu sp vl aa ho : Nat → Int32),
    sr_ch (fun w => sr_nx S K nm w 12 sr_p0) (w :: l) none → (∀ x, x ∈ w :: l → sr_cm S K nm x sr_p0) → c + (l.length + 1) ≤ 34650 → l.length + 1 < fuel → sy_cu w tn tu sp →
    sy_any sz kd nm bg (post ((w :: l).foldl (fun b w => sr_bs (decide (x = 0)) b (sr_rn K nm w sr_p0 bg a)) b)) → wY_end_25 post (nI a) x fuel b 1 (nI c) tn sz kd nm bg tu sp vl aa ho := by
  have ca : (nI a).toNatClampNeg = a := nI_clamp (by omega)
  have body : ∀ (w : List Nat) (b : Int32) (c n : Nat) (tn : Int32) (tu sp vl aa ho : Nat → Int32), c < 34650 → sr_cm S K nm w sr_p0 → sy_cu w tn tu sp →
      (∀ sp' vl' aa' ho' : Nat → Int32, sy_cu w tn tu sp' → wY_end_84 post (wY_end_25 post (nI a) x n) (nI a) x (nI c) (sr_bs (decide (x = 0)) b (sr_rn K nm w sr_p0 bg a)) tn sz kd nm bg tu sp' vl' aa' ho') → wY_end_25 post (nI a) x (n + 1) b 1 (nI c) tn sz kd nm bg tu sp vl aa ho := by
    intro w b c n tn tu sp vl aa ho hc hcm hu h
    rw [wY_end_25]
    refine br_f (nI_ge (b := 34650) hc (by decide)) (br_f (by decide) ?_)
    refine sy_rep G E hcm hu ?_
    intro sp' vl' aa' ho' hu' hl
    have h' := h sp' vl' aa' ho' hu'
    unfold sr_bs at h'
    dsimp only
    rw [ca, hl.2.1 a ha]
    refine ⟨vp_in_nI ha (by decide), nm_e ?_⟩
    by_cases h0 : x = 0
    · rw [if_pos (decide_eq_true h0)] at h'
      refine br_t h0 ?_
      by_cases h1 : b ≤ sr_rn K nm w sr_p0 bg a
      · rw [if_pos h1] at h'
        exact br_t h1 h'
      · rw [if_neg h1] at h'
        exact br_f h1 h'
    · rw [if_neg (fun z => h0 (of_decide_eq_true z))] at h'
      refine br_f h0 ?_
      by_cases h1 : sr_rn K nm w sr_p0 bg a ≤ b
      · rw [if_pos h1] at h'
        exact br_t h1 h'
      · rw [if_neg h1] at h'
        exact br_f h1 h'
  intro l
  induction l with
  | nil =>
    intro w b c fuel tn tu sp vl aa ho hch hcm hc hf hu h
    obtain ⟨n, rfl⟩ : ∃ n, fuel = n + 2 := ⟨fuel - 2, by simp at hf; omega⟩
    refine body w b c (n + 1) tn tu sp vl aa ho (by simp at hc; omega) (hcm w List.mem_cons_self) hu ?_
    intro sp1 vl1 aa1 ho1 hu1
    unfold wY_end_84
    refine sy_step G E hch hcm hu1 ?_ ?_
    · intro _ tn' tu' sp' vl' aa' ho'
      dsimp only
      refine nm_e ?_
      rw [wY_end_25]
      have h' := h tn' tu' sp' vl' aa' ho'
      exact br_c (fun _ => h') (fun _ => br_t rfl h')
    · intro w2 l2 e
      exact absurd e (by simp)
  | cons w2 l ih =>
    intro w b c fuel tn tu sp vl aa ho hch hcm hc hf hu h
    rw [List.length_cons] at hc hf
    obtain ⟨n, rfl⟩ : ∃ n, fuel = n + 1 := ⟨fuel - 1, by omega⟩
    refine body w b c n tn tu sp vl aa ho (by omega) (hcm w List.mem_cons_self) hu ?_
    intro sp1 vl1 aa1 ho1 hu1
    unfold wY_end_84
    refine sy_step G E hch hcm hu1 ?_ ?_
    · intro e
      exact absurd e (by simp)
    · intro w3 l3 e tn' tu' sp' vl' aa' ho' hu'
      obtain ⟨rfl, rfl⟩ : w2 = w3 ∧ l = l3 := by simpa using e
      dsimp only
      refine nm_r (nI_1 c) ?_
      exact ih w2 _ (c + 1) n tn' tu' sp' vl' aa' ho' hch.2 (fun x hx => hcm x (List.mem_cons_of_mem _ hx)) (by omega) (by omega) hu' h
theorem sr_al_cons (S K : Nat → Nat) (nm : Nat → Int32) : ∃ l, sr_al S K nm 12 sr_p0 = sr_fs S K nm 12 sr_p0 :: l := by
  have h := sr_al_head (S := S) (K := K) (M := nm) 12 sr_p0
  cases e : sr_al S K nm 12 sr_p0 with
  | nil => rw [e] at h; exact absurd h (by simp)
  | cons a l =>
    rw [e] at h
    have ea : a = sr_fs S K nm 12 sr_p0 := by simpa using h
    subst ea
    exact ⟨l, rfl⟩
/-- all that a round over the schedules needs -/
theorem sr_all (G : sr_gd S K nm) : ∃ l, sr_al S K nm 12 sr_p0 = sr_fs S K nm 12 sr_p0 :: l ∧ sr_ch (fun w => sr_nx S K nm w 12 sr_p0) (sr_fs S K nm 12 sr_p0 :: l) none ∧
    (∀ x, x ∈ sr_fs S K nm 12 sr_p0 :: l → sr_cm S K nm x sr_p0) ∧ 0 + (l.length + 1) ≤ 34650 := by
  obtain ⟨l, e⟩ := sr_al_cons S K nm
  have h1 := sr_chain (S := S) (K := K) (M := nm) 12 sr_p0
  have h2 := sr_al_max G 12 sr_p0
  refine ⟨l, e, ?_, fun x hx => ?_, ?_⟩
  · rw [e] at h1; exact h1
  · rw [← e] at hx
    exact (sr_mem 12 sr_p0 x (sr_rm12 G sr_p0)).mp hx
  · rw [e, List.length_cons] at h2
    omega
section
variable {tu sp vl aa ho : Nat → Int32} {tn : Int32}
theorem sy_schedules {post : Int32 → SY → Prop} (G : sr_gd S K nm) (E : sy_gd S K sz kd) (h : sy_any sz kd nm bg (post (nI (sr_al S K nm 12 sr_p0).length))) : wpY_schedules post (tn, sz, kd, nm, bg, tu, sp, vl, aa, ho) := by
  obtain ⟨l, e, h1, h2, h3⟩ := sr_all G
  rw [e, List.length_cons] at h
  unfold wpY_schedules
  dsimp only
  refine sy_first G E ?_
  intro tn' tu' sp' vl' aa' ho' hu
  dsimp only
  refine ⟨l.length + 2, sy_sch8 G E l _ 0 (l.length + 2) tn' tu' sp' vl' aa' ho' h1 h2 h3 (by omega) hu ?_⟩
  rw [Nat.zero_add]
  exact h
theorem sy_classes {post : Int32 → SY → Prop} (G : sr_gd S K nm) (E : sy_gd S K sz kd) (h : sy_any sz kd nm bg (post (nI (sr_xs S K nm 12 sr_p0 (fun _ => false)).length))) : wpY_classes post (tn, sz, kd, nm, bg, tu, sp, vl, aa, ho) := by
  obtain ⟨l, e, h1, h2, h3⟩ := sr_all G
  rw [sr_xs_eq, e] at h
  unfold wpY_classes
  dsimp only
  refine sy_first G E ?_
  intro tn' tu' sp' vl' aa' ho' hu
  dsimp only
  refine ⟨l.length + 2, sy_cls10 G E l _ 0 0 (l.length + 2) tn' tu' sp' vl' aa' ho' h1 h2 h3 (by omega) hu ?_⟩
  rw [Nat.zero_add]
  exact h
theorem sy_canStick {post : Int32 → SY → Prop} (G : sr_gd S K nm) (E : sy_gd S K sz kd) (h : sy_any sz kd nm bg (post (sr_b ((sr_al S K nm 12 sr_p0).any (sr_ue S))))) : wpY_canStick post (tn, sz, kd, nm, bg, tu, sp, vl, aa, ho) := by
  obtain ⟨l, e, h1, h2, h3⟩ := sr_all G
  rw [e] at h
  unfold wpY_canStick
  dsimp only
  refine sy_first G E ?_
  intro tn' tu' sp' vl' aa' ho' hu
  dsimp only
  refine ⟨l.length + 2, sy_stk10 G E l _ false 0 (l.length + 2) tn' tu' sp' vl' aa' ho' h1 h2 h3 (by omega) hu ?_⟩
  rw [Bool.false_or]
  exact h
theorem sy_canEndBoth {post : Int32 → SY → Prop} (G : sr_gd S K nm) (E : sy_gd S K sz kd) {a b : Nat} (ha : a < 3) (hb : b < 3) (x y : Int32)
    (h : sy_any sz kd nm bg (post (sr_b ((sr_al S K nm 12 sr_p0).any (sr_me K nm bg a x b y))))) : wpY_canEndBoth post (tn, sz, kd, nm, bg, tu, sp, vl, aa, ho) (nI a) x (nI b) y := by
  obtain ⟨l, e, h1, h2, h3⟩ := sr_all G
  rw [e] at h
  unfold wpY_canEndBoth
  dsimp only
  refine br_f (nI_pos (by omega)) (br_f (nI_nlt (a := 2) (by omega) (by decide)) (br_f (nI_pos (by omega)) (br_t (nI_le (b := 2) (by omega) (by decide)) ?_)))
  refine sy_first G E ?_
  intro tn' tu' sp' vl' aa' ho' hu
  dsimp only
  refine ⟨l.length + 2, sy_ceb33 G E ha hb x y l _ false 0 (l.length + 2) tn' tu' sp' vl' aa' ho' h1 h2 h3 (by omega) hu ?_⟩
  rw [Bool.false_or]
  exact h
/-- r is the least (m) or the greatest (not m) of the values at a over the schedules in l -/
def sr_be {α : Type} (m : Bool) (f : α → Int32) (l : List α) (r : Int32) : Prop := (∃ w, w ∈ l ∧ r = f w) ∧ ∀ w, w ∈ l → if m = true then r ≤ f w else f w ≤ r
theorem sr_bs_1 (m : Bool) (b v : Int32) : (sr_bs m b v = b ∨ sr_bs m b v = v) ∧ (if m = true then sr_bs m b v ≤ b ∧ sr_bs m b v ≤ v else b ≤ sr_bs m b v ∧ v ≤ sr_bs m b v) := by
  unfold sr_bs
  cases m with
  | true =>
    rw [if_pos rfl, if_pos rfl]
    by_cases h : b ≤ v
    · rw [if_pos h]; exact ⟨Or.inl rfl, Int32.le_refl _, h⟩
    · rw [if_neg h]; exact ⟨Or.inr rfl, Int32.le_of_lt (Int32.not_le.mp h), Int32.le_refl _⟩
  | false =>
    rw [if_neg (c := false = true) (by decide), if_neg (c := false = true) (by decide)]
    by_cases h : v ≤ b
    · rw [if_pos h]; exact ⟨Or.inl rfl, Int32.le_refl _, h⟩
    · rw [if_neg h]; exact ⟨Or.inr rfl, Int32.le_of_lt (Int32.not_le.mp h), Int32.le_refl _⟩
theorem sr_fold (m : Bool) (f : List Nat → Int32) : ∀ (l : List (List Nat)) (b : Int32), (l.foldl (fun b w => sr_bs m b (f w)) b = b ∨ ∃ w, w ∈ l ∧ l.foldl (fun b w => sr_bs m b (f w)) b = f w) ∧
    (if m = true then l.foldl (fun b w => sr_bs m b (f w)) b ≤ b else b ≤ l.foldl (fun b w => sr_bs m b (f w)) b) ∧
    ∀ w, w ∈ l → if m = true then l.foldl (fun b w => sr_bs m b (f w)) b ≤ f w else f w ≤ l.foldl (fun b w => sr_bs m b (f w)) b := by
  intro l
  induction l with
  | nil =>
    intro b
    refine ⟨Or.inl rfl, ?_, fun w hw => absurd hw (by simp)⟩
    cases m with
    | true => exact Int32.le_refl _
    | false => exact Int32.le_refl _
  | cons a l ih =>
    intro b
    rw [List.foldl_cons]
    obtain ⟨i1, i2, i3⟩ := ih (sr_bs m b (f a))
    obtain ⟨b1, b2⟩ := sr_bs_1 m b (f a)
    generalize l.foldl (fun b w => sr_bs m b (f w)) (sr_bs m b (f a)) = r at *
    refine ⟨?_, ?_, ?_⟩
    · rcases i1 with h | ⟨w, hw, h⟩
      · rcases b1 with h1 | h1
        · exact Or.inl (h.trans h1)
        · exact Or.inr ⟨a, List.mem_cons_self, h.trans h1⟩
      · exact Or.inr ⟨w, List.mem_cons_of_mem _ hw, h⟩
    · cases m with
      | true =>
        rw [if_pos rfl] at i2 b2 ⊢
        exact Int32.le_trans i2 b2.1
      | false =>
        rw [if_neg (by decide)] at i2 b2 ⊢
        exact Int32.le_trans b2.1 i2
    · intro w hw
      rcases List.mem_cons.mp hw with h | h
      · subst h
        cases m with
        | true =>
          rw [if_pos rfl] at i2 b2 ⊢
          exact Int32.le_trans i2 b2.2
        | false =>
          rw [if_neg (by decide)] at i2 b2 ⊢
          exact Int32.le_trans b2.2 i2
      · exact i3 w h
theorem sy_end {post : Int32 → SY → Prop} (G : sr_gd S K nm) (E : sy_gd S K sz kd) {a : Nat} (ha : a < 6) (x : Int32)
    (h : ∀ r, sr_be (decide (x = 0)) (fun w => sr_rn K nm w sr_p0 bg a) (sr_al S K nm 12 sr_p0) r → sy_any sz kd nm bg (post r)) : wpY_end post (tn, sz, kd, nm, bg, tu, sp, vl, aa, ho) (nI a) x := by
  obtain ⟨l, e, h1, h2, h3⟩ := sr_all G
  have ca : (nI a).toNatClampNeg = a := nI_clamp (by omega)
  unfold wpY_end
  dsimp only
  refine sy_first G E ?_
  intro tn' tu' sp' vl' aa' ho' hu
  dsimp only
  refine sy_rep G E (h2 _ List.mem_cons_self) hu ?_
  intro sp1 vl1 aa1 ho1 hu1 hl1
  dsimp only
  rw [ca, hl1.2.1 a ha]
  refine ⟨vp_in_nI ha (by decide), nm_e ⟨l.length + 2, ?_⟩⟩
  refine sy_end25 G E ha x l _ _ 0 (l.length + 2) tn' tu' sp1 vl1 aa1 ho1 h1 h2 h3 (by omega) hu1 ?_
  refine h _ ?_
  have q := sr_fold (decide (x = 0)) (fun w => sr_rn K nm w sr_p0 bg a) (sr_fs S K nm 12 sr_p0 :: l) (sr_rn K nm (sr_fs S K nm 12 sr_p0) sr_p0 bg a)
  rw [e]
  refine ⟨?_, q.2.2⟩
  rcases q.1 with q1 | ⟨w, hw, q1⟩
  · exact ⟨_, List.mem_cons_self, q1⟩
  · exact ⟨w, hw, q1⟩
end
end
end
section
/-! the component's small methods against the pure picture -/
section
variable {S K : Nat → Nat} {lo fX fV sX sV fo cc : Int32} {sz kd nm sv sa wy pl ac vr sl hT lV mV lA mA : Nat → Int32}
theorem sx_hold6 {post : Int32 → Prop} (G : sr_gd S K nm) (E : sy_gd S K sz kd) {t n : Nat} (ht : t < 3) (hn : n ≤ 4) (l : Int32) (h : post (sr_b (sr_hd K nm t l n))) :
    ∀ (k j : Nat), j + k = n → wX_holds_6 post (nI t) (nI n) l lo fX fV sX sV fo cc sz kd nm sv sa wy pl ac vr sl hT lV mV lA mA (k + 1) (sr_b (sr_hd K nm t l j)) (nI j) := by
  intro k
  induction k with
  | zero =>
    intro j hj
    obtain rfl : j = n := by omega
    rw [wX_holds_6]
    exact br_t (nI_le (Nat.le_refl _) (by omega)) ⟨sr_nb01 _, h⟩
  | succ k ih =>
    intro j hj
    have hc : 4 * t + j < 12 := by omega
    have c : (nI (4 * t + j)).toNatClampNeg = 4 * t + j := nI_clamp (by omega)
    have gK := (G.2 _ hc).1
    have i12 : vp_in (nI (4 * t + j)) 12 := vp_in_nI hc (by decide)
    have nx := ih (j + 1) (by omega)
    rw [show sr_hd K nm t l (j + 1) = if nm (4 * t + j) = l ∧ 4 ≤ K (4 * t + j) then decide (K (4 * t + j) = 4) else sr_hd K nm t l j from rfl] at nx
    rw [wX_holds_6]
    refine br_f (nI_ge (by omega) (by omega)) (nm_r (sr_c4x t j) ?_)
    rw [c, E.2 _ hc]
    refine ⟨i12, ?_⟩
    by_cases h1 : nm (4 * t + j) = l
    · refine br_t h1 ⟨i12, ?_⟩
      by_cases h2 : 4 ≤ K (4 * t + j)
      · rw [if_pos ⟨h1, h2⟩] at nx
        refine br_f (nI_nlt (b := 4) h2 (by omega)) ⟨i12, ?_⟩
        by_cases h3 : K (4 * t + j) = 4
        · rw [decide_eq_true h3] at nx
          exact br_t (by rw [h3]; rfl) (nm_r (nI_1 j) nx)
        · rw [decide_eq_false h3] at nx
          exact br_f (fun z => h3 ((nI_eq (b := 4) (by omega) (by omega)).mp z)) (nm_r (nI_1 j) nx)
      · rw [if_neg (fun z => h2 z.2)] at nx
        exact br_t (nI_lt (b := 4) (by omega) (by omega)) (nm_r (nI_1 j) nx)
    · rw [if_neg (fun z => h1 z.1)] at nx
      exact br_f h1 (nm_r (nI_1 j) nx)
theorem sx_holds {post : Int32 → Prop} (G : sr_gd S K nm) (E : sy_gd S K sz kd) {t n : Nat} (ht : t < 3) (hn : n ≤ 4) (l : Int32) (h : post (sr_b (sr_hd K nm t l n))) : wpX_holds post (lo, fX, fV, sX, sV, fo, cc, sz, kd, nm, sv, sa, wy, pl, ac, vr, sl, hT, lV, mV, lA, mA) (nI t) (nI n) l := by
  unfold wpX_holds
  exact ⟨n + 1, sx_hold6 G E ht hn l h n 0 (Nat.zero_add n)⟩
theorem sx_ct19 {post : Int32 → Prop} (G : sr_gd S K nm) (E : sy_gd S K sz kd) {p : Nat → Nat} (hp : ∀ j, j < 3 → p j ≤ 4) {t : Nat} (ht : t < 3) (h : post (sr_b (sr_en S K nm p t))) :
    wX_canTurn_19 post (nI t) (nI (p 0)) (nI (p 1)) (nI (p 2)) (nI (p t)) lo fX fV sX sV fo cc sz kd nm sv sa wy pl ac vr sl hT lV mV lA mA := by
  have c : (nI t).toNatClampNeg = t := nI_clamp (by omega)
  have hS := G.1 t ht
  have hpt := hp t ht
  unfold wX_canTurn_19
  rw [c, E.1 t ht]
  refine ⟨vp_in_nI ht (by decide), ?_⟩
  unfold sr_en at h
  by_cases h1 : p t < S t
  · have hc : 4 * t + p t < 12 := by omega
    have c2 : (nI (4 * t + p t)).toNatClampNeg = 4 * t + p t := nI_clamp (by omega)
    have i12 : vp_in (nI (4 * t + p t)) 12 := vp_in_nI hc (by decide)
    have gK := (G.2 _ hc).1
    rw [decide_eq_true h1, Bool.true_and] at h
    refine br_t (nI_lt h1 (by omega)) (nm_r (sr_c4x t (p t)) ?_)
    rw [c2, E.2 _ hc]
    refine ⟨i12, ?_⟩
    by_cases h4 : K (4 * t + p t) = 4
    · rw [decide_eq_false (p := K (4 * t + p t) ≠ 4) (fun z => z h4), Bool.false_or] at h
      unfold sr_fr at h
      refine br_t (by rw [h4]; rfl) ⟨i12, nm_e ?_⟩
      refine sx_holds (t := 0) G E (by decide) (hp 0 (by decide)) _ ?_
      cases h0 : sr_hd K nm 0 (nm (4 * t + p t)) (p 0) with
      | true =>
        rw [h0] at h
        exact br_f (by decide) h
      | false =>
        rw [h0] at h
        refine br_t rfl (sx_holds (t := 1) G E (by decide) (hp 1 (by decide)) _ ?_)
        cases h1 : sr_hd K nm 1 (nm (4 * t + p t)) (p 1) with
        | true =>
          rw [h1] at h
          exact br_f (by decide) h
        | false =>
          rw [h1] at h
          refine br_t rfl (sx_holds (t := 2) G E (by decide) (hp 2 (by decide)) _ ?_)
          cases h2 : sr_hd K nm 2 (nm (4 * t + p t)) (p 2) with
          | true =>
            rw [h2] at h
            exact br_f (by decide) h
          | false =>
            rw [h2] at h
            exact br_t rfl h
    · rw [decide_eq_true h4] at h
      exact br_f (fun z => h4 ((nI_eq (b := 4) (by omega) (by omega)).mp z)) h
  · rw [decide_eq_false h1] at h
    exact br_f (nI_nlt (by omega) (by omega)) h
theorem sx_can {post : Int32 → Prop} (G : sr_gd S K nm) (E : sy_gd S K sz kd) {p : Nat → Nat} (hp : ∀ j, j < 3 → p j ≤ 4) {t : Nat} (ht : t < 3) (h : post (sr_b (sr_en S K nm p t))) :
    wpX_canTurn post (lo, fX, fV, sX, sV, fo, cc, sz, kd, nm, sv, sa, wy, pl, ac, vr, sl, hT, lV, mV, lA, mA) (nI t) (nI (p 0)) (nI (p 1)) (nI (p 2)) := by
  have q := sx_ct19 (post := post) (lo := lo) (fX := fX) (fV := fV) (sX := sX) (sV := sV) (fo := fo) (cc := cc) (sv := sv) (sa := sa) (wy := wy) (pl := pl) (ac := ac) (vr := vr) (sl := sl) (hT := hT) (lV := lV) (mV := mV) (lA := lA) (mA := mA) G E hp ht h
  unfold wpX_canTurn
  match t, ht, q with
  | 0, _, q => exact br_t rfl q
  | 1, _, q => exact br_f (by decide) (br_t rfl q)
  | 2, _, q => exact br_f (by decide) (br_f (by decide) q)
theorem sx_t68 {post : Int32 → Prop} (G : sr_gd S K nm) (E : sy_gd S K sz kd) {a b : Nat} (ha : a < 12) (hb : b < 12) (o u : Bool)
    (h : post (sr_b ((o == u) && (o || !(decide (K a = 0) && decide (K b = 0)))))) : wX_touch_68 post (nI a) (nI b) (sr_b o) (sr_b u) lo fX fV sX sV fo cc sz kd nm sv sa wy pl ac vr sl hT lV mV lA mA := by
  have ca : (nI a).toNatClampNeg = a := nI_clamp (by omega)
  have cb : (nI b).toNatClampNeg = b := nI_clamp (by omega)
  have ga := (G.2 a ha).1
  have gb := (G.2 b hb).1
  unfold wX_touch_68
  rw [ca, cb, E.2 a ha, E.2 b hb]
  cases o with
  | true =>
    cases u with
    | true => exact br_t rfl (br_f (by decide) h)
    | false => exact br_f (by decide) h
  | false =>
    cases u with
    | true => exact br_f (by decide) h
    | false =>
      refine br_t rfl (br_t rfl ⟨vp_in_nI ha (by decide), ?_⟩)
      by_cases h1 : K a = 0
      · refine br_t (by rw [h1]; rfl) ⟨vp_in_nI hb (by decide), ?_⟩
        rw [decide_eq_true h1] at h
        by_cases h2 : K b = 0
        · rw [decide_eq_true h2] at h
          exact br_t (by rw [h2]; rfl) h
        · rw [decide_eq_false h2] at h
          exact br_f (nI_ne0 (by omega) (by omega)) h
      · rw [decide_eq_false h1] at h
        exact br_f (nI_ne0 (by omega) (by omega)) h
theorem sx_touch {post : Int32 → Prop} (G : sr_gd S K nm) (E : sy_gd S K sz kd) {a b : Nat} (ha : a < 12) (hb : b < 12) (h : post (sr_b (sr_tc K nm a b))) : wpX_touch post (lo, fX, fV, sX, sV, fo, cc, sz, kd, nm, sv, sa, wy, pl, ac, vr, sl, hT, lV, mV, lA, mA) (nI a) (nI b) := by
  have ca : (nI a).toNatClampNeg = a := nI_clamp (by omega)
  have cb : (nI b).toNatClampNeg = b := nI_clamp (by omega)
  have ga := (G.2 a ha).1
  have gb := (G.2 b hb).1
  have ia : vp_in (nI a) 12 := vp_in_nI ha (by decide)
  have ib : vp_in (nI b) 12 := vp_in_nI hb (by decide)
  unfold wpX_touch
  dsimp only
  rw [ca, cb, E.2 a ha, E.2 b hb]
  refine ⟨ia, ?_⟩
  by_cases a3 : K a = 3
  · have e : sr_tc K nm a b = false := by simp [sr_tc, a3]
    rw [e] at h
    exact br_t (by rw [a3]; rfl) h
  · refine br_f (fun z => a3 ((nI_eq (b := 3) (by omega) (by omega)).mp z)) ⟨ib, ?_⟩
    by_cases b3 : K b = 3
    · have e : sr_tc K nm a b = false := by simp [sr_tc, b3]
      rw [e] at h
      exact br_t (by rw [b3]; rfl) h
    · refine br_f (fun z => b3 ((nI_eq (b := 3) (by omega) (by omega)).mp z)) ⟨ia, ib, ?_⟩
      by_cases en : nm a = nm b
      · refine br_t en ⟨ia, ?_⟩
        unfold sr_tc at h
        rw [decide_eq_true en, Bool.true_and] at h
        by_cases a4 : 4 ≤ K a
        · refine br_f (nI_nlt (b := 4) a4 (by omega)) ?_
          rw [decide_eq_false (show ¬ K a ≤ 2 by omega), decide_eq_true a4] at h
          unfold wX_touch_52
          rw [cb, E.2 b hb]
          refine ⟨ib, ?_⟩
          by_cases b4 : 4 ≤ K b
          · rw [decide_eq_true b4] at h
            exact br_f (nI_nlt (b := 4) b4 (by omega)) (sx_t68 G E ha hb true true h)
          · rw [decide_eq_false b4] at h
            exact br_t (nI_lt (b := 4) (by omega) (by omega)) (sx_t68 G E ha hb true false h)
        · refine br_t (nI_lt (b := 4) (by omega) (by omega)) ?_
          rw [decide_eq_true (show K a ≤ 2 by omega), decide_eq_false a4] at h
          unfold wX_touch_52
          rw [cb, E.2 b hb]
          refine ⟨ib, ?_⟩
          by_cases b4 : 4 ≤ K b
          · rw [decide_eq_true b4, decide_eq_false (show ¬ K b ≤ 2 by omega)] at h
            exact br_f (nI_nlt (b := 4) b4 (by omega)) (sx_t68 G E ha hb false true h)
          · rw [decide_eq_false b4, decide_eq_true (show K b ≤ 2 by omega), Bool.false_and, Bool.or_false, Bool.true_and, Bool.true_and] at h
            exact br_t (nI_lt (b := 4) (by omega) (by omega)) (sx_t68 G E ha hb false false h)
      · have e : sr_tc K nm a b = false := by unfold sr_tc; rw [decide_eq_false en]; rfl
        rw [e] at h
        exact br_f en h
end
/-! sets of threads as masks -/
def sr_mk (a b c : Bool) : Int32 := nI ((if a = true then 1 else 0) + (if b = true then 2 else 0) + (if c = true then 4 else 0))
def sr_mf (f : Nat → Bool) : Int32 := sr_mk (f 0) (f 1) (f 2)
theorem sr_mk_0 : sr_mk false false false = 0 := by decide
theorem sr_mk_z (a b c : Bool) : sr_mk a b c = 0 ↔ (a = false ∧ b = false ∧ c = false) := by cases a <;> cases b <;> cases c <;> decide
theorem sr_mk_an (a b c d e f : Bool) : sr_mk a b c &&& (sr_mk d e f ^^^ (-1)) = sr_mk (a && !d) (b && !e) (c && !f) := by
  cases a <;> cases b <;> cases c <;> cases d <;> cases e <;> cases f <;> decide
theorem sr_mk_or (a b c d e f : Bool) : sr_mk a b c ||| sr_mk d e f = sr_mk (a || d) (b || e) (c || f) := by
  cases a <;> cases b <;> cases c <;> cases d <;> cases e <;> cases f <;> decide
theorem sr_mk_s0 (a b c : Bool) : sr_mk a b c ||| ((1 : Int32) <<< (nI 0 &&& 31)) = sr_mk true b c := by cases a <;> cases b <;> cases c <;> decide
theorem sr_mk_s1 (a b c : Bool) : sr_mk a b c ||| ((1 : Int32) <<< (nI 1 &&& 31)) = sr_mk a true c := by cases a <;> cases b <;> cases c <;> decide
theorem sr_mk_s2 (a b c : Bool) : sr_mk a b c ||| ((1 : Int32) <<< (nI 2 &&& 31)) = sr_mk a b true := by cases a <;> cases b <;> cases c <;> decide
theorem sr_mk_b0 (a b c : Bool) : ((sr_mk a b c >>> (nI 0 &&& 31)) &&& 1) = 0 ↔ a = false := by cases a <;> cases b <;> cases c <;> decide
theorem sr_mk_b1 (a b c : Bool) : ((sr_mk a b c >>> (nI 1 &&& 31)) &&& 1) = 0 ↔ b = false := by cases a <;> cases b <;> cases c <;> decide
theorem sr_mk_b2 (a b c : Bool) : ((sr_mk a b c >>> (nI 2 &&& 31)) &&& 1) = 0 ↔ c = false := by cases a <;> cases b <;> cases c <;> decide
theorem sr_nar8 : ∀ n, n < 8 → (nI n).toInt8.toInt32 = nI n := by decide +kernel
theorem sr_nar {n : Nat} (h : n < 8) : vp_nar .byte (nI n) = nI n := by rw [vp_nar_byte, sr_nar8 n h]
theorem sr_nar2 {n : Nat} (h : n < 8) : vp_nar .byte (nI n).toInt8.toInt32 = nI n := by rw [sr_nar8 n h, sr_nar h]
theorem sr_mk_n (a b c : Bool) : vp_nar .byte (sr_mk a b c).toInt8.toInt32 = sr_mk a b c := by
  unfold sr_mk
  refine sr_nar2 ?_
  cases a <;> cases b <;> cases c <;> decide
theorem sr_nar0 : vp_nar .byte 0 = 0 := sr_nar (n := 0) (by decide)
theorem sr_mf_bit (f : Nat → Bool) {i : Nat} (hi : i < 3) : ((sr_mf f >>> (nI i &&& 31)) &&& 1) = 0 ↔ f i = false := by
  match i, hi with
  | 0, _ => exact sr_mk_b0 _ _ _
  | 1, _ => exact sr_mk_b1 _ _ _
  | 2, _ => exact sr_mk_b2 _ _ _
/-- the set without the threads from i on -/
def sr_mt (f : Nat → Bool) (i : Nat) : Int32 := sr_mf (fun s => decide (s < i) && f s)
theorem sr_mt_0 (f : Nat → Bool) : sr_mt f 0 = 0 := rfl
theorem sr_mt_3 (f : Nat → Bool) : sr_mt f 3 = sr_mf f := rfl
theorem sr_mt_t (f : Nat → Bool) {i : Nat} (hi : i < 3) (h : f i = true) : sr_mt f i ||| ((1 : Int32) <<< (nI i &&& 31)) = sr_mt f (i + 1) := by
  match i, hi, h with
  | 0, _, h =>
    show sr_mk _ _ _ ||| _ = sr_mk (true && f 0) (false && f 1) (false && f 2)
    rw [sr_mk_s0, h]
    rfl
  | 1, _, h =>
    show sr_mk _ _ _ ||| _ = sr_mk (true && f 0) (true && f 1) (false && f 2)
    rw [sr_mk_s1, h]
    rfl
  | 2, _, h =>
    show sr_mk _ _ _ ||| _ = sr_mk (true && f 0) (true && f 1) (true && f 2)
    rw [sr_mk_s2, h]
    rfl
theorem sr_mt_f (f : Nat → Bool) {i : Nat} (hi : i < 3) (h : f i = false) : sr_mt f i = sr_mt f (i + 1) := by
  match i, hi, h with
  | 0, _, h =>
    show sr_mk (false && f 0) (false && f 1) (false && f 2) = sr_mk (true && f 0) (false && f 1) (false && f 2)
    rw [h]
    rfl
  | 1, _, h =>
    show sr_mk (true && f 0) (false && f 1) (false && f 2) = sr_mk (true && f 0) (true && f 1) (false && f 2)
    rw [h]
    rfl
  | 2, _, h =>
    show sr_mk (true && f 0) (true && f 1) (false && f 2) = sr_mk (true && f 0) (true && f 1) (true && f 2)
    rw [h]
    rfl
theorem sx_next2 {post : Int32 → Prop} (f : Nat → Bool) (h1 : ∀ t, t < 3 → f t = true → (∀ s, s < t → f s = false) → post (nI t)) (h0 : (∀ t, t < 3 → f t = false) → post (-1)) :
    ∀ (k i : Nat), i + k = 3 → (∀ s, s < i → f s = false) → wX_nextThread_2 post (sr_mf f) (k + 1) (nI i) := by
  intro k
  induction k with
  | zero =>
    intro i hi hs
    obtain rfl : i = 3 := by omega
    rw [wX_nextThread_2]
    exact br_t (by decide) (h0 hs)
  | succ k ih =>
    intro i hi hs
    rw [wX_nextThread_2]
    refine br_f (nI_ge (b := 3) (by omega) (by decide)) ?_
    cases hf : f i with
    | false =>
      refine br_t ((sr_mf_bit f (by omega)).mpr hf) (nm_r (nI_1 i) (ih (i + 1) (by omega) (fun s hs1 => ?_)))
      by_cases e : s = i
      · subst e; exact hf
      · exact hs s (by omega)
    | true =>
      refine br_f (fun z => ?_) (h1 i (by omega) hf hs)
      have := (sr_mf_bit f (by omega)).mp z
      rw [hf] at this
      exact absurd this (by decide)
theorem sx_next {post : Int32 → Prop} (f : Nat → Bool) (h1 : ∀ t, t < 3 → f t = true → (∀ s, s < t → f s = false) → post (nI t)) (h0 : (∀ t, t < 3 → f t = false) → post (-1)) : wpX_nextThread post (sr_mf f) :=
  ⟨4, sx_next2 f h1 h0 3 0 rfl (fun s hs => absurd hs (Nat.not_lt_zero _))⟩
end
section
/-! the component: enabled, carry, turn -/
def sx_lv (L : Nat) (p : Nat → Nat) (v pl ac vr : Nat → Int32) : Prop := ∀ t, t < 3 → pl (3 * L + t) = nI (p t) ∧ ac (3 * L + t) = v (3 + t) ∧ vr (3 * L + t) = v t
theorem sr_x3 (L : Nat) : nI L * 3 = nI (3 * L) := by rw [sr_l3, pk_mul, Nat.mul_comm]
theorem sr_p2 (n : Nat) : nI n + 2 = nI (n + 2) := nI_add n 2
theorem sr_p3 (n : Nat) : nI n + 3 = nI (n + 3) := nI_add n 3
section
variable {S K : Nat → Nat} {lo fX fV sX sV fo cc : Int32} {sz kd nm sv sa wy lV mV lA mA : Nat → Int32}
section
variable {pl ac vr sl hT : Nat → Int32}
theorem sx_en4 {post : Int32 → Prop} (G : sr_gd S K nm) (E : sy_gd S K sz kd) {L : Nat} {p : Nat → Nat} {v : Nat → Int32} (hL : L ≤ 12) (hp : ∀ j, j < 3 → p j ≤ 4) (hl : sx_lv L p v pl ac vr)
    (h : post (sr_mf (sr_en S K nm p))) : ∀ (k i : Nat), i + k = 3 → wX_enabled_4 post (nI L) lo fX fV sX sV fo cc sz kd nm sv sa wy pl ac vr sl hT lV mV lA mA (k + 1) (sr_mt (sr_en S K nm p) i) (nI i) := by
  have c0 : (nI (3 * L)).toNatClampNeg = 3 * L := nI_clamp (by omega)
  have c1 : (nI (3 * L + 1)).toNatClampNeg = 3 * L + 1 := nI_clamp (by omega)
  have c2 : (nI (3 * L + 2)).toNatClampNeg = 3 * L + 2 := nI_clamp (by omega)
  have q0 : pl (3 * L) = nI (p 0) := (hl 0 (by decide)).1
  have q1 : pl (3 * L + 1) = nI (p 1) := (hl 1 (by decide)).1
  have q2 : pl (3 * L + 2) = nI (p 2) := (hl 2 (by decide)).1
  intro k
  induction k with
  | zero =>
    intro i hi
    obtain rfl : i = 3 := by omega
    rw [wX_enabled_4]
    exact br_t (by decide) h
  | succ k ih =>
    intro i hi
    have nx := ih (i + 1) (by omega)
    rw [wX_enabled_4]
    dsimp only
    rw [sr_x3, nI_1 (3 * L), sr_p2, c0, c1, c2, q0, q1, q2]
    refine br_f (nI_ge (b := 3) (by omega) (by decide)) ⟨vp_in_nI (by omega) (by decide), vp_in_nI (by omega) (by decide), vp_in_nI (by omega) (by decide), ?_⟩
    refine sx_can G E hp (by omega) ?_
    cases he : sr_en S K nm p i with
    | false =>
      rw [sr_mt_f _ (by omega) he]
      exact br_t rfl (nm_r (nI_1 i) nx)
    | true => exact br_f (by decide) (nm_r (sr_mt_t _ (by omega) he) (nm_r (nI_1 i) nx))
theorem sx_enabled {post : Int32 → Prop} (G : sr_gd S K nm) (E : sy_gd S K sz kd) {L : Nat} {p : Nat → Nat} {v : Nat → Int32} (hL : L ≤ 12) (hp : ∀ j, j < 3 → p j ≤ 4) (hl : sx_lv L p v pl ac vr)
    (h : post (sr_mf (sr_en S K nm p))) : wpX_enabled post (lo, fX, fV, sX, sV, fo, cc, sz, kd, nm, sv, sa, wy, pl, ac, vr, sl, hT, lV, mV, lA, mA) (nI L) := by
  unfold wpX_enabled
  exact ⟨4, sx_en4 G E hL hp hl h 3 0 rfl⟩
theorem sx_c77 {post : SX → Prop} {t B n k : Nat} (ht : t < 3) (hB : B + 3 ≤ 39) (hn : n ≤ 2) (hk : k ≤ 5) {x6 z0 : Int32} (h : post (lo, fX, fV, sX, sV, fo, cc, sz, kd, nm, sv, sa, wy, pl, upd ac (B + t) (if k = 1 then ac (B + t) else x6), upd vr (B + n) z0, sl, hT, lV, mV, lA, mA)) :
    wX_carry_77 post (nI (B + t)) (nI k) x6 z0 (nI (B + n)) lo fX fV sX sV fo cc sz kd nm sv sa wy pl ac vr sl hT lV mV lA mA := by
  have c1 : (nI (B + t)).toNatClampNeg = B + t := nI_clamp (by omega)
  have c2 : (nI (B + n)).toNatClampNeg = B + n := nI_clamp (by omega)
  have i1 : vp_in (nI (B + t)) 39 := vp_in_nI (by omega) (by decide)
  unfold wX_carry_77
  rw [c1, c2]
  refine ⟨vp_in_nI (by omega) (by decide), nm_e ?_⟩
  by_cases k1 : k = 1
  · rw [if_pos k1] at h
    exact br_t (by rw [k1]; rfl) ⟨i1, i1, nm_e h⟩
  · rw [if_neg k1] at h
    exact br_f (fun z => k1 ((nI_eq (b := 1) (by omega) (by omega)).mp z)) ⟨i1, nm_e h⟩
theorem sx_car {post : SX → Prop} (G : sr_gd S K nm) (E : sy_gd S K sz kd) {t c B : Nat} {v : Nat → Int32} (ht : t < 3) (hc : c < 12) (hB : B + 3 ≤ 39)
    (ha : ∀ j, j < 3 → ac (B + j) = v (3 + j)) (hr : ∀ j, j < 3 → vr (B + j) = v j)
    (h : ∀ ac' vr' : Nat → Int32, (∀ j, j < 3 → ac' (B + j) = sr_ex K nm v t c (3 + j)) → (∀ j, j < 3 → vr' (B + j) = sr_ex K nm v t c j) → (∀ m, m < B → ac' m = ac m ∧ vr' m = vr m) → post (lo, fX, fV, sX, sV, fo, cc, sz, kd, nm, sv, sa, wy, pl, ac', vr', sl, hT, lV, mV, lA, mA)) :
    wpX_carry post (lo, fX, fV, sX, sV, fo, cc, sz, kd, nm, sv, sa, wy, pl, ac, vr, sl, hT, lV, mV, lA, mA) (nI c) (nI (B + t)) (nI B) := by
  have cc' : (nI c).toNatClampNeg = c := nI_clamp (by omega)
  have c1 : (nI (B + t)).toNatClampNeg = B + t := nI_clamp (by omega)
  have i12 : vp_in (nI c) 12 := vp_in_nI hc (by decide)
  have i1 : vp_in (nI (B + t)) 39 := vp_in_nI (by omega) (by decide)
  obtain ⟨g1, g2, g3⟩ := G.2 c hc
  unfold wpX_carry
  dsimp only
  rw [cc', E.2 c hc, c1]
  refine ⟨i12, nm_e ⟨i12, nm_e ?_⟩⟩
  by_cases k3 : K c = 3
  · refine br_t (by rw [k3]; rfl) ⟨i1, i1, nm_e (h _ _ (fun j hj => ?_) (fun j hj => ?_) (fun m hm => ⟨pk_un (by omega), rfl⟩))⟩
    · unfold sr_ex
      rw [if_neg (by omega)]
      by_cases e : j = t
      · subst e
        rw [pk_us, if_pos ⟨k3, rfl⟩, ha j hj]
      · rw [pk_un (by omega), if_neg (by omega), ha j hj]
    · unfold sr_ex
      rw [if_neg (by omega), if_neg (by omega), hr j hj]
  · refine br_f (fun z => k3 ((nI_eq (b := 3) (by omega) (by omega)).mp z)) ?_
    by_cases k2 : K c ≤ 2
    · refine br_f (nI_nlt (a := 2) k2 (by decide)) ?_
      obtain ⟨n, hn, en⟩ := g2 k2
      have c2 : (nI (B + n)).toNatClampNeg = B + n := nI_clamp (by omega)
      have c4 : (nI n).toNatClampNeg = n := nI_clamp (by omega)
      rw [en, nI_add, c2]
      refine ⟨vp_in_nI (by omega) (by decide), nm_e ?_⟩
      have fin : ∀ z0, z0 = (if K c = 0 then v n else v (3 + t)) → wX_carry_77 post (nI (B + t)) (nI (K c)) (vr (B + n)) z0 (nI (B + n)) lo fX fV sX sV fo cc sz kd nm sv sa wy pl ac vr sl hT lV mV lA mA := by
        intro z0 ez
        refine sx_c77 ht hB hn g1 (h _ _ (fun j hj => ?_) (fun j hj => ?_) (fun m hm => ⟨pk_un (by omega), pk_un (by omega)⟩))
        · unfold sr_ex
          rw [if_pos k2, en, c4]
          by_cases e : j = t
          · subst e
            rw [pk_us, if_pos rfl, ha j hj, hr n (by omega)]
          · rw [pk_un (by omega), if_neg (by omega), if_neg (by omega), ha j hj]
        · unfold sr_ex
          rw [if_pos k2, en, c4, if_neg (by omega)]
          by_cases e : j = n
          · subst e
            rw [pk_us, if_pos rfl, ez]
          · rw [pk_un (by omega), if_neg e, hr j hj]
      by_cases k0 : K c = 0
      · exact br_t (by rw [k0]; rfl) (fin _ (by rw [if_pos k0, hr n (by omega)]))
      · exact br_f (nI_ne0 (by omega) (by omega)) ⟨i1, fin _ (by rw [if_neg k0, ha t ht])⟩
    · refine br_t (nI_lt (a := 2) (by omega) (by omega)) (h _ _ (fun j hj => ?_) (fun j hj => ?_) (fun m hm => ⟨rfl, rfl⟩))
      · unfold sr_ex
        rw [if_neg k2, if_neg (fun z => k3 z.1), ha j hj]
      · unfold sr_ex
        rw [if_neg k2, if_neg (fun z => k3 z.1), hr j hj]
theorem sx_t127 {post : SX → Prop} (G : sr_gd S K nm) (E : sy_gd S K sz kd) {L c : Nat} {p : Nat → Nat} {z h f : Nat → Bool} (hL : L ≤ 11) (hc : c < 12) (hl : ∀ s, s < 3 → pl (3 * L + s) = nI (p s))
    (hsl : sl L = sr_mf z) (hht : hT L = sr_mf h) (hcl : ∀ s, s < 3 → (z s || h s) = true → 4 * s + p s < 12) (hf : ∀ s, s < 3 → f s = ((z s || h s) && !(sr_tc K nm c (4 * s + p s))))
    (H : post (lo, fX, fV, sX, sV, fo, cc, sz, kd, nm, sv, sa, wy, pl, ac, vr, upd sl (L + 1) (sr_mf f), upd hT (L + 1) 0, lV, mV, lA, mA)) :
    ∀ (k i : Nat), i + k = 3 → wX_turn_127 post (nI L) (nI (3 * L)) (nI c) lo fX fV sX sV fo cc sz kd nm sv sa wy pl ac vr sl hT lV mV lA mA (k + 1) (sr_mt f i) (nI i) := by
  have cL : (nI L).toNatClampNeg = L := nI_clamp (by omega)
  have cL1 : (nI (L + 1)).toNatClampNeg = L + 1 := nI_clamp (by omega)
  have iL : vp_in (nI L) 13 := vp_in_nI (by omega) (by decide)
  have iL1 : vp_in (nI (L + 1)) 13 := vp_in_nI (by omega) (by decide)
  intro k
  induction k with
  | zero =>
    intro i hi
    obtain rfl : i = 3 := by omega
    rw [wX_turn_127]
    dsimp only
    rw [nI_1 L, cL1]
    refine br_t (by decide) ⟨iL1, nm_r (e' := upd sl (L + 1) (sr_mf f)) ?_ ⟨iL1, nm_r (e' := upd hT (L + 1) 0) ?_ H⟩⟩
    · rw [sr_mt_3]
      unfold sr_mf
      rw [sr_mk_n]
    · rw [sr_nar0]
  | succ k ih =>
    intro i hi
    have nx := ih (i + 1) (by omega)
    have hi3 : i < 3 := by omega
    have ci : (nI (3 * L + i)).toNatClampNeg = 3 * L + i := nI_clamp (by omega)
    have em : sr_mf z ||| sr_mf h = sr_mf (fun s => z s || h s) := sr_mk_or _ _ _ _ _ _
    rw [wX_turn_127]
    dsimp only
    rw [cL, hsl, hht, em]
    refine br_f (nI_ge (b := 3) (by omega) (by decide)) ⟨iL, iL, ?_⟩
    have hfi := hf i hi3
    cases hb : (z i || h i) with
    | false =>
      rw [hb, Bool.false_and] at hfi
      rw [← sr_mt_f f hi3 hfi] at nx
      refine br_t ((sr_mf_bit _ hi3).mpr hb) ?_
      unfold wX_turn_159
      exact br_t rfl (nm_r (nI_1 i) nx)
    | true =>
      rw [hb, Bool.true_and] at hfi
      refine br_f (fun q => ?_) ?_
      · have q2 := (sr_mf_bit (fun s => z s || h s) hi3).mp q
        have q3 : (z i || h i) = false := q2
        rw [hb] at q3
        exact absurd q3 (by decide)
      · unfold wX_turn_159
        rw [nI_add (3 * L) i, ci, hl i hi3, sr_c4x]
        refine br_f (by decide) ⟨vp_in_nI (by omega) (by decide), sx_touch G E hc (hcl i hi3 hb) ?_⟩
        cases ht : sr_tc K nm c (4 * i + p i) with
        | false =>
          rw [ht] at hfi
          exact br_t rfl (nm_r (sr_mt_t f hi3 hfi) (nm_r (nI_1 i) nx))
        | true =>
          rw [ht] at hfi
          rw [← sr_mt_f f hi3 hfi] at nx
          exact br_f (by decide) (nm_r (nI_1 i) nx)
end
section
variable {sl hT : Nat → Int32}
theorem sx_t12 {post : SX → Prop} {L : Nat} {p : Nat → Nat} {v : Nat → Int32} {x2 : Int32} (hL : L ≤ 11) (hp : ∀ j, j < 3 → p j ≤ 4) : ∀ (k i : Nat) (pl ac vr : Nat → Int32), i + k = 3 → sx_lv L p v pl ac vr →
    (∀ j, j < i → pl (3 * L + 3 + j) = nI (p j) ∧ ac (3 * L + 3 + j) = v (3 + j) ∧ vr (3 * L + 3 + j) = v j) →
    (∀ pl' ac' vr' : Nat → Int32, sx_lv L p v pl' ac' vr' → (∀ j, j < 3 → pl' (3 * L + 3 + j) = nI (p j) ∧ ac' (3 * L + 3 + j) = v (3 + j) ∧ vr' (3 * L + 3 + j) = v j) →
      (∀ m, m < 3 * L + 3 → pl' m = pl m ∧ ac' m = ac m ∧ vr' m = vr m) → wX_turn_12 post (nI L) x2 (nI (3 * L)) (nI (3 * L + 3)) lo fX fV sX sV fo cc 1 (nI 3) sz kd nm sv sa wy pl' ac' vr' sl hT lV mV lA mA) →
    wX_turn_12 post (nI L) x2 (nI (3 * L)) (nI (3 * L + 3)) lo fX fV sX sV fo cc (k + 1) (nI i) sz kd nm sv sa wy pl ac vr sl hT lV mV lA mA := by
  intro k
  induction k with
  | zero =>
    intro i pl ac vr hi hl hd H
    obtain rfl : i = 3 := by omega
    exact H pl ac vr hl hd (fun m _ => ⟨rfl, rfl, rfl⟩)
  | succ k ih =>
    intro i pl ac vr hi hl hd H
    have hi3 : i < 3 := by omega
    have c1 : (nI (3 * L + i)).toNatClampNeg = 3 * L + i := nI_clamp (by omega)
    have c2 : (nI (3 * L + 3 + i)).toNatClampNeg = 3 * L + 3 + i := nI_clamp (by omega)
    have i1 : vp_in (nI (3 * L + i)) 39 := vp_in_nI (by omega) (by decide)
    have i2 : vp_in (nI (3 * L + 3 + i)) 39 := vp_in_nI (by omega) (by decide)
    obtain ⟨r1, r2, r3⟩ := hl i hi3
    have hpi := hp i hi3
    rw [wX_turn_12]
    dsimp only
    rw [nI_add (3 * L) i, nI_add (3 * L + 3) i, c1, c2, r1, r2, r3, sr_nar (by omega)]
    refine br_f (nI_ge (b := 3) (by omega) (by decide)) ⟨i1, i2, nm_e ⟨i1, i2, nm_e ⟨i1, i2, nm_e (nm_r (nI_1 i) ?_)⟩⟩⟩
    refine ih (i + 1) _ _ _ (by omega) (fun j hj => ?_) (fun j hj => ?_) ?_
    · rw [pk_un (by omega), pk_un (by omega), pk_un (by omega)]
      exact hl j hj
    · by_cases e : j = i
      · subst e
        rw [pk_us, pk_us, pk_us]
        exact ⟨rfl, rfl, rfl⟩
      · rw [pk_un (by omega), pk_un (by omega), pk_un (by omega)]
        exact hd j (by omega)
    · intro pl' ac' vr' h1 h2 h3
      refine H pl' ac' vr' h1 h2 (fun m hm => ?_)
      obtain ⟨e1, e2, e3⟩ := h3 m hm
      rw [pk_un (by omega)] at e1 e2 e3
      exact ⟨e1, e2, e3⟩
theorem sx_turn {post : SX → Prop} {pl ac vr : Nat → Int32} (G : sr_gd S K nm) (E : sy_gd S K sz kd) {L t : Nat} {p : Nat → Nat} {v : Nat → Int32} {z h : Nat → Bool} (hL : L ≤ 11) (ht : t < 3) (he : sr_en S K nm p t = true)
    (hp : ∀ j, j < 3 → p j ≤ 4) (hl : sx_lv L p v pl ac vr) (hsl : sl L = sr_mf z) (hht : hT L = sr_mf h) (hb : ∀ s, s < 3 → (z s || h s) = (z s || (decide (s < t) && sr_en S K nm p s)))
    (hz : ∀ s, s < 3 → z s = true → p s < 4)
    (H : ∀ pl' ac' vr' : Nat → Int32, sx_lv (L + 1) (sr_bp p t) (sr_ex K nm v t (4 * t + p t)) pl' ac' vr' → (∀ m, m < 3 * L + 3 → pl' m = pl m ∧ ac' m = ac m ∧ vr' m = vr m) →
      post (lo, fX, fV, sX, sV, fo, cc, sz, kd, nm, sv, sa, wy, pl', ac', vr', upd sl (L + 1) (sr_mf (sr_zc S K nm p z t)), upd hT (L + 1) 0, lV, mV, lA, mA)) : wpX_turn post (lo, fX, fV, sX, sV, fo, cc, sz, kd, nm, sv, sa, wy, pl, ac, vr, sl, hT, lV, mV, lA, mA) (nI L) (nI t) := by
  have hc : 4 * t + p t < 12 := sr_cell G ht he
  have hS := G.1 t ht
  have hlt := sr_en_lt he
  have c1 : (nI (3 * L + t)).toNatClampNeg = 3 * L + t := nI_clamp (by omega)
  have c2 : (nI (3 * L + 3 + t)).toNatClampNeg = 3 * L + 3 + t := nI_clamp (by omega)
  have i1 : vp_in (nI (3 * L + t)) 39 := vp_in_nI (by omega) (by decide)
  have i2 : vp_in (nI (3 * L + 3 + t)) 39 := vp_in_nI (by omega) (by decide)
  unfold wpX_turn
  dsimp only
  refine nm_r (sr_x3 L) (nm_r (sr_p3 (3 * L)) ⟨4, ?_⟩)
  refine sx_t12 hL hp 3 0 pl ac vr rfl hl (fun j hj => absurd hj (Nat.not_lt_zero _)) ?_
  intro pl1 ac1 vr1 l1 l2 l3
  rw [wX_turn_12]
  dsimp only
  rw [nI_add (3 * L) t, nI_add (3 * L + 3) t, c1, c2, (l1 t ht).1, (l2 t ht).1, sr_c4x, nI_1 (p t), sr_nar2 (by omega)]
  refine br_t (by decide) ⟨i1, nm_e ⟨i2, i2, nm_e ?_⟩⟩
  refine sx_car G E (v := v) ht hc (by omega) (fun j hj => (l2 j hj).2.1) (fun j hj => (l2 j hj).2.2) ?_
  intro ac2 vr2 a1 a2 a3
  dsimp only
  refine ⟨4, ?_⟩
  refine sx_t127 G E (p := p) (z := z) (h := h) (f := sr_zc S K nm p z t) hL hc (fun s hs => ?_) hsl hht (fun s hs q => ?_) (fun s hs => ?_) ?_ 3 0 rfl
  · rw [pk_un (by omega)]
    exact (l1 s hs).1
  · rw [hb s hs, Bool.or_eq_true, Bool.and_eq_true] at q
    rcases q with q | q
    · have := hz s hs q
      omega
    · exact sr_cell G hs q.2
  · rw [hb s hs]
    rfl
  · refine H _ ac2 vr2 (fun s hs => ?_) (fun m hm => ?_)
    · rw [show 3 * (L + 1) + s = 3 * L + 3 + s by omega]
      refine ⟨?_, a1 s hs, a2 s hs⟩
      by_cases e : s = t
      · subst e
        rw [pk_us, sr_bp_s]
      · rw [pk_un (by omega), sr_bp_n e]
        exact (l2 s hs).1
    · rw [pk_un (by omega), (a3 m hm).1, (a3 m hm).2]
      exact l3 m hm
end
end
end
section
/-! the component: the end of a schedule is taken into account -/
def sr_nl (m fi : Bool) (old v : Int32) : Int32 := if fi = true then v else sr_bs m old v
theorem sr_be_snoc {α : Type} {m : Bool} {f : α → Int32} {l : List α} {old : Int32} (v : α) (h : l ≠ [] → sr_be m f l old) : sr_be m f (l ++ [v]) (sr_nl m (decide (l = [])) old (f v)) := by
  unfold sr_nl
  by_cases e : l = []
  · rw [if_pos (decide_eq_true e), e]
    refine ⟨⟨v, by simp, rfl⟩, fun w hw => ?_⟩
    have ew : w = v := by simpa using hw
    rw [ew]
    cases m with
    | true => exact Int32.le_refl _
    | false => exact Int32.le_refl _
  · rw [if_neg (fun z => e (of_decide_eq_true z))]
    obtain ⟨⟨w, hw, h1⟩, h2⟩ := h e
    obtain ⟨b1, b2⟩ := sr_bs_1 m old (f v)
    refine ⟨?_, fun x hx => ?_⟩
    · rcases b1 with b1 | b1
      · exact ⟨w, List.mem_append_left _ hw, b1.trans h1⟩
      · exact ⟨v, by simp, b1⟩
    · rcases List.mem_append.mp hx with hx | hx
      · have h3 := h2 x hx
        cases m with
        | true =>
          rw [if_pos rfl] at h3 b2 ⊢
          exact Int32.le_trans b2.1 h3
        | false =>
          rw [if_neg (by decide)] at h3 b2 ⊢
          exact Int32.le_trans h3 b2.1
      · have ex : x = v := by simpa using hx
        rw [ex]
        cases m with
        | true =>
          rw [if_pos rfl] at b2 ⊢
          exact b2.2
        | false =>
          rw [if_neg (by decide)] at b2 ⊢
          exact b2.2
/-- what the walk has found when it has met the ends l -/
def sx_ou (a : Nat) (x : Int32) (b : Nat) (y : Int32) (l : List (Nat → Int32)) (fo cc : Int32) (lV mV lA mA : Nat → Int32) : Prop :=
  cc = nI l.length ∧ fo = sr_b (l.any (fun v => decide (v a = x) && decide (v b = y))) ∧
  (l ≠ [] → ∀ j, j < 3 → sr_be true (fun v : Nat → Int32 => v j) l (lV j) ∧ sr_be false (fun v : Nat → Int32 => v j) l (mV j) ∧ sr_be true (fun v : Nat → Int32 => v (3 + j)) l (lA j) ∧ sr_be false (fun v : Nat → Int32 => v (3 + j)) l (mA j))
section
variable {lo fX fV sX sV fo cc : Int32} {sz kd nm sv sa wy pl ac vr sl hT : Nat → Int32}
section
variable {lV mV lA mA : Nat → Int32}
theorem sx_a193 {post : SX → Prop} {J : Int32 → (Nat → Int32) → (Nat → Int32) → (Nat → Int32) → (Nat → Int32) → (Nat → Int32) → (Nat → Int32) → (Nat → Int32) → (Nat → Int32) → (Nat → Int32) → (Nat → Int32) → (Nat → Int32) → (Nat → Int32) → (Nat → Int32) → (Nat → Int32) → (Nat → Int32) → Prop} {x2 x5 z0 : Int32} {j : Nat} (hj : j < 3) (fi : Bool)
    (h : J (nI (j + 1)) sz kd nm sv sa wy pl ac vr sl hT lV mV (upd lA j z0) (upd mA j (sr_nl false fi (mA j) x5))) : wX_arrive_193 post J x2 (nI j) x5 (sr_b fi) z0 (nI j) lo fX fV sX sV fo cc sz kd nm sv sa wy pl ac vr sl hT lV mV lA mA := by
  have c : (nI j).toNatClampNeg = j := nI_clamp (by omega)
  have i3 : vp_in (nI j) 3 := vp_in_nI hj (by decide)
  unfold wX_arrive_193
  unfold sr_nl sr_bs at h
  rw [c]
  refine ⟨i3, nm_e ?_⟩
  cases fi with
  | true => exact br_f (by decide) ⟨i3, nm_e (nm_r (nI_1 j) h)⟩
  | false =>
    refine br_t rfl ⟨i3, ?_⟩
    by_cases e : x5 ≤ mA j
    · refine br_t e ⟨i3, i3, nm_e (nm_r (nI_1 j) ?_)⟩
      rw [if_neg (c := false = true) (by decide), if_neg (c := false = true) (by decide), if_pos e] at h
      exact h
    · refine br_f e ⟨i3, nm_e (nm_r (nI_1 j) ?_)⟩
      rw [if_neg (c := false = true) (by decide), if_neg (c := false = true) (by decide), if_neg e] at h
      exact h
theorem sx_a160 {post : SX → Prop} {J : Int32 → (Nat → Int32) → (Nat → Int32) → (Nat → Int32) → (Nat → Int32) → (Nat → Int32) → (Nat → Int32) → (Nat → Int32) → (Nat → Int32) → (Nat → Int32) → (Nat → Int32) → (Nat → Int32) → (Nat → Int32) → (Nat → Int32) → (Nat → Int32) → (Nat → Int32) → Prop} {x2 x5 z0 : Int32} {j : Nat} (hj : j < 3) (fi : Bool)
    (h : J (nI (j + 1)) sz kd nm sv sa wy pl ac vr sl hT lV (upd mV j z0) (upd lA j (sr_nl true fi (lA j) x5)) (upd mA j (sr_nl false fi (mA j) x5))) : wX_arrive_160 post J x2 (nI j) x5 (sr_b fi) z0 (nI j) lo fX fV sX sV fo cc sz kd nm sv sa wy pl ac vr sl hT lV mV lA mA := by
  have c : (nI j).toNatClampNeg = j := nI_clamp (by omega)
  have i3 : vp_in (nI j) 3 := vp_in_nI hj (by decide)
  unfold wX_arrive_160
  rw [c]
  refine ⟨i3, nm_e ?_⟩
  cases fi with
  | true => exact br_f (by decide) (sx_a193 hj true h)
  | false =>
    refine br_t rfl ⟨i3, ?_⟩
    by_cases e : lA j ≤ x5
    · refine br_t e ⟨i3, sx_a193 hj false ?_⟩
      have q : sr_nl true false (lA j) x5 = lA j := by
        unfold sr_nl sr_bs
        rw [if_neg (c := false = true) (by decide), if_pos (c := true = true) rfl, if_pos e]
      rw [q] at h
      exact h
    · refine br_f e (sx_a193 hj false ?_)
      have q : sr_nl true false (lA j) x5 = x5 := by
        unfold sr_nl sr_bs
        rw [if_neg (c := false = true) (by decide), if_pos (c := true = true) rfl, if_neg e]
      rw [q] at h
      exact h
theorem sx_a127 {post : SX → Prop} {J : Int32 → (Nat → Int32) → (Nat → Int32) → (Nat → Int32) → (Nat → Int32) → (Nat → Int32) → (Nat → Int32) → (Nat → Int32) → (Nat → Int32) → (Nat → Int32) → (Nat → Int32) → (Nat → Int32) → (Nat → Int32) → (Nat → Int32) → (Nat → Int32) → (Nat → Int32) → Prop} {x2 x4 x5 z0 : Int32} {j : Nat} (hj : j < 3) (fi : Bool)
    (h : J (nI (j + 1)) sz kd nm sv sa wy pl ac vr sl hT (upd lV j z0) (upd mV j (sr_nl false fi (mV j) x4)) (upd lA j (sr_nl true fi (lA j) x5)) (upd mA j (sr_nl false fi (mA j) x5))) : wX_arrive_127 post J x2 (nI j) x4 x5 (sr_b fi) z0 (nI j) lo fX fV sX sV fo cc sz kd nm sv sa wy pl ac vr sl hT lV mV lA mA := by
  have c : (nI j).toNatClampNeg = j := nI_clamp (by omega)
  have i3 : vp_in (nI j) 3 := vp_in_nI hj (by decide)
  unfold wX_arrive_127
  rw [c]
  refine ⟨i3, nm_e ?_⟩
  cases fi with
  | true => exact br_f (by decide) (sx_a160 hj true h)
  | false =>
    refine br_t rfl ⟨i3, ?_⟩
    by_cases e : x4 ≤ mV j
    · refine br_t e ⟨i3, sx_a160 hj false ?_⟩
      have q : sr_nl false false (mV j) x4 = mV j := by
        unfold sr_nl sr_bs
        rw [if_neg (c := false = true) (by decide), if_neg (c := false = true) (by decide), if_pos e]
      rw [q] at h
      exact h
    · refine br_f e (sx_a160 hj false ?_)
      have q : sr_nl false false (mV j) x4 = x4 := by
        unfold sr_nl sr_bs
        rw [if_neg (c := false = true) (by decide), if_neg (c := false = true) (by decide), if_neg e]
      rw [q] at h
      exact h
theorem sx_a93 {post : SX → Prop} {J : Int32 → (Nat → Int32) → (Nat → Int32) → (Nat → Int32) → (Nat → Int32) → (Nat → Int32) → (Nat → Int32) → (Nat → Int32) → (Nat → Int32) → (Nat → Int32) → (Nat → Int32) → (Nat → Int32) → (Nat → Int32) → (Nat → Int32) → (Nat → Int32) → (Nat → Int32) → Prop} {x2 x4 x5 : Int32} {j : Nat} (hj : j < 3) (fi : Bool)
    (h : J (nI (j + 1)) sz kd nm sv sa wy pl ac vr sl hT (upd lV j (sr_nl true fi (lV j) x4)) (upd mV j (sr_nl false fi (mV j) x4)) (upd lA j (sr_nl true fi (lA j) x5)) (upd mA j (sr_nl false fi (mA j) x5))) : wX_arrive_93 post J x2 (nI j) x4 x5 (sr_b fi) lo fX fV sX sV fo cc sz kd nm sv sa wy pl ac vr sl hT lV mV lA mA := by
  have c : (nI j).toNatClampNeg = j := nI_clamp (by omega)
  have i3 : vp_in (nI j) 3 := vp_in_nI hj (by decide)
  unfold wX_arrive_93
  rw [c]
  cases fi with
  | true => exact br_f (by decide) (sx_a127 hj true h)
  | false =>
    refine br_t rfl ⟨i3, ?_⟩
    by_cases e : lV j ≤ x4
    · refine br_t e ⟨i3, sx_a127 hj false ?_⟩
      have q : sr_nl true false (lV j) x4 = lV j := by
        unfold sr_nl sr_bs
        rw [if_neg (c := false = true) (by decide), if_pos (c := true = true) rfl, if_pos e]
      rw [q] at h
      exact h
    · refine br_f e (sx_a127 hj false ?_)
      have q : sr_nl true false (lV j) x4 = x4 := by
        unfold sr_nl sr_bs
        rw [if_neg (c := false = true) (by decide), if_pos (c := true = true) rfl, if_neg e]
      rw [q] at h
      exact h
end
theorem sx_a56 {post : SX → Prop} {L : Nat} {p : Nat → Nat} {v : Nat → Int32} {l : List (Nat → Int32)} (hL : L ≤ 12) (hl : sx_lv L p v pl ac vr) (hc : cc = nI l.length) (hn : l.length < 2 ^ 31)
    (H : ∀ lV' mV' lA' mA' : Nat → Int32, (∀ j, j < 3 → sr_be true (fun v : Nat → Int32 => v j) (l ++ [v]) (lV' j) ∧ sr_be false (fun v : Nat → Int32 => v j) (l ++ [v]) (mV' j) ∧ sr_be true (fun v : Nat → Int32 => v (3 + j)) (l ++ [v]) (lA' j) ∧ sr_be false (fun v : Nat → Int32 => v (3 + j)) (l ++ [v]) (mA' j)) →
      post (lo, fX, fV, sX, sV, fo, nI (l.length + 1), sz, kd, nm, sv, sa, wy, pl, ac, vr, sl, hT, lV', mV', lA', mA')) :
    ∀ (k i : Nat) (lV mV lA mA : Nat → Int32), i + k = 3 →
    (∀ j, j < i → sr_be true (fun v : Nat → Int32 => v j) (l ++ [v]) (lV j) ∧ sr_be false (fun v : Nat → Int32 => v j) (l ++ [v]) (mV j) ∧ sr_be true (fun v : Nat → Int32 => v (3 + j)) (l ++ [v]) (lA j) ∧ sr_be false (fun v : Nat → Int32 => v (3 + j)) (l ++ [v]) (mA j)) →
    (l ≠ [] → ∀ j, i ≤ j → j < 3 → sr_be true (fun v : Nat → Int32 => v j) l (lV j) ∧ sr_be false (fun v : Nat → Int32 => v j) l (mV j) ∧ sr_be true (fun v : Nat → Int32 => v (3 + j)) l (lA j) ∧ sr_be false (fun v : Nat → Int32 => v (3 + j)) l (mA j)) →
    wX_arrive_56 post (nI (3 * L)) lo fX fV sX sV fo cc (k + 1) (nI i) sz kd nm sv sa wy pl ac vr sl hT lV mV lA mA := by
  intro k
  induction k with
  | zero =>
    intro i lV mV lA mA hi h1 h2
    obtain rfl : i = 3 := by omega
    rw [wX_arrive_56]
    exact br_t (by decide) (nm_r (e' := nI (l.length + 1)) (by rw [hc, nI_1]) (H lV mV lA mA h1))
  | succ k ih =>
    intro i lV mV lA mA hi h1 h2
    have hi3 : i < 3 := by omega
    have c1 : (nI (3 * L + i)).toNatClampNeg = 3 * L + i := nI_clamp (by omega)
    have i1 : vp_in (nI (3 * L + i)) 39 := vp_in_nI (by omega) (by decide)
    obtain ⟨r1, r2, r3⟩ := hl i hi3
    have nx := ih (i + 1) (upd lV i (sr_nl true (decide (l = [])) (lV i) (v i))) (upd mV i (sr_nl false (decide (l = [])) (mV i) (v i))) (upd lA i (sr_nl true (decide (l = [])) (lA i) (v (3 + i)))) (upd mA i (sr_nl false (decide (l = [])) (mA i) (v (3 + i)))) (by omega) ?_ ?_
    · rw [wX_arrive_56]
      dsimp only
      rw [nI_add (3 * L) i, c1, r2, r3]
      refine br_f (nI_ge (b := 3) (by omega) (by decide)) ⟨i1, nm_e ⟨i1, nm_e ?_⟩⟩
      by_cases e : l = []
      · rw [decide_eq_true e] at nx
        exact br_t (by rw [hc, e]; rfl) (sx_a93 hi3 true nx)
      · rw [decide_eq_false e] at nx
        refine br_f ?_ (sx_a93 hi3 false nx)
        rw [hc]
        refine nI_ne0 ?_ hn
        cases l with
        | nil => exact absurd rfl e
        | cons a l => exact Nat.succ_pos _
    · intro j hj
      by_cases e : j = i
      · subst e
        rw [pk_us, pk_us, pk_us, pk_us]
        exact ⟨sr_be_snoc (f := fun v : Nat → Int32 => v j) v (fun hn => (h2 hn j (Nat.le_refl _) hi3).1), sr_be_snoc (f := fun v : Nat → Int32 => v j) v (fun hn => (h2 hn j (Nat.le_refl _) hi3).2.1),
          sr_be_snoc (f := fun v : Nat → Int32 => v (3 + j)) v (fun hn => (h2 hn j (Nat.le_refl _) hi3).2.2.1), sr_be_snoc (f := fun v : Nat → Int32 => v (3 + j)) v (fun hn => (h2 hn j (Nat.le_refl _) hi3).2.2.2)⟩
      · rw [pk_un e, pk_un e, pk_un e, pk_un e]
        exact h1 j (by omega)
    · intro hn j hj1 hj2
      rw [pk_un (by omega), pk_un (by omega), pk_un (by omega), pk_un (by omega)]
      exact h2 hn j (by omega) hj2
theorem sx_arrive {post : SX → Prop} {lV mV lA mA : Nat → Int32} {L a b : Nat} {p : Nat → Nat} {v : Nat → Int32} {l : List (Nat → Int32)} (hL : L ≤ 12) (ha : a < 3) (hb : b < 3) (eX : fX = nI a) (eY : sX = nI b)
    (hl : sx_lv L p v pl ac vr) (ho : sx_ou a fV b sV l fo cc lV mV lA mA) (hn : l.length < 2 ^ 31)
    (H : ∀ (fo' cc' : Int32) (lV' mV' lA' mA' : Nat → Int32), sx_ou a fV b sV (l ++ [v]) fo' cc' lV' mV' lA' mA' → post (lo, fX, fV, sX, sV, fo', cc', sz, kd, nm, sv, sa, wy, pl, ac, vr, sl, hT, lV', mV', lA', mA')) : wpX_arrive post (lo, fX, fV, sX, sV, fo, cc, sz, kd, nm, sv, sa, wy, pl, ac, vr, sl, hT, lV, mV, lA, mA) (nI L) := by
  subst eX eY
  obtain ⟨o1, o2, o3⟩ := ho
  have c1 : (nI (3 * L + a)).toNatClampNeg = 3 * L + a := nI_clamp (by omega)
  have i1 : vp_in (nI (3 * L + a)) 39 := vp_in_nI (by omega) (by decide)
  have c2 : (nI (3 * L + b)).toNatClampNeg = 3 * L + b := nI_clamp (by omega)
  have i2 : vp_in (nI (3 * L + b)) 39 := vp_in_nI (by omega) (by decide)
  have fin : ∀ fo', fo' = sr_b ((l ++ [v]).any (fun v => decide (v a = fV) && decide (v b = sV))) → ∃ n56 : Nat, wX_arrive_56 post (nI (3 * L)) lo (nI a) fV (nI b) sV fo' cc n56 0 sz kd nm sv sa wy pl ac vr sl hT lV mV lA mA := by
    intro fo' ef
    refine ⟨4, sx_a56 hL hl o1 hn ?_ 3 0 lV mV lA mA rfl (fun j hj => absurd hj (Nat.not_lt_zero _)) (fun hn j _ hj => o3 hn j hj)⟩
    intro lV' mV' lA' mA' h1
    refine H fo' _ lV' mV' lA' mA' ⟨?_, ef, fun _ => h1⟩
    rw [List.length_append]
    rfl
  have nb : ∀ q : Bool, narrow .boolean (.int (sr_b q)) = .int (sr_b q) ∧ fits .boolean (.int (sr_b q)) = true := by
    intro q
    cases q
    · exact ⟨rfl, by decide⟩
    · exact ⟨rfl, by decide⟩
  have or1 : ∀ q : Bool, sr_b q ||| 1 = sr_b (q || true) := by decide
  have or0 : ∀ q : Bool, sr_b q ||| 0 = sr_b (q || false) := by decide
  rw [List.any_append, List.any_cons, List.any_nil, Bool.or_false] at fin
  unfold wpX_arrive
  dsimp only
  refine nm_r (sr_x3 L) ?_
  rw [nI_add (3 * L) a, nI_add (3 * L) b, c1, c2, (hl a ha).2.2, (hl b hb).2.2, o2]
  refine ⟨i1, ?_⟩
  by_cases e1 : v a = fV
  · refine br_t e1 ⟨i2, ?_⟩
    by_cases e2 : v b = sV
    · rw [decide_eq_true e1, decide_eq_true e2] at fin
      refine br_t e2 (nm_r (or1 _) ⟨(nb _).1, (nb _).2, fin _ rfl⟩)
    · rw [decide_eq_true e1, decide_eq_false e2] at fin
      refine br_f e2 (nm_r (or0 _) ⟨(nb _).1, (nb _).2, fin _ rfl⟩)
  · rw [decide_eq_false e1, Bool.false_and] at fin
    refine br_f e1 (nm_r (or0 _) ⟨(nb _).1, (nb _).2, fin _ rfl⟩)
end
end
section
/-! the component: the walk over the tree of schedules -/
def sr_R : Nat → Nat
  | 0 => 1
  | d + 1 => 1 + 3 * (sr_R d + 1)
theorem sr_R12 : sr_R 12 = 1594321 := by decide
theorem sr_R1 (d : Nat) : 1 ≤ sr_R d := by
  cases d with
  | zero => exact Nat.le_refl 1
  | succ d => unfold sr_R; omega
/-- what the walk meets through the last k threads -/
def sr_xr (S K : Nat → Nat) (M : Nat → Int32) (d : Nat) (p : Nat → Nat) (z : Nat → Bool) : Nat → List (List Nat)
  | 0 => []
  | k + 1 => sr_bl (sr_en S K M p (2 - k) && !(z (2 - k))) (2 - k) (sr_xs S K M d (sr_bp p (2 - k)) (sr_zc S K M p z (2 - k))) ++ sr_xr S K M d p z k
theorem sr_xs_xr {S K : Nat → Nat} {M : Nat → Int32} {d : Nat} {p : Nat → Nat} {z : Nat → Bool} (h : ¬ sr_sk S K M p = true) : sr_xs S K M (d + 1) p z = sr_xr S K M d p z 3 := by
  rw [sr_xs, if_neg h]
  show _ = sr_bl _ 0 _ ++ (sr_bl _ 1 _ ++ (sr_bl _ 2 _ ++ []))
  rw [List.append_nil]
theorem sr_xs_sk {S K : Nat → Nat} {M : Nat → Int32} {d : Nat} {p : Nat → Nat} {z : Nat → Bool} (h : sr_sk S K M p = true) : sr_xs S K M d p z = [[]] := by
  cases d with
  | zero => rfl
  | succ d => rw [sr_xs, if_pos h]
def sx_fr (L : Nat) (pl ac vr sl hT pl' ac' vr' sl' hT' : Nat → Int32) : Prop := (∀ m, m < 3 * L → pl' m = pl m ∧ ac' m = ac m ∧ vr' m = vr m) ∧ (∀ m, m < L → sl' m = sl m ∧ hT' m = hT m)
section
variable {S K : Nat → Nat} {lo fX fV sX sV : Int32} {sz kd nm sv sa wy : Nat → Int32}
section
variable {fo cc : Int32} {pl ac vr sl hT lV mV lA mA : Nat → Int32}
theorem sx_hd {post : SX → Prop} {L r n : Nat} (hL : L ≤ 12) (hr : r < 2097152) (h1 : lo ≠ 0 → fo ≠ 0 → post (lo, fX, fV, sX, sV, fo, cc, sz, kd, nm, sv, sa, wy, pl, ac, vr, sl, hT, lV, mV, lA, mA)) (h2 : wX_walk_96 post (wX_walk_72 post n) (nI L) (nI r) lo fX fV sX sV fo cc sz kd nm sv sa wy pl ac vr sl hT lV mV lA mA) :
    wX_walk_72 post (n + 1) (nI L) (nI r) lo fX fV sX sV fo cc sz kd nm sv sa wy pl ac vr sl hT lV mV lA mA := by
  rw [wX_walk_72]
  exact br_f (nI_ge (b := 2097152) hr (by decide)) (br_f (nI_pos (by omega)) (br_c (fun _ => h2) (fun hlo => br_c (fun _ => h2) (fun hfo => h1 hlo hfo))))
theorem sx_w111n {post : SX → Prop} {L r n : Nat} {f z h : Nat → Bool} (hL : L ≤ 12) (hsl : sl L = sr_mf z) (hht : hT L = sr_mf h) (hn : ∀ s, s < 3 → ((f s && !(z s)) && !(h s)) = false)
    (H : wX_walk_72 post n (nI L + (-1)) (nI (r + 1)) lo fX fV sX sV fo cc sz kd nm sv sa wy pl ac vr sl hT lV mV lA mA) : wX_walk_111 post (wX_walk_72 post n) (nI L) (nI r) (sr_mf f) lo fX fV sX sV fo cc sz kd nm sv sa wy pl ac vr sl hT lV mV lA mA := by
  have cL : (nI L).toNatClampNeg = L := nI_clamp (by omega)
  have iL : vp_in (nI L) 13 := vp_in_nI (by omega) (by decide)
  have em : (sr_mf f &&& (sr_mf z ^^^ (-1))) &&& (sr_mf h ^^^ (-1)) = sr_mf (fun s => (f s && !(z s)) && !(h s)) := by
    unfold sr_mf
    rw [sr_mk_an, sr_mk_an]
  unfold wX_walk_111
  rw [cL, hsl, hht, em]
  refine ⟨iL, iL, ?_⟩
  refine sx_next _ ?_ ?_
  · intro t ht e _
    have e2 : ((f t && !(z t)) && !(h t)) = true := e
    rw [hn t ht] at e2
    exact absurd e2 (by decide)
  · intro _
    exact br_f (by decide) (nm_e (nm_r (nI_1 r) H))
theorem sx_w111t {post : SX → Prop} (G : sr_gd S K nm) (E : sy_gd S K sz kd) {L r n i : Nat} {p : Nat → Nat} {v : Nat → Int32} {z : Nat → Bool} (hL : L ≤ 11) (hi : i < 3) (hp : ∀ j, j < 3 → p j ≤ 4) (hz : ∀ s, s < 3 → z s = true → p s < 4)
    (hl : sx_lv L p v pl ac vr) (hsl : sl L = sr_mf z) (hht : hT L = sr_mt (fun s => sr_en S K nm p s && !(z s)) i) (ha : (sr_en S K nm p i && !(z i)) = true)
    (H : ∀ pl' ac' vr' : Nat → Int32, sx_lv (L + 1) (sr_bp p i) (sr_ex K nm v i (4 * i + p i)) pl' ac' vr' → (∀ m, m < 3 * L + 3 → pl' m = pl m ∧ ac' m = ac m ∧ vr' m = vr m) →
      wX_walk_72 post n (nI (L + 1)) (nI (r + 1)) lo fX fV sX sV fo cc sz kd nm sv sa wy pl' ac' vr' (upd sl (L + 1) (sr_mf (sr_zc S K nm p z i))) (upd (upd hT (L + 1) 0) L (sr_mt (fun s => sr_en S K nm p s && !(z s)) (i + 1))) lV mV lA mA) :
    wX_walk_111 post (wX_walk_72 post n) (nI L) (nI r) (sr_mf (sr_en S K nm p)) lo fX fV sX sV fo cc sz kd nm sv sa wy pl ac vr sl hT lV mV lA mA := by
  have cL : (nI L).toNatClampNeg = L := nI_clamp (by omega)
  have iL : vp_in (nI L) 13 := vp_in_nI (by omega) (by decide)
  have ha2 : sr_en S K nm p i = true := by
    rw [Bool.and_eq_true] at ha
    exact ha.1
  have em : (sr_mf (sr_en S K nm p) &&& (sr_mf z ^^^ (-1))) &&& (sr_mt (fun s => sr_en S K nm p s && !(z s)) i ^^^ (-1)) = sr_mf (fun s => (sr_en S K nm p s && !(z s)) && !(decide (s < i) && (sr_en S K nm p s && !(z s)))) := by
    unfold sr_mt sr_mf
    rw [sr_mk_an, sr_mk_an]
  unfold wX_walk_111
  rw [cL, hsl, hht, em]
  refine ⟨iL, iL, ?_⟩
  have act : ((sr_en S K nm p i && !(z i)) && !(decide (i < i) && (sr_en S K nm p i && !(z i)))) = true := by
    rw [ha, decide_eq_false (Nat.lt_irrefl i)]
    rfl
  refine sx_next _ ?_ ?_
  · intro t ht e hmin
    have et : t = i := by
      rcases Nat.lt_trichotomy t i with h | h | h
      · have e2 : ((sr_en S K nm p t && !(z t)) && !(decide (t < i) && (sr_en S K nm p t && !(z t)))) = true := e
        rw [decide_eq_true h, Bool.true_and, Bool.and_not_self] at e2
        exact absurd e2 (by decide)
      · exact h
      · have e2 : ((sr_en S K nm p i && !(z i)) && !(decide (i < i) && (sr_en S K nm p i && !(z i)))) = false := hmin i h
        rw [act] at e2
        exact absurd e2 (by decide)
    subst et
    refine br_t (nI_pos' (by omega)) ?_
    refine sx_turn G E (z := z) (h := fun s => decide (s < t) && (sr_en S K nm p s && !(z s))) hL ht ha2 hp hl hsl hht (fun s hs => ?_) hz ?_
    · cases z s <;> cases decide (s < t) <;> cases sr_en S K nm p s <;> rfl
    · intro pl' ac' vr' h1 h2
      dsimp only
      have e3 : upd hT (L + 1) 0 L = sr_mt (fun s => sr_en S K nm p s && !(z s)) t := by
        rw [pk_un (by omega)]
        exact hht
      rw [e3, sr_mt_t _ ht ha]
      refine ⟨iL, iL, nm_r (e' := upd (upd hT (L + 1) 0) L (sr_mt (fun s => sr_en S K nm p s && !(z s)) (t + 1))) ?_ (nm_r (nI_1 L) (nm_r (nI_1 r) (H pl' ac' vr' h1 h2)))⟩
      unfold sr_mt sr_mf
      rw [sr_mk_n]
  · intro hall
    have e2 : ((sr_en S K nm p i && !(z i)) && !(decide (i < i) && (sr_en S K nm p i && !(z i)))) = false := hall i hi
    rw [act] at e2
    exact absurd e2 (by decide)
theorem sx_w96n {post : SX → Prop} (G : sr_gd S K nm) (E : sy_gd S K sz kd) {L r n : Nat} {p : Nat → Nat} {v : Nat → Int32} (hL : L ≤ 12) (hp : ∀ j, j < 3 → p j ≤ 4) (hl : sx_lv L p v pl ac vr) (hs : ¬ sr_sk S K nm p = true)
    (H : wX_walk_111 post (wX_walk_72 post n) (nI L) (nI r) (sr_mf (sr_en S K nm p)) lo fX fV sX sV fo cc sz kd nm sv sa wy pl ac vr sl hT lV mV lA mA) : wX_walk_96 post (wX_walk_72 post n) (nI L) (nI r) lo fX fV sX sV fo cc sz kd nm sv sa wy pl ac vr sl hT lV mV lA mA := by
  unfold wX_walk_96
  refine sx_enabled G E hL hp hl ?_
  refine br_f (fun q => hs ?_) H
  obtain ⟨q0, q1, q2⟩ := (sr_mk_z _ _ _).mp q
  unfold sr_sk
  rw [q0, q1, q2]
  rfl
theorem sx_w96s {post : SX → Prop} (G : sr_gd S K nm) (E : sy_gd S K sz kd) {L r n a b : Nat} {p : Nat → Nat} {v : Nat → Int32} {l : List (Nat → Int32)} (hL : L ≤ 12) (hp : ∀ j, j < 3 → p j ≤ 4) (hl : sx_lv L p v pl ac vr) (hs : sr_sk S K nm p = true)
    (ha : a < 3) (hb : b < 3) (eX : fX = nI a) (eY : sX = nI b) (ho : sx_ou a fV b sV l fo cc lV mV lA mA) (hn : l.length < 2 ^ 31)
    (H : ∀ (fo' cc' : Int32) (lV' mV' lA' mA' : Nat → Int32), sx_ou a fV b sV (l ++ [v]) fo' cc' lV' mV' lA' mA' → wX_walk_111 post (wX_walk_72 post n) (nI L) (nI r) (sr_mf (sr_en S K nm p)) lo fX fV sX sV fo' cc' sz kd nm sv sa wy pl ac vr sl hT lV' mV' lA' mA') :
    wX_walk_96 post (wX_walk_72 post n) (nI L) (nI r) lo fX fV sX sV fo cc sz kd nm sv sa wy pl ac vr sl hT lV mV lA mA := by
  unfold wX_walk_96
  refine sx_enabled G E hL hp hl ?_
  refine br_t ?_ ?_
  · have q := sr_sk_iff.mp hs
    unfold sr_mf
    rw [q 0 (by decide), q 1 (by decide), q 2 (by decide)]
    exact sr_mk_0
  · refine sx_arrive hL ha hb eX eY hl ho hn ?_
    intro fo' cc' lV' mV' lA' mA' h1
    exact H fo' cc' lV' mV' lA' mA' h1
end
theorem sx_sub {post : SX → Prop} {Gd : (Nat → Int32) → Prop} (G : sr_gd S K nm) (E : sy_gd S K sz kd) {a b : Nat} (ha : a < 3) (hb : b < 3) (eX : fX = nI a) (eY : sX = nI b)
    (hE : ∀ (fo cc : Int32) (pl ac vr sl hT lV mV lA mA : Nat → Int32) (l : List (Nat → Int32)), lo ≠ 0 → fo ≠ 0 → (∀ x, x ∈ l → Gd x) → sx_ou a fV b sV l fo cc lV mV lA mA → post (lo, fX, fV, sX, sV, fo, cc, sz, kd, nm, sv, sa, wy, pl, ac, vr, sl, hT, lV, mV, lA, mA)) :
    ∀ (d L : Nat) (p : Nat → Nat) (v : Nat → Int32) (z : Nat → Bool) (l : List (Nat → Int32)) (r n : Nat) (fo cc : Int32) (pl ac vr sl hT lV mV lA mA : Nat → Int32),
    L + d = 12 → sr_rm S p ≤ d → (∀ j, j < 3 → p j ≤ 4) → (∀ s, s < 3 → z s = true → p s < 4) → sx_lv L p v pl ac vr → sl L = sr_mf z → hT L = 0 → sx_ou a fV b sV l fo cc lV mV lA mA →
    l.length ≤ r → n + r = 2097153 → r + sr_R d ≤ 2097151 → (∀ x, x ∈ l → Gd x) → (∀ w, w ∈ sr_xs S K nm d p z → Gd (sr_rn K nm w p v)) →
    (∀ (r' n' : Nat) (fo' cc' : Int32) (pl' ac' vr' sl' hT' lV' mV' lA' mA' : Nat → Int32), r' ≤ r + sr_R d → n' + r' = 2097153 → sx_fr L pl ac vr sl hT pl' ac' vr' sl' hT' →
      sx_ou a fV b sV (l ++ (sr_xs S K nm d p z).map (fun w => sr_rn K nm w p v)) fo' cc' lV' mV' lA' mA' → (l ++ (sr_xs S K nm d p z).map (fun w => sr_rn K nm w p v)).length ≤ r' →
      wX_walk_72 post n' (nI L + (-1)) (nI r') lo fX fV sX sV fo' cc' sz kd nm sv sa wy pl' ac' vr' sl' hT' lV' mV' lA' mA') →
    wX_walk_72 post n (nI L) (nI r) lo fX fV sX sV fo cc sz kd nm sv sa wy pl ac vr sl hT lV mV lA mA := by
  have stuck : ∀ (d L : Nat) (p : Nat → Nat) (v : Nat → Int32) (z : Nat → Bool) (l : List (Nat → Int32)) (r n : Nat) (fo cc : Int32) (pl ac vr sl hT lV mV lA mA : Nat → Int32), sr_sk S K nm p = true →
    L + d = 12 → (∀ j, j < 3 → p j ≤ 4) → sx_lv L p v pl ac vr → sl L = sr_mf z → hT L = 0 → sx_ou a fV b sV l fo cc lV mV lA mA →
    l.length ≤ r → n + r = 2097153 → r + sr_R d ≤ 2097151 → (∀ x, x ∈ l → Gd x) →
    (∀ (r' n' : Nat) (fo' cc' : Int32) (pl' ac' vr' sl' hT' lV' mV' lA' mA' : Nat → Int32), r' ≤ r + sr_R d → n' + r' = 2097153 → sx_fr L pl ac vr sl hT pl' ac' vr' sl' hT' →
      sx_ou a fV b sV (l ++ (sr_xs S K nm d p z).map (fun w => sr_rn K nm w p v)) fo' cc' lV' mV' lA' mA' → (l ++ (sr_xs S K nm d p z).map (fun w => sr_rn K nm w p v)).length ≤ r' →
      wX_walk_72 post n' (nI L + (-1)) (nI r') lo fX fV sX sV fo' cc' sz kd nm sv sa wy pl' ac' vr' sl' hT' lV' mV' lA' mA') →
    wX_walk_72 post n (nI L) (nI r) lo fX fV sX sV fo cc sz kd nm sv sa wy pl ac vr sl hT lV mV lA mA := by
    intro d L p v z l r n fo cc pl ac vr sl hT lV mV lA mA hs hLd hp hl hsl hht ho hlr hn hr hG hK
    have hR := sr_R1 d
    rw [sr_xs_sk hs] at hK
    obtain ⟨m, rfl⟩ : ∃ m, n = m + 1 := ⟨n - 1, by omega⟩
    refine sx_hd (by omega) (by omega) (fun h1 h2 => hE fo cc pl ac vr sl hT lV mV lA mA l h1 h2 hG ho) ?_
    refine sx_w96s G E (by omega) hp hl hs ha hb eX eY ho (by omega) ?_
    intro fo' cc' lV' mV' lA' mA' ho'
    refine sx_w111n (z := z) (h := fun _ => false) (by omega) hsl (by rw [hht]; rfl) (fun s hs1 => ?_) ?_
    · rw [sr_sk_iff.mp hs s hs1]
      rfl
    · refine hK (r + 1) m fo' cc' pl ac vr sl hT lV' mV' lA' mA' (by omega) (by omega) ⟨fun _ _ => ⟨rfl, rfl, rfl⟩, fun _ _ => ⟨rfl, rfl⟩⟩ ho' ?_
      rw [List.length_append]
      exact Nat.add_le_add hlr (Nat.le_refl 1)
  intro d
  induction d with
  | zero =>
    intro L p v z l r n fo cc pl ac vr sl hT lV mV lA mA hLd hrm hp hz hl hsl hht ho hlr hn hr hG hG2 hK
    exact stuck 0 L p v z l r n fo cc pl ac vr sl hT lV mV lA mA (sr_rm0 (by omega)) hLd hp hl hsl hht ho hlr hn hr hG hK
  | succ d ihd =>
    intro L p v z l r n fo cc pl ac vr sl hT lV mV lA mA hLd hrm hp hz hl hsl hht ho hlr hn hr hG hG2 hK
    by_cases hs : sr_sk S K nm p = true
    · exact stuck (d + 1) L p v z l r n fo cc pl ac vr sl hT lV mV lA mA hs hLd hp hl hsl hht ho hlr hn hr hG hK
    · have B : ∀ (k i : Nat) (l : List (Nat → Int32)) (r n : Nat) (fo cc : Int32) (pl ac vr sl hT lV mV lA mA : Nat → Int32), i + k = 3 → sx_lv L p v pl ac vr → sl L = sr_mf z →
          hT L = sr_mt (fun s => sr_en S K nm p s && !(z s)) i → sx_ou a fV b sV l fo cc lV mV lA mA → l.length ≤ r → n + r = 2097153 → r + (1 + k * (sr_R d + 1)) ≤ 2097151 → (∀ x, x ∈ l → Gd x) →
          (∀ w, w ∈ sr_xr S K nm d p z k → Gd (sr_rn K nm w p v)) →
          (∀ (r' n' : Nat) (fo' cc' : Int32) (pl' ac' vr' sl' hT' lV' mV' lA' mA' : Nat → Int32), r' ≤ r + (1 + k * (sr_R d + 1)) → n' + r' = 2097153 → sx_fr L pl ac vr sl hT pl' ac' vr' sl' hT' →
            sx_ou a fV b sV (l ++ (sr_xr S K nm d p z k).map (fun w => sr_rn K nm w p v)) fo' cc' lV' mV' lA' mA' → (l ++ (sr_xr S K nm d p z k).map (fun w => sr_rn K nm w p v)).length ≤ r' →
            wX_walk_72 post n' (nI L + (-1)) (nI r') lo fX fV sX sV fo' cc' sz kd nm sv sa wy pl' ac' vr' sl' hT' lV' mV' lA' mA') →
          wX_walk_72 post n (nI L) (nI r) lo fX fV sX sV fo cc sz kd nm sv sa wy pl ac vr sl hT lV mV lA mA := by
        intro k
        induction k with
        | zero =>
          intro i l r n fo cc pl ac vr sl hT lV mV lA mA hi hl hsl hht ho hlr hn hr hG hG2 hK
          obtain rfl : i = 3 := by omega
          obtain ⟨m, rfl⟩ : ∃ m, n = m + 1 := ⟨n - 1, by omega⟩
          refine sx_hd (by omega) (by omega) (fun h1 h2 => hE fo cc pl ac vr sl hT lV mV lA mA l h1 h2 hG ho) ?_
          refine sx_w96n G E (by omega) hp hl hs ?_
          refine sx_w111n (z := z) (h := fun s => sr_en S K nm p s && !(z s)) (by omega) hsl hht (fun s hs1 => ?_) ?_
          · cases sr_en S K nm p s <;> cases z s <;> rfl
          · refine hK (r + 1) m fo cc pl ac vr sl hT lV mV lA mA (by omega) (by omega) ⟨fun _ _ => ⟨rfl, rfl, rfl⟩, fun _ _ => ⟨rfl, rfl⟩⟩ ?_ ?_
            · show sx_ou a fV b sV (l ++ []) fo cc lV mV lA mA
              rw [List.append_nil]
              exact ho
            · show (l ++ []).length ≤ r + 1
              rw [List.append_nil]
              omega
        | succ k ihk =>
          intro i l r n fo cc pl ac vr sl hT lV mV lA mA hi hl hsl hht ho hlr hn hr hG hG2 hK
          have e2 : 2 - k = i := by omega
          have hi3 : i < 3 := by omega
          have ex : sr_xr S K nm d p z (k + 1) = sr_bl (sr_en S K nm p i && !(z i)) i (sr_xs S K nm d (sr_bp p i) (sr_zc S K nm p z i)) ++ sr_xr S K nm d p z k := by
            rw [sr_xr, e2]
          rw [ex] at hG2 hK
          have eR : (k + 1) * (sr_R d + 1) = k * (sr_R d + 1) + (sr_R d + 1) := Nat.succ_mul _ _
          rw [eR] at hr hK
          generalize hq : k * (sr_R d + 1) = q at *
          cases hA : (sr_en S K nm p i && !(z i)) with
          | false =>
            have e3 : sr_bl false i (sr_xs S K nm d (sr_bp p i) (sr_zc S K nm p z i)) = [] := rfl
            rw [hA, e3, List.nil_append] at hG2 hK
            refine ihk (i + 1) l r n fo cc pl ac vr sl hT lV mV lA mA (by omega) hl hsl ?_ ho hlr hn (by omega) hG hG2 ?_
            · rw [hht, sr_mt_f _ hi3 hA]
            · intro r' n' fo' cc' pl' ac' vr' sl' hT' lV' mV' lA' mA' h1 h2 h3 h4 h5
              exact hK r' n' fo' cc' pl' ac' vr' sl' hT' lV' mV' lA' mA' (by omega) h2 h3 h4 h5
          | true =>
            have hA' := hA
            rw [Bool.and_eq_true, Bool.not_eq_true'] at hA'
            have e3 : sr_bl true i (sr_xs S K nm d (sr_bp p i) (sr_zc S K nm p z i)) = (sr_xs S K nm d (sr_bp p i) (sr_zc S K nm p z i)).map (fun w => i :: w) := rfl
            rw [hA, e3] at hG2 hK
            have hrm2 := sr_rm_bp hi3 hA'.1
            obtain ⟨m, rfl⟩ : ∃ m, n = m + 1 := ⟨n - 1, by omega⟩
            refine sx_hd (by omega) (by omega) (fun h1 h2 => hE fo cc pl ac vr sl hT lV mV lA mA l h1 h2 hG ho) ?_
            refine sx_w96n G E (by omega) hp hl hs ?_
            refine sx_w111t G E (by omega) hi3 hp hz hl hsl hht hA ?_
            intro pl1 ac1 vr1 t1 t2
            have em : ∀ w, sr_rn K nm (i :: w) p v = sr_rn K nm w (sr_bp p i) (sr_ex K nm v i (4 * i + p i)) := fun w => rfl
            have elist : ((sr_xs S K nm d (sr_bp p i) (sr_zc S K nm p z i)).map (fun w => i :: w) ++ sr_xr S K nm d p z k).map (fun w => sr_rn K nm w p v) =
                (sr_xs S K nm d (sr_bp p i) (sr_zc S K nm p z i)).map (fun w => sr_rn K nm w (sr_bp p i) (sr_ex K nm v i (4 * i + p i))) ++ (sr_xr S K nm d p z k).map (fun w => sr_rn K nm w p v) := by
              rw [List.map_append, List.map_map]
              rfl
            rw [elist, ← List.append_assoc] at hK
            have gC : ∀ w, w ∈ sr_xs S K nm d (sr_bp p i) (sr_zc S K nm p z i) → Gd (sr_rn K nm w (sr_bp p i) (sr_ex K nm v i (4 * i + p i))) := by
              intro w hw
              exact hG2 (i :: w) (List.mem_append_left _ (List.mem_map.mpr ⟨w, hw, rfl⟩))
            refine ihd (L + 1) (sr_bp p i) (sr_ex K nm v i (4 * i + p i)) (sr_zc S K nm p z i) l (r + 1) m fo cc pl1 ac1 vr1 _ _ lV mV lA mA (by omega) (by omega) (fun j hj => ?_) (fun s hs1 hz1 => ?_) t1 pk_us ?_ ho (by omega) (by omega) (by omega) hG gC ?_
            · by_cases e : j = i
              · subst e
                have q1 := sr_en_lt hA'.1
                have q2 := G.1 j hj
                rw [sr_bp_s]
                omega
              · rw [sr_bp_n e]
                exact hp j hj
            · unfold sr_zc at hz1
              rw [Bool.and_eq_true, Bool.or_eq_true, Bool.and_eq_true, decide_eq_true_eq] at hz1
              have hne : s ≠ i := by
                intro e
                subst e
                rcases hz1.1 with h | h
                · rw [hA'.2] at h
                  exact absurd h (by decide)
                · omega
              rw [sr_bp_n hne]
              rcases hz1.1 with h | h
              · exact hz s hs1 h
              · have q1 := sr_en_lt h.2
                have q2 := G.1 s hs1
                omega
            · rw [pk_un (by omega), pk_us]
            · intro r' n' fo' cc' pl' ac' vr' sl' hT' lV' mV' lA' mA' h1 h2 h3 h4 h5
              rw [pk_m1]
              have f1 : ∀ m, m < 3 * L + 3 → pl' m = pl m ∧ ac' m = ac m ∧ vr' m = vr m := by
                intro m hm
                obtain ⟨a1, a2, a3⟩ := h3.1 m (by omega)
                obtain ⟨b1, b2, b3⟩ := t2 m hm
                exact ⟨a1.trans b1, a2.trans b2, a3.trans b3⟩
              have g1 := h3.2 L (by omega)
              refine ihk (i + 1) _ r' n' fo' cc' pl' ac' vr' sl' hT' lV' mV' lA' mA' (by omega) (fun s hs1 => ?_) ?_ ?_ h4 h5 h2 (by omega) ?_ ?_ ?_
              · obtain ⟨a1, a2, a3⟩ := f1 (3 * L + s) (by omega)
                rw [a1, a2, a3]
                exact hl s hs1
              · rw [g1.1, pk_un (by omega)]
                exact hsl
              · rw [g1.2, pk_us]
              · intro x hx
                rcases List.mem_append.mp hx with hx | hx
                · exact hG x hx
                · obtain ⟨w, hw, rfl⟩ := List.mem_map.mp hx
                  exact gC w hw
              · intro w hw
                exact hG2 w (List.mem_append_right _ hw)
              · intro r2 n2 fo2 cc2 pl2 ac2 vr2 sl2 hT2 lV2 mV2 lA2 mA2 k1 k2 k3 k4 k5
                refine hK r2 n2 fo2 cc2 pl2 ac2 vr2 sl2 hT2 lV2 mV2 lA2 mA2 (by omega) k2 ⟨fun m hm => ?_, fun m hm => ?_⟩ k4 k5
                · obtain ⟨a1, a2, a3⟩ := k3.1 m hm
                  obtain ⟨b1, b2, b3⟩ := f1 m (by omega)
                  exact ⟨a1.trans b1, a2.trans b2, a3.trans b3⟩
                · obtain ⟨a1, a2⟩ := k3.2 m hm
                  obtain ⟨b1, b2⟩ := h3.2 m (by omega)
                  rw [a1, a2, b1, b2, pk_un (by omega), pk_un (by omega), pk_un (by omega)]
                  exact ⟨rfl, rfl⟩
      rw [sr_xs_xr hs] at hG2 hK
      have eR : sr_R (d + 1) = 1 + 3 * (sr_R d + 1) := rfl
      rw [eR] at hr hK
      exact B 3 0 l r n fo cc pl ac vr sl hT lV mV lA mA rfl hl hsl (by rw [hht, sr_mt_0]) ho hlr hn hr hG hG2 hK
end
end
section
/-! the component: the whole walk; the sum over states -/
section
variable {S K : Nat → Nat} {lo fX fV sX sV : Int32} {sz kd nm sv sa wy : Nat → Int32}
theorem sx_w12 {post : SX → Prop} {fo cc : Int32} {sl hT lV mV lA mA : Nat → Int32} : ∀ (k i : Nat) (pl ac vr : Nat → Int32), i + k = 3 → (∀ j, j < i → pl j = 0 ∧ ac j = sa j ∧ vr j = sv j) →
    (∀ pl' ac' vr' : Nat → Int32, (∀ j, j < 3 → pl' j = 0 ∧ ac' j = sa j ∧ vr' j = sv j) → ∃ n72 : Nat, wX_walk_72 post n72 0 0 lo fX fV sX sV fo cc sz kd nm sv sa wy pl' ac' vr' (upd sl 0 0) (upd hT 0 0) lV mV lA mA) →
    wX_walk_12 post lo fX fV sX sV fo cc (k + 1) (nI i) sz kd nm sv sa wy pl ac vr sl hT lV mV lA mA := by
  intro k
  induction k with
  | zero =>
    intro i pl ac vr hi h H
    obtain rfl : i = 3 := by omega
    rw [wX_walk_12]
    exact br_t (by decide) (nm_r (e' := upd sl 0 0) (by rw [sr_nar0]) (nm_r (e' := upd hT 0 0) (by rw [sr_nar0]) (H pl ac vr h)))
  | succ k ih =>
    intro i pl ac vr hi h H
    have c : (nI i).toNatClampNeg = i := nI_clamp (by omega)
    have i3 : vp_in (nI i) 3 := vp_in_nI (by omega) (by decide)
    have i39 : vp_in (nI i) 39 := vp_in_nI (by omega) (by decide)
    rw [wX_walk_12]
    dsimp only
    rw [c, sr_nar0]
    refine br_f (nI_ge (b := 3) (by omega) (by decide)) ⟨i39, nm_e ⟨i3, i39, nm_e ⟨i3, i39, nm_e (nm_r (nI_1 i) (ih (i + 1) _ _ _ (by omega) (fun j hj => ?_) H))⟩⟩⟩
    by_cases e : j = i
    · subst e
      rw [pk_us, pk_us, pk_us]
      exact ⟨rfl, rfl, rfl⟩
    · rw [pk_un e, pk_un e, pk_un e]
      exact h j (by omega)
def sr_Lx (S K : Nat → Nat) (nm bg : Nat → Int32) : List (Nat → Int32) := (sr_xs S K nm 12 sr_p0 (fun _ => false)).map (fun w => sr_rn K nm w sr_p0 bg)
theorem sx_walk {post : SX → Prop} {fo cc : Int32} {pl ac vr sl hT lV mV lA mA bg : Nat → Int32} (G : sr_gd S K nm) (E : sy_gd S K sz kd) {a b : Nat} (ha : a < 3) (hb : b < 3) (eX : fX = nI a) (eY : sX = nI b)
    (hbg : ∀ j, j < 3 → bg j = sv j ∧ bg (3 + j) = sa j)
    (h1 : ∀ (fo' cc' : Int32) (pl' ac' vr' sl' hT' lV' mV' lA' mA' : Nat → Int32), sx_ou a fV b sV (sr_Lx S K nm bg) fo' cc' lV' mV' lA' mA' → post (lo, fX, fV, sX, sV, fo', cc', sz, kd, nm, sv, sa, wy, pl', ac', vr', sl', hT', lV', mV', lA', mA'))
    (h2 : ∀ (fo' cc' : Int32) (pl' ac' vr' sl' hT' lV' mV' lA' mA' : Nat → Int32), lo ≠ 0 → fo' = 1 → (sr_Lx S K nm bg).any (fun v => decide (v a = fV) && decide (v b = sV)) = true → post (lo, fX, fV, sX, sV, fo', cc', sz, kd, nm, sv, sa, wy, pl', ac', vr', sl', hT', lV', mV', lA', mA')) :
    wpX_walk post (lo, fX, fV, sX, sV, fo, cc, sz, kd, nm, sv, sa, wy, pl, ac, vr, sl, hT, lV, mV, lA, mA) := by
  unfold wpX_walk
  dsimp only
  refine ⟨4, sx_w12 3 0 pl ac vr rfl (fun j hj => absurd hj (Nat.not_lt_zero _)) ?_⟩
  intro pl1 ac1 vr1 hin
  obtain ⟨N, hN⟩ : ∃ N : Nat, N = 2097153 := ⟨_, rfl⟩
  refine ⟨N, ?_⟩
  refine sx_sub (Gd := fun x => x ∈ sr_Lx S K nm bg) G E ha hb eX eY ?_ 12 0 sr_p0 bg (fun _ => false) [] 0 N 0 0 pl1 ac1 vr1 (upd sl 0 0) (upd hT 0 0) lV mV lA mA rfl (sr_rm12 G sr_p0) (fun _ _ => Nat.zero_le _) (fun s _ hs => absurd hs (by decide)) ?_ ?_ pk_us ?_ (Nat.le_refl 0) hN ?_ (fun x hx => absurd hx (by simp)) ?_ ?_
  · intro fo cc pl ac vr sl hT lV mV lA mA l hlo hfo hl ho
    obtain ⟨o1, o2, o3⟩ := ho
    cases hany : l.any (fun v => decide (v a = fV) && decide (v b = sV)) with
    | false =>
      rw [hany] at o2
      exact absurd o2 hfo
    | true =>
      rw [hany] at o2
      refine h2 fo cc pl ac vr sl hT lV mV lA mA hlo o2 ?_
      rw [List.any_eq_true] at hany ⊢
      obtain ⟨x, hx, q⟩ := hany
      exact ⟨x, hl x hx, q⟩
  · intro t ht
    rw [Nat.mul_zero, Nat.zero_add]
    obtain ⟨q1, q2, q3⟩ := hin t ht
    rw [q1, q2, q3, (hbg t ht).1, (hbg t ht).2]
    exact ⟨rfl, rfl, rfl⟩
  · rw [pk_us]
    rfl
  · exact ⟨rfl, rfl, fun q => absurd rfl q⟩
  · rw [sr_R12]
    decide
  · intro w hw
    exact List.mem_map.mpr ⟨w, hw, rfl⟩
  · intro r' n' fo' cc' pl' ac' vr' sl' hT' lV' mV' lA' mA' k1 k2 _ k4 _
    rw [sr_R12] at k1
    obtain ⟨m, rfl⟩ : ∃ m, n' = m + 1 := ⟨n' - 1, by omega⟩
    rw [wX_walk_72]
    exact br_f (nI_ge (b := 2097152) (by omega) (by decide)) (br_t (by decide) (h1 fo' cc' pl' ac' vr' sl' hT' lV' mV' lA' mA' k4))
end
/-! the sum over states -/
def sr_ya (f : Nat → Bool) : Nat → Bool
  | 0 => false
  | i + 1 => sr_ya f i || f i
def sr_ps (f : Nat → Bool) (s : Nat) (D : Nat → Nat) : Nat → Nat
  | 0 => 0
  | i + 1 => sr_ps f s D i + (if f i = true then D (s + sr_sd i) else 0)
def sr_dn (S : Nat → Nat) (p : Nat → Nat) : Bool := decide (p 0 = S 0) && (decide (p 1 = S 1) && decide (p 2 = S 2))
def sr_lf (S : Nat → Nat) (o : Bool) (p : Nat → Nat) : Nat := if (o && sr_dn S p) = true then 0 else 1
abbrev sx_J : Type := Int32 → Int32 → (Nat → Int32) → (Nat → Int32) → (Nat → Int32) → (Nat → Int32) → (Nat → Int32) → (Nat → Int32) → (Nat → Int32) → (Nat → Int32) → (Nat → Int32) → (Nat → Int32) → (Nat → Int32) → (Nat → Int32) → (Nat → Int32) → (Nat → Int32) → (Nat → Int32) → Prop
section
variable {S K : Nat → Nat} {lo fX fV sX sV fo cc : Int32} {sz kd nm sv sa pl ac vr sl hT lV mV lA mA : Nat → Int32}
theorem sr_ya3 (p : Nat → Nat) : sr_ya (sr_en S K nm p) 3 = !(sr_sk S K nm p) := by
  unfold sr_sk
  show (((false || sr_en S K nm p 0) || sr_en S K nm p 1) || sr_en S K nm p 2) = _
  cases sr_en S K nm p 0 <;> cases sr_en S K nm p 1 <;> cases sr_en S K nm p 2 <;> rfl
theorem sr_pl_lt (s t : Nat) (hs : s < 125) (ht : t < 3) (h : sr_pl s t < 4) : s + sr_sd t < 125 := by
  match t, ht, h with
  | 0, _, h =>
    have h' : s / 25 < 4 := h
    show s + 25 < 125
    omega
  | 1, _, h =>
    have h' : s / 5 % 5 < 4 := h
    show s + 5 < 125
    omega
  | 2, _, h =>
    have h' : s % 5 < 4 := h
    show s + 1 < 125
    omega
theorem sr_sd1 (t : Nat) : 1 ≤ sr_sd t := by
  unfold sr_sd
  by_cases h : t = 0
  · rw [if_pos h]; decide
  · rw [if_neg h]
    by_cases h1 : t = 1
    · rw [if_pos h1]; decide
    · rw [if_neg h1]; decide
theorem sr_dp (G : sr_gd S K nm) (lf : (Nat → Nat) → Nat) (s : Nat) : sr_cw S K nm lf 12 (sr_pl s) = if sr_sk S K nm (sr_pl s) = true then lf (sr_pl s) else sr_ps (sr_en S K nm (sr_pl s)) s (fun j => sr_cw S K nm lf 12 (sr_pl j)) 3 := by
  rw [sr_cw_step G]
  by_cases hs : sr_sk S K nm (sr_pl s) = true
  · rw [if_pos hs, if_pos hs]
  · rw [if_neg hs, if_neg hs]
    have key : ∀ t, t < 3 → (if sr_en S K nm (sr_pl s) t = true then sr_cw S K nm lf 12 (sr_bp (sr_pl s) t) else 0) = (if sr_en S K nm (sr_pl s) t = true then sr_cw S K nm lf 12 (sr_pl (s + sr_sd t)) else 0) := by
      intro t ht
      by_cases he : sr_en S K nm (sr_pl s) t = true
      · have h1 := sr_en_lt he
        have h2 := G.1 t ht
        rw [if_pos he, if_pos he, sr_pl_bp s t ht (by omega)]
      · rw [if_neg he, if_neg he]
    rw [key 0 (by decide), key 1 (by decide), key 2 (by decide)]
    show _ = ((0 + _) + _) + _
    dsimp only
    omega
theorem sx_c182 {post : Int32 → SX → Prop} {J : sx_J} {wy : Nat → Int32} {x1 : Int32} {s acc w : Nat} (hs : s < 125) (hw : wy s = nI w) (H : J (nI (acc + w)) (nI (s + 1)) sz kd nm sv sa wy pl ac vr sl hT lV mV lA mA) :
    wX_countWays_182 post J x1 (nI s) (nI acc) lo fX fV sX sV fo cc sz kd nm sv sa wy pl ac vr sl hT lV mV lA mA := by
  have c : (nI s).toNatClampNeg = s := nI_clamp (by omega)
  unfold wX_countWays_182
  rw [c, hw]
  exact ⟨vp_in_nI hs (by decide), nm_r (nI_add acc w) (nm_r (nI_1 s) H)⟩
theorem sx_c161 {post : Int32 → SX → Prop} {J : sx_J} {wy : Nat → Int32} {s acc w : Nat} (o y u : Bool) (hs : s < 125) (hw : wy s = nI w)
    (H : J (nI (acc + if y = true then 0 else w * (if (o && u) = true then 0 else 1))) (nI (s + 1)) sz kd nm sv sa wy pl ac vr sl hT lV mV lA mA) :
    wX_countWays_161 post J (sr_b o) (nI acc) (nI s) (sr_b y) (sr_b u) lo fX fV sX sV fo cc sz kd nm sv sa wy pl ac vr sl hT lV mV lA mA := by
  have e0 : nI acc + 0 = nI (acc + 0) := nI_add acc 0
  unfold wX_countWays_161
  cases y with
  | true => exact br_f (by decide) (nm_r e0 (nm_r (nI_1 s) H))
  | false =>
    refine br_t rfl ?_
    cases o with
    | false =>
      refine br_t rfl (sx_c182 hs hw ?_)
      have e : acc + (if false = true then 0 else w * (if (false && u) = true then 0 else 1)) = acc + w := by simp
      rw [e] at H
      exact H
    | true =>
      refine br_f (by decide) ?_
      cases u with
      | false =>
        refine br_t rfl (sx_c182 hs hw ?_)
        have e : acc + (if false = true then 0 else w * (if (true && false) = true then 0 else 1)) = acc + w := by simp
        rw [e] at H
        exact H
      | true =>
        refine br_f (by decide) (nm_r e0 (nm_r (nI_1 s) ?_))
        have e : acc + (if false = true then 0 else w * (if (true && true) = true then 0 else 1)) = acc + 0 := by simp
        rw [e] at H
        exact H
theorem sx_c123 {post : Int32 → SX → Prop} {J : sx_J} {wy : Nat → Int32} (G : sr_gd S K nm) (E : sy_gd S K sz kd) {s acc w : Nat} {p : Nat → Nat} (hp : ∀ j, j < 3 → p j ≤ 4) (o y : Bool) (hs : s < 125) (hw : wy s = nI w)
    (H : J (nI (acc + if y = true then 0 else w * sr_lf S o p)) (nI (s + 1)) sz kd nm sv sa wy pl ac vr sl hT lV mV lA mA) :
    wX_countWays_123 post J (sr_b o) (nI acc) (nI s) (nI (p 0)) (nI (p 1)) (nI (p 2)) (sr_b y) lo fX fV sX sV fo cc sz kd nm sv sa wy pl ac vr sl hT lV mV lA mA := by
  have s0 := G.1 0 (by decide)
  have s1 := G.1 1 (by decide)
  have s2 := G.1 2 (by decide)
  have p0 := hp 0 (by decide)
  have p1 := hp 1 (by decide)
  have p2 := hp 2 (by decide)
  unfold sr_lf sr_dn at H
  unfold wX_countWays_123
  rw [E.1 0 (by decide), E.1 1 (by decide), E.1 2 (by decide)]
  by_cases h0 : p 0 = S 0
  · refine br_t (by rw [h0]) ?_
    rw [decide_eq_true h0, Bool.true_and] at H
    by_cases h1 : p 1 = S 1
    · refine br_t (by rw [h1]) ?_
      rw [decide_eq_true h1, Bool.true_and] at H
      by_cases h2 : p 2 = S 2
      · rw [decide_eq_true h2] at H
        exact br_t (by rw [h2]) (sx_c161 o y true hs hw H)
      · rw [decide_eq_false h2] at H
        exact br_f (fun z => h2 ((nI_eq (by omega) (by omega)).mp z)) (sx_c161 o y false hs hw H)
    · rw [decide_eq_false h1, Bool.false_and] at H
      exact br_f (fun z => h1 ((nI_eq (by omega) (by omega)).mp z)) (sx_c161 o y false hs hw H)
  · rw [decide_eq_false h0, Bool.false_and] at H
    exact br_f (fun z => h0 ((nI_eq (by omega) (by omega)).mp z)) (sx_c161 o y false hs hw H)
theorem sx_stride {post : Int32 → Prop} {t : Nat} (ht : t < 3) (h : post (nI (sr_sd t))) : wpX_stride post (nI t) := by
  unfold wpX_stride
  match t, ht, h with
  | 0, _, h => exact br_t rfl h
  | 1, _, h => exact br_f (by decide) (br_t rfl h)
  | 2, _, h => exact br_f (by decide) (br_f (by decide) h)
theorem sx_c63 {post : Int32 → SX → Prop} {J : sx_J} (G : sr_gd S K nm) (E : sy_gd S K sz kd) {s acc w : Nat} (o : Bool) (hs : s < 125) (hw0 : 0 < w) (hw : w < 2 ^ 31) (f0 : Nat → Nat)
    (H : ∀ (wy' : Nat → Int32) (f' : Nat → Nat), (∀ j, j < 125 → wy' j = nI (f' j)) → (∀ D : Nat → Nat, sr_sm (fun j => f' j * D j) (s + 1) (124 - s) = sr_sm (fun j => f0 j * D j) (s + 1) (124 - s) + w * sr_ps (sr_en S K nm (sr_pl s)) s D 3) →
      J (nI (acc + if sr_sk S K nm (sr_pl s) = true then w * sr_lf S o (sr_pl s) else 0)) (nI (s + 1)) sz kd nm sv sa wy' pl ac vr sl hT lV mV lA mA) :
    ∀ (k i : Nat) (wy : Nat → Int32) (f : Nat → Nat), i + k = 3 → (∀ j, j < 125 → wy j = nI (f j)) → f s = w →
    (∀ D : Nat → Nat, sr_sm (fun j => f j * D j) (s + 1) (124 - s) = sr_sm (fun j => f0 j * D j) (s + 1) (124 - s) + w * sr_ps (sr_en S K nm (sr_pl s)) s D i) →
    wX_countWays_63 post J (sr_b o) (nI acc) (nI s) (nI (sr_pl s 0)) (nI (sr_pl s 1)) (nI (sr_pl s 2)) lo fX fV sX sV fo cc (k + 1) (sr_b (sr_ya (sr_en S K nm (sr_pl s)) i)) (nI i) sz kd nm sv sa wy pl ac vr sl hT lV mV lA mA := by
  have cs : (nI s).toNatClampNeg = s := nI_clamp (by omega)
  have is : vp_in (nI s) 125 := vp_in_nI hs (by decide)
  have hp : ∀ j, j < 3 → sr_pl s j ≤ 4 := by
    intro j hj
    match j, hj with
    | 0, _ => show s / 25 ≤ 4; omega
    | 1, _ => show s / 5 % 5 ≤ 4; omega
    | 2, _ => show s % 5 ≤ 4; omega
  intro k
  induction k with
  | zero =>
    intro i wy f hi hwy hf hD
    obtain rfl : i = 3 := by omega
    rw [wX_countWays_63]
    refine br_t (by decide) (sx_c123 G E hp o _ hs (by rw [hwy s hs, hf]) ?_)
    have q := H wy f hwy hD
    rw [sr_ya3]
    cases hk : sr_sk S K nm (sr_pl s) with
    | true =>
      rw [hk] at q
      exact q
    | false =>
      rw [hk] at q
      exact q
  | succ k ih =>
    intro i wy f hi hwy hf hD
    have hi3 : i < 3 := by omega
    rw [wX_countWays_63]
    dsimp only
    rw [cs, hwy s hs, hf]
    refine br_f (nI_ge (b := 3) (by omega) (by decide)) ⟨is, br_f (nI_nle hw0 hw) ?_⟩
    refine sx_can G E hp hi3 ?_
    cases he : sr_en S K nm (sr_pl s) i with
    | false =>
      have ey : sr_ya (sr_en S K nm (sr_pl s)) (i + 1) = sr_ya (sr_en S K nm (sr_pl s)) i := by
        show (sr_ya (sr_en S K nm (sr_pl s)) i || sr_en S K nm (sr_pl s) i) = _
        rw [he, Bool.or_false]
      have nx := ih (i + 1) wy f (by omega) hwy hf (fun D => by
        rw [hD D]
        show _ = _ + w * (sr_ps (sr_en S K nm (sr_pl s)) s D i + (if sr_en S K nm (sr_pl s) i = true then D (s + sr_sd i) else 0))
        rw [he, if_neg (by decide)]
        rfl)
      rw [ey] at nx
      exact br_t rfl (nm_r (nI_1 i) nx)
    | true =>
      have h1 := sr_en_lt he
      have h2 := G.1 i hi3
      have hlt : s + sr_sd i < 125 := sr_pl_lt s i hs hi3 (by omega)
      have hsd := sr_sd1 i
      have ct : (nI (s + sr_sd i)).toNatClampNeg = s + sr_sd i := nI_clamp (by omega)
      have it : vp_in (nI (s + sr_sd i)) 125 := vp_in_nI hlt (by decide)
      have ey : sr_ya (sr_en S K nm (sr_pl s)) (i + 1) = true := by
        show (sr_ya (sr_en S K nm (sr_pl s)) i || sr_en S K nm (sr_pl s) i) = _
        rw [he, Bool.or_true]
      refine br_f (by decide) (sx_stride hi3 ?_)
      rw [nI_add s (sr_sd i), ct, hwy _ hlt, nI_add]
      refine ⟨it, is, it, nm_e (nm_r (nI_1 i) ?_)⟩
      have nx := ih (i + 1) (upd wy (s + sr_sd i) (nI (f (s + sr_sd i) + w))) (fun j => if j = s + sr_sd i then f j + w else f j) (by omega) (fun j hj => ?_) ?_ (fun D => ?_)
      · rw [ey] at nx
        exact nx
      · by_cases e : j = s + sr_sd i
        · rw [if_pos e, e, pk_us]
        · rw [if_neg e, pk_un e]
          exact hwy j hj
      · rw [if_neg (by omega)]
        exact hf
      · have q := sr_sm_add (g := fun j => f j * D j) (h := fun j => (if j = s + sr_sd i then f j + w else f j) * D j) (k := s + sr_sd i) (x := w * D (s + sr_sd i)) ?_ ?_ (124 - s) (s + 1) (by omega) (by omega)
        · rw [q, hD D]
          show _ = _ + w * (sr_ps (sr_en S K nm (sr_pl s)) s D i + (if sr_en S K nm (sr_pl s) i = true then D (s + sr_sd i) else 0))
          rw [he, if_pos rfl, Nat.mul_add, Nat.add_assoc]
        · show (if s + sr_sd i = s + sr_sd i then f (s + sr_sd i) + w else f (s + sr_sd i)) * D (s + sr_sd i) = f (s + sr_sd i) * D (s + sr_sd i) + w * D (s + sr_sd i)
          rw [if_pos rfl, Nat.add_mul]
        · intro j hj
          show (if j = s + sr_sd i then f j + w else f j) * D j = f j * D j
          rw [if_neg hj]
theorem sx_c33 {post : Int32 → SX → Prop} (G : sr_gd S K nm) (E : sy_gd S K sz kd) (o : Bool) (T : Nat)
    (H : ∀ wy' : Nat → Int32, post (nI T) (lo, fX, fV, sX, sV, fo, cc, sz, kd, nm, sv, sa, wy', pl, ac, vr, sl, hT, lV, mV, lA, mA)) :
    ∀ (k s acc : Nat) (wy : Nat → Int32) (f : Nat → Nat), s + k = 125 → (∀ j, j < 125 → wy j = nI (f j)) →
    sr_sm (fun j => f j * sr_cw S K nm (fun _ => 1) 12 (sr_pl j)) s k ≤ 34650 →
    acc + sr_sm (fun j => f j * sr_cw S K nm (sr_lf S o) 12 (sr_pl j)) s k = T →
    wX_countWays_33 post (sr_b o) lo fX fV sX sV fo cc (k + 1) (nI acc) (nI s) sz kd nm sv sa wy pl ac vr sl hT lV mV lA mA := by
  intro k
  induction k with
  | zero =>
    intro s acc wy f hs hwy h1 h2
    obtain rfl : s = 125 := by omega
    have e : acc = T := h2
    rw [wX_countWays_33, e]
    exact br_t (by decide) (H wy)
  | succ k ih =>
    intro s acc wy f hs hwy h1 h2
    have hs1 : s < 125 := by omega
    have hk : k = 124 - s := by omega
    have d25 : (25 : Int32) = nI 25 := by decide
    have d5 : (5 : Int32) = nI 5 := by decide
    have cs : (nI s).toNatClampNeg = s := nI_clamp (by omega)
    have is : vp_in (nI s) 125 := vp_in_nI hs1 (by decide)
    have p1 := sr_cw_pos (S := S) (K := K) (M := nm) 12 (sr_pl s)
    have hfs : f s ≤ 34650 := by
      have q : f s * sr_cw S K nm (fun _ => 1) 12 (sr_pl s) ≤ _ := sr_sm_le (g := fun j => f j * sr_cw S K nm (fun _ => 1) 12 (sr_pl j)) (k + 1) s s (Nat.le_refl _) (by omega)
      have q2 : f s * 1 ≤ f s * sr_cw S K nm (fun _ => 1) 12 (sr_pl s) := Nat.mul_le_mul_left _ p1
      omega
    have hp : ∀ j, j < 3 → sr_pl s j ≤ 4 := by
      intro j hj
      match j, hj with
      | 0, _ => show s / 25 ≤ 4; omega
      | 1, _ => show s / 5 % 5 ≤ 4; omega
      | 2, _ => show s % 5 ≤ 4; omega
    have h1' : f s * sr_cw S K nm (fun _ => 1) 12 (sr_pl s) + sr_sm (fun j => f j * sr_cw S K nm (fun _ => 1) 12 (sr_pl j)) (s + 1) k ≤ 34650 := h1
    have h2' : acc + (f s * sr_cw S K nm (sr_lf S o) 12 (sr_pl s) + sr_sm (fun j => f j * sr_cw S K nm (sr_lf S o) 12 (sr_pl j)) (s + 1) k) = T := h2
    rw [wX_countWays_33]
    refine br_f (nI_ge (b := 125) (by omega) (by decide)) ⟨by decide, nm_r (e' := nI (sr_pl s 0)) ?_ ⟨by decide, by decide, nm_r (e' := nI (sr_pl s 1)) ?_ ⟨by decide, nm_r (e' := nI (sr_pl s 2)) ?_ ⟨4, ?_⟩⟩⟩⟩
    · rw [d25, pk_div (by omega) (by decide) (by decide)]
      rfl
    · rw [d5, pk_div (by omega) (by decide) (by decide), pk_rem (by omega) (by decide) (by decide)]
      rfl
    · rw [d5, pk_rem (by omega) (by decide) (by decide)]
      rfl
    · by_cases hz : f s = 0
      · rw [wX_countWays_63]
        dsimp only
        rw [cs, hwy s hs1, hz]
        refine br_f (by decide) ⟨is, br_t (by decide) ?_⟩
        refine sx_c123 (p := sr_pl s) G E hp o false hs1 (w := 0) (by rw [hwy s hs1, hz]) ?_
        have e : acc + (if false = true then 0 else 0 * sr_lf S o (sr_pl s)) = acc := by simp
        rw [e]
        refine ih (s + 1) acc wy f (by omega) hwy (by omega) ?_
        rw [hz, Nat.zero_mul, Nat.zero_add] at h2'
        exact h2'
      · refine sx_c63 G E o hs1 (w := f s) (by omega) (by omega) f ?_ 3 0 wy f rfl hwy rfl (fun D => by
          show _ = _ + f s * 0
          rw [Nat.mul_zero]
          rfl)
        intro wy' f' hwy' hD
        rw [← hk] at hD
        have q1 := sr_dp G (fun _ => 1) s
        have q2 := sr_dp G (sr_lf S o) s
        have hD1 := hD (fun j => sr_cw S K nm (fun _ => 1) 12 (sr_pl j))
        have hD2 := hD (fun j => sr_cw S K nm (sr_lf S o) 12 (sr_pl j))
        cases hk : sr_sk S K nm (sr_pl s) with
        | true =>
          rw [hk, if_pos rfl] at q1 q2
          have z : ∀ D, sr_ps (sr_en S K nm (sr_pl s)) s D 3 = 0 := by
            intro D
            have a0 := sr_sk_iff.mp hk
            show ((0 + (if sr_en S K nm (sr_pl s) 0 = true then _ else 0)) + (if sr_en S K nm (sr_pl s) 1 = true then _ else 0)) + (if sr_en S K nm (sr_pl s) 2 = true then _ else 0) = 0
            rw [a0 0 (by decide), a0 1 (by decide), a0 2 (by decide)]
            rfl
          rw [z, Nat.mul_zero, Nat.add_zero] at hD1 hD2
          rw [if_pos rfl]
          refine ih (s + 1) _ wy' f' (by omega) hwy' (by rw [hD1]; omega) ?_
          rw [hD2, Nat.add_assoc, ← q2]
          exact h2'
        | false =>
          rw [hk, if_neg (by decide)] at q1 q2
          rw [if_neg (by decide), Nat.add_zero]
          rw [← q1] at hD1
          rw [← q2] at hD2
          refine ih (s + 1) _ wy' f' (by omega) hwy' (by rw [hD1]; omega) ?_
          rw [hD2]
          omega
theorem sx_c2 {post : Int32 → SX → Prop} {x1 : Int32} (H : ∀ wy' : Nat → Int32, (∀ j, j < 125 → wy' j = nI (if j = 0 then 1 else 0)) → ∃ n33 : Nat, wX_countWays_33 post x1 lo fX fV sX sV fo cc n33 0 0 sz kd nm sv sa wy' pl ac vr sl hT lV mV lA mA) :
    ∀ (k i : Nat) (wy : Nat → Int32), i + k = 125 → (∀ j, j < i → wy j = nI (if j = 0 then 1 else 0)) → wX_countWays_2 post x1 lo fX fV sX sV fo cc (k + 1) (nI i) sz kd nm sv sa wy pl ac vr sl hT lV mV lA mA := by
  intro k
  induction k with
  | zero =>
    intro i wy hi h
    obtain rfl : i = 125 := by omega
    rw [wX_countWays_2]
    exact br_t (by decide) (H wy h)
  | succ k ih =>
    intro i wy hi h
    have c : (nI i).toNatClampNeg = i := nI_clamp (by omega)
    have ii : vp_in (nI i) 125 := vp_in_nI (by omega) (by decide)
    rw [wX_countWays_2]
    dsimp only
    rw [c]
    refine br_f (nI_ge (b := 125) (by omega) (by decide)) ?_
    by_cases e0 : i = 0
    · refine br_t (by rw [e0]; rfl) ⟨ii, nm_e (nm_r (nI_1 i) (ih (i + 1) _ (by omega) (fun j hj => ?_)))⟩
      have ej : j = i := by omega
      rw [ej, pk_us, if_pos e0]
      rfl
    · refine br_f (nI_ne0 (by omega) (by omega)) ⟨ii, nm_e (nm_r (nI_1 i) (ih (i + 1) _ (by omega) (fun j hj => ?_)))⟩
      by_cases e : j = i
      · rw [e, pk_us, if_neg e0]
        rfl
      · rw [pk_un e]
        exact h j (by omega)
theorem sx_countWays {post : Int32 → SX → Prop} {wy : Nat → Int32} (G : sr_gd S K nm) (E : sy_gd S K sz kd) (o : Bool) (H : ∀ wy' : Nat → Int32, post (nI (sr_cw S K nm (sr_lf S o) 12 sr_p0)) (lo, fX, fV, sX, sV, fo, cc, sz, kd, nm, sv, sa, wy', pl, ac, vr, sl, hT, lV, mV, lA, mA)) : wpX_countWays post (lo, fX, fV, sX, sV, fo, cc, sz, kd, nm, sv, sa, wy, pl, ac, vr, sl, hT, lV, mV, lA, mA) (sr_b o) := by
  unfold wpX_countWays
  dsimp only
  refine ⟨126, sx_c2 ?_ 125 0 wy rfl (fun j hj => absurd hj (Nat.not_lt_zero _))⟩
  intro wy' hwy'
  have hsum : ∀ C : Nat → Nat, sr_sm (fun j => (if j = 0 then 1 else 0) * C j) 0 125 = C 0 := by
    intro C
    show (if 0 = 0 then 1 else 0) * C 0 + sr_sm (fun j => (if j = 0 then 1 else 0) * C j) 1 124 = C 0
    rw [sr_sm_0 124 1 (fun j hj _ => by
      show (if j = 0 then 1 else 0) * C j = 0
      rw [if_neg (by omega), Nat.zero_mul])]
    simp
  have e0 : sr_pl 0 = sr_p0 := sr_pl0
  refine ⟨126, sx_c33 G E o _ H 125 0 0 wy' (fun j => if j = 0 then 1 else 0) rfl hwy' ?_ ?_⟩
  · rw [hsum]
    exact sr_cw_max G 12 _
  · rw [hsum, e0, Nat.zero_add]
end
end
section
/-! both sides' answers are one: the plain facts; the small methods -/
section
variable {S K : Nat → Nat} {nm bg : Nat → Int32}
theorem sr_Lx_al (G : sr_gd S K nm) {w : List Nat} (hw : w ∈ sr_al S K nm 12 sr_p0) : sr_rn K nm w sr_p0 bg ∈ sr_Lx S K nm bg := by
  obtain ⟨w', h1, h2⟩ := sr_cover0 G (v := bg) (sr_rm12 G sr_p0) hw
  rw [← h2]
  exact List.mem_map.mpr ⟨w', h1, rfl⟩
theorem sr_al_Lx {x : Nat → Int32} (hx : x ∈ sr_Lx S K nm bg) : ∃ w, w ∈ sr_al S K nm 12 sr_p0 ∧ x = sr_rn K nm w sr_p0 bg := by
  obtain ⟨w, hw, e⟩ := List.mem_map.mp hx
  exact ⟨w, sr_xs_sub hw, e.symm⟩
theorem sr_Lx_ne (G : sr_gd S K nm) : sr_Lx S K nm bg ≠ [] := by
  obtain ⟨l, e⟩ := sr_al_cons S K nm
  have h := sr_Lx_al (bg := bg) G (w := sr_fs S K nm 12 sr_p0) (by rw [e]; exact List.mem_cons_self)
  intro q
  rw [q] at h
  exact absurd h (by simp)
theorem sr_any_eq (G : sr_gd S K nm) (a : Nat) (x : Int32) (b : Nat) (y : Int32) : (sr_Lx S K nm bg).any (fun v => decide (v a = x) && decide (v b = y)) = (sr_al S K nm 12 sr_p0).any (sr_me K nm bg a x b y) := by
  rw [Bool.eq_iff_iff, List.any_eq_true, List.any_eq_true]
  constructor
  · rintro ⟨v, hv, q⟩
    obtain ⟨w, hw, rfl⟩ := sr_al_Lx hv
    exact ⟨w, hw, q⟩
  · rintro ⟨w, hw, q⟩
    exact ⟨_, sr_Lx_al G hw, q⟩
theorem sr_be_uni (G : sr_gd S K nm) {m : Bool} {j : Nat} {r1 r2 : Int32} (h1 : sr_be m (fun v : Nat → Int32 => v j) (sr_Lx S K nm bg) r1)
    (h2 : sr_be m (fun w => sr_rn K nm w sr_p0 bg j) (sr_al S K nm 12 sr_p0) r2) : r2 = r1 := by
  obtain ⟨⟨x, hx, e1⟩, a1⟩ := h1
  obtain ⟨⟨w, hw, e2⟩, a2⟩ := h2
  obtain ⟨w', hw', ex⟩ := sr_al_Lx hx
  have q1 := a1 _ (sr_Lx_al G hw)
  have q2 := a2 w' hw'
  have e1' : r1 = sr_rn K nm w' sr_p0 bg j := by rw [e1, ex]
  cases m with
  | true =>
    rw [if_pos rfl] at q1 q2
    dsimp only at q1 q2 e2
    rw [← e2] at q1
    rw [← e1'] at q2
    exact Int32.le_antisymm q2 q1
  | false =>
    rw [if_neg (by decide)] at q1 q2
    dsimp only at q1 q2 e2
    rw [← e2] at q1
    rw [← e1'] at q2
    exact Int32.le_antisymm q1 q2
theorem sr_fp_S (G : sr_gd S K nm) : ∀ (w : List Nat) (p : Nat → Nat), (∀ t, t < 3 → p t ≤ S t) → sr_va S K nm w p → ∀ t, t < 3 → sr_fp w p t ≤ S t := by
  intro w
  induction w with
  | nil => intro p h _; exact h
  | cons s w ih =>
    intro p h hv
    refine ih (sr_bp p s) (fun t ht => ?_) hv.2.2
    by_cases e : t = s
    · subst e
      have h1 := sr_en_lt hv.2.1
      rw [sr_bp_s]
      omega
    · rw [sr_bp_n e]
      exact h t ht
theorem sr_ue_dn (G : sr_gd S K nm) {w : List Nat} (hc : sr_cm S K nm w sr_p0) : sr_lf S true (sr_fp w sr_p0) = if sr_ue S w = true then 1 else 0 := by
  have h0 := sr_fp_S G w sr_p0 (fun _ _ => Nat.zero_le _) (sr_cm_va w sr_p0 hc) 0 (by decide)
  have h1 := sr_fp_S G w sr_p0 (fun _ _ => Nat.zero_le _) (sr_cm_va w sr_p0 hc) 1 (by decide)
  have h2 := sr_fp_S G w sr_p0 (fun _ _ => Nat.zero_le _) (sr_cm_va w sr_p0 hc) 2 (by decide)
  have key : ∀ a b : Nat, a ≤ b → decide (a < b) = !(decide (a = b)) := by
    intro a b h
    by_cases e : a = b
    · rw [decide_eq_true e, decide_eq_false (by omega)]; rfl
    · rw [decide_eq_false e, decide_eq_true (by omega)]; rfl
  unfold sr_lf sr_dn sr_ue
  rw [key _ _ h0, key _ _ h1, key _ _ h2]
  cases decide (sr_fp w sr_p0 0 = S 0) <;> cases decide (sr_fp w sr_p0 1 = S 1) <;> cases decide (sr_fp w sr_p0 2 = S 2) <;> rfl
theorem sr_stick (G : sr_gd S K nm) : (0 < sr_cw S K nm (sr_lf S true) 12 sr_p0) ↔ (sr_al S K nm 12 sr_p0).any (sr_ue S) = true := by
  rw [sr_cw_al]
  have hm : ∀ w, w ∈ sr_al S K nm 12 sr_p0 → sr_cm S K nm w sr_p0 := fun w hw => (sr_mem 12 sr_p0 w (sr_rm12 G sr_p0)).mp hw
  generalize sr_al S K nm 12 sr_p0 = l at *
  induction l with
  | nil => simp
  | cons w l ih =>
    have ih' := ih (fun x hx => hm x (List.mem_cons_of_mem _ hx))
    rw [List.map_cons, List.sum_cons, List.any_cons, sr_ue_dn G (hm w List.mem_cons_self)]
    cases hu : sr_ue S w with
    | true =>
      rw [if_pos rfl, Bool.true_or]
      exact ⟨fun _ => rfl, fun _ => by omega⟩
    | false =>
      rw [if_neg (by decide), Bool.false_or, Nat.zero_add]
      exact ih'
end
/-! the relation -/
def si_R (fX sX : Int32) (sz kd nm sv sa bg : Nat → Int32) : Prop := (∃ S K : Nat → Nat, sr_gd S K nm ∧ sy_gd S K sz kd) ∧ (∀ j, j < 3 → bg j = sv j ∧ bg (3 + j) = sa j) ∧ (∃ a, a < 3 ∧ fX = nI a) ∧ (∃ b, b < 3 ∧ sX = nI b)
/-- the relation: the same steps, sizes and beginnings; what was looked for last lies within -/
def i_Rel (_ : Nat) (u : SX) (v : SY) : Prop := match u with
  | (lo, fX, fV, sX, sV, fo, cc, sz, kd, nm, sv, sa, wy, pl, ac, vr, sl, hT, lV, mV, lA, mA) => match v with
    | (tn, sz', kd', nm', bg, tu, sp, vl, aa, ho) => sz' = sz ∧ kd' = kd ∧ nm' = nm ∧ si_R fX sX sz kd nm sv sa bg
theorem i_up {k : Nat} {u : SX} {v : SY} (h : i_Rel k u v) : i_Rel (k + 5) u v := h
section
variable {lo fX fV sX sV fo cc : Int32} {sz kd nm sv sa wy pl ac vr sl hT lV mV lA mA : Nat → Int32} {tn : Int32} {bg tu sp vl aa ho : Nat → Int32}
theorem si_mk {k : Nat} (h : si_R fX sX sz kd nm sv sa bg) : i_Rel k (lo, fX, fV, sX, sV, fo, cc, sz, kd, nm, sv, sa, wy, pl, ac, vr, sl, hT, lV, mV, lA, mA) (tn, sz, kd, nm, bg, tu, sp, vl, aa, ho) := by
  unfold i_Rel
  exact ⟨rfl, rfl, rfl, h⟩
theorem si_el {k : Nat} {P : SX → SY → Prop} (h : ∀ (lo fX fV sX sV fo cc : Int32) (sz kd nm sv sa wy pl ac vr sl hT lV mV lA mA : Nat → Int32) (tn : Int32) (bg tu sp vl aa ho : Nat → Int32), si_R fX sX sz kd nm sv sa bg → P (lo, fX, fV, sX, sV, fo, cc, sz, kd, nm, sv, sa, wy, pl, ac, vr, sl, hT, lV, mV, lA, mA) (tn, sz, kd, nm, bg, tu, sp, vl, aa, ho))
    {u : SX} {v : SY} (I : i_Rel k u v) : P u v := by
  obtain ⟨lo, fX, fV, sX, sV, fo, cc, sz, kd, nm, sv, sa, wy, pl, ac, vr, sl, hT, lV, mV, lA, mA⟩ := u
  obtain ⟨tn, sz', kd', nm', bg, tu, sp, vl, aa, ho⟩ := v
  unfold i_Rel at I
  dsimp only at I
  obtain ⟨rfl, rfl, rfl, hR⟩ := I
  exact h _ _ _ _ _ _ _ _ _ _ _ _ _ _ _ _ _ _ _ _ _ _ _ _ _ _ _ _ _ hR
end
theorem i_vc0 : wpX_init (fun u => wpY_init (fun v => i_Rel 0 u v)) := by
  unfold wpX_init wpY_init
  refine si_mk ⟨⟨fun _ => 0, fun _ => 0, ⟨fun _ _ => Nat.zero_le _, fun i _ => ⟨Nat.zero_le _, fun _ => ⟨0, Nat.zero_le _, rfl⟩, fun _ => ⟨0, Nat.zero_le _, rfl⟩⟩⟩, fun _ _ => rfl, fun _ _ => rfl⟩, fun _ _ => ⟨rfl, rfl⟩, ⟨0, by decide, rfl⟩, ⟨0, by decide, rfl⟩⟩
theorem sx_ix {post : Int32 → Prop} {x : Int32} (h1 : ∀ t, t < 3 → x = nI t → post 1) (h0 : (¬ ∃ t, t < 3 ∧ x = nI t) → post 0) : wpX_isIndex post x := by
  unfold wpX_isIndex
  rcases pk_ix x (n := 3) (by decide) with h | h | ⟨t, ht, rfl⟩
  · refine br_t h (h0 ?_)
    rintro ⟨t, ht, rfl⟩
    exact nI_pos (by omega) h
  · have h3 : (3 : Int32) ≤ x := h
    refine br_f (fun z => ?_) (br_t h3 (h0 ?_))
    · exact absurd (Int32.lt_of_lt_of_le z (Int32.le_trans (by decide) h3)) Int32.lt_irrefl
    · rintro ⟨t, ht, rfl⟩
      exact nI_ge (a := t) (b := 3) ht (by decide) h
  · exact br_f (nI_pos (by omega)) (br_f (nI_ge (b := 3) ht (by decide)) (h1 t ht rfl))
theorem sy_ix {A B : Prop} {x : Int32} (h1 : ∀ t, t < 3 → x = nI t → B) (h0 : (¬ ∃ t, t < 3 ∧ x = nI t) → A) : (x < 0 → A) ∧ (¬ x < 0 → ((2 < x → A) ∧ (¬ 2 < x → B))) := by
  rcases pk_ix x (n := 3) (by decide) with h | h | ⟨t, ht, rfl⟩
  · refine br_t h (h0 ?_)
    rintro ⟨t, ht, rfl⟩
    exact nI_pos (by omega) h
  · have h3 : (3 : Int32) ≤ x := h
    refine br_f (fun z => ?_) (br_t ?_ (h0 ?_))
    · exact absurd (Int32.lt_of_lt_of_le z (Int32.le_trans (by decide) h3)) Int32.lt_irrefl
    · exact Int32.lt_of_lt_of_le (by decide) h3
    · rintro ⟨t, ht, rfl⟩
      exact nI_ge (a := t) (b := 3) ht (by decide) h
  · exact br_f (nI_pos (by omega)) (br_f (nI_nlt (a := 2) (by omega) (by decide)) (h1 t ht rfl))
theorem sy_ix2 {A B : Prop} {x : Int32} (h1 : ∀ t, t < 3 → x = nI t → B) (h0 : (¬ ∃ t, t < 3 ∧ x = nI t) → A) : (x < 0 → A) ∧ (¬ x < 0 → ((x ≤ 2 → B) ∧ (¬ x ≤ 2 → A))) := by
  have q := sy_ix h1 h0
  refine ⟨q.1, fun z => ⟨fun z2 => (q.2 z).2 (fun z3 => ?_), fun z2 => (q.2 z).1 (Int32.not_le.mp z2)⟩⟩
  exact absurd (Int32.lt_of_lt_of_le z3 z2) Int32.lt_irrefl
theorem sr_ix2 (x : Int32) : x < 0 ∨ (¬ x < 0 ∧ ¬ x ≤ 1 ∧ x ≠ 0 ∧ x ≠ 1) ∨ x = 0 ∨ x = 1 := by
  rcases pk_ix x (n := 2) (by decide) with h | h | ⟨t, ht, rfl⟩
  · exact Or.inl h
  · have h2 : (2 : Int32) ≤ x := h
    refine Or.inr (Or.inl ⟨fun z => ?_, fun z => ?_, fun z => ?_, fun z => ?_⟩)
    · exact absurd (Int32.le_trans h2 (Int32.le_of_lt z)) (by decide)
    · exact absurd (Int32.le_trans h2 z) (by decide)
    · rw [z] at h2; exact absurd h2 (by decide)
    · rw [z] at h2; exact absurd h2 (by decide)
  · match t, ht with
    | 0, _ => exact Or.inr (Or.inr (Or.inl rfl))
    | 1, _ => exact Or.inr (Or.inr (Or.inr rfl))
section
variable {lo fX fV sX sV fo cc : Int32} {sz kd nm sv sa wy pl ac vr sl hT lV mV lA mA : Nat → Int32} {tn : Int32} {bg tu sp vl aa ho : Nat → Int32}
theorem sy_thr {post : Int32 → Prop} {x : Int32} (h1 : ∀ t, t < 3 → x = nI t → post 1) (h0 : (¬ ∃ t, t < 3 ∧ x = nI t) → post 0) : wpY_thread post (tn, sz, kd, nm, bg, tu, sp, vl, aa, ho) x := by
  unfold wpY_thread
  exact sy_ix h1 h0
/-- a step that may be added -/
def si_ok (t k n : Int32) : Prop := (∃ i, i < 3 ∧ t = nI i) ∧ ∃ j, j ≤ 5 ∧ k = nI j ∧ (j ≤ 2 → ∃ m, m < 3 ∧ n = nI m) ∧ (4 ≤ j → ∃ m, m < 2 ∧ n = nI m)
theorem sx_61 {post : Int32 → SX → Prop} {v1 v2 v3 : Int32} (h1 : (∃ m, m < 2 ∧ v3 = nI m) → wX_step_77 post v1 v2 v3 lo fX fV sX sV fo cc sz kd nm sv sa wy pl ac vr sl hT lV mV lA mA) (h0 : (¬ ∃ m, m < 2 ∧ v3 = nI m) → post (-1) (lo, fX, fV, sX, sV, fo, cc, sz, kd, nm, sv, sa, wy, pl, ac, vr, sl, hT, lV, mV, lA, mA)) : wX_step_61 post v1 v2 v3 1 lo fX fV sX sV fo cc sz kd nm sv sa wy pl ac vr sl hT lV mV lA mA := by
  unfold wX_step_61
  refine br_f (by decide) ?_
  rcases pk_ix v3 (n := 2) (by decide) with h | h | ⟨t, ht, rfl⟩
  · refine br_t h (h0 ?_)
    rintro ⟨t, ht, rfl⟩
    exact nI_pos (by omega) h
  · have h2 : (2 : Int32) ≤ v3 := h
    refine br_f (fun z => ?_) (br_f (fun z => ?_) (h0 ?_))
    · exact absurd (Int32.le_trans h2 (Int32.le_of_lt z)) (by decide)
    · exact absurd (Int32.le_trans h2 z) (by decide)
    · rintro ⟨t, ht, rfl⟩
      exact nI_ge (a := t) (b := 2) ht (by decide) h
  · exact br_f (nI_pos (by omega)) (br_t (nI_le (b := 1) (by omega) (by decide)) (h1 ⟨t, ht, rfl⟩))
theorem sx_step {post : Int32 → SX → Prop} {v1 v2 v3 : Int32} (h1 : si_ok v1 v2 v3 → wX_step_77 post v1 v2 v3 lo fX fV sX sV fo cc sz kd nm sv sa wy pl ac vr sl hT lV mV lA mA) (h0 : ¬ si_ok v1 v2 v3 → post (-1) (lo, fX, fV, sX, sV, fo, cc, sz, kd, nm, sv, sa, wy, pl, ac, vr, sl, hT, lV, mV, lA, mA)) : wpX_step post (lo, fX, fV, sX, sV, fo, cc, sz, kd, nm, sv, sa, wy, pl, ac, vr, sl, hT, lV, mV, lA, mA) v1 v2 v3 := by
  unfold wpX_step
  rcases pk_ix v2 (n := 6) (by decide) with h | h | ⟨j, hj, e⟩
  · have hno : ¬ si_ok v1 v2 v3 := by
      rintro ⟨_, j, hj, e, _⟩
      rw [e] at h
      exact nI_pos (by omega) h
    have n4 : ¬ v2 = 4 := by intro z; rw [z] at h; exact absurd h (by decide)
    have n5 : ¬ v2 = 5 := by intro z; rw [z] at h; exact absurd h (by decide)
    refine br_t h ?_
    unfold wX_step_13 wX_step_14
    refine br_f n4 (br_f n5 ?_)
    unfold wX_step_31
    exact sx_ix (fun t ht et => br_f (by decide) (br_t h (h0 hno))) (fun _ => br_t rfl (h0 hno))
  · have h6 : (6 : Int32) ≤ v2 := h
    have hno : ¬ si_ok v1 v2 v3 := by
      rintro ⟨_, j, hj, e, _⟩
      rw [e] at h
      exact nI_ge (a := j) (b := 6) (by omega) (by decide) h
    have n4 : ¬ v2 = 4 := by intro z; rw [z] at h6; exact absurd h6 (by decide)
    have n5 : ¬ v2 = 5 := by intro z; rw [z] at h6; exact absurd h6 (by decide)
    have n0 : ¬ v2 < 0 := fun z => absurd (Int32.le_trans h6 (Int32.le_of_lt z)) (by decide)
    refine br_f n0 (br_t (Int32.lt_of_lt_of_le (by decide) h6) ?_)
    unfold wX_step_13 wX_step_14
    refine br_f n4 (br_f n5 ?_)
    unfold wX_step_31
    exact sx_ix (fun t ht et => br_f (by decide) (br_f n0 (br_t (Int32.lt_of_lt_of_le (by decide) h6) (h0 hno)))) (fun _ => br_t rfl (h0 hno))
  · have b1 : (¬ ∃ t, t < 3 ∧ v1 = nI t) → ¬ si_ok v1 v2 v3 := fun z q => z q.1
    have inj : ∀ j', j' ≤ 5 → v2 = nI j' → j' = j := by
      intro j' hj' e'
      rw [e] at e'
      exact ((nI_eq (by omega) (by omega)).mp e').symm
    have shared : j ≤ 2 → wX_step_31 post v1 v2 v3 1 0 lo fX fV sX sV fo cc sz kd nm sv sa wy pl ac vr sl hT lV mV lA mA := by
      intro hj2
      unfold wX_step_31
      refine sx_ix (fun t ht et => ?_) (fun q => br_t rfl (h0 (b1 q)))
      refine br_f (by decide) (br_f (by rw [e]; exact nI_pos (by omega)) (br_f (by rw [e]; exact nI_nlt (a := 5) (by omega) (by decide)) (br_f (by decide) ?_)))
      refine sx_ix (fun m hm em => ?_) (fun q => br_t rfl (h0 ?_))
      · refine br_f (by decide) ?_
        unfold wX_step_61
        exact br_t rfl (h1 ⟨⟨t, ht, et⟩, j, by omega, e, fun _ => ⟨m, hm, em⟩, fun z => by omega⟩)
      · rintro ⟨_, j', hj', e', q2, _⟩
        exact q (q2 (by rw [inj j' hj' e']; exact hj2))
    have locks : 4 ≤ j → wX_step_31 post v1 v2 v3 0 1 lo fX fV sX sV fo cc sz kd nm sv sa wy pl ac vr sl hT lV mV lA mA := by
      intro hj4
      unfold wX_step_31
      refine sx_ix (fun t ht et => ?_) (fun q => br_t rfl (h0 (b1 q)))
      refine br_f (by decide) (br_f (by rw [e]; exact nI_pos (by omega)) (br_f (by rw [e]; exact nI_nlt (a := 5) (by omega) (by decide)) (br_t rfl ?_)))
      refine sx_61 (fun q => h1 ⟨⟨t, ht, et⟩, j, by omega, e, fun z => by omega, fun _ => q⟩) (fun q => h0 ?_)
      rintro ⟨_, j', hj', e', _, q2⟩
      exact q (q2 (by rw [inj j' hj' e']; exact hj4))
    have plain : j = 3 → wX_step_31 post v1 v2 v3 0 0 lo fX fV sX sV fo cc sz kd nm sv sa wy pl ac vr sl hT lV mV lA mA := by
      intro hj3
      unfold wX_step_31
      refine sx_ix (fun t ht et => ?_) (fun q => br_t rfl (h0 (b1 q)))
      refine br_f (by decide) (br_f (by rw [e]; exact nI_pos (by omega)) (br_f (by rw [e]; exact nI_nlt (a := 5) (by omega) (by decide)) (br_t rfl ?_)))
      unfold wX_step_61
      exact br_t rfl (h1 ⟨⟨t, ht, et⟩, j, by omega, e, fun z => by omega, fun z => by omega⟩)
    have ne : ∀ m, m < 6 → j ≠ m → ¬ v2 = nI m := by
      intro m hm hne z
      exact hne (inj m (by omega) z).symm
    refine br_f (by rw [e]; exact nI_pos (by omega)) ?_
    by_cases hj2 : j ≤ 2
    · refine br_f (by rw [e]; exact nI_nlt (a := 2) hj2 (by decide)) ?_
      unfold wX_step_14
      exact br_f (ne 4 (by decide) (by omega)) (br_f (ne 5 (by decide) (by omega)) (shared hj2))
    · refine br_t (by rw [e]; exact nI_lt (a := 2) (by omega) (by omega)) ?_
      unfold wX_step_13 wX_step_14
      by_cases hj4 : j = 4
      · refine br_t (by rw [e, hj4]; rfl) ?_
        unfold wX_step_26
        exact locks (by omega)
      · refine br_f (ne 4 (by decide) hj4) ?_
        by_cases hj5 : j = 5
        · refine br_t (by rw [e, hj5]; rfl) ?_
          unfold wX_step_26
          exact locks (by omega)
        · exact br_f (ne 5 (by decide) hj5) (plain (by omega))
theorem sy_stp {post : Int32 → SY → Prop} {v1 v2 v3 : Int32} (h1 : si_ok v1 v2 v3 → wY_step_47 post v1 v2 v3 tn sz kd nm bg tu sp vl aa ho) (h0 : ¬ si_ok v1 v2 v3 → post (-1) (tn, sz, kd, nm, bg, tu, sp, vl, aa, ho)) : wpY_step post (tn, sz, kd, nm, bg, tu, sp, vl, aa, ho) v1 v2 v3 := by
  unfold wpY_step
  have b1 : (¬ ∃ t, t < 3 ∧ v1 = nI t) → ¬ si_ok v1 v2 v3 := fun z q => z q.1
  refine sy_thr (fun t ht et => br_f (by decide) ?_) (fun q => br_t rfl (h0 (b1 q)))
  rcases pk_ix v2 (n := 6) (by decide) with h | h | ⟨j, hj, e⟩
  · refine br_t h (h0 ?_)
    rintro ⟨_, j, hj, e, _⟩
    rw [e] at h
    exact nI_pos (by omega) h
  · have h6 : (6 : Int32) ≤ v2 := h
    refine br_f (fun z => absurd (Int32.le_trans h6 (Int32.le_of_lt z)) (by decide)) (br_t (Int32.lt_of_lt_of_le (by decide) h6) (h0 ?_))
    rintro ⟨_, j, hj, e, _⟩
    rw [e] at h
    exact nI_ge (a := j) (b := 6) (by omega) (by decide) h
  · have inj : ∀ j', j' ≤ 5 → v2 = nI j' → j' = j := by
      intro j' hj' e'
      rw [e] at e'
      exact ((nI_eq (by omega) (by omega)).mp e').symm
    refine br_f (by rw [e]; exact nI_pos (by omega)) (br_f (by rw [e]; exact nI_nlt (a := 5) (by omega) (by decide)) ?_)
    by_cases hj2 : j ≤ 2
    · refine br_f (by rw [e]; exact nI_nlt (a := 2) hj2 (by decide)) (sy_ix (fun m hm em => ?_) (fun q => h0 ?_))
      · unfold wY_step_31
        exact br_t (by rw [e]; exact nI_lt (b := 4) (by omega) (by decide)) (h1 ⟨⟨t, ht, et⟩, j, by omega, e, fun _ => ⟨m, hm, em⟩, fun z => by omega⟩)
      · rintro ⟨_, j', hj', e', q2, _⟩
        exact q (q2 (by rw [inj j' hj' e']; exact hj2))
    · refine br_t (by rw [e]; exact nI_lt (a := 2) (by omega) (by omega)) ?_
      unfold wY_step_31
      by_cases hj4 : 4 ≤ j
      · refine br_f (by rw [e]; exact nI_nlt (b := 4) hj4 (by omega)) ?_
        by_cases z0 : v3 = 0
        · exact br_t z0 (h1 ⟨⟨t, ht, et⟩, j, by omega, e, fun z => by omega, fun _ => ⟨0, by decide, z0⟩⟩)
        · refine br_f z0 ?_
          by_cases z1 : v3 = 1
          · exact br_t z1 (h1 ⟨⟨t, ht, et⟩, j, by omega, e, fun z => by omega, fun _ => ⟨1, by decide, z1⟩⟩)
          · refine br_f z1 (h0 ?_)
            rintro ⟨_, j', hj', e', _, q2⟩
            obtain ⟨m, hm, em⟩ := q2 (by rw [inj j' hj' e']; exact hj4)
            match m, hm, em with
            | 0, _, em => exact z0 em
            | 1, _, em => exact z1 em
      · exact br_t (by rw [e]; exact nI_lt (b := 4) (by omega) (by decide)) (h1 ⟨⟨t, ht, et⟩, j, by omega, e, fun z => by omega, fun z => by omega⟩)
theorem sx_77 {post : Int32 → SX → Prop} {S K : Nat → Nat} {v3 : Int32} (G : sr_gd S K nm) (E : sy_gd S K sz kd) {t j : Nat} (ht : t < 3) (hj : j ≤ 5)
    (h1 : S t < 4 → post (nI (S t)) (lo, fX, fV, sX, sV, fo, cc, upd sz t (nI (S t + 1)), upd kd (4 * t + S t) (nI j), upd nm (4 * t + S t) v3, sv, sa, wy, pl, ac, vr, sl, hT, lV, mV, lA, mA)) (h0 : ¬ S t < 4 → post (-2) (lo, fX, fV, sX, sV, fo, cc, sz, kd, nm, sv, sa, wy, pl, ac, vr, sl, hT, lV, mV, lA, mA)) : wX_step_77 post (nI t) (nI j) v3 lo fX fV sX sV fo cc sz kd nm sv sa wy pl ac vr sl hT lV mV lA mA := by
  have c : (nI t).toNatClampNeg = t := nI_clamp (by omega)
  have hS := G.1 t ht
  have i3 : vp_in (nI t) 3 := vp_in_nI ht (by decide)
  unfold wX_step_77
  rw [c, E.1 t ht, sr_c4x, nI_1 (S t)]
  refine ⟨i3, ?_⟩
  by_cases h : S t < 4
  · have c2 : (nI (4 * t + S t)).toNatClampNeg = 4 * t + S t := nI_clamp (by omega)
    have i12 : vp_in (nI (4 * t + S t)) 12 := vp_in_nI (by omega) (by decide)
    rw [c2]
    refine br_t (nI_lt (b := 4) h (by decide)) ⟨i3, i12, nm_r (e' := upd kd (4 * t + S t) (nI j)) (by rw [sr_nar2 (by omega)]) ⟨i3, i12, nm_e ⟨i3, i3, nm_r (e' := upd sz t (nI (S t + 1))) (by rw [sr_nar2 (by omega)]) ⟨i3, ?_⟩⟩⟩⟩
    rw [pk_us, nI_pred]
    exact h1 h
  · exact br_f (nI_nlt (b := 4) (by omega) (by omega)) (h0 h)
theorem sy_47 {post : Int32 → SY → Prop} {S K : Nat → Nat} {v3 : Int32} (G : sr_gd S K nm) (E : sy_gd S K sz kd) {t j : Nat} (ht : t < 3) (hj : j ≤ 5)
    (h1 : S t < 4 → post (nI (S t)) (tn, upd sz t (nI (S t + 1)), upd kd (4 * t + S t) (nI j), upd nm (4 * t + S t) v3, bg, tu, sp, vl, aa, ho)) (h0 : ¬ S t < 4 → post (-2) (tn, sz, kd, nm, bg, tu, sp, vl, aa, ho)) : wY_step_47 post (nI t) (nI j) v3 tn sz kd nm bg tu sp vl aa ho := by
  have c : (nI t).toNatClampNeg = t := nI_clamp (by omega)
  have hS := G.1 t ht
  have i3 : vp_in (nI t) 3 := vp_in_nI ht (by decide)
  unfold wY_step_47
  rw [c, E.1 t ht, sr_c4, nI_1 (S t)]
  refine ⟨i3, ?_⟩
  by_cases h : S t < 4
  · have c2 : (nI (4 * t + S t)).toNatClampNeg = 4 * t + S t := nI_clamp (by omega)
    have i12 : vp_in (nI (4 * t + S t)) 12 := vp_in_nI (by omega) (by decide)
    rw [c2]
    refine br_t (nI_lt (b := 4) h (by decide)) ⟨i3, i12, nm_e ⟨i3, i12, nm_e ⟨i3, i3, nm_e ⟨i3, ?_⟩⟩⟩⟩
    rw [pk_us, nI_pred]
    exact h1 h
  · exact br_f (nI_nlt (b := 4) (by omega) (by omega)) (h0 h)
end
theorem i_vc_step {k : Nat} {u : SX} {v : SY} (I : i_Rel k u v) (hk : k + 5 ≤ 2560) (v1 : Int32) (v2 : Int32) (v3 : Int32) : wpX_step (fun r u' => wpY_step (fun r' v' => r' = r ∧ i_Rel (k + 5) u' v') v v1 v2 v3) u v1 v2 v3 := by
  refine si_el (P := fun u v => wpX_step (fun r u' => wpY_step (fun r' v' => r' = r ∧ i_Rel (k + 5) u' v') v v1 v2 v3) u v1 v2 v3) ?_ I
  intro lo fX fV sX sV fo cc sz kd nm sv sa wy pl ac vr sl hT lV mV lA mA tn bg tu sp vl aa ho hR
  refine sx_step (fun q => ?_) (fun q => sy_stp (fun q2 => absurd q2 q) (fun _ => ⟨rfl, si_mk hR⟩))
  obtain ⟨⟨S, K, G, E⟩, r2, r3, r4⟩ := hR
  obtain ⟨⟨t, ht, e1⟩, j, hj, e2, q1, q2⟩ := q
  have ok : si_ok v1 v2 v3 := ⟨⟨t, ht, e1⟩, j, hj, e2, q1, q2⟩
  have hS := G.1 t ht
  rw [e1, e2]
  refine sx_77 G E ht hj (fun h => ?_) (fun h => ?_)
  · rw [← e1, ← e2]
    refine sy_stp (fun _ => ?_) (fun z => absurd ok z)
    rw [e1, e2]
    refine sy_47 G E ht hj (fun _ => ⟨rfl, si_mk ⟨⟨fun i => if i = t then S t + 1 else S i, fun i => if i = 4 * t + S t then j else K i, ⟨fun i hi => ?_, fun i hi => ?_⟩, fun i hi => ?_, fun i hi => ?_⟩, r2, r3, r4⟩⟩) (fun z => absurd h z)
    · dsimp only
      by_cases e : i = t
      · rw [if_pos e]; omega
      · rw [if_neg e]; exact G.1 i hi
    · dsimp only
      by_cases e : i = 4 * t + S t
      · rw [if_pos e, e, pk_us]
        refine ⟨hj, fun z => ?_, fun z => ?_⟩
        · obtain ⟨m, hm, em⟩ := q1 z
          exact ⟨m, by omega, em⟩
        · obtain ⟨m, hm, em⟩ := q2 z
          exact ⟨m, by omega, em⟩
      · rw [if_neg e, pk_un e]
        exact G.2 i hi
    · dsimp only
      by_cases e : i = t
      · rw [if_pos e, e, pk_us]
      · rw [if_neg e, pk_un e]
        exact E.1 i hi
    · dsimp only
      by_cases e : i = 4 * t + S t
      · rw [if_pos e, e, pk_us]
      · rw [if_neg e, pk_un e]
        exact E.2 i hi
  · rw [← e1, ← e2]
    refine sy_stp (fun _ => ?_) (fun z => absurd ok z)
    rw [e1, e2]
    exact sy_47 G E ht hj (fun z => absurd z h) (fun _ => ⟨rfl, si_mk ⟨⟨S, K, G, E⟩, r2, r3, r4⟩⟩)
theorem i_vc_drop {k : Nat} {u : SX} {v : SY} (I : i_Rel k u v) (hk : k + 5 ≤ 2560) (v1 : Int32) : wpX_drop (fun r u' => wpY_drop (fun r' v' => r' = r ∧ i_Rel (k + 5) u' v') v v1) u v1 := by
  refine si_el (P := fun u v => wpX_drop (fun r u' => wpY_drop (fun r' v' => r' = r ∧ i_Rel (k + 5) u' v') v v1) u v1) ?_ I
  intro lo fX fV sX sV fo cc sz kd nm sv sa wy pl ac vr sl hT lV mV lA mA tn bg tu sp vl aa ho hR
  unfold wpX_drop
  refine sx_ix (fun t ht e1 => br_f (by decide) ?_) (fun q => br_t rfl ?_)
  · obtain ⟨⟨S, K, G, E⟩, r2, r3, r4⟩ := hR
    have hS := G.1 t ht
    have c : (nI t).toNatClampNeg = t := nI_clamp (by omega)
    have i3 : vp_in (nI t) 3 := vp_in_nI ht (by decide)
    have yd : ∀ post : Int32 → SY → Prop, (S t = 0 → post (-1) (tn, sz, kd, nm, bg, tu, sp, vl, aa, ho)) → (S t ≠ 0 → post (nI (S t - 1)) (tn, upd sz t (nI (S t - 1)), kd, nm, bg, tu, sp, vl, aa, ho)) → wpY_drop post (tn, sz, kd, nm, bg, tu, sp, vl, aa, ho) (nI t) := by
      intro post p1 p2
      unfold wpY_drop
      refine sy_thr (fun _ _ _ => br_f (by decide) ?_) (fun q => absurd ⟨t, ht, rfl⟩ q)
      rw [c, E.1 t ht]
      refine ⟨i3, ?_⟩
      by_cases z : S t = 0
      · exact br_t (by rw [z]; rfl) (p1 z)
      · have es : nI (S t) - 1 = nI (S t - 1) := pk_sub (a := S t) (b := 1) (by omega)
        rw [es]
        refine br_f (nI_ne0 (by omega) (by omega)) ⟨i3, i3, nm_e ⟨i3, ?_⟩⟩
        rw [pk_us]
        exact p2 z
    rw [e1, c, E.1 t ht]
    refine ⟨i3, ?_⟩
    by_cases z : S t = 0
    · refine br_t (by rw [z]; rfl) (yd _ (fun _ => ⟨rfl, si_mk ⟨⟨S, K, G, E⟩, r2, r3, r4⟩⟩) (fun q => absurd z q))
    · have es : nI (S t) - 1 = nI (S t - 1) := pk_sub (a := S t) (b := 1) (by omega)
      rw [es]
      refine br_f (nI_ne0 (by omega) (by omega)) ⟨i3, i3, nm_r (e' := upd sz t (nI (S t - 1))) (by rw [sr_nar2 (by omega)]) ⟨i3, ?_⟩⟩
      rw [pk_us]
      refine yd _ (fun q => absurd q z) (fun _ => ⟨rfl, si_mk ⟨⟨fun i => if i = t then S t - 1 else S i, K, ⟨fun i hi => ?_, G.2⟩, fun i hi => ?_, E.2⟩, r2, r3, r4⟩⟩)
      · dsimp only
        by_cases e : i = t
        · rw [if_pos e]; omega
        · rw [if_neg e]; exact G.1 i hi
      · dsimp only
        by_cases e : i = t
        · rw [if_pos e, e, pk_us]
        · rw [if_neg e, pk_un e]
          exact E.1 i hi
  · unfold wpY_drop
    exact sy_thr (fun t ht e => absurd ⟨t, ht, e⟩ q) (fun _ => br_t rfl ⟨rfl, si_mk hR⟩)
theorem i_vc_length {k : Nat} {u : SX} {v : SY} (I : i_Rel k u v) (hk : k + 5 ≤ 2560) (v1 : Int32) : wpX_length (fun r => wpY_length (fun r' => r' = r ∧ i_Rel (k + 5) u v) v v1) u v1 := by
  refine si_el (P := fun u v => wpX_length (fun r => wpY_length (fun r' => r' = r ∧ i_Rel (k + 5) u v) v v1) u v1) ?_ I
  intro lo fX fV sX sV fo cc sz kd nm sv sa wy pl ac vr sl hT lV mV lA mA tn bg tu sp vl aa ho hR
  unfold wpX_length wpY_length
  refine sx_ix (fun t ht e1 => br_f (by decide) ?_) (fun q => br_t rfl ?_)
  · have i3 : vp_in v1 3 := by rw [e1]; exact vp_in_nI ht (by decide)
    exact ⟨i3, sy_thr (fun _ _ _ => br_f (by decide) ⟨i3, rfl, si_mk hR⟩) (fun q => absurd ⟨t, ht, e1⟩ q)⟩
  · exact sy_thr (fun t ht e => absurd ⟨t, ht, e⟩ q) (fun _ => br_t rfl ⟨rfl, si_mk hR⟩)
theorem i_vc_begin {k : Nat} {u : SX} {v : SY} (I : i_Rel k u v) (hk : k + 5 ≤ 2560) (v1 : Int32) (v2 : Int32) (v3 : Int32) : wpX_begin (fun r u' => wpY_begin (fun r' v' => r' = r ∧ i_Rel (k + 5) u' v') v v1 v2 v3) u v1 v2 v3 := by
  refine si_el (P := fun u v => wpX_begin (fun r u' => wpY_begin (fun r' v' => r' = r ∧ i_Rel (k + 5) u' v') v v1 v2 v3) u v1 v2 v3) ?_ I
  intro lo fX fV sX sV fo cc sz kd nm sv sa wy pl ac vr sl hT lV mV lA mA tn bg tu sp vl aa ho hR
  have y9 : ∀ (post : Int32 → SY → Prop) (w : Nat), w < 2 → v1 = nI w → (∀ t, t < 3 → v2 = nI t → post 1 (tn, sz, kd, nm, upd bg (3 * w + t) v3, tu, sp, vl, aa, ho)) → ((¬ ∃ t, t < 3 ∧ v2 = nI t) → post 0 (tn, sz, kd, nm, bg, tu, sp, vl, aa, ho)) → wY_begin_9 post v1 v2 v3 tn sz kd nm bg tu sp vl aa ho := by
    intro post w hw ew p1 p0
    unfold wY_begin_9
    refine sy_ix2 (fun t ht et => ?_) p0
    have ec : (3 : Int32) * nI w + nI t = nI (3 * w + t) := by rw [sr_l3, pk_mul, nI_add]
    have c : (nI (3 * w + t)).toNatClampNeg = 3 * w + t := nI_clamp (by omega)
    rw [ew, et, ec, c]
    exact ⟨vp_in_nI (by omega) (by decide), nm_e (p1 t ht et)⟩
  have yb : ∀ (post : Int32 → SY → Prop), (∀ w, w < 2 → v1 = nI w → wY_begin_9 post v1 v2 v3 tn sz kd nm bg tu sp vl aa ho) → (v1 ≠ 0 → v1 ≠ 1 → post 0 (tn, sz, kd, nm, bg, tu, sp, vl, aa, ho)) → wpY_begin post (tn, sz, kd, nm, bg, tu, sp, vl, aa, ho) v1 v2 v3 := by
    intro post p1 p0
    unfold wpY_begin
    exact br_c (fun z => p1 0 (by decide) z) (fun z => br_c (fun z1 => p1 1 (by decide) z1) (fun z1 => p0 z z1))
  unfold wpX_begin
  refine sx_ix (fun t ht et => br_f (by decide) ?_) (fun q => br_t rfl ?_)
  · obtain ⟨hg, r2, r3, r4⟩ := hR
    have c : (nI t).toNatClampNeg = t := nI_clamp (by omega)
    have i3 : vp_in (nI t) 3 := vp_in_nI ht (by decide)
    have inj : ∀ t', t' < 3 → v2 = nI t' → t' = t := by
      intro t' h' e'
      rw [et] at e'
      exact ((nI_eq (by omega) (by omega)).mp e').symm
    rcases sr_ix2 v1 with h | ⟨h1, h2, h3, h4⟩ | h | h
    · refine br_t h (yb _ (fun w hw ew => ?_) (fun _ _ => ⟨rfl, si_mk ⟨hg, r2, r3, r4⟩⟩))
      rw [ew] at h
      exact absurd h (nI_pos (by omega))
    · refine br_f h1 (br_f h2 (yb _ (fun w hw ew => ?_) (fun _ _ => ⟨rfl, si_mk ⟨hg, r2, r3, r4⟩⟩)))
      match w, hw, ew with
      | 0, _, ew => exact absurd ew h3
      | 1, _, ew => exact absurd ew h4
    · refine br_f (by rw [h]; decide) (br_t (by rw [h]; decide) (br_t h ?_))
      rw [et, c]
      refine ⟨i3, nm_e ?_⟩
      rw [← et]
      refine yb _ (fun w hw ew => y9 _ w hw ew (fun t' ht' et' => ⟨rfl, si_mk ⟨hg, fun j hj => ?_, r3, r4⟩⟩) (fun q => absurd ⟨t, ht, et⟩ q)) (fun z _ => absurd h z)
      have ew0 : w = 0 := by
        rw [h] at ew
        exact ((nI_eq (a := 0) (by decide) (by omega)).mp ew).symm
      have := inj t' ht' et'
      subst ew0
      subst this
      by_cases e : j = t'
      · rw [e, pk_us, Nat.mul_zero, Nat.zero_add, pk_us, pk_un (by omega)]
        exact ⟨rfl, (r2 t' ht').2⟩
      · rw [pk_un (by omega), pk_un (by omega), pk_un (by omega)]
        exact r2 j hj
    · refine br_f (by rw [h]; decide) (br_t (by rw [h]; decide) (br_f (by rw [h]; decide) ?_))
      rw [et, c]
      refine ⟨i3, nm_e ?_⟩
      rw [← et]
      refine yb _ (fun w hw ew => y9 _ w hw ew (fun t' ht' et' => ⟨rfl, si_mk ⟨hg, fun j hj => ?_, r3, r4⟩⟩) (fun q => absurd ⟨t, ht, et⟩ q)) (fun _ z => absurd h z)
      have ew0 : w = 1 := by
        rw [h] at ew
        exact ((nI_eq (a := 1) (by decide) (by omega)).mp ew).symm
      have := inj t' ht' et'
      subst ew0
      subst this
      by_cases e : j = t'
      · rw [e, pk_us, Nat.mul_one, pk_us, pk_un (by omega)]
        exact ⟨(r2 t' ht').1, rfl⟩
      · rw [pk_un (by omega), pk_un (by omega), pk_un (by omega)]
        exact r2 j hj
  · refine yb _ (fun w hw ew => y9 _ w hw ew (fun t ht et => absurd ⟨t, ht, et⟩ q) (fun _ => ⟨rfl, si_mk hR⟩)) (fun _ _ => ⟨rfl, si_mk hR⟩)
end
section
/-! the asking methods -/
theorem i_vc_schedules {k : Nat} {u : SX} {v : SY} (I : i_Rel k u v) (hk : k + 5 ≤ 2560) : wpX_schedules (fun r u' => wpY_schedules (fun r' v' => r' = r ∧ i_Rel (k + 5) u' v') v) u := by
  refine si_el (P := fun u v => wpX_schedules (fun r u' => wpY_schedules (fun r' v' => r' = r ∧ i_Rel (k + 5) u' v') v) u) ?_ I
  intro lo fX fV sX sV fo cc sz kd nm sv sa wy pl ac vr sl hT lV mV lA mA tn bg tu sp vl aa ho hR
  have hR' := hR
  obtain ⟨⟨S, K, G, E⟩, r2, r3, r4⟩ := hR'
  unfold wpX_schedules
  refine sx_countWays (o := false) G E ?_
  intro wy'
  dsimp only
  refine sy_schedules G E ?_
  intro tn' tu' sp' vl' aa' ho'
  refine ⟨?_, si_mk hR⟩
  have e : sr_lf S false = fun _ => 1 := rfl
  rw [e, sr_cw_len]
theorem i_vc_canStick {k : Nat} {u : SX} {v : SY} (I : i_Rel k u v) (hk : k + 5 ≤ 2560) : wpX_canStick (fun r u' => wpY_canStick (fun r' v' => r' = r ∧ i_Rel (k + 5) u' v') v) u := by
  refine si_el (P := fun u v => wpX_canStick (fun r u' => wpY_canStick (fun r' v' => r' = r ∧ i_Rel (k + 5) u' v') v) u) ?_ I
  intro lo fX fV sX sV fo cc sz kd nm sv sa wy pl ac vr sl hT lV mV lA mA tn bg tu sp vl aa ho hR
  have hR' := hR
  obtain ⟨⟨S, K, G, E⟩, r2, r3, r4⟩ := hR'
  have hmax : sr_cw S K nm (sr_lf S true) 12 sr_p0 ≤ 34650 := by
    refine Nat.le_trans (sr_cw_le _ (fun _ => 1) (fun p => ?_) 12 sr_p0) (sr_cw_max G 12 sr_p0)
    unfold sr_lf
    by_cases h : (true && sr_dn S p) = true
    · rw [if_pos h]; exact Nat.zero_le _
    · rw [if_neg h]; exact Nat.le_refl _
  unfold wpX_canStick
  refine sx_countWays (o := true) G E ?_
  intro wy'
  dsimp only
  by_cases h : 0 < sr_cw S K nm (sr_lf S true) 12 sr_p0
  · refine br_f (nI_nle h (by omega)) (sy_canStick G E ?_)
    intro tn' tu' sp' vl' aa' ho'
    rw [(sr_stick G).mp h]
    exact ⟨rfl, si_mk hR⟩
  · have e0 : sr_cw S K nm (sr_lf S true) 12 sr_p0 = 0 := by omega
    refine br_t (by rw [e0]; decide) (sy_canStick G E ?_)
    intro tn' tu' sp' vl' aa' ho'
    cases hq : (sr_al S K nm 12 sr_p0).any (sr_ue S) with
    | true => exact absurd ((sr_stick G).mpr hq) h
    | false => exact ⟨rfl, si_mk hR⟩
section
variable {lo fX fV sX sV fo cc : Int32} {sz kd nm sv sa wy pl ac vr sl hT lV mV lA mA : Nat → Int32} {tn : Int32} {bg tu sp vl aa ho : Nat → Int32} {S K : Nat → Nat}
theorem sx_all {post : SX → Prop} (G : sr_gd S K nm) (E : sy_gd S K sz kd) {a b : Nat} (ha : a < 3) (hb : b < 3) (eX : fX = nI a) (eY : sX = nI b) (hbg : ∀ j, j < 3 → bg j = sv j ∧ bg (3 + j) = sa j)
    (h : ∀ (fo' cc' : Int32) (pl' ac' vr' sl' hT' lV' mV' lA' mA' : Nat → Int32), cc' = nI (sr_xs S K nm 12 sr_p0 (fun _ => false)).length →
      (∀ j, j < 3 → sr_be true (fun v : Nat → Int32 => v j) (sr_Lx S K nm bg) (lV' j) ∧ sr_be false (fun v : Nat → Int32 => v j) (sr_Lx S K nm bg) (mV' j) ∧ sr_be true (fun v : Nat → Int32 => v (3 + j)) (sr_Lx S K nm bg) (lA' j) ∧ sr_be false (fun v : Nat → Int32 => v (3 + j)) (sr_Lx S K nm bg) (mA' j)) →
      post (0, fX, fV, sX, sV, fo', cc', sz, kd, nm, sv, sa, wy, pl', ac', vr', sl', hT', lV', mV', lA', mA')) : wpX_walkAll post (lo, fX, fV, sX, sV, fo, cc, sz, kd, nm, sv, sa, wy, pl, ac, vr, sl, hT, lV, mV, lA, mA) := by
  unfold wpX_walkAll
  dsimp only
  refine sx_walk G E ha hb eX eY hbg ?_ ?_
  · intro fo' cc' pl' ac' vr' sl' hT' lV' mV' lA' mA' ho
    dsimp only
    refine h fo' cc' pl' ac' vr' sl' hT' lV' mV' lA' mA' ?_ (ho.2.2 (sr_Lx_ne G))
    rw [ho.1]
    unfold sr_Lx
    rw [List.length_map]
  · intro fo' cc' pl' ac' vr' sl' hT' lV' mV' lA' mA' h0
    exact absurd rfl h0
theorem sx_ceb {post : Int32 → SX → Prop} (G : sr_gd S K nm) (E : sy_gd S K sz kd) (hbg : ∀ j, j < 3 → bg j = sv j ∧ bg (3 + j) = sa j) {v1 v2 v3 v4 : Int32}
    (h1 : ∀ a b, a < 3 → b < 3 → v1 = nI a → v3 = nI b → ∀ (fo' cc' : Int32) (pl' ac' vr' sl' hT' lV' mV' lA' mA' : Nat → Int32), post (sr_b ((sr_al S K nm 12 sr_p0).any (sr_me K nm bg a v2 b v4))) (1, v1, v2, v3, v4, fo', cc', sz, kd, nm, sv, sa, wy, pl', ac', vr', sl', hT', lV', mV', lA', mA'))
    (h0 : (¬ ((∃ a, a < 3 ∧ v1 = nI a) ∧ ∃ b, b < 3 ∧ v3 = nI b)) → post 0 (lo, fX, fV, sX, sV, fo, cc, sz, kd, nm, sv, sa, wy, pl, ac, vr, sl, hT, lV, mV, lA, mA)) : wpX_canEndBoth post (lo, fX, fV, sX, sV, fo, cc, sz, kd, nm, sv, sa, wy, pl, ac, vr, sl, hT, lV, mV, lA, mA) v1 v2 v3 v4 := by
  unfold wpX_canEndBoth
  refine sx_ix (fun a ha ea => br_f (by decide) ?_) (fun q => br_t rfl (h0 (fun z => q z.1)))
  refine sx_ix (fun b hb eb => br_f (by decide) ?_) (fun q => br_t rfl (h0 (fun z => q z.2)))
  refine sx_walk G E ha hb ea eb hbg ?_ ?_
  · intro fo' cc' pl' ac' vr' sl' hT' lV' mV' lA' mA' ho
    dsimp only
    have e := ho.2.1
    rw [sr_any_eq G] at e
    have q := h1 a b ha hb ea eb fo' cc' pl' ac' vr' sl' hT' lV' mV' lA' mA'
    rw [← e] at q
    refine ⟨?_, q⟩
    rw [e]
    exact sr_nb01 _
  · intro fo' cc' pl' ac' vr' sl' hT' lV' mV' lA' mA' _ e1 e2
    dsimp only
    rw [sr_any_eq G] at e2
    have q := h1 a b ha hb ea eb fo' cc' pl' ac' vr' sl' hT' lV' mV' lA' mA'
    rw [e2] at q
    subst e1
    exact ⟨rfl, q⟩
theorem sy_ceb {post : Int32 → SY → Prop} (G : sr_gd S K nm) (E : sy_gd S K sz kd) {v1 v2 v3 v4 : Int32}
    (h1 : ∀ a b, a < 3 → b < 3 → v1 = nI a → v3 = nI b → sy_any sz kd nm bg (post (sr_b ((sr_al S K nm 12 sr_p0).any (sr_me K nm bg a v2 b v4)))))
    (h0 : (¬ ((∃ a, a < 3 ∧ v1 = nI a) ∧ ∃ b, b < 3 ∧ v3 = nI b)) → post 0 (tn, sz, kd, nm, bg, tu, sp, vl, aa, ho)) : wpY_canEndBoth post (tn, sz, kd, nm, bg, tu, sp, vl, aa, ho) v1 v2 v3 v4 := by
  by_cases hq : (∃ a, a < 3 ∧ v1 = nI a) ∧ ∃ b, b < 3 ∧ v3 = nI b
  · obtain ⟨⟨a, ha, ea⟩, b, hb, eb⟩ := hq
    have q := sy_canEndBoth (post := post) (tn := tn) (tu := tu) (sp := sp) (vl := vl) (aa := aa) (ho := ho) G E ha hb v2 v4 (h1 a b ha hb ea eb)
    rw [← ea, ← eb] at q
    exact q
  · have h0' := h0 hq
    unfold wpY_canEndBoth
    refine sy_ix (fun a ha ea => ?_) (fun _ => h0')
    exact sy_ix2 (fun b hb eb => absurd ⟨⟨a, ha, ea⟩, b, hb, eb⟩ hq) (fun _ => h0')
end
theorem i_vc_classes {k : Nat} {u : SX} {v : SY} (I : i_Rel k u v) (hk : k + 5 ≤ 2560) : wpX_classes (fun r u' => wpY_classes (fun r' v' => r' = r ∧ i_Rel (k + 5) u' v') v) u := by
  refine si_el (P := fun u v => wpX_classes (fun r u' => wpY_classes (fun r' v' => r' = r ∧ i_Rel (k + 5) u' v') v) u) ?_ I
  intro lo fX fV sX sV fo cc sz kd nm sv sa wy pl ac vr sl hT lV mV lA mA tn bg tu sp vl aa ho hR
  have hR' := hR
  obtain ⟨⟨S, K, G, E⟩, r2, ⟨a, ha, ea⟩, b, hb, eb⟩ := hR'
  unfold wpX_classes
  refine sx_all G E ha hb ea eb r2 ?_
  intro fo' cc' pl' ac' vr' sl' hT' lV' mV' lA' mA' ec _
  dsimp only
  refine sy_classes G E ?_
  intro tn' tu' sp' vl' aa' ho'
  exact ⟨ec.symm, si_mk hR⟩
theorem i_vc_canEndBoth {k : Nat} {u : SX} {v : SY} (I : i_Rel k u v) (hk : k + 5 ≤ 2560) (v1 : Int32) (v2 : Int32) (v3 : Int32) (v4 : Int32) : wpX_canEndBoth (fun r u' => wpY_canEndBoth (fun r' v' => r' = r ∧ i_Rel (k + 5) u' v') v v1 v2 v3 v4) u v1 v2 v3 v4 := by
  refine si_el (P := fun u v => wpX_canEndBoth (fun r u' => wpY_canEndBoth (fun r' v' => r' = r ∧ i_Rel (k + 5) u' v') v v1 v2 v3 v4) u v1 v2 v3 v4) ?_ I
  intro lo fX fV sX sV fo cc sz kd nm sv sa wy pl ac vr sl hT lV mV lA mA tn bg tu sp vl aa ho hR
  have hR' := hR
  obtain ⟨⟨S, K, G, E⟩, r2, r3, r4⟩ := hR'
  refine sx_ceb G E r2 ?_ (fun q => sy_ceb G E (fun a b ha hb ea eb => absurd ⟨⟨a, ha, ea⟩, b, hb, eb⟩ q) (fun _ => ⟨rfl, si_mk hR⟩))
  intro a b ha hb ea eb fo' cc' pl' ac' vr' sl' hT' lV' mV' lA' mA'
  refine sy_ceb G E ?_ (fun q => absurd ⟨⟨a, ha, ea⟩, b, hb, eb⟩ q)
  intro a' b' ha' hb' ea' eb' tn' tu' sp' vl' aa' ho'
  have e1 : a' = a := (nI_eq (by omega) (by omega)).mp (ea'.symm.trans ea)
  have e2 : b' = b := (nI_eq (by omega) (by omega)).mp (eb'.symm.trans eb)
  subst e1
  subst e2
  exact ⟨rfl, si_mk ⟨⟨S, K, G, E⟩, r2, ⟨a', ha', ea'⟩, b', hb', eb'⟩⟩
theorem i_vc_canEnd {k : Nat} {u : SX} {v : SY} (I : i_Rel k u v) (hk : k + 5 ≤ 2560) (v1 : Int32) (v2 : Int32) : wpX_canEnd (fun r u' => wpY_canEnd (fun r' v' => r' = r ∧ i_Rel (k + 5) u' v') v v1 v2) u v1 v2 := by
  refine si_el (P := fun u v => wpX_canEnd (fun r u' => wpY_canEnd (fun r' v' => r' = r ∧ i_Rel (k + 5) u' v') v v1 v2) u v1 v2) ?_ I
  intro lo fX fV sX sV fo cc sz kd nm sv sa wy pl ac vr sl hT lV mV lA mA tn bg tu sp vl aa ho hR
  have hR' := hR
  obtain ⟨⟨S, K, G, E⟩, r2, r3, r4⟩ := hR'
  unfold wpX_canEnd
  refine sx_ceb G E r2 ?_ (fun q => ?_)
  · intro a b ha hb ea eb fo' cc' pl' ac' vr' sl' hT' lV' mV' lA' mA'
    dsimp only
    refine ⟨sr_nb01 _, ?_⟩
    unfold wpY_canEnd
    refine sy_ceb G E ?_ (fun q => absurd ⟨⟨a, ha, ea⟩, b, hb, eb⟩ q)
    intro a' b' ha' hb' ea' eb' tn' tu' sp' vl' aa' ho'
    have e1 : a' = a := (nI_eq (by omega) (by omega)).mp (ea'.symm.trans ea)
    have e2 : b' = b := (nI_eq (by omega) (by omega)).mp (eb'.symm.trans eb)
    subst e1
    subst e2
    exact ⟨sr_nb01 _, rfl, si_mk ⟨⟨S, K, G, E⟩, r2, ⟨a', ha', ea'⟩, b', hb', eb'⟩⟩
  · dsimp only
    refine ⟨rfl, ?_⟩
    unfold wpY_canEnd
    exact sy_ceb G E (fun a b ha hb ea eb => absurd ⟨⟨a, ha, ea⟩, b, hb, eb⟩ q) (fun _ => ⟨rfl, rfl, si_mk hR⟩)
theorem i_vc_extreme {k : Nat} {u : SX} {v : SY} (I : i_Rel k u v) (hk : k + 5 ≤ 2560) (v1 : Int32) (v2 : Int32) : wpX_extreme (fun r u' => wpY_extreme (fun r' v' => r' = r ∧ i_Rel (k + 5) u' v') v v1 v2) u v1 v2 := by
  refine si_el (P := fun u v => wpX_extreme (fun r u' => wpY_extreme (fun r' v' => r' = r ∧ i_Rel (k + 5) u' v') v v1 v2) u v1 v2) ?_ I
  intro lo fX fV sX sV fo cc sz kd nm sv sa wy pl ac vr sl hT lV mV lA mA tn bg tu sp vl aa ho hR
  have hR' := hR
  obtain ⟨⟨S, K, G, E⟩, r2, ⟨a, ha, ea⟩, b, hb, eb⟩ := hR'
  unfold wpX_extreme
  refine sx_ix (fun t ht et => br_f (by decide) ?_) (fun q => br_t rfl ?_)
  · have c : (nI t).toNatClampNeg = t := nI_clamp (by omega)
    have i3 : vp_in (nI t) 3 := vp_in_nI ht (by decide)
    have ybad : ∀ post : Int32 → SY → Prop, post 0 (tn, sz, kd, nm, bg, tu, sp, vl, aa, ho) → v2 ≠ 0 → v2 ≠ 1 → wpY_extreme post (tn, sz, kd, nm, bg, tu, sp, vl, aa, ho) v1 v2 := by
      intro post hp n0 n1
      unfold wpY_extreme
      exact sy_ix (fun _ _ _ => br_f n0 (br_f n1 hp)) (fun _ => hp)
    have ygood : ∀ post : Int32 → SY → Prop, (v2 = 0 ∨ v2 = 1) → (∀ r, sr_be (decide (v2 = 0)) (fun w => sr_rn K nm w sr_p0 bg t) (sr_al S K nm 12 sr_p0) r → sy_any sz kd nm bg (post r)) → wpY_extreme post (tn, sz, kd, nm, bg, tu, sp, vl, aa, ho) v1 v2 := by
      intro post h01 hp
      have h22 : wY_extreme_22 post v1 v2 tn sz kd nm bg tu sp vl aa ho := by
        unfold wY_extreme_22
        rw [et]
        refine sy_end G E (by omega) v2 ?_
        intro r hr tn' tu' sp' vl' aa' ho'
        exact hp r hr tn' tu' sp' vl' aa' ho'
      unfold wpY_extreme
      refine sy_ix (fun _ _ _ => ?_) (fun q => absurd ⟨t, ht, et⟩ q)
      exact br_c (fun _ => h22) (fun n0 => br_c (fun _ => h22) (fun n1 => absurd h01 (fun z => z.elim n0 n1)))
    rcases sr_ix2 v2 with h | ⟨h1, h2, h3, h4⟩ | h | h
    · refine br_t h (ybad _ ⟨rfl, si_mk hR⟩ (fun z => ?_) (fun z => ?_))
      · rw [z] at h; exact absurd h (by decide)
      · rw [z] at h; exact absurd h (by decide)
    · exact br_f h1 (br_f h2 (ybad _ ⟨rfl, si_mk hR⟩ h3 h4))
    · refine br_f (by rw [h]; decide) (br_t (by rw [h]; decide) (sx_all G E ha hb ea eb r2 ?_))
      intro fo' cc' pl' ac' vr' sl' hT' lV' mV' lA' mA' _ hbe
      dsimp only
      rw [decide_eq_true h] at ygood
      refine br_t h ?_
      have cv : v1.toNatClampNeg = t := by rw [et]; exact c
      rw [cv]
      refine ⟨by rw [et]; exact i3, ygood _ (Or.inl h) ?_⟩
      intro r hr tn' tu' sp' vl' aa' ho'
      exact ⟨sr_be_uni G (hbe t ht).1 hr, si_mk hR⟩
    · have n0 : ¬ v2 = 0 := by rw [h]; decide
      refine br_f (by rw [h]; decide) (br_t (by rw [h]; decide) (sx_all G E ha hb ea eb r2 ?_))
      intro fo' cc' pl' ac' vr' sl' hT' lV' mV' lA' mA' _ hbe
      dsimp only
      rw [decide_eq_false n0] at ygood
      refine br_f n0 ?_
      have cv : v1.toNatClampNeg = t := by rw [et]; exact c
      rw [cv]
      refine ⟨by rw [et]; exact i3, ygood _ (Or.inr h) ?_⟩
      intro r hr tn' tu' sp' vl' aa' ho'
      exact ⟨sr_be_uni G (hbe t ht).2.1 hr, si_mk hR⟩
  · unfold wpY_extreme
    exact sy_ix (fun t ht e => absurd ⟨t, ht, e⟩ q) (fun _ => ⟨rfl, si_mk hR⟩)
theorem i_vc_accumulator {k : Nat} {u : SX} {v : SY} (I : i_Rel k u v) (hk : k + 5 ≤ 2560) (v1 : Int32) (v2 : Int32) : wpX_accumulator (fun r u' => wpY_accumulator (fun r' v' => r' = r ∧ i_Rel (k + 5) u' v') v v1 v2) u v1 v2 := by
  refine si_el (P := fun u v => wpX_accumulator (fun r u' => wpY_accumulator (fun r' v' => r' = r ∧ i_Rel (k + 5) u' v') v v1 v2) u v1 v2) ?_ I
  intro lo fX fV sX sV fo cc sz kd nm sv sa wy pl ac vr sl hT lV mV lA mA tn bg tu sp vl aa ho hR
  have hR' := hR
  obtain ⟨⟨S, K, G, E⟩, r2, ⟨a, ha, ea⟩, b, hb, eb⟩ := hR'
  unfold wpX_accumulator
  refine sx_ix (fun t ht et => br_f (by decide) ?_) (fun q => br_t rfl ?_)
  · have c : (nI t).toNatClampNeg = t := nI_clamp (by omega)
    have i3 : vp_in (nI t) 3 := vp_in_nI ht (by decide)
    have ybad : ∀ post : Int32 → SY → Prop, post 0 (tn, sz, kd, nm, bg, tu, sp, vl, aa, ho) → v2 ≠ 0 → v2 ≠ 1 → wpY_accumulator post (tn, sz, kd, nm, bg, tu, sp, vl, aa, ho) v1 v2 := by
      intro post hp n0 n1
      unfold wpY_accumulator
      exact sy_thr (fun _ _ _ => br_f (by decide) (br_f n0 (br_f n1 hp))) (fun _ => br_t rfl hp)
    have ygood : ∀ post : Int32 → SY → Prop, (v2 = 0 ∨ v2 = 1) → (∀ r, sr_be (decide (v2 = 0)) (fun w => sr_rn K nm w sr_p0 bg (3 + t)) (sr_al S K nm 12 sr_p0) r → sy_any sz kd nm bg (post r)) → wpY_accumulator post (tn, sz, kd, nm, bg, tu, sp, vl, aa, ho) v1 v2 := by
      intro post h01 hp
      have h22 : wY_accumulator_21 post v1 v2 tn sz kd nm bg tu sp vl aa ho := by
        unfold wY_accumulator_21
        rw [et, sr_c3]
        refine sy_end G E (by omega) v2 ?_
        intro r hr tn' tu' sp' vl' aa' ho'
        exact hp r hr tn' tu' sp' vl' aa' ho'
      unfold wpY_accumulator
      refine sy_thr (fun _ _ _ => br_f (by decide) ?_) (fun q => absurd ⟨t, ht, et⟩ q)
      exact br_c (fun _ => h22) (fun n0 => br_c (fun _ => h22) (fun n1 => absurd h01 (fun z => z.elim n0 n1)))
    rcases sr_ix2 v2 with h | ⟨h1, h2, h3, h4⟩ | h | h
    · refine br_t h (ybad _ ⟨rfl, si_mk hR⟩ (fun z => ?_) (fun z => ?_))
      · rw [z] at h; exact absurd h (by decide)
      · rw [z] at h; exact absurd h (by decide)
    · exact br_f h1 (br_f h2 (ybad _ ⟨rfl, si_mk hR⟩ h3 h4))
    · refine br_f (by rw [h]; decide) (br_t (by rw [h]; decide) (sx_all G E ha hb ea eb r2 ?_))
      intro fo' cc' pl' ac' vr' sl' hT' lV' mV' lA' mA' _ hbe
      dsimp only
      rw [decide_eq_true h] at ygood
      refine br_t h ?_
      have cv : v1.toNatClampNeg = t := by rw [et]; exact c
      rw [cv]
      refine ⟨by rw [et]; exact i3, ygood _ (Or.inl h) ?_⟩
      intro r hr tn' tu' sp' vl' aa' ho'
      exact ⟨sr_be_uni G (hbe t ht).2.2.1 hr, si_mk hR⟩
    · have n0 : ¬ v2 = 0 := by rw [h]; decide
      refine br_f (by rw [h]; decide) (br_t (by rw [h]; decide) (sx_all G E ha hb ea eb r2 ?_))
      intro fo' cc' pl' ac' vr' sl' hT' lV' mV' lA' mA' _ hbe
      dsimp only
      rw [decide_eq_false n0] at ygood
      refine br_f n0 ?_
      have cv : v1.toNatClampNeg = t := by rw [et]; exact c
      rw [cv]
      refine ⟨by rw [et]; exact i3, ygood _ (Or.inr h) ?_⟩
      intro r hr tn' tu' sp' vl' aa' ho'
      exact ⟨sr_be_uni G (hbe t ht).2.2.2 hr, si_mk hR⟩
  · unfold wpY_accumulator
    exact sy_thr (fun t ht e => absurd ⟨t, ht, e⟩ q) (fun _ => br_t rfl ⟨rfl, si_mk hR⟩)
theorem i_vc_races {k : Nat} {u : SX} {v : SY} (I : i_Rel k u v) (hk : k + 5 ≤ 2560) (v1 : Int32) : wpX_races (fun r u' => wpY_races (fun r' v' => r' = r ∧ i_Rel (k + 5) u' v') v v1) u v1 := by
  refine si_el (P := fun u v => wpX_races (fun r u' => wpY_races (fun r' v' => r' = r ∧ i_Rel (k + 5) u' v') v v1) u v1) ?_ I
  intro lo fX fV sX sV fo cc sz kd nm sv sa wy pl ac vr sl hT lV mV lA mA tn bg tu sp vl aa ho hR
  have hR' := hR
  obtain ⟨⟨S, K, G, E⟩, r2, ⟨a, ha, ea⟩, b, hb, eb⟩ := hR'
  unfold wpX_races
  refine sx_ix (fun t ht et => br_f (by decide) ?_) (fun q => br_t rfl ?_)
  · have c : v1.toNatClampNeg = t := by rw [et]; exact nI_clamp (by omega)
    have i3 : vp_in v1 3 := by rw [et]; exact vp_in_nI ht (by decide)
    have ygood : ∀ (post : Int32 → SY → Prop), (∀ r1 r2, sr_be true (fun w => sr_rn K nm w sr_p0 bg t) (sr_al S K nm 12 sr_p0) r1 → sr_be false (fun w => sr_rn K nm w sr_p0 bg t) (sr_al S K nm 12 sr_p0) r2 → sy_any sz kd nm bg (fun u => (r1 = r2 → post 0 u) ∧ (¬ r1 = r2 → post 1 u))) → wpY_races post (tn, sz, kd, nm, bg, tu, sp, vl, aa, ho) v1 := by
      intro post hp
      unfold wpY_races
      refine sy_ix (fun _ _ _ => ?_) (fun q => absurd ⟨t, ht, et⟩ q)
      rw [et]
      refine sy_end G E (by omega) 0 ?_
      intro r1 hr1 tn1 tu1 sp1 vl1 aa1 ho1
      dsimp only
      refine sy_end G E (by omega) 1 ?_
      intro r2 hr2 tn2 tu2 sp2 vl2 aa2 ho2
      exact hp r1 r2 hr1 hr2 tn2 tu2 sp2 vl2 aa2 ho2
    refine sx_all G E ha hb ea eb r2 ?_
    intro fo' cc' pl' ac' vr' sl' hT' lV' mV' lA' mA' _ hbe
    dsimp only
    rw [c]
    refine ⟨i3, i3, ?_⟩
    by_cases e : lV' t = mV' t
    · refine br_t e (ygood _ ?_)
      intro r1 r2 h1 h2 tn' tu' sp' vl' aa' ho'
      have e1 := sr_be_uni G (hbe t ht).1 h1
      have e2 := sr_be_uni G (hbe t ht).2.1 h2
      exact br_t (by rw [e1, e2, e]) ⟨rfl, si_mk hR⟩
    · refine br_f e (ygood _ ?_)
      intro r1 r2 h1 h2 tn' tu' sp' vl' aa' ho'
      have e1 := sr_be_uni G (hbe t ht).1 h1
      have e2 := sr_be_uni G (hbe t ht).2.1 h2
      exact br_f (by rw [e1, e2]; exact e) ⟨rfl, si_mk hR⟩
  · unfold wpY_races
    exact sy_ix (fun t ht e => absurd ⟨t, ht, e⟩ q) (fun _ => ⟨rfl, si_mk hR⟩)
end
