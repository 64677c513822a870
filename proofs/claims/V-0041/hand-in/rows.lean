section
theorem pk_us {f : Nat → Int32} {k : Nat} {x : Int32} : upd f k x k = x := if_pos rfl
theorem pk_un {f : Nat → Int32} {k j : Nat} {x : Int32} (h : j ≠ k) : upd f k x j = f j := if_neg h
theorem pk_sub {a b : Nat} (h : b ≤ a) : nI a - nI b = nI (a - b) := by
  obtain ⟨c, rfl⟩ : ∃ c, a = c + b := ⟨a - b, by omega⟩
  rw [← nI_add, Int32.add_sub_cancel, Nat.add_sub_cancel]
theorem pk_m1 (n : Nat) : nI (n + 1) + (-1) = nI n := by
  rw [← nI_1, Int32.add_assoc, show (1 : Int32) + (-1) = 0 from rfl, Int32.add_zero]
theorem pk_mul (a b : Nat) : nI a * nI b = nI (a * b) := (Int32.ofNat_mul a b).symm
theorem pk_ix (x : Int32) {n : Nat} (hn : n < 2 ^ 31) : x < 0 ∨ nI n ≤ x ∨ ∃ j : Nat, j < n ∧ x = nI j := by
  by_cases h : x < 0
  · exact Or.inl h
  · obtain ⟨j, hj, rfl⟩ := nI_of h
    by_cases h2 : j < n
    · exact Or.inr (Or.inr ⟨j, h2, rfl⟩)
    · exact Or.inr (Or.inl (nI_le (by omega) hj))
theorem pk_le {x y : Int32} {A B : Prop} (a b : Nat) (f : a ≤ b → A) (g : b < a → B) (hx : x = nI a := by rfl) (hy : y = nI b := by rfl) (ha : a < 2 ^ 31 := by omega) (hb : b < 2 ^ 31 := by omega) : (x ≤ y → A) ∧ (¬ x ≤ y → B) := by
  subst hx hy
  rw [nI_leI ha hb]
  exact ⟨f, fun z => g (by omega)⟩
theorem pk_lt {x y : Int32} {A B : Prop} (a b : Nat) (f : a < b → A) (g : b ≤ a → B) (hx : x = nI a := by rfl) (hy : y = nI b := by rfl) (ha : a < 2 ^ 31 := by omega) (hb : b < 2 ^ 31 := by omega) : (x < y → A) ∧ (¬ x < y → B) := by
  subst hx hy
  rw [nI_ltI ha hb]
  exact ⟨f, fun z => g (by omega)⟩
theorem pk_eq {x y : Int32} {A B : Prop} (a b : Nat) (f : a = b → A) (g : a ≠ b → B) (hx : x = nI a := by rfl) (hy : y = nI b := by rfl) (ha : a < 2 ^ 31 := by omega) (hb : b < 2 ^ 31 := by omega) : (x = y → A) ∧ (¬ x = y → B) := by
  subst hx hy
  rw [nI_eq ha hb]
  exact ⟨f, g⟩
theorem pk_in {x : Int32} (n N : Nat) (h : n < N) (hx : x = nI n := by rfl) (hN : N < 2 ^ 31 := by omega) : vp_in x N := by
  subst hx
  exact vp_in_nI h hN
theorem pk_cl {x : Int32} (n : Nat) (hx : x = nI n := by rfl) (h : n < 2 ^ 31 := by omega) : x.toNatClampNeg = n := by
  subst hx
  exact nI_clamp h
theorem pk_tn {n : Nat} (h : n < 2 ^ 32) : (nI n).toBitVec.toNat = n := Nat.mod_eq_of_lt h
theorem pk_and (x : Int32) {m : Int32} (k : Nat) (hm : m.toBitVec.toNat = 2 ^ k - 1) : x &&& m = nI (x.toBitVec.toNat % 2 ^ k) := by
  apply Int32.toBitVec_inj.mp
  apply BitVec.eq_of_toNat_eq
  rw [Int32.toBitVec_and, BitVec.toNat_and, hm, Nat.and_two_pow_sub_one_eq_mod]
  show _ = (BitVec.ofNat 32 _).toNat
  rw [BitVec.toNat_ofNat]
  exact (Nat.mod_eq_of_lt (Nat.lt_of_le_of_lt (Nat.mod_le _ _) x.toBitVec.isLt)).symm
end
section
/-! pure rows: places in a list, masks, counts, slots -/
def dc_pl : List Nat → Nat → Nat
  | [], _ => 0
  | a :: t, d => if a = d then 1 else if dc_pl t d = 0 then 0 else dc_pl t d + 1
theorem dc_pl_nil (d : Nat) : dc_pl [] d = 0 := rfl
theorem dc_pl_cons (a : Nat) (t : List Nat) (d : Nat) : dc_pl (a :: t) d = if a = d then 1 else if dc_pl t d = 0 then 0 else dc_pl t d + 1 := rfl
theorem dc_pl_mem : ∀ (t : List Nat) (d : Nat), dc_pl t d = 0 ↔ ¬ d ∈ t := by
  intro t
  induction t with
  | nil => intro d; simp [dc_pl_nil]
  | cons a t ih =>
    intro d
    rw [dc_pl_cons, List.mem_cons]
    by_cases h : a = d
    · rw [if_pos h]; simp [h]
    · rw [if_neg h]
      have h' : ¬ d = a := fun e => h e.symm
      by_cases z : dc_pl t d = 0
      · rw [if_pos z]
        have := (ih d).mp z
        simp [h', this]
      · rw [if_neg z]
        have : d ∈ t := Classical.byContradiction fun k => z ((ih d).mpr k)
        simp [this]
theorem dc_pl_le : ∀ (t : List Nat) (d : Nat), dc_pl t d ≤ t.length := by
  intro t
  induction t with
  | nil => intro d; exact Nat.le_refl _
  | cons a t ih =>
    intro d
    rw [dc_pl_cons, List.length_cons]
    have := ih d
    split
    · omega
    · split <;> omega
theorem dc_pl_app : ∀ (t : List Nat) (c d : Nat), dc_pl (t ++ [c]) d = if dc_pl t d = 0 then (if c = d then t.length + 1 else 0) else dc_pl t d := by
  intro t
  induction t with
  | nil => intro c d; rfl
  | cons a t ih =>
    intro c d
    rw [List.cons_append, dc_pl_cons, dc_pl_cons, ih c d, List.length_cons]
    by_cases h : a = d
    · simp [h]
    · rw [if_neg h, if_neg h]
      by_cases z : dc_pl t d = 0
      · simp only [z, if_true]
        by_cases e : c = d
        · simp [e]
        · simp [e]
      · simp [z]
def dc_rm : List Nat → Nat → List Nat
  | [], _ => []
  | a :: t, c => if a = c then dc_rm t c else a :: dc_rm t c
theorem dc_rm_cons (a : Nat) (t : List Nat) (c : Nat) : dc_rm (a :: t) c = if a = c then dc_rm t c else a :: dc_rm t c := rfl
theorem dc_rm_mem : ∀ (t : List Nat) (c d : Nat), d ∈ dc_rm t c ↔ d ∈ t ∧ d ≠ c := by
  intro t
  induction t with
  | nil => intro c d; simp [dc_rm]
  | cons a t ih =>
    intro c d
    rw [dc_rm_cons]
    by_cases h : a = c
    · rw [if_pos h, ih, List.mem_cons]
      constructor
      · rintro ⟨p, q⟩; exact ⟨Or.inr p, q⟩
      · rintro ⟨p | p, q⟩
        · exact absurd (p.trans h) q
        · exact ⟨p, q⟩
    · rw [if_neg h, List.mem_cons, ih, List.mem_cons]
      constructor
      · rintro (p | ⟨p, q⟩)
        · exact ⟨Or.inl p, fun e => h (p.symm.trans e)⟩
        · exact ⟨Or.inr p, q⟩
      · rintro ⟨p | p, q⟩
        · exact Or.inl p
        · exact Or.inr ⟨p, q⟩
theorem dc_rm_no : ∀ (t : List Nat) (c : Nat), ¬ c ∈ t → dc_rm t c = t := by
  intro t
  induction t with
  | nil => intro c _; rfl
  | cons a t ih =>
    intro c h
    rw [List.mem_cons] at h
    rw [dc_rm_cons, if_neg (fun e => h (Or.inl e.symm)), ih c (fun k => h (Or.inr k))]
theorem dc_rm_nodup : ∀ (t : List Nat) (c : Nat), t.Nodup → (dc_rm t c).Nodup := by
  intro t
  induction t with
  | nil => intro c h; exact h
  | cons a t ih =>
    intro c h
    rw [List.nodup_cons] at h
    rw [dc_rm_cons]
    split
    · exact ih c h.2
    · rw [List.nodup_cons]
      exact ⟨fun k => h.1 ((dc_rm_mem t c a).mp k).1, ih c h.2⟩
theorem dc_rm_app (t : List Nat) (b c : Nat) : dc_rm (t ++ [b]) c = dc_rm t c ++ (if b = c then [] else [b]) := by
  induction t with
  | nil => rw [List.nil_append, dc_rm_cons]; split <;> rfl
  | cons a t ih =>
    rw [List.cons_append, dc_rm_cons, dc_rm_cons, ih]
    split
    · rfl
    · rfl
theorem dc_rm_len (t : List Nat) (c : Nat) : (dc_rm t c).length ≤ t.length := by
  induction t with
  | nil => exact Nat.le_refl _
  | cons a t ih =>
    rw [dc_rm_cons]
    split
    · rw [List.length_cons]; omega
    · rw [List.length_cons, List.length_cons]; omega
theorem dc_pl_rm : ∀ (t : List Nat) (c d : Nat), t.Nodup → c ∈ t → dc_pl (dc_rm t c) d = if d = c then 0 else if dc_pl t c < dc_pl t d then dc_pl t d - 1 else dc_pl t d := by
  intro t
  induction t with
  | nil => intro c d _ h; cases h
  | cons a t ih =>
    intro c d hn hc
    rw [List.nodup_cons] at hn
    rw [dc_rm_cons]
    by_cases h : a = c
    · rw [if_pos h]
      subst h
      rw [dc_rm_no t a hn.1, dc_pl_cons, dc_pl_cons, if_pos rfl]
      by_cases e : d = a
      · rw [if_pos e, e]; exact (dc_pl_mem t a).mpr hn.1
      · have e' : ¬ a = d := fun k => e k.symm
        rw [if_neg e]
        simp only [if_neg e']
        by_cases z : dc_pl t d = 0
        · simp [z]
        · simp only [if_neg z]
          rw [if_pos (show 1 < dc_pl t d + 1 by omega)]; rfl
    · rw [if_neg h]
      have hct : c ∈ t := by
        rw [List.mem_cons] at hc
        rcases hc with k | k
        · exact absurd k.symm h
        · exact k
      have hp : dc_pl t c ≠ 0 := fun z => ((dc_pl_mem t c).mp z) hct
      have hi := ih c d hn.2 hct
      rw [dc_pl_cons, dc_pl_cons a t c, dc_pl_cons a t d, if_neg h, if_neg hp]
      by_cases e : a = d
      · rw [if_pos e, if_pos e, if_neg (fun k => h (e.trans k)), if_neg (by omega)]
      · rw [if_neg e, if_neg e]
        by_cases e2 : d = c
        · rw [if_pos e2] at hi ⊢
          rw [if_pos hi]
        · rw [if_neg e2] at hi ⊢
          rw [hi]
          by_cases z : dc_pl t d = 0
          · simp [z]
          · simp only [if_neg z]
            by_cases lt : dc_pl t c < dc_pl t d
            · rw [if_pos lt, if_pos (show dc_pl t c + 1 < dc_pl t d + 1 by omega), if_neg (show ¬ dc_pl t d - 1 = 0 by omega)]; omega
            · rw [if_neg lt, if_neg (show ¬ dc_pl t c + 1 < dc_pl t d + 1 by omega), if_neg z]
/-! counts -/
def dc_cn (q : Nat → Bool) : Nat → Nat
  | 0 => 0
  | n + 1 => dc_cn q n + (if q n = true then 1 else 0)
theorem dc_cn_s (q : Nat → Bool) (n : Nat) : dc_cn q (n + 1) = dc_cn q n + (if q n = true then 1 else 0) := rfl
theorem dc_cn_t {q : Nat → Bool} {n : Nat} (h : q n = true) : dc_cn q (n + 1) = dc_cn q n + 1 := by rw [dc_cn_s, if_pos h]
theorem dc_cn_f {q : Nat → Bool} {n : Nat} (h : ¬ q n = true) : dc_cn q (n + 1) = dc_cn q n := by rw [dc_cn_s, if_neg h]; rfl
theorem dc_cn_le (q : Nat → Bool) (n : Nat) : dc_cn q n ≤ n := by
  induction n with
  | zero => exact Nat.le_refl _
  | succ n ih => rw [dc_cn_s]; split <;> omega
theorem dc_cn_mono (q : Nat → Bool) (a d : Nat) : dc_cn q a ≤ dc_cn q (a + d) := by
  induction d with
  | zero => exact Nat.le_refl _
  | succ d ih => rw [← Nat.add_assoc, dc_cn_s]; omega
theorem dc_cn_mono' (q : Nat → Bool) {a b : Nat} (h : a ≤ b) : dc_cn q a ≤ dc_cn q b := by
  obtain ⟨d, rfl⟩ : ∃ d, b = a + d := ⟨b - a, by omega⟩
  exact dc_cn_mono q a d
theorem dc_cn_congr {q r : Nat → Bool} (n : Nat) (h : ∀ i, i < n → q i = r i) : dc_cn q n = dc_cn r n := by
  induction n with
  | zero => rfl
  | succ n ih => rw [dc_cn_s, dc_cn_s, ih (fun i hi => h i (by omega)), h n (by omega)]
theorem dc_cn_tail {q : Nat → Bool} (a d : Nat) (h : ∀ i, a ≤ i → i < a + d → q i = false) : dc_cn q (a + d) = dc_cn q a := by
  induction d with
  | zero => rfl
  | succ d ih =>
    rw [← Nat.add_assoc, dc_cn_s, ih (fun i h1 h2 => h i h1 (by omega)), h (a + d) (by omega) (by omega)]
    rfl
theorem dc_cn_find {q : Nat → Bool} (n r : Nat) (h : r < dc_cn q n) : ∃ m, m < n ∧ q m = true ∧ dc_cn q m = r := by
  induction n with
  | zero => exact absurd h (Nat.not_lt_zero _)
  | succ n ih =>
    by_cases k : r < dc_cn q n
    · obtain ⟨m, h1, h2⟩ := ih k
      exact ⟨m, by omega, h2⟩
    · by_cases z : q n = true
      · rw [dc_cn_t z] at h
        exact ⟨n, by omega, z, by omega⟩
      · rw [dc_cn_f z] at h
        exact absurd h k
theorem dc_cn_ins {q r : Nat → Bool} (a : Nat) (hq : q a = false) (hr : r a = true) (h : ∀ i, i ≠ a → r i = q i) : ∀ n, dc_cn r n = dc_cn q n + (if a < n then 1 else 0) := by
  intro n
  induction n with
  | zero => rfl
  | succ n ih =>
    rw [dc_cn_s, dc_cn_s, ih]
    by_cases e : n = a
    · subst e; rw [hq, hr]; simp
    · rw [h n e]
      by_cases l : a < n
      · rw [if_pos l, if_pos (show a < n + 1 by omega)]; omega
      · rw [if_neg l, if_neg (show ¬ a < n + 1 by omega)]; omega
theorem dc_cn_list (N : Nat) : ∀ t : List Nat, t.Nodup → (∀ x, x ∈ t → x < N) → dc_cn (fun c => decide (0 < dc_pl t c)) N = t.length := by
  intro t
  induction t with
  | nil =>
    intro _ _
    have : ∀ n, dc_cn (fun c => decide (0 < dc_pl [] c)) n = 0 := by
      intro n
      induction n with
      | zero => rfl
      | succ n ih => rw [dc_cn_s, ih]; rfl
    exact this N
  | cons a t ih =>
    intro hn hb
    rw [List.nodup_cons] at hn
    have ha : dc_pl t a = 0 := (dc_pl_mem t a).mpr hn.1
    rw [dc_cn_ins (q := fun c => decide (0 < dc_pl t c)) a (by simp [ha]) (by simp [dc_pl_cons]) ?_ N, ih hn.2 (fun x hx => hb x (List.mem_cons_of_mem _ hx)), if_pos (hb a List.mem_cons_self), List.length_cons]
    intro i hi
    simp only [dc_pl_cons, if_neg (fun e => hi (Eq.symm e) : ¬ a = i)]
    by_cases z : dc_pl t i = 0
    · simp [z]
    · simp [z]; omega
theorem dc_len_le {N : Nat} {t : List Nat} (hn : t.Nodup) (hb : ∀ x, x ∈ t → x < N) : t.length ≤ N := by
  rw [← dc_cn_list N t hn hb]; exact dc_cn_le _ _
theorem dc_len_lt {N c : Nat} {t : List Nat} (hn : t.Nodup) (hb : ∀ x, x ∈ t → x < N) (hc : c < N) (h : ¬ c ∈ t) : t.length < N := by
  have := dc_len_le (N := N) (t := c :: t) (List.nodup_cons.mpr ⟨h, hn⟩) (fun x hx => by
    rcases List.mem_cons.mp hx with k | k
    · rw [k]; exact hc
    · exact hb x k)
  rw [List.length_cons] at this
  omega
/-! a list laid in an array from a position on -/
def dc_at (a : Nat → Int32) : Nat → List Nat → Prop
  | _, [] => True
  | p, b :: t => a p = nI b ∧ dc_at a (p + 1) t
theorem dc_at_nil (a : Nat → Int32) (p : Nat) : dc_at a p [] := True.intro
theorem dc_at_cons {a : Nat → Int32} {p b : Nat} {t : List Nat} : dc_at a p (b :: t) ↔ a p = nI b ∧ dc_at a (p + 1) t := Iff.rfl
theorem dc_at_app {a : Nat → Int32} : ∀ (t s : List Nat) (p : Nat), dc_at a p (t ++ s) ↔ dc_at a p t ∧ dc_at a (p + t.length) s := by
  intro t
  induction t with
  | nil => intro s p; simp [dc_at_nil]
  | cons b t ih =>
    intro s p
    rw [List.cons_append, dc_at_cons, dc_at_cons, ih, List.length_cons, show p + 1 + t.length = p + (t.length + 1) by omega, and_assoc]
theorem dc_at_congr {a b : Nat → Int32} : ∀ (t : List Nat) (p : Nat), (∀ i, p ≤ i → i < p + t.length → b i = a i) → dc_at a p t → dc_at b p t := by
  intro t
  induction t with
  | nil => intro p _ _; exact True.intro
  | cons c t ih =>
    intro p h k
    rw [List.length_cons] at h
    exact ⟨(h p (by omega) (by omega)).trans k.1, ih (p + 1) (fun i h1 h2 => h i (by omega) (by omega)) k.2⟩
/-! masks of five flags -/
def dc_mB (b0 b1 b2 b3 b4 : Bool) : Int32 := nI ((if b0 then 1 else 0) + (if b1 then 2 else 0) + (if b2 then 4 else 0) + (if b3 then 8 else 0) + (if b4 then 16 else 0))
def dc_mk (f : Nat → Bool) : Int32 := dc_mB (f 0) (f 1) (f 2) (f 3) (f 4)
def dc_bI (b : Bool) : Int32 := if b then 1 else 0
theorem dc_bI_t : dc_bI true = 1 := rfl
theorem dc_bI_f : dc_bI false = 0 := rfl
theorem dc_bI_0 (b : Bool) : dc_bI b = 0 ↔ b = false := by cases b <;> decide
theorem dc_mB_and : ∀ b0 b1 b2 b3 b4 : Bool, ((dc_mB b0 b1 b2 b3 b4 &&& ((1 : Int32) <<< (nI 0 &&& 31)) = 0) ↔ b0 = false) ∧ ((dc_mB b0 b1 b2 b3 b4 &&& ((1 : Int32) <<< (nI 1 &&& 31)) = 0) ↔ b1 = false) ∧ ((dc_mB b0 b1 b2 b3 b4 &&& ((1 : Int32) <<< (nI 2 &&& 31)) = 0) ↔ b2 = false) ∧ ((dc_mB b0 b1 b2 b3 b4 &&& ((1 : Int32) <<< (nI 3 &&& 31)) = 0) ↔ b3 = false) ∧ ((dc_mB b0 b1 b2 b3 b4 &&& ((1 : Int32) <<< (nI 4 &&& 31)) = 0) ↔ b4 = false) := by decide +kernel
theorem dc_mB_or : ∀ b0 b1 b2 b3 b4 : Bool, (dc_mB b0 b1 b2 b3 b4 ||| ((1 : Int32) <<< (nI 0 &&& 31))) = dc_mB true b1 b2 b3 b4 ∧ (dc_mB b0 b1 b2 b3 b4 ||| ((1 : Int32) <<< (nI 1 &&& 31))) = dc_mB b0 true b2 b3 b4 ∧ (dc_mB b0 b1 b2 b3 b4 ||| ((1 : Int32) <<< (nI 2 &&& 31))) = dc_mB b0 b1 true b3 b4 ∧ (dc_mB b0 b1 b2 b3 b4 ||| ((1 : Int32) <<< (nI 3 &&& 31))) = dc_mB b0 b1 b2 true b4 ∧ (dc_mB b0 b1 b2 b3 b4 ||| ((1 : Int32) <<< (nI 4 &&& 31))) = dc_mB b0 b1 b2 b3 true := by decide +kernel
theorem dc_mB_no : ∀ b0 b1 b2 b3 b4 : Bool, (dc_mB b0 b1 b2 b3 b4 &&& (((1 : Int32) <<< (nI 0 &&& 31)) ^^^ (-1))) = dc_mB false b1 b2 b3 b4 ∧ (dc_mB b0 b1 b2 b3 b4 &&& (((1 : Int32) <<< (nI 1 &&& 31)) ^^^ (-1))) = dc_mB b0 false b2 b3 b4 ∧ (dc_mB b0 b1 b2 b3 b4 &&& (((1 : Int32) <<< (nI 2 &&& 31)) ^^^ (-1))) = dc_mB b0 b1 false b3 b4 ∧ (dc_mB b0 b1 b2 b3 b4 &&& (((1 : Int32) <<< (nI 3 &&& 31)) ^^^ (-1))) = dc_mB b0 b1 b2 false b4 ∧ (dc_mB b0 b1 b2 b3 b4 &&& (((1 : Int32) <<< (nI 4 &&& 31)) ^^^ (-1))) = dc_mB b0 b1 b2 b3 false := by decide +kernel
theorem dc_5 {p : Nat} (h : p < 5) : p = 0 ∨ p = 1 ∨ p = 2 ∨ p = 3 ∨ p = 4 := by omega
theorem dc_mk_and (f : Nat → Bool) {p : Nat} (h : p < 5) : (dc_mk f &&& ((1 : Int32) <<< (nI p &&& 31)) = 0) ↔ f p = false := by
  have k := dc_mB_and (f 0) (f 1) (f 2) (f 3) (f 4)
  rcases dc_5 h with rfl | rfl | rfl | rfl | rfl
  · exact k.1
  · exact k.2.1
  · exact k.2.2.1
  · exact k.2.2.2.1
  · exact k.2.2.2.2
theorem dc_mk_or (f : Nat → Bool) {p : Nat} (h : p < 5) : (dc_mk f ||| ((1 : Int32) <<< (nI p &&& 31))) = dc_mk (fun q => if q = p then true else f q) := by
  have k := dc_mB_or (f 0) (f 1) (f 2) (f 3) (f 4)
  rcases dc_5 h with rfl | rfl | rfl | rfl | rfl
  · exact k.1
  · exact k.2.1
  · exact k.2.2.1
  · exact k.2.2.2.1
  · exact k.2.2.2.2
theorem dc_mk_no (f : Nat → Bool) {p : Nat} (h : p < 5) : (dc_mk f &&& (((1 : Int32) <<< (nI p &&& 31)) ^^^ (-1))) = dc_mk (fun q => if q = p then false else f q) := by
  have k := dc_mB_no (f 0) (f 1) (f 2) (f 3) (f 4)
  rcases dc_5 h with rfl | rfl | rfl | rfl | rfl
  · exact k.1
  · exact k.2.1
  · exact k.2.2.1
  · exact k.2.2.2.1
  · exact k.2.2.2.2
theorem dc_mk_congr {f g : Nat → Bool} (h : ∀ p, p < 5 → f p = g p) : dc_mk f = dc_mk g := by
  unfold dc_mk
  rw [h 0 (by decide), h 1 (by decide), h 2 (by decide), h 3 (by decide), h 4 (by decide)]
theorem dc_mB_4 : ∀ a0 a1 a2 a3 a4 b0 b1 b2 b3 b4 : Bool, (((dc_mB a0 a1 a2 a3 a4 ||| dc_mB b0 b1 b2 b3 b4) = dc_mB (a0 || b0) (a1 || b1) (a2 || b2) (a3 || b3) (a4 || b4))) := by decide +kernel
theorem dc_mk_orf (f g : Nat → Bool) : dc_mk f ||| dc_mk g = dc_mk (fun p => f p || g p) := dc_mB_4 _ _ _ _ _ _ _ _ _ _
theorem dc_mB_z : ∀ a0 a1 a2 a3 a4 : Bool, dc_mB a0 a1 a2 a3 a4 = 0 ↔ (a0 = false ∧ a1 = false ∧ a2 = false ∧ a3 = false ∧ a4 = false) := by decide +kernel
theorem dc_mk_z (f : Nat → Bool) : dc_mk f = 0 ↔ ∀ p, p < 5 → f p = false := by
  rw [dc_mk, dc_mB_z]
  constructor
  · rintro ⟨h0, h1, h2, h3, h4⟩ p hp
    rcases dc_5 hp with rfl | rfl | rfl | rfl | rfl <;> assumption
  · intro h
    exact ⟨h 0 (by decide), h 1 (by decide), h 2 (by decide), h 3 (by decide), h 4 (by decide)⟩
theorem dc_mk_0 : dc_mk (fun _ => false) = 0 := by decide +kernel
/-! slots of the ring -/
def dc_m8 (x : Int32) : Nat := x.toBitVec.toNat % 8
theorem dc_m8_lt (x : Int32) : dc_m8 x < 8 := Nat.mod_lt _ (by decide)
theorem dc_and7 (x : Int32) : x &&& 7 = nI (dc_m8 x) := pk_and x 3 (by decide)
theorem dc_m8_s (x : Int32) : dc_m8 (x + 1) = (dc_m8 x + 1) % 8 := by
  unfold dc_m8
  rw [Int32.toBitVec_add, BitVec.toNat_add, show (1 : Int32).toBitVec.toNat = 1 from rfl]
  omega
theorem dc_m8_b (x : Int32) {b : Nat} (h : b < 8) : dc_m8 (x - 1 - nI b) = (dc_m8 x + 7 - b) % 8 := by
  unfold dc_m8
  rw [Int32.toBitVec_sub, Int32.toBitVec_sub, BitVec.toNat_sub, BitVec.toNat_sub, pk_tn (by omega), show (1 : Int32).toBitVec.toNat = 1 from rfl]
  have := x.toBitVec.isLt
  omega
/-! numbers -/
theorem dc_i4 (a b : Nat) : nI a * 4 + nI b = nI (a * 4 + b) := by rw [show (4 : Int32) = nI 4 from rfl, pk_mul, nI_add]
theorem dc_i5 (a b : Nat) : nI a * 5 + nI b = nI (a * 5 + b) := by rw [show (5 : Int32) = nI 5 from rfl, pk_mul, nI_add]
theorem dc_i6 (a b : Nat) : nI a * 6 + nI b = nI (a * 6 + b) := by rw [show (6 : Int32) = nI 6 from rfl, pk_mul, nI_add]
theorem dc_i8 (a b : Nat) : nI a * 8 + nI b = nI (a * 8 + b) := by rw [show (8 : Int32) = nI 8 from rfl, pk_mul, nI_add]
theorem dc_j6 (a : Nat) : nI a * 6 = nI (a * 6) := by rw [show (6 : Int32) = nI 6 from rfl, pk_mul]
theorem dc_j8 (a : Nat) : nI a * 8 = nI (a * 8) := by rw [show (8 : Int32) = nI 8 from rfl, pk_mul]
theorem dc_j24 (a : Nat) : nI a * 24 = nI (a * 24) := by rw [show (24 : Int32) = nI 24 from rfl, pk_mul]
theorem dc_rem (n : Int32) {K : Nat} (h0 : 0 < K) (hK : K < 2 ^ 31) : ∃ j : Nat, j < K ∧ ((0 ≤ n - n / nI K * nI K ∧ n - n / nI K * nI K = nI j) ∨ (¬ 0 ≤ n - n / nI K * nI K ∧ n - n / nI K * nI K + nI K = nI j)) := by
  have hk : (nI K).toInt = (K : Int) := nI_toInt hK
  have hr := rem_toInt n (nI K)
  have hb := tmod_bounds (a := n.toInt) (M := (K : Int)) (by omega)
  rw [hk] at hr
  rw [← hr] at hb
  generalize n - n / nI K * nI K = x at hb
  by_cases h : 0 ≤ x
  · obtain ⟨j, hj, rfl⟩ := nI_of (x := x) (Int32.not_lt.mpr h)
    rw [nI_toInt hj] at hb
    exact ⟨j, by omega, Or.inl ⟨h, rfl⟩⟩
  · have hx : x.toInt < 0 := by
      have z : (0 : Int32).toInt = 0 := by decide
      have y : ¬ (0 : Int32).toInt ≤ x.toInt := fun z => h (Int32.le_iff_toInt_le.mpr z)
      omega
    refine ⟨(x.toInt + K).toNat, by omega, Or.inr ⟨h, ?_⟩⟩
    apply Int32.toInt_inj.mp
    rw [Int32.toInt_add, hk, nI_toInt (by omega)]
    rw [Int.bmod_eq_of_le (by omega) (by omega)]
    omega
end
section
/-! the relation and its parts -/
def dc_Q (a b : Nat → Int32) : Prop := ∀ l c, l < 4 → c < 4 → b (l * 5 + c) = a (l * 4 + c)
theorem dc_Q_upd {a b : Nat → Int32} {l c : Nat} {v : Int32} (h : dc_Q a b) (hl : l < 4) (hc : c < 4) : dc_Q (upd a (l * 4 + c) v) (upd b (l * 5 + c) v) := by
  intro l' c' hl' hc'
  by_cases e : l' = l ∧ c' = c
  · obtain ⟨rfl, rfl⟩ := e; rw [pk_us, pk_us]
  · rw [pk_un (by omega), pk_un (by omega)]; exact h l' c' hl' hc'
def dc_DM (N L : Nat) : Prop := 2 ≤ N ∧ N ≤ 4 ∧ 1 ≤ L ∧ L ≤ 4
def dc_OW (N : Nat) (ow : Nat → Int32) : Prop := ∀ l, l < 4 → ∃ o : Nat, (o < N ∨ o = 4) ∧ ow l = nI o
theorem dc_OW_upd {N l o : Nat} {ow : Nat → Int32} (h : dc_OW N ow) (ho : o < N ∨ o = 4) : dc_OW N (upd ow l (nI o)) := by
  intro l' hl'
  by_cases e : l' = l
  · subst e; exact ⟨o, ho, pk_us⟩
  · obtain ⟨q, h1, h2⟩ := h l' hl'
    exact ⟨q, h1, (pk_un e).trans h2⟩
def dc_SX (N : Nat) (S : Nat → Nat → Bool) (sm : Nat → Int32) : Prop := ∀ l, l < 4 → sm l = dc_mk (S l) ∧ ∀ c, c < 5 → S l c = true → c < N
def dc_SY (S : Nat → Nat → Bool) (sh : Nat → Int32) : Prop := ∀ l c, l < 4 → c < 4 → sh (l * 5 + c) = dc_bI (S l c)
def dc_WR (wc wv wk lv lw : Nat → Int32) : Prop := ∀ l b, l < 4 → b < 8 → lv (l * 8 + b) = wv (l * 8 + (dc_m8 (wc l) + 7 - b) % 8) ∧ lw (l * 8 + b) = wk (l * 8 + (dc_m8 (wc l) + 7 - b) % 8)
def dc_FX (F : Nat → Nat → Nat → Nat → Bool) (fg : Nat → Int32) : Prop := ∀ l c k, l < 4 → c < 4 → k < 6 → fg ((l * 4 + c) * 6 + k) = dc_mk (F l c k)
def dc_FY (F : Nat → Nat → Nat → Nat → Bool) (fy : Nat → Int32) : Prop := ∀ l c k p, l < 4 → c < 4 → k < 6 → p < 5 → fy (((l * 5 + c) * 6 + k) * 5 + p) = dc_bI (F l c k p)
def dc_set (F : Nat → Nat → Nat → Nat → Bool) (l c k p : Nat) (b : Bool) : Nat → Nat → Nat → Nat → Bool := fun l' c' k' p' => if l' = l ∧ c' = c ∧ k' = k ∧ p' = p then b else F l' c' k' p'
def dc_st (f : Nat → Nat → Bool) (k p : Nat) (b : Bool) : Nat → Nat → Bool := fun k' p' => if k' = k ∧ p' = p then b else f k' p'
theorem dc_set_eq (F : Nat → Nat → Nat → Nat → Bool) (l c k p : Nat) (b : Bool) : dc_set F l c k p b l c = dc_st (F l c) k p b := by
  funext k' p'
  simp [dc_set, dc_st]
theorem dc_set_ne (F : Nat → Nat → Nat → Nat → Bool) {l c k p l' c' : Nat} {b : Bool} (h : ¬ (l' = l ∧ c' = c)) : dc_set F l c k p b l' c' = F l' c' := by
  funext k' p'
  unfold dc_set
  rw [if_neg]
  intro z
  exact h ⟨z.1, z.2.1⟩
theorem dc_FX_set {F : Nat → Nat → Nat → Nat → Bool} {fg : Nat → Int32} {l c k p : Nat} {b : Bool} {x : Int32} (h : dc_FX F fg) (hk : k < 6) (hl : l < 4) (hc : c < 4) (e : x = dc_mk (fun q => if q = p then b else F l c k q)) : dc_FX (dc_set F l c k p b) (upd fg ((l * 4 + c) * 6 + k) x) := by
  intro l' c' k' hl' hc' hk'
  by_cases z : l' = l ∧ c' = c ∧ k' = k
  · obtain ⟨rfl, rfl, rfl⟩ := z
    rw [pk_us, e]
    refine dc_mk_congr fun q _ => ?_
    simp [dc_set]
  · rw [pk_un (by omega), h l' c' k' hl' hc' hk']
    refine dc_mk_congr fun q _ => ?_
    unfold dc_set
    rw [if_neg]
    intro y
    exact z ⟨y.1, y.2.1, y.2.2.1⟩
theorem dc_FX_or {F : Nat → Nat → Nat → Nat → Bool} {fg : Nat → Int32} {l c k p : Nat} (h : dc_FX F fg) (hl : l < 4) (hc : c < 4) (hk : k < 6) (hp : p < 5) : dc_FX (dc_set F l c k p true) (upd fg ((l * 4 + c) * 6 + k) (fg ((l * 4 + c) * 6 + k) ||| ((1 : Int32) <<< (nI p &&& 31)))) :=
  dc_FX_set h hk hl hc (by rw [h l c k hl hc hk, dc_mk_or _ hp])
theorem dc_FX_no {F : Nat → Nat → Nat → Nat → Bool} {fg : Nat → Int32} {l c k p : Nat} (h : dc_FX F fg) (hl : l < 4) (hc : c < 4) (hk : k < 6) (hp : p < 5) : dc_FX (dc_set F l c k p false) (upd fg ((l * 4 + c) * 6 + k) (fg ((l * 4 + c) * 6 + k) &&& (((1 : Int32) <<< (nI p &&& 31)) ^^^ (-1)))) :=
  dc_FX_set h hk hl hc (by rw [h l c k hl hc hk, dc_mk_no _ hp])
theorem dc_FX_congr {F G : Nat → Nat → Nat → Nat → Bool} {fg : Nat → Int32} (h : dc_FX F fg) (e : ∀ l c k p, F l c k p = G l c k p) : dc_FX G fg := by
  intro l c k hl hc hk
  rw [h l c k hl hc hk]
  exact dc_mk_congr fun p _ => e l c k p
theorem dc_FY_congr {F G : Nat → Nat → Nat → Nat → Bool} {fy : Nat → Int32} (h : dc_FY F fy) (e : ∀ l c k p, F l c k p = G l c k p) : dc_FY G fy := by
  intro l c k p hl hc hk hp
  rw [h l c k p hl hc hk hp, e]
theorem dc_FY_set {F : Nat → Nat → Nat → Nat → Bool} {fy : Nat → Int32} {l c k p : Nat} {b : Bool} {x : Int32} (h : dc_FY F fy) (hl : l < 4) (hc : c < 4) (hk : k < 6) (hp : p < 5) (e : x = dc_bI b) : dc_FY (dc_set F l c k p b) (upd fy (((l * 5 + c) * 6 + k) * 5 + p) x) := by
  intro l' c' k' p' hl' hc' hk' hp'
  unfold dc_set
  by_cases z : l' = l ∧ c' = c ∧ k' = k ∧ p' = p
  · obtain ⟨rfl, rfl, rfl, rfl⟩ := z
    rw [pk_us, e, if_pos ⟨rfl, rfl, rfl, rfl⟩]
  · rw [pk_un (by omega), if_neg z]
    exact h l' c' k' p' hl' hc' hk' hp'
def dc_PX (T : Nat → List Nat) (tp : Nat → Int32) : Prop := ∀ l c, l < 4 → c < 4 → tp (l * 4 + c) = nI (dc_pl (T l) c)
def dc_PY (T : Nat → List Nat) (tc tk : Nat → Int32) : Prop := ∀ l, l < 4 → tc l = nI (T l).length ∧ dc_at tk (l * 5) (T l)
def dc_TT (N : Nat) (T : Nat → List Nat) : Prop := ∀ l, l < 4 → (T l).Nodup ∧ ∀ x, x ∈ T l → x < N
def dc_tu (T : Nat → List Nat) (l : Nat) (t : List Nat) : Nat → List Nat := fun l' => if l' = l then t else T l'
theorem dc_tu_eq (T : Nat → List Nat) (l : Nat) (t : List Nat) : dc_tu T l t l = t := if_pos rfl
theorem dc_tu_ne (T : Nat → List Nat) {l l' : Nat} (t : List Nat) (h : ¬ l' = l) : dc_tu T l t l' = T l' := if_neg h
def dc_IC (N : Nat) (t : Int32) (o : Prop) (f : Nat → Nat → Bool) (bx bz : Int32) (cr : Nat → Int32) : Prop :=
  (t = 0 ∨ t = 1 ∨ t = 2 ∨ t = 3 ∨ t = 4) ∧
  (t = 0 → ¬ o) ∧
  (∀ k p, k < 6 → p < 5 → f k p = true → (p < N ∨ p = 4) ∧ t ≠ 0 ∧ (k = 0 → p = 4 ∧ ¬ o) ∧ (k ≠ 0 → o) ∧ (k = 5 → t = 4 ∧ p = 4) ∧ (k = 1 → p < N ∧ (t = 1 ∨ t = 2 ∨ t = 3)) ∧ (k = 3 → (t = 1 ∨ t = 2 ∨ t = 3) ∧ cr p = bx) ∧ (k = 2 → p < N ∧ (t = 2 ∨ t = 3)) ∧ (k = 4 → t = 2 ∨ t = 3)) ∧
  (∀ k k' p p', (k = 1 ∨ k = 3) → (k' = 1 ∨ k' = 3) → p < 5 → p' < 5 → f k p = true → f k' p' = true → k = k' ∧ p = p') ∧
  ((t = 2 ∨ t = 3) → o → (∀ p, p < 5 → f 1 p = false ∧ f 3 p = false) → bz = bx)
def dc_IA (N : Nat) (T : Nat → List Nat) (F : Nat → Nat → Nat → Nat → Bool) (ta br bz ca : Nat → Int32) : Prop := ∀ l c, l < 4 → c < 4 → (N ≤ c → ta (l * 4 + c) = 0) ∧ dc_IC N (ta (l * 4 + c)) (c ∈ T l) (F l c) (br (l * 4 + c)) (bz (l * 5 + c)) (fun p => ca (((l * 5 + c) * 6 + 3) * 5 + p))
/-- what the two states share, apart from what is the same function on both sides -/
def dc_RR (N L : Nat) (T : Nat → List Nat) (F : Nat → Nat → Nat → Nat → Bool) (S : Nat → Nat → Bool) (ow sm sd wc wv wk cs cv ta tO tp lr pv br fg tc lv lw tk sh co vo ke pe oP bz ro fy ca : Nat → Int32) : Prop :=
  dc_DM N L ∧ dc_Q cs co ∧ dc_Q cv vo ∧ dc_Q ta pe ∧ dc_Q tO oP ∧ dc_Q lr ro ∧ dc_Q pv ke ∧ dc_OW N ow ∧ dc_SX N S sm ∧ dc_SY S sh ∧ dc_WR wc wv wk lv lw ∧ dc_FX F fg ∧ dc_FY F fy ∧ dc_PX T tp ∧ dc_PY T tc tk ∧ dc_TT N T ∧ dc_IA N T F ta br bz ca
def dc_RL (L : Nat) (u : SX) (v : SY) : Prop := match u, v with
  | (x1, x2, x3, ow, sm, sd, wc, wv, wk, cs, cv, ta, tO, tp, lr, pv, br, fg), (y1, y2, y3, y4, y5, y6, tc, lv, lw, tk, sh, co, vo, ke, pe, oP, bz, ro, fy, ca) =>
    ∃ (N : Nat) (T : Nat → List Nat) (F : Nat → Nat → Nat → Nat → Bool) (S : Nat → Nat → Bool), x1 = nI N ∧ x2 = nI L ∧ y1 = nI N ∧ y2 = nI L ∧ y3 = x3 ∧ y4 = ow ∧ y5 = sd ∧ y6 = wc ∧ dc_RR N L T F S ow sm sd wc wv wk cs cv ta tO tp lr pv br fg tc lv lw tk sh co vo ke pe oP bz ro fy ca
def dc_Rl (u : SX) (v : SY) : Prop := ∃ L : Nat, dc_RL L u v
theorem dc_inL {N L : Nat} {m : Int32} {T : Nat → List Nat} {F : Nat → Nat → Nat → Nat → Bool} {S : Nat → Nat → Bool} {ow sm sd wc wv wk cs cv ta tO tp lr pv br fg tc lv lw tk sh co vo ke pe oP bz ro fy ca : Nat → Int32} (h : dc_RR N L T F S ow sm sd wc wv wk cs cv ta tO tp lr pv br fg tc lv lw tk sh co vo ke pe oP bz ro fy ca) : dc_RL L (nI N, nI L, m, ow, sm, sd, wc, wv, wk, cs, cv, ta, tO, tp, lr, pv, br, fg) (nI N, nI L, m, ow, sd, wc, tc, lv, lw, tk, sh, co, vo, ke, pe, oP, bz, ro, fy, ca) :=
  ⟨N, T, F, S, rfl, rfl, rfl, rfl, rfl, rfl, rfl, rfl, h⟩
theorem dc_in {N L : Nat} {m : Int32} {T : Nat → List Nat} {F : Nat → Nat → Nat → Nat → Bool} {S : Nat → Nat → Bool} {ow sm sd wc wv wk cs cv ta tO tp lr pv br fg tc lv lw tk sh co vo ke pe oP bz ro fy ca : Nat → Int32} (h : dc_RR N L T F S ow sm sd wc wv wk cs cv ta tO tp lr pv br fg tc lv lw tk sh co vo ke pe oP bz ro fy ca) : dc_Rl (nI N, nI L, m, ow, sm, sd, wc, wv, wk, cs, cv, ta, tO, tp, lr, pv, br, fg) (nI N, nI L, m, ow, sd, wc, tc, lv, lw, tk, sh, co, vo, ke, pe, oP, bz, ro, fy, ca) :=
  ⟨L, dc_inL h⟩
theorem dc_elL {L : Nat} {P : SX → SY → Prop} {u : SX} {v : SY} (h : ∀ (N : Nat) (m : Int32) (T : Nat → List Nat) (F : Nat → Nat → Nat → Nat → Bool) (S : Nat → Nat → Bool) (ow sm sd wc wv wk cs cv ta tO tp lr pv br fg tc lv lw tk sh co vo ke pe oP bz ro fy ca : Nat → Int32), dc_RR N L T F S ow sm sd wc wv wk cs cv ta tO tp lr pv br fg tc lv lw tk sh co vo ke pe oP bz ro fy ca → P (nI N, nI L, m, ow, sm, sd, wc, wv, wk, cs, cv, ta, tO, tp, lr, pv, br, fg) (nI N, nI L, m, ow, sd, wc, tc, lv, lw, tk, sh, co, vo, ke, pe, oP, bz, ro, fy, ca)) (I : dc_RL L u v) : P u v := by
  obtain ⟨x1, x2, x3, ow, sm, sd, wc, wv, wk, cs, cv, ta, tO, tp, lr, pv, br, fg⟩ := u
  obtain ⟨y1, y2, y3, y4, y5, y6, tc, lv, lw, tk, sh, co, vo, ke, pe, oP, bz, ro, fy, ca⟩ := v
  obtain ⟨N, T, F, S, e1, e2, e3, e4, e5, e6, e7, e8, I⟩ := I
  subst e1 e2 e3 e4 e5 e6 e7 e8
  exact h N _ T F S _ _ _ _ _ _ _ _ _ _ _ _ _ _ _ _ _ _ _ _ _ _ _ _ _ _ _ _ _ I
theorem dc_el {P : SX → SY → Prop} {u : SX} {v : SY} (h : ∀ (N L : Nat) (m : Int32) (T : Nat → List Nat) (F : Nat → Nat → Nat → Nat → Bool) (S : Nat → Nat → Bool) (ow sm sd wc wv wk cs cv ta tO tp lr pv br fg tc lv lw tk sh co vo ke pe oP bz ro fy ca : Nat → Int32), dc_RR N L T F S ow sm sd wc wv wk cs cv ta tO tp lr pv br fg tc lv lw tk sh co vo ke pe oP bz ro fy ca → P (nI N, nI L, m, ow, sm, sd, wc, wv, wk, cs, cv, ta, tO, tp, lr, pv, br, fg) (nI N, nI L, m, ow, sd, wc, tc, lv, lw, tk, sh, co, vo, ke, pe, oP, bz, ro, fy, ca)) (I : dc_Rl u v) : P u v := by
  obtain ⟨L, I⟩ := I
  exact dc_elL (fun N => h N L) I
/-! one cell's invariant, step by step -/
theorem dc_IC_idle {N : Nat} {o : Prop} {f : Nat → Nat → Bool} {bx bz : Int32} {cr : Nat → Int32} (h : ∀ k p, k < 6 → p < 5 → f k p = false) (ho : ¬ o) : dc_IC N 0 o f bx bz cr := by
  refine ⟨Or.inl rfl, fun _ => ho, ?_, ?_, ?_⟩
  · intro k p hk hp e
    rw [h k p hk hp] at e
    cases e
  · intro k k' p p' hk hk' hp hp' e
    rw [h k p (by omega) hp] at e
    cases e
  · intro z
    exact absurd z (by decide)
theorem dc_IC_none {N : Nat} {o : Prop} {f : Nat → Nat → Bool} {bx bz : Int32} {cr : Nat → Int32} (h : dc_IC N 0 o f bx bz cr) {k p : Nat} (hk : k < 6) (hp : p < 5) : f k p = false := by
  cases e : f k p with
  | false => rfl
  | true => exact absurd rfl (h.2.2.1 k p hk hp e).2.1
/-- a new transaction: its REQ alone -/
theorem dc_IC_req {N : Nat} {o : Prop} {f : Nat → Nat → Bool} {bx bz : Int32} {cr : Nat → Int32} {w : Int32} (h : dc_IC N 0 o f bx bz cr) (hw : w = 1 ∨ w = 2 ∨ w = 3 ∨ w = 4) {bx' bz' : Int32} {cr' : Nat → Int32} : dc_IC N w o (dc_st f 0 4 true) bx' bz' cr' := by
  have ho : ¬ o := h.2.1 rfl
  have hw0 : w ≠ 0 := by rcases hw with rfl | rfl | rfl | rfl <;> decide
  have key : ∀ k p, k < 6 → p < 5 → dc_st f 0 4 true k p = true → k = 0 ∧ p = 4 := by
    intro k p hk hp e
    by_cases z : k = 0 ∧ p = 4
    · exact z
    · rw [dc_st, if_neg z, dc_IC_none h hk hp] at e
      cases e
  refine ⟨Or.inr hw, fun z => absurd z hw0, ?_, ?_, fun _ z => absurd z ho⟩
  · intro k p hk hp e
    obtain ⟨rfl, rfl⟩ := key k p hk hp e
    exact ⟨Or.inr rfl, hw0, fun _ => ⟨rfl, ho⟩, fun z => absurd rfl z, fun z => by omega, fun z => by omega, fun z => by omega, fun z => by omega, fun z => by omega⟩
  · intro k k' p p' hk hk' hp hp' e
    obtain ⟨rfl, rfl⟩ := key k p (by omega) hp e
    omega
/-- the flags of a cell whose REQ is in flight -/
theorem dc_IC_req1 {N : Nat} {t : Int32} {o : Prop} {f : Nat → Nat → Bool} {bx bz : Int32} {cr : Nat → Int32} (h : dc_IC N t o f bx bz cr) {q : Nat} (hq : q < 5) (e : f 0 q = true) : q = 4 ∧ ¬ o ∧ t ≠ 0 ∧ ∀ k p, k < 6 → p < 5 → dc_st f 0 q false k p = false := by
  have h0 := h.2.2.1 0 q (by decide) hq e
  have ho : ¬ o := (h0.2.2.1 rfl).2
  have q4 : q = 4 := (h0.2.2.1 rfl).1
  refine ⟨q4, ho, h0.2.1, ?_⟩
  intro k p hk hp
  cases z : dc_st f 0 q false k p with
  | false => rfl
  | true =>
    by_cases y : k = 0 ∧ p = q
    · rw [dc_st, if_pos y] at z; cases z
    · rw [dc_st, if_neg y] at z
      have h1 := h.2.2.1 k p hk hp z
      by_cases k0 : k = 0
      · exact absurd ⟨k0, ((h1.2.2.1 k0).1).trans q4.symm⟩ y
      · exact absurd (h1.2.2.2.1 k0) ho
/-- an ordered PUT: its DONE alone -/
theorem dc_IC_put {N : Nat} {o : Prop} {f : Nat → Nat → Bool} {bx bz : Int32} {cr : Nat → Int32} (h : ∀ k p, k < 6 → p < 5 → f k p = false) (ho : o) : dc_IC N 4 o (dc_st f 5 4 true) bx bz cr := by
  have key : ∀ k p, k < 6 → p < 5 → dc_st f 5 4 true k p = true → k = 5 ∧ p = 4 := by
    intro k p hk hp e
    by_cases z : k = 5 ∧ p = 4
    · exact z
    · rw [dc_st, if_neg z, h k p hk hp] at e
      cases e
  refine ⟨by decide, fun z => absurd z (by decide), ?_, ?_, fun z => absurd z (by decide)⟩
  · intro k p hk hp e
    obtain ⟨rfl, rfl⟩ := key k p hk hp e
    exact ⟨Or.inr rfl, by decide, fun z => by omega, fun _ => ho, fun _ => ⟨rfl, rfl⟩, fun z => by omega, fun z => by omega, fun z => by omega, fun z => by omega⟩
  · intro k k' p p' hk hk' hp hp' e
    obtain ⟨rfl, rfl⟩ := key k p (by omega) hp e
    omega
/-- an ordered READ or write: one FWD or DATA (kind 1 or 3), and INVs if it writes -/
theorem dc_IC_ord {N : Nat} {t : Int32} {o : Prop} {f : Nat → Nat → Bool} {bx bz : Int32} {cr : Nat → Int32} (ht : t = 1 ∨ t = 2 ∨ t = 3) (ho : o) (j q : Nat) (hj : j = 1 ∧ q < N ∨ j = 3 ∧ (q < N ∨ q = 4) ∧ cr q = bx) (hq : q < 5) (h1 : f j q = true) (hf : ∀ k p, k < 6 → p < 5 → f k p = true → (k = j ∧ p = q) ∨ (k = 2 ∧ p < N ∧ (t = 2 ∨ t = 3))) : dc_IC N t o f bx bz cr := by
  have t0 : t ≠ 0 := by rcases ht with rfl | rfl | rfl <;> decide
  refine ⟨?_, fun z => absurd z t0, ?_, ?_, ?_⟩
  · rcases ht with z | z | z
    · exact Or.inr (Or.inl z)
    · exact Or.inr (Or.inr (Or.inl z))
    · exact Or.inr (Or.inr (Or.inr (Or.inl z)))
  · intro k p hk hp e
    rcases hf k p hk hp e with ⟨rfl, rfl⟩ | ⟨rfl, hpN, h2⟩
    · rcases hj with ⟨rfl, hN⟩ | ⟨rfl, hN, hc⟩
      · exact ⟨Or.inl hN, t0, fun z => by omega, fun _ => ho, fun z => by omega, fun _ => ⟨hN, ht⟩, fun z => by omega, fun z => by omega, fun z => by omega⟩
      · exact ⟨hN, t0, fun z => by omega, fun _ => ho, fun z => by omega, fun z => by omega, fun _ => ⟨ht, hc⟩, fun z => by omega, fun z => by omega⟩
    · exact ⟨Or.inl hpN, t0, fun z => by omega, fun _ => ho, fun z => by omega, fun z => by omega, fun z => by omega, fun _ => ⟨hpN, h2⟩, fun z => by omega⟩
  · intro k k' p p' hk hk' hp hp' e e'
    rcases hf k p (by omega) hp e with ⟨rfl, rfl⟩ | ⟨rfl, _⟩
    · rcases hf k' p' (by omega) hp' e' with ⟨rfl, rfl⟩ | ⟨rfl, _⟩
      · exact ⟨rfl, rfl⟩
      · omega
    · omega
  · intro _ _ z
    have := z q hq
    rcases hj with ⟨rfl, _⟩ | ⟨rfl, _⟩
    · rw [h1] at this; cases this.1
    · rw [h1] at this; cases this.2
/-- FWD delivered: DATA instead -/
theorem dc_IC_fwd {N : Nat} {t : Int32} {o : Prop} {f : Nat → Nat → Bool} {bx bz : Int32} {cr : Nat → Int32} (h : dc_IC N t o f bx bz cr) {q : Nat} (hq : q < 5) (e : f 1 q = true) {v : Int32} {cr' : Nat → Int32} (hc : cr' q = v) : dc_IC N t o (dc_st (dc_st f 1 q false) 3 q true) v bz cr' := by
  obtain ⟨a1, a2, a3, a4, a5⟩ := h
  have b := a3 1 q (by decide) hq e
  have key : ∀ k p, k < 6 → p < 5 → dc_st (dc_st f 1 q false) 3 q true k p = true → (k = 3 ∧ p = q) ∨ (k ≠ 1 ∧ k ≠ 3 ∧ f k p = true) := by
    intro k p hk hp z
    unfold dc_st at z
    by_cases y : k = 3 ∧ p = q
    · exact Or.inl y
    · rw [if_neg y] at z
      by_cases x : k = 1 ∧ p = q
      · rw [if_pos x] at z; cases z
      · rw [if_neg x] at z
        right
        refine ⟨?_, ?_, z⟩
        · intro k1
          have := a4 k 1 p q (Or.inl k1) (Or.inl rfl) hp hq z e
          omega
        · intro k1
          have := a4 k 1 p q (Or.inr k1) (Or.inl rfl) hp hq z e
          omega
  refine ⟨a1, a2, ?_, ?_, ?_⟩
  · intro k p hk hp z
    rcases key k p hk hp z with ⟨rfl, rfl⟩ | ⟨n1, n3, z'⟩
    · exact ⟨b.1, b.2.1, fun z => by omega, fun _ => b.2.2.2.1 (by decide), fun z => by omega, fun z => by omega, fun _ => ⟨(b.2.2.2.2.2.1 rfl).2, hc⟩, fun z => by omega, fun z => by omega⟩
    · have g := a3 k p hk hp z'
      exact ⟨g.1, g.2.1, g.2.2.1, g.2.2.2.1, g.2.2.2.2.1, fun z => absurd z n1, fun z => absurd z n3, g.2.2.2.2.2.2.2.1, g.2.2.2.2.2.2.2.2⟩
  · intro k k' p p' hk hk' hp hp' z z'
    rcases key k p (by omega) hp z with y | y
    · rcases key k' p' (by omega) hp' z' with y' | y'
      · omega
      · omega
    · omega
  · intro _ _ z
    have := (z q hq).2
    rw [dc_st, if_pos ⟨rfl, rfl⟩] at this
    cases this
/-- INV delivered: ACK instead -/
theorem dc_IC_inv {N : Nat} {t : Int32} {o : Prop} {f : Nat → Nat → Bool} {bx bz : Int32} {cr : Nat → Int32} (h : dc_IC N t o f bx bz cr) {q : Nat} (hq : q < 5) (e : f 2 q = true) : dc_IC N t o (dc_st (dc_st f 2 q false) 4 q true) bx bz cr := by
  obtain ⟨a1, a2, a3, a4, a5⟩ := h
  have b := a3 2 q (by decide) hq e
  have key : ∀ k p, dc_st (dc_st f 2 q false) 4 q true k p = true → (k = 4 ∧ p = q) ∨ f k p = true := by
    intro k p z
    unfold dc_st at z
    by_cases y : k = 4 ∧ p = q
    · exact Or.inl y
    · rw [if_neg y] at z
      by_cases x : k = 2 ∧ p = q
      · rw [if_pos x] at z; cases z
      · rw [if_neg x] at z
        exact Or.inr z
  refine ⟨a1, a2, ?_, ?_, ?_⟩
  · intro k p hk hp z
    rcases key k p z with ⟨rfl, rfl⟩ | z'
    · exact ⟨b.1, b.2.1, fun z => by omega, fun _ => b.2.2.2.1 (by decide), fun z => by omega, fun z => by omega, fun z => by omega, fun z => by omega, fun _ => (b.2.2.2.2.2.2.2.1 rfl).2⟩
    · exact a3 k p hk hp z'
  · intro k k' p p' hk hk' hp hp' z z'
    rcases key k p z with y | y
    · omega
    · rcases key k' p' z' with y' | y'
      · omega
      · exact a4 k k' p p' hk hk' hp hp' y y'
  · intro x1 x2 z
    refine a5 x1 x2 fun p hp => ?_
    have := z p hp
    simpa [dc_st] using this
/-- a DATA or ACK of a write taken, others awaited -/
theorem dc_IC_ack {N : Nat} {t : Int32} {o : Prop} {f : Nat → Nat → Bool} {bx bz : Int32} {cr : Nat → Int32} (h : dc_IC N t o f bx bz cr) {q : Nat} : dc_IC N t o (dc_st f 4 q false) bx bz cr := by
  obtain ⟨a1, a2, a3, a4, a5⟩ := h
  have key : ∀ k p, dc_st f 4 q false k p = true → f k p = true := by
    intro k p z
    unfold dc_st at z
    by_cases x : k = 4 ∧ p = q
    · rw [if_pos x] at z; cases z
    · rw [if_neg x] at z
      exact z
  refine ⟨a1, a2, fun k p hk hp z => a3 k p hk hp (key k p z), fun k k' p p' hk hk' hp hp' z z' => a4 k k' p p' hk hk' hp hp' (key k p z) (key k' p' z'), ?_⟩
  intro x1 x2 z
  refine a5 x1 x2 fun p hp => ?_
  have := z p hp
  simpa [dc_st] using this
theorem dc_IC_dat {N : Nat} {t : Int32} {o : Prop} {f : Nat → Nat → Bool} {bx bz : Int32} {cr : Nat → Int32} (h : dc_IC N t o f bx bz cr) {q : Nat} (hq : q < 5) (e : f 3 q = true) : dc_IC N t o (dc_st f 3 q false) bx (cr q) cr := by
  obtain ⟨a1, a2, a3, a4, a5⟩ := h
  have b := a3 3 q (by decide) hq e
  have key : ∀ k p, dc_st f 3 q false k p = true → f k p = true := by
    intro k p z
    unfold dc_st at z
    by_cases x : k = 3 ∧ p = q
    · rw [if_pos x] at z; cases z
    · rw [if_neg x] at z
      exact z
  exact ⟨a1, a2, fun k p hk hp z => a3 k p hk hp (key k p z), fun k k' p p' hk hk' hp hp' z z' => a4 k k' p p' hk hk' hp hp' (key k p z) (key k' p' z'), fun _ _ _ => (b.2.2.2.2.2.2.1 rfl).2⟩
/-- a READ's DATA taken: nothing is left -/
theorem dc_IC_rd {N : Nat} {o : Prop} {f : Nat → Nat → Bool} {bx bz : Int32} {cr : Nat → Int32} (h : dc_IC N 1 o f bx bz cr) {q : Nat} (hq : q < 5) (e : f 3 q = true) : cr q = bx ∧ o ∧ ∀ k p, k < 6 → p < 5 → dc_st f 3 q false k p = false := by
  obtain ⟨a1, a2, a3, a4, a5⟩ := h
  have b := a3 3 q (by decide) hq e
  have ho : o := b.2.2.2.1 (by decide)
  refine ⟨(b.2.2.2.2.2.2.1 rfl).2, ho, ?_⟩
  intro k p hk hp
  cases z : dc_st f 3 q false k p with
  | false => rfl
  | true =>
    unfold dc_st at z
    by_cases x : k = 3 ∧ p = q
    · rw [if_pos x] at z; cases z
    · rw [if_neg x] at z
      have g := a3 k p hk hp z
      have k0 : k ≠ 0 := fun y => (g.2.2.1 y).2 ho
      have k5 : k ≠ 5 := fun y => absurd (g.2.2.2.2.1 y).1 (by decide)
      have k2 : k ≠ 2 := fun y => absurd (g.2.2.2.2.2.2.2.1 y).2 (by decide)
      have k4 : k ≠ 4 := fun y => absurd (g.2.2.2.2.2.2.2.2 y) (by decide)
      have := a4 k 3 p q (by omega) (Or.inr rfl) hp hq z e
      exact absurd this x
/-- a PUT's DONE taken: nothing is left -/
theorem dc_IC_dn {N : Nat} {t : Int32} {o : Prop} {f : Nat → Nat → Bool} {bx bz : Int32} {cr : Nat → Int32} (h : dc_IC N t o f bx bz cr) {q : Nat} (hq : q < 5) (e : f 5 q = true) : o ∧ ∀ k p, k < 6 → p < 5 → dc_st f 5 q false k p = false := by
  obtain ⟨a1, a2, a3, a4, a5⟩ := h
  have b := a3 5 q (by decide) hq e
  have ho : o := b.2.2.2.1 (by decide)
  have t4 := b.2.2.2.2.1 rfl
  refine ⟨ho, ?_⟩
  intro k p hk hp
  cases z : dc_st f 5 q false k p with
  | false => rfl
  | true =>
    unfold dc_st at z
    by_cases x : k = 5 ∧ p = q
    · rw [if_pos x] at z; cases z
    · rw [if_neg x] at z
      have g := a3 k p hk hp z
      rw [t4.1] at g
      have k0 : k ≠ 0 := fun y => (g.2.2.1 y).2 ho
      have k1 : k ≠ 1 := fun y => absurd (g.2.2.2.2.2.1 y).2 (by decide)
      have k2 : k ≠ 2 := fun y => absurd (g.2.2.2.2.2.2.2.1 y).2 (by decide)
      have k3 : k ≠ 3 := fun y => absurd (g.2.2.2.2.2.2.1 y).1 (by decide)
      have k4 : k ≠ 4 := fun y => absurd (g.2.2.2.2.2.2.2.2 y) (by decide)
      have k5 : k = 5 := by omega
      exact absurd ⟨k5, ((g.2.2.2.2.1 k5).2).trans t4.2.symm⟩ x
/-- a write that is served whole: nothing is left -/
theorem dc_IC_wr {N : Nat} {t : Int32} {o : Prop} {f : Nat → Nat → Bool} {bx bz : Int32} {cr : Nat → Int32} (h : dc_IC N t o f bx bz cr) (ht : t = 2 ∨ t = 3) (ho : o) (e : ∀ k p, 1 ≤ k → k ≤ 4 → p < 5 → f k p = false) : bz = bx ∧ ∀ k p, k < 6 → p < 5 → f k p = false := by
  obtain ⟨a1, a2, a3, a4, a5⟩ := h
  refine ⟨a5 ht ho fun p hp => ⟨e 1 p (by decide) (by decide) hp, e 3 p (by decide) (by decide) hp⟩, ?_⟩
  intro k p hk hp
  cases z : f k p with
  | false => rfl
  | true =>
    have g := a3 k p hk hp z
    have k0 : k ≠ 0 := fun y => (g.2.2.1 y).2 ho
    have k5 : k ≠ 5 := fun y => by
      have := (g.2.2.2.2.1 y).1
      rcases ht with q | q
      · exact absurd (q.symm.trans this) (by decide)
      · exact absurd (q.symm.trans this) (by decide)
    rw [e k p (by omega) (by omega) hp] at z
    cases z
/-- the invariant of all cells, when one has moved -/
theorem dc_IA_step {N : Nat} {T T' : Nat → List Nat} {F F' : Nat → Nat → Nat → Nat → Bool} {ta br bz ca ta' br' bz' ca' : Nat → Int32} {l c : Nat} (h : dc_IA N T F ta br bz ca) (hc : c < N) (hT : ∀ l' c', l' < 4 → c' < 4 → ¬ (l' = l ∧ c' = c) → (c' ∈ T' l' ↔ c' ∈ T l')) (hF : ∀ l' c', ¬ (l' = l ∧ c' = c) → F' l' c' = F l' c') (h1 : ∀ l' c', l' < 4 → c' < 4 → ¬ (l' = l ∧ c' = c) → ta' (l' * 4 + c') = ta (l' * 4 + c')) (h2 : ∀ l' c', l' < 4 → c' < 4 → ¬ (l' = l ∧ c' = c) → br' (l' * 4 + c') = br (l' * 4 + c')) (h3 : ∀ l' c', l' < 4 → c' < 4 → ¬ (l' = l ∧ c' = c) → bz' (l' * 5 + c') = bz (l' * 5 + c')) (h4 : ∀ l' c' p, l' < 4 → c' < 4 → p < 5 → ¬ (l' = l ∧ c' = c) → ca' (((l' * 5 + c') * 6 + 3) * 5 + p) = ca (((l' * 5 + c') * 6 + 3) * 5 + p)) (hI : dc_IC N (ta' (l * 4 + c)) (c ∈ T' l) (F' l c) (br' (l * 4 + c)) (bz' (l * 5 + c)) (fun p => ca' (((l * 5 + c) * 6 + 3) * 5 + p))) : dc_IA N T' F' ta' br' bz' ca' := by
  intro l' c' hl' hc'
  by_cases e : l' = l ∧ c' = c
  · obtain ⟨rfl, rfl⟩ := e
    exact ⟨fun z => by omega, hI⟩
  · obtain ⟨a, b⟩ := h l' c' hl' hc'
    rw [h1 l' c' hl' hc' e, h2 l' c' hl' hc' e, h3 l' c' hl' hc' e, hF l' c' e, hT l' c' hl' hc' e |> propext]
    refine ⟨a, ?_⟩
    obtain ⟨b1, b2, b3, b4, b5⟩ := b
    refine ⟨b1, b2, ?_, b4, b5⟩
    intro k p hk hp z
    have g := b3 k p hk hp z
    exact ⟨g.1, g.2.1, g.2.2.1, g.2.2.2.1, g.2.2.2.2.1, g.2.2.2.2.2.1, fun y => ⟨(g.2.2.2.2.2.2.1 y).1, (h4 l' c' p hl' hc' hp e).trans (g.2.2.2.2.2.2.1 y).2⟩, g.2.2.2.2.2.2.2.1, g.2.2.2.2.2.2.2.2⟩
end
section
/-! the component's walks -/
def dc_w (t : Int32) : Bool := decide (t = 2 ∨ t = 3)
theorem dc_w_t {t : Int32} (h : t = 2 ∨ t = 3) : dc_w t = true := decide_eq_true h
theorem dc_w_f {t : Int32} (h : ¬ (t = 2 ∨ t = 3)) : dc_w t = false := decide_eq_false h
def dc_bf (t : List Nat) (a b : Nat) : Bool := decide (0 < dc_pl t a ∧ dc_pl t a < dc_pl t b)
theorem dc_bf_t {t : List Nat} {a b : Nat} (h : 0 < dc_pl t a ∧ dc_pl t a < dc_pl t b) : dc_bf t a b = true := decide_eq_true h
theorem dc_bf_f {t : List Nat} {a b : Nat} (h : ¬ (0 < dc_pl t a ∧ dc_pl t a < dc_pl t b)) : dc_bf t a b = false := decide_eq_false h
theorem dc_pl4 {N l : Nat} {T : Nat → List Nat} (hT : dc_TT N T) (hN : N ≤ 4) (hl : l < 4) (c : Nat) : dc_pl (T l) c ≤ 4 := by
  have h1 := dc_pl_le (T l) c
  have h2 := dc_len_le (hT l hl).1 (hT l hl).2
  omega
section
variable {N L : Nat} {m : Int32} {T : Nat → List Nat} {F : Nat → Nat → Nat → Nat → Bool} {S : Nat → Nat → Bool} {ow sm sd wc wv wk cs cv ta tO tp lr pv br fg : Nat → Int32}
theorem dx_send (k cell p : Nat) (hk : k < 6) (hcell : cell < 16) {post : SX → Prop} (h : post (nI N, nI L, m, ow, sm, sd, wc, wv, wk, cs, cv, ta, tO, tp, lr, pv, br, (upd fg (cell * 6 + k) (fg (cell * 6 + k) ||| ((1 : Int32) <<< (nI p &&& 31)))))) : wpX_send post (nI N, nI L, m, ow, sm, sd, wc, wv, wk, cs, cv, ta, tO, tp, lr, pv, br, fg) (nI k) (nI cell) (nI p) := by
  simp only [wpX_send]
  rw [dc_i6, nI_clamp (by omega)]
  exact ⟨vp_in_nI (by omega) (by omega), vp_in_nI (by omega) (by omega), nm_e h⟩
theorem dx_remove (k cell p : Nat) (hk : k < 6) (hcell : cell < 16) {post : SX → Prop} (h : post (nI N, nI L, m, ow, sm, sd, wc, wv, wk, cs, cv, ta, tO, tp, lr, pv, br, (upd fg (cell * 6 + k) (fg (cell * 6 + k) &&& (((1 : Int32) <<< (nI p &&& 31)) ^^^ (-1)))))) : wpX_remove post (nI N, nI L, m, ow, sm, sd, wc, wv, wk, cs, cv, ta, tO, tp, lr, pv, br, fg) (nI k) (nI cell) (nI p) := by
  simp only [wpX_remove]
  rw [dc_i6, nI_clamp (by omega)]
  exact ⟨vp_in_nI (by omega) (by omega), vp_in_nI (by omega) (by omega), nm_e h⟩
theorem dx_fly {l c k p : Nat} (hF : dc_FX F fg) (hl : l < 4) (hc : c < 4) (hk : k < 6) (hp : p < 5) {post : Int32 → Prop} (h : post (dc_bI (F l c k p))) : wpX_flying post (nI N, nI L, m, ow, sm, sd, wc, wv, wk, cs, cv, ta, tO, tp, lr, pv, br, fg) (nI k) (nI (l * 4 + c)) (nI p) := by
  simp only [wpX_flying]
  rw [dc_i6, nI_clamp (by omega), hF l c k hl hc hk]
  refine ⟨vp_in_nI (by omega) (by omega), ?_⟩
  cases e : F l c k p with
  | false =>
    rw [e] at h
    exact br_t ((dc_mk_and (F l c k) hp).mpr e) h
  | true =>
    rw [e] at h
    refine br_f (fun z => ?_) h
    have := (dc_mk_and (F l c k) hp).mp z
    rw [e] at this
    cases this
theorem dx_wpend {cell : Nat} (hcell : cell < 16) {post : Int32 → Prop} (h : post (dc_bI (dc_w (ta cell)))) : wpX_writePending post (nI N, nI L, m, ow, sm, sd, wc, wv, wk, cs, cv, ta, tO, tp, lr, pv, br, fg) (nI cell) := by
  simp only [wpX_writePending]
  rw [nI_clamp (by omega)]
  refine ⟨vp_in_nI hcell (by omega), br_c (fun z => ?_) (fun z => ⟨vp_in_nI hcell (by omega), br_c (fun y => ?_) (fun y => ?_)⟩)⟩
  · rw [dc_w_t (Or.inl z)] at h; exact h
  · rw [dc_w_t (Or.inr y)] at h; exact h
  · rw [dc_w_f (fun x => x.elim z y)] at h; exact h
theorem dx_ob {l a b : Nat} (hP : dc_PX T tp) (hT : dc_TT N T) (hN : N ≤ 4) (hl : l < 4) (ha : a < 4) (hb : b < 4) {post : Int32 → Prop} (h : post (dc_bI (dc_bf (T l) a b))) : wpX_orderedBefore post (nI N, nI L, m, ow, sm, sd, wc, wv, wk, cs, cv, ta, tO, tp, lr, pv, br, fg) (nI (l * 4 + a)) (nI (l * 4 + b)) := by
  have h1 := dc_pl4 hT hN hl a
  have h2 := dc_pl4 hT hN hl b
  simp only [wpX_orderedBefore]
  rw [nI_clamp (by omega), nI_clamp (by omega), hP l a hl ha, hP l b hl hb]
  refine ⟨vp_in_nI (by omega) (by omega), pk_le (dc_pl (T l) a) 0 (fun z => ?_) (fun z => ⟨vp_in_nI (by omega) (by omega), vp_in_nI (by omega) (by omega), pk_le (dc_pl (T l) b) (dc_pl (T l) a) (fun y => ?_) (fun y => ?_)⟩)⟩
  · rw [dc_bf_f (by omega)] at h; exact h
  · rw [dc_bf_f (by omega)] at h; exact h
  · rw [dc_bf_t (by omega)] at h; exact h
theorem dx_append5 {l c : Nat} (hP : dc_PX T tp) (hT : dc_TT N T) (hN : N ≤ 4) (hl : l < 4) (hc : c < N) {post : SX → Prop} (h : post (nI N, nI L, m, ow, sm, sd, wc, wv, wk, cs, cv, ta, tO, (upd tp (l * 4 + c) (nI ((T l).length + 1))), lr, pv, br, fg)) : ∀ n j, N < n + j → j ≤ N → wX_appendToOrder_5 post (nI l) (nI (l * 4 + c)) (nI N) (nI L) m ow sm sd wc wv wk cs cv ta tO tp lr pv br fg n (nI (dc_cn (fun c => decide (0 < dc_pl (T l) c)) j)) (nI j) := by
  intro n
  induction n with
  | zero => intro j h1 h2; omega
  | succ n ih =>
    intro j h1 h2
    simp only [wX_appendToOrder_5]
    by_cases hj : j < N
    · refine br_f (nI_ge hj (by omega)) ?_
      have hp4 := dc_pl4 hT hN hl j
      rw [dc_i4, nI_clamp (by omega), hP l j hl (by omega)]
      refine ⟨vp_in_nI (by omega) (by omega), pk_le (dc_pl (T l) j) 0 (fun z => nm_r (nI_1 j) ?_) (fun z => nm_r (nI_1 _) (nm_r (nI_1 j) ?_))⟩
      · have := ih (j + 1) (by omega) (by omega)
        rw [dc_cn_f (by simp; omega)] at this
        exact this
      · have := ih (j + 1) (by omega) (by omega)
        rw [dc_cn_t (by simp; omega)] at this
        exact this
    · have e : j = N := by omega
      subst e
      refine br_t (nI_le (Nat.le_refl _) (by omega)) ?_
      rw [dc_cn_list j (T l) (hT l hl).1 (hT l hl).2, nI_clamp (by omega), nI_1]
      exact ⟨vp_in_nI (by omega) (by omega), nm_e h⟩
theorem dx_append {l c : Nat} (hP : dc_PX T tp) (hT : dc_TT N T) (hN : N ≤ 4) (hl : l < 4) (hc : c < N) {post : SX → Prop} (h : post (nI N, nI L, m, ow, sm, sd, wc, wv, wk, cs, cv, ta, tO, (upd tp (l * 4 + c) (nI ((T l).length + 1))), lr, pv, br, fg)) : wpX_appendToOrder post (nI N, nI L, m, ow, sm, sd, wc, wv, wk, cs, cv, ta, tO, tp, lr, pv, br, fg) (nI l) (nI (l * 4 + c)) := by
  simp only [wpX_appendToOrder]
  exact ⟨N + 1, dx_append5 hP hT hN hl hc h (N + 1) 0 (by omega) (by omega)⟩
theorem dx_PX_app {l c : Nat} (hP : dc_PX T tp) (hl : l < 4) (hc : c < 4) (hcT : ¬ c ∈ T l) : dc_PX (dc_tu T l (T l ++ [c])) (upd tp (l * 4 + c) (nI ((T l).length + 1))) := by
  intro l' c' hl' hc'
  by_cases e : l' = l
  · subst e
    rw [dc_tu_eq, dc_pl_app]
    by_cases e' : c' = c
    · subst e'
      rw [pk_us, if_pos ((dc_pl_mem _ _).mpr hcT), if_pos rfl]
    · rw [pk_un (by omega), hP l' c' hl' hc']
      have n' : ¬ c = c' := fun z => e' z.symm
      by_cases z : dc_pl (T l') c' = 0
      · rw [if_pos z, if_neg n', z]
      · rw [if_neg z]
  · rw [dc_tu_ne T _ e, pk_un (by omega), hP l' c' hl' hc']
theorem dx_finish10 {l c : Nat} (hT : dc_TT N T) (hN : N ≤ 4) (hl : l < 4) (hc : c < N) (hcT : c ∈ T l) : ∀ (n j : Nat) (tp : Nat → Int32), N < n + j → j ≤ N → (∀ l' c', l' < 4 → c' < 4 → tp (l' * 4 + c') = nI (if l' = l ∧ c' < j ∧ dc_pl (T l) c < dc_pl (T l) c' then dc_pl (T l) c' - 1 else dc_pl (T l') c')) → ∃ tp', dc_PX (dc_tu T l (dc_rm (T l) c)) tp' ∧ ∀ post : SX → Prop, post (nI N, nI L, m, ow, sm, sd, wc, wv, wk, cs, cv, (upd ta (l * 4 + c) 0), (upd tO (l * 4 + c) 0), tp', lr, pv, br, fg) → wX_finish_10 post (nI l) (nI (l * 4 + c)) (nI (dc_pl (T l) c)) (nI N) (nI L) m n (nI j) ow sm sd wc wv wk cs cv ta tO tp lr pv br fg := by
  intro n
  induction n with
  | zero => intro j tp h1 h2; omega
  | succ n ih =>
    intro j tp h1 h2 hI
    by_cases hj : j < N
    · have q1 := dc_pl4 hT hN hl j
      have q2 := dc_pl4 hT hN hl c
      have e0 := hI l j hl (by omega)
      rw [if_neg (by omega)] at e0
      by_cases z : dc_pl (T l) j ≤ dc_pl (T l) c
      · obtain ⟨tp', g1, g2⟩ := ih (j + 1) tp (by omega) (by omega) (by
          intro l' c' hl' hc'
          rw [hI l' c' hl' hc']
          by_cases e : l' = l
          · subst e
            by_cases e' : c' = j
            · subst e'
              rw [if_neg (by omega), if_neg (by omega)]
            · by_cases e2 : c' < j ∧ dc_pl (T l') c < dc_pl (T l') c'
              · rw [if_pos ⟨rfl, e2⟩, if_pos ⟨rfl, by omega, e2.2⟩]
              · rw [if_neg (fun y => e2 y.2), if_neg (by omega)]
          · rw [if_neg (fun y => e y.1), if_neg (fun y => e y.1)])
        refine ⟨tp', g1, fun post hp => ?_⟩
        simp only [wX_finish_10]
        refine br_f (nI_ge hj (by omega)) (nm_r (dc_i4 l j) ?_)
        rw [nI_clamp (by omega), e0]
        exact ⟨vp_in_nI (by omega) (by omega), br_t (nI_le z (by omega)) (nm_r (nI_1 j) (g2 post hp))⟩
      · obtain ⟨tp', g1, g2⟩ := ih (j + 1) (upd tp (l * 4 + j) (nI (dc_pl (T l) j - 1))) (by omega) (by omega) (by
          intro l' c' hl' hc'
          by_cases e : l' = l
          · subst e
            by_cases e' : c' = j
            · subst e'
              rw [pk_us, if_pos ⟨rfl, by omega, by omega⟩]
            · rw [pk_un (by omega), hI l' c' hl' hc']
              by_cases e2 : c' < j ∧ dc_pl (T l') c < dc_pl (T l') c'
              · rw [if_pos ⟨rfl, e2⟩, if_pos ⟨rfl, by omega, e2.2⟩]
              · rw [if_neg (fun y => e2 y.2), if_neg (by omega)]
          · rw [pk_un (by omega), hI l' c' hl' hc', if_neg (fun y => e y.1), if_neg (fun y => e y.1)])
        refine ⟨tp', g1, fun post hp => ?_⟩
        simp only [wX_finish_10]
        refine br_f (nI_ge hj (by omega)) (nm_r (dc_i4 l j) ?_)
        rw [nI_clamp (by omega), e0]
        refine ⟨vp_in_nI (by omega) (by omega), br_f (nI_ge (by omega) (by omega)) ⟨vp_in_nI (by omega) (by omega), vp_in_nI (by omega) (by omega), ?_⟩⟩
        refine nm_r (e' := upd tp (l * 4 + j) (nI (dc_pl (T l) j - 1))) ?_ (nm_r (nI_1 j) (g2 post hp))
        rw [show (1 : Int32) = nI 1 from rfl, pk_sub (by omega)]
    · have e : j = N := by omega
      subst e
      refine ⟨upd tp (l * 4 + c) 0, ?_, fun post hp => ?_⟩
      · intro l' c' hl' hc'
        by_cases e : l' = l
        · subst e
          rw [dc_tu_eq, dc_pl_rm (T l') c c' (hT l' hl).1 hcT]
          by_cases e' : c' = c
          · subst e'; rw [pk_us, if_pos rfl]; rfl
          · rw [pk_un (by omega), hI l' c' hl' hc', if_neg e']
            by_cases e2 : dc_pl (T l') c < dc_pl (T l') c'
            · have : c' ∈ T l' := Classical.byContradiction fun k => by
                have := (dc_pl_mem _ _).mpr k
                omega
              have := (hT l' hl).2 c' this
              rw [if_pos ⟨rfl, this, e2⟩, if_pos e2]
            · rw [if_neg (fun y => e2 y.2.2), if_neg e2]
        · rw [dc_tu_ne T _ e, pk_un (by omega), hI l' c' hl' hc', if_neg (fun y => e y.1)]
      · simp only [wX_finish_10]
        refine br_t (nI_le (Nat.le_refl _) (by omega)) ?_
        rw [nI_clamp (by omega)]
        exact ⟨vp_in_nI (by omega) (by omega), nm_e ⟨vp_in_nI (by omega) (by omega), nm_e ⟨vp_in_nI (by omega) (by omega), nm_e hp⟩⟩⟩
theorem dx_finish {l c : Nat} (hP : dc_PX T tp) (hT : dc_TT N T) (hN : N ≤ 4) (hl : l < 4) (hc : c < N) (hcT : c ∈ T l) : ∃ tp', dc_PX (dc_tu T l (dc_rm (T l) c)) tp' ∧ ∀ post : SX → Prop, post (nI N, nI L, m, ow, sm, sd, wc, wv, wk, cs, cv, (upd ta (l * 4 + c) 0), (upd tO (l * 4 + c) 0), tp', lr, pv, br, fg) → wpX_finish post (nI N, nI L, m, ow, sm, sd, wc, wv, wk, cs, cv, ta, tO, tp, lr, pv, br, fg) (nI l) (nI (l * 4 + c)) := by
  obtain ⟨tp', g1, g2⟩ := dx_finish10 (L := L) (m := m) (ow := ow) (sm := sm) (sd := sd) (wc := wc) (wv := wv) (wk := wk) (cs := cs) (cv := cv) (ta := ta) (tO := tO) (lr := lr) (pv := pv) (br := br) (fg := fg) hT hN hl hc hcT (N + 1) 0 tp (by omega) (by omega) (by
    intro l' c' hl' hc'
    rw [hP l' c' hl' hc', if_neg (by omega)])
  refine ⟨tp', g1, fun post hp => ?_⟩
  simp only [wpX_finish]
  rw [nI_clamp (by omega)]
  exact ⟨vp_in_nI (by omega) (by omega), nm_r (hP l c hl (by omega)) ⟨N + 1, g2 post hp⟩⟩
theorem dx_perf {l c : Nat} (v : Int32) (hl : l < 4) (hc : c < 4) {post : SX → Prop} (h : post (nI N, nI L, m, ow, sm, sd, (upd wc l (wc l + 1)), (upd wv (l * 8 + dc_m8 (wc l)) v), (upd wk (l * 8 + dc_m8 (wc l)) (nI c)), cs, (upd cv (l * 4 + c) v), ta, tO, tp, lr, pv, br, fg)) : wpX_performWrite post (nI N, nI L, m, ow, sm, sd, wc, wv, wk, cs, cv, ta, tO, tp, lr, pv, br, fg) (nI l) (nI c) v := by
  have hm := dc_m8_lt (wc l)
  simp only [wpX_performWrite]
  rw [nI_clamp (n := l) (by omega), dc_and7, dc_i8, dc_i4, nI_clamp (n := l * 4 + c) (by omega)]
  refine ⟨vp_in_nI (by omega) (by omega), nm_e ?_⟩
  rw [nI_clamp (n := l * 8 + dc_m8 (wc l)) (by omega)]
  exact ⟨vp_in_nI (by omega) (by omega), nm_e ⟨vp_in_nI (by omega) (by omega), nm_e ⟨vp_in_nI (by omega) (by omega), vp_in_nI (by omega) (by omega), nm_e ⟨vp_in_nI (by omega) (by omega), nm_e h⟩⟩⟩⟩
def dc_iv (F : Nat → Nat → Nat → Nat → Bool) (s : Nat → Bool) (j l c : Nat) : Nat → Nat → Nat → Nat → Bool := fun l' c' k' p' => if l' = l ∧ c' = c ∧ k' = 2 ∧ p' < j ∧ p' ≠ c ∧ s p' = true then true else F l' c' k' p'
theorem dc_iv_0 (F : Nat → Nat → Nat → Nat → Bool) (s : Nat → Bool) (l c a b k p : Nat) : dc_iv F s 0 l c a b k p = F a b k p := if_neg (by omega)
theorem dc_iv_no (F : Nat → Nat → Nat → Nat → Bool) (s : Nat → Bool) (j l c : Nat) (h : j = c ∨ s j = false) (a b k p : Nat) : dc_iv F s j l c a b k p = dc_iv F s (j + 1) l c a b k p := by
  unfold dc_iv
  by_cases e : a = l ∧ b = c ∧ k = 2 ∧ p < j ∧ p ≠ c ∧ s p = true
  · rw [if_pos e, if_pos ⟨e.1, e.2.1, e.2.2.1, by omega, e.2.2.2.2.1, e.2.2.2.2.2⟩]
  · rw [if_neg e, if_neg]
    rintro ⟨h1, h2, h3, h4, h5, h6⟩
    by_cases pj : p = j
    · subst pj
      rcases h with h | h
      · exact h5 h
      · rw [h] at h6; cases h6
    · exact e ⟨h1, h2, h3, by omega, h5, h6⟩
theorem dc_iv_yes (F : Nat → Nat → Nat → Nat → Bool) (s : Nat → Bool) (j l c : Nat) (h1 : j ≠ c) (h2 : s j = true) (a b k p : Nat) : dc_set (dc_iv F s j l c) l c 2 j true a b k p = dc_iv F s (j + 1) l c a b k p := by
  unfold dc_set dc_iv
  by_cases e : a = l ∧ b = c ∧ k = 2 ∧ p = j
  · obtain ⟨rfl, rfl, rfl, rfl⟩ := e
    rw [if_pos ⟨rfl, rfl, rfl, rfl⟩, if_pos ⟨rfl, rfl, rfl, by omega, h1, h2⟩]
  · rw [if_neg e]
    by_cases e' : a = l ∧ b = c ∧ k = 2 ∧ p < j ∧ p ≠ c ∧ s p = true
    · rw [if_pos e', if_pos ⟨e'.1, e'.2.1, e'.2.2.1, by omega, e'.2.2.2.2.1, e'.2.2.2.2.2⟩]
    · rw [if_neg e', if_neg]
      rintro ⟨g1, g2, g3, g4, g5, g6⟩
      by_cases pj : p = j
      · exact e ⟨g1, g2, g3, pj⟩
      · exact e' ⟨g1, g2, g3, by omega, g5, g6⟩
theorem dx_inv9 {l c : Nat} (s : Nat → Bool) (hs : sm l = dc_mk s) (hN : N ≤ 4) (hl : l < 4) (hc : c < 4) : ∀ (n j : Nat) (fg : Nat → Int32), N < n + j → j ≤ N → dc_FX (dc_iv F s j l c) fg → ∃ fg', dc_FX (dc_iv F s N l c) fg' ∧ ∀ post : SX → Prop, post (nI N, nI L, m, ow, sm, sd, wc, wv, wk, cs, cv, ta, tO, tp, lr, pv, br, fg') → wX_sendInvalidations_9 post (nI l) (nI c) (nI (l * 4 + c)) n (nI j) (nI N) (nI L) m ow sm sd wc wv wk cs cv ta tO tp lr pv br fg := by
  intro n
  induction n with
  | zero => intro j fg h1 h2; omega
  | succ n ih =>
    intro j fg h1 h2 hI
    by_cases hj : j < N
    · by_cases e : j = c
      · obtain ⟨fg', g1, g2⟩ := ih (j + 1) fg (by omega) (by omega) (dc_FX_congr hI (dc_iv_no F s j l c (Or.inl e)))
        refine ⟨fg', g1, fun post hp => ?_⟩
        simp only [wX_sendInvalidations_9]
        exact br_f (nI_ge hj (by omega)) (br_t (congrArg nI e) (nm_r (nI_1 j) (g2 post hp)))
      · have ne : ¬ nI j = nI c := by rw [nI_eq (by omega) (by omega)]; exact e
        cases b : s j with
        | false =>
          obtain ⟨fg', g1, g2⟩ := ih (j + 1) fg (by omega) (by omega) (dc_FX_congr hI (dc_iv_no F s j l c (Or.inr b)))
          refine ⟨fg', g1, fun post hp => ?_⟩
          simp only [wX_sendInvalidations_9]
          refine br_f (nI_ge hj (by omega)) (br_f ne ?_)
          rw [nI_clamp (n := l) (by omega), hs]
          exact ⟨vp_in_nI (by omega) (by omega), br_t ((dc_mk_and s (by omega)).mpr b) (nm_r (nI_1 j) (g2 post hp))⟩
        | true =>
          obtain ⟨fg', g1, g2⟩ := ih (j + 1) _ (by omega) (by omega) (dc_FX_congr (dc_FX_or hI hl hc (by decide) (by omega)) (dc_iv_yes F s j l c e b))
          refine ⟨fg', g1, fun post hp => ?_⟩
          simp only [wX_sendInvalidations_9]
          refine br_f (nI_ge hj (by omega)) (br_f ne ?_)
          rw [nI_clamp (n := l) (by omega), hs]
          refine ⟨vp_in_nI (by omega) (by omega), br_f (fun z => ?_) (dx_send 2 (l * 4 + c) j (by decide) (by omega) (nm_r (nI_1 j) (g2 post hp)))⟩
          have := (dc_mk_and s (by omega)).mp z
          rw [b] at this
          cases this
    · have e : j = N := by omega
      subst e
      refine ⟨fg, hI, fun post hp => ?_⟩
      simp only [wX_sendInvalidations_9]
      exact br_t (nI_le (Nat.le_refl _) (by omega)) hp
theorem dx_inv {l c : Nat} (s : Nat → Bool) (hs : sm l = dc_mk s) (hF : dc_FX F fg) (hN : N ≤ 4) (hl : l < 4) (hc : c < 4) : ∃ fg', dc_FX (dc_iv F s N l c) fg' ∧ ∀ post : SX → Prop, post (nI N, nI L, m, ow, sm, sd, wc, wv, wk, cs, cv, ta, tO, tp, lr, pv, br, fg') → wpX_sendInvalidations post (nI N, nI L, m, ow, sm, sd, wc, wv, wk, cs, cv, ta, tO, tp, lr, pv, br, fg) (nI l) (nI c) := by
  obtain ⟨fg', g1, g2⟩ := dx_inv9 (F := F) (L := L) (m := m) (ow := ow) (sm := sm) (sd := sd) (wc := wc) (wv := wv) (wk := wk) (cs := cs) (cv := cv) (ta := ta) (tO := tO) (tp := tp) (lr := lr) (pv := pv) (br := br) s hs hN hl hc (N + 1) 0 fg (by omega) (by omega) (dc_FX_congr hF (fun a b k p => (dc_iv_0 F s l c a b k p).symm))
  refine ⟨fg', g1, fun post hp => ?_⟩
  simp only [wpX_sendInvalidations]
  exact nm_r (dc_i4 l c) ⟨N + 1, g2 post hp⟩
end
end
section
/-! the reference's walks -/
theorem dc_nb1 : vp_nar .boolean 1 = 1 := rfl
theorem dc_nb0 : vp_nar .boolean 0 = 0 := rfl
section
variable {N L : Nat} {m : Int32} {T : Nat → List Nat} {F : Nat → Nat → Nat → Nat → Bool} {S : Nat → Nat → Bool} {ow sd wc tc lv lw tk sh co vo ke pe oP bz ro fy ca : Nat → Int32}
theorem dy_name (k l c p : Nat) {post : Int32 → Prop} (h : post (nI (((l * 5 + c) * 6 + k) * 5 + p))) : wpY_name post (nI N, nI L, m, ow, sd, wc, tc, lv, lw, tk, sh, co, vo, ke, pe, oP, bz, ro, fy, ca) (nI k) (nI l) (nI c) (nI p) := by
  simp only [wpY_name]
  rw [dc_i5, dc_i6, dc_i5]
  exact h
theorem dy_send (k l c p : Nat) (v : Int32) (hl : l < 4) (hc : c < 4) (hk : k < 6) (hp : p < 5) {post : SY → Prop} (h : post (nI N, nI L, m, ow, sd, wc, tc, lv, lw, tk, sh, co, vo, ke, pe, oP, bz, ro, (upd fy (((l * 5 + c) * 6 + k) * 5 + p) 1), (upd ca (((l * 5 + c) * 6 + k) * 5 + p) v))) : wpY_send post (nI N, nI L, m, ow, sd, wc, tc, lv, lw, tk, sh, co, vo, ke, pe, oP, bz, ro, fy, ca) (nI k) (nI l) (nI c) (nI p) v := by
  simp only [wpY_send]
  refine dy_name k l c p ?_
  rw [nI_clamp (by omega), dc_nb1]
  exact ⟨vp_in_nI (by omega) (by omega), nm_e ⟨vp_in_nI (by omega) (by omega), nm_e h⟩⟩
theorem dy_bad {c l : Nat} (hc : c < N) (hl : l < L) (hN : N ≤ 4) (hL : L ≤ 4) {post : Int32 → Prop} (h : post 0) : wpY_bad post (nI N, nI L, m, ow, sd, wc, tc, lv, lw, tk, sh, co, vo, ke, pe, oP, bz, ro, fy, ca) (nI c) (nI l) := by
  simp only [wpY_bad]
  refine br_f (nI_pos (by omega)) (br_f (nI_ge hc (by omega)) ?_)
  simp only [wpY_badLine]
  exact br_f (nI_pos (by omega)) (br_t (nI_lt hl (by omega)) (br_t (by trivial) h))
theorem dy_writing {l c : Nat} (hl : l < 4) (hc : c < 5) {post : Int32 → Prop} (h : post (dc_bI (dc_w (pe (l * 5 + c))))) : wpY_writing post (nI N, nI L, m, ow, sd, wc, tc, lv, lw, tk, sh, co, vo, ke, pe, oP, bz, ro, fy, ca) (nI c) (nI l) := by
  simp only [wpY_writing]
  rw [dc_i5, nI_clamp (by omega)]
  refine ⟨vp_in_nI (by omega) (by omega), nm_e (br_c (fun z => ?_) (fun z => br_c (fun y => ?_) (fun y => ?_)))⟩
  · rw [dc_w_t (Or.inl z)] at h; exact h
  · rw [dc_w_t (Or.inr y)] at h; exact h
  · rw [dc_w_f (fun x => x.elim z y)] at h; exact h
theorem dy_place13 {l c : Nat} (hl : l < 4) (hc : c < 4) {post : Int32 → Prop} : ∀ (B : List Nat) (i n : Nat), i + B.length ≤ 4 → (∀ x, x ∈ B → x < 4) → tc l = nI (i + B.length) → dc_at tk (l * 5 + i) B → B.length < n → post (nI (if dc_pl B c = 0 then 0 else dc_pl B c + i)) → wY_place_13 post (nI c) (nI l) (nI N) (nI L) m ow sd wc tc lv lw tk sh co vo ke pe oP bz ro fy ca n (nI i) := by
  intro B
  induction B with
  | nil =>
    intro i n h1 h2 h3 h4 h5 hp
    obtain ⟨n, rfl⟩ : ∃ k, n = k + 1 := ⟨n - 1, by omega⟩
    simp only [wY_place_13]
    have hp' : post 0 := hp
    by_cases e : 4 ≤ i
    · exact br_t (nI_le (a := 4) e (by simp at h1; omega)) hp'
    · refine br_f (nI_ge (b := 4) (by omega) (by decide)) ?_
      rw [nI_clamp (n := l) (by omega), h3]
      exact ⟨vp_in_nI hl (by decide), br_t (nI_le (by simp) (by omega)) hp'⟩
  | cons b B ih =>
    intro i n h1 h2 h3 h4 h5 hp
    rw [List.length_cons] at h1 h3 h5
    obtain ⟨n, rfl⟩ : ∃ k, n = k + 1 := ⟨n - 1, by omega⟩
    have hb : b < 4 := h2 b List.mem_cons_self
    simp only [wY_place_13]
    refine br_f (nI_ge (b := 4) (by omega) (by decide)) ?_
    rw [nI_clamp (n := l) (by omega), h3, dc_i5, nI_clamp (n := l * 5 + i) (by omega), h4.1]
    refine ⟨vp_in_nI hl (by decide), br_f (nI_ge (by omega) (by omega)) ⟨vp_in_nI (by omega) (by decide), ?_⟩⟩
    rw [dc_pl_cons] at hp
    by_cases e : b = c
    · rw [if_pos e, if_neg (by decide), Nat.add_comm, ← nI_1] at hp
      exact br_t (congrArg nI e) hp
    · rw [if_neg e] at hp
      refine br_f (by rw [nI_eq (by omega) (by omega)]; exact e) (nm_r (nI_1 i) (ih (i + 1) n (by omega) (fun x hx => h2 x (List.mem_cons_of_mem _ hx)) (by rw [h3]; exact congrArg nI (by omega)) h4.2 (by omega) ?_))
      by_cases z : dc_pl B c = 0
      · rw [if_pos z] at hp ⊢; exact hp
      · rw [if_neg z, if_neg (by omega)] at hp
        rw [if_neg z, show dc_pl B c + (i + 1) = dc_pl B c + 1 + i by omega]; exact hp
theorem dy_place {l c : Nat} (hP : dc_PY T tc tk) (hT : dc_TT N T) (hc : c < N) (hl : l < L) (hN : N ≤ 4) (hL : L ≤ 4) {post : Int32 → Prop} (h : post (nI (dc_pl (T l) c))) : wpY_place post (nI N, nI L, m, ow, sd, wc, tc, lv, lw, tk, sh, co, vo, ke, pe, oP, bz, ro, fy, ca) (nI c) (nI l) := by
  have g := hP l (by omega)
  have k := dc_len_le (hT l (by omega)).1 (hT l (by omega)).2
  simp only [wpY_place]
  refine dy_bad hc hl hN hL (br_t rfl ⟨(T l).length + 1, ?_⟩)
  refine dy_place13 (by omega) (by omega) (T l) 0 _ (by omega) (fun x hx => by have := (hT l (by omega)).2 x hx; omega) (by rw [g.1, Nat.zero_add]) g.2 (by omega) ?_
  have e : (if dc_pl (T l) c = 0 then 0 else dc_pl (T l) c + 0) = dc_pl (T l) c := by split <;> omega
  rw [e]; exact h
theorem dy_before {l a b : Nat} (hP : dc_PY T tc tk) (hT : dc_TT N T) (ha : a < N) (hb : b < N) (hl : l < L) (hN : N ≤ 4) (hL : L ≤ 4) {post : Int32 → Prop} (h : post (dc_bI (dc_bf (T l) a b))) : wpY_before post (nI N, nI L, m, ow, sd, wc, tc, lv, lw, tk, sh, co, vo, ke, pe, oP, bz, ro, fy, ca) (nI l) (nI a) (nI b) := by
  have h1 := dc_pl4 hT hN (show l < 4 by omega) a
  have h2 := dc_pl4 hT hN (show l < 4 by omega) b
  simp only [wpY_before]
  refine dy_place hP hT ha hl hN hL (dy_place hP hT hb hl hN hL ?_)
  refine pk_le (dc_pl (T l) a) 0 (fun z => ?_) (fun z => pk_le (dc_pl (T l) b) 0 (fun y => ?_) (fun y => pk_le (dc_pl (T l) b) (dc_pl (T l) a) (fun x => ?_) (fun x => ?_)))
  · rw [dc_bf_f (by omega)] at h; exact h
  · rw [dc_bf_f (by omega)] at h; exact h
  · rw [dc_bf_f (by omega)] at h; exact h
  · rw [dc_bf_t (by omega)] at h; exact h
theorem dy_perf4 {l c : Nat} (v : Int32) (hl : l < 4) (hc : c < 4) : ∀ (i n : Nat) (lv lw : Nat → Int32), i ≤ 7 → i < n → ∃ lv' lw', (∀ l' b, l' < 4 → b < 8 → lv' (l' * 8 + b) = (if l' = l then (if b = 0 then v else if b ≤ i then lv (l * 8 + (b - 1)) else lv (l * 8 + b)) else lv (l' * 8 + b)) ∧ lw' (l' * 8 + b) = (if l' = l then (if b = 0 then nI c else if b ≤ i then lw (l * 8 + (b - 1)) else lw (l * 8 + b)) else lw (l' * 8 + b))) ∧ ∀ post : SY → Prop, post (nI N, nI L, m, ow, sd, (upd wc l (wc l + 1)), tc, lv', lw', tk, sh, co, (upd vo (l * 5 + c) v), ke, pe, oP, bz, ro, fy, ca) → wY_performWrite_4 post (nI c) (nI l) v (nI N) (nI L) m n (nI i) ow sd wc tc lv lw tk sh co vo ke pe oP bz ro fy ca := by
  intro i
  induction i with
  | zero =>
    intro n lv lw h1 h2
    obtain ⟨n, rfl⟩ : ∃ k, n = k + 1 := ⟨n - 1, by omega⟩
    refine ⟨upd lv (l * 8) v, upd lw (l * 8) (nI c), ?_, fun post hp => ?_⟩
    · intro l' b hl' hb
      by_cases e : l' = l
      · subst e
        rw [if_pos rfl, if_pos rfl]
        by_cases b0 : b = 0
        · subst b0
          exact ⟨pk_us, pk_us⟩
        · rw [if_neg b0, if_neg b0, if_neg (by omega), if_neg (by omega)]
          exact ⟨pk_un (by omega), pk_un (by omega)⟩
      · rw [if_neg e, if_neg e]
        exact ⟨pk_un (by omega), pk_un (by omega)⟩
    · simp only [wY_performWrite_4]
      refine br_t (by decide) ?_
      rw [dc_j8, dc_i5, nI_clamp (n := l * 8) (by omega), nI_clamp (n := l) (by omega), nI_clamp (n := l * 5 + c) (by omega)]
      exact ⟨vp_in_nI (by omega) (by decide), nm_e ⟨vp_in_nI (by omega) (by decide), nm_e ⟨vp_in_nI (by omega) (by decide), vp_in_nI (by omega) (by decide), nm_e ⟨vp_in_nI (by omega) (by decide), nm_e hp⟩⟩⟩⟩
  | succ i ih =>
    intro n lv lw h1 h2
    obtain ⟨n, rfl⟩ : ∃ k, n = k + 1 := ⟨n - 1, by omega⟩
    obtain ⟨lv', lw', g1, g2⟩ := ih n (upd lv (l * 8 + (i + 1)) (lv (l * 8 + i))) (upd lw (l * 8 + (i + 1)) (lw (l * 8 + i))) (by omega) (by omega)
    refine ⟨lv', lw', ?_, fun post hp => ?_⟩
    · intro l' b hl' hb
      obtain ⟨a1, a2⟩ := g1 l' b hl' hb
      rw [a1, a2]
      by_cases e : l' = l
      · subst e
        simp only [if_pos]
        by_cases b0 : b = 0
        · simp only [if_pos b0]; exact ⟨trivial, trivial⟩
        · simp only [if_neg b0]
          by_cases bi : b ≤ i
          · simp only [if_pos bi, if_pos (show b ≤ i + 1 by omega)]
            exact ⟨pk_un (by omega), pk_un (by omega)⟩
          · simp only [if_neg bi]
            by_cases b1 : b = i + 1
            · subst b1
              simp only [if_pos (Nat.le_refl _)]
              exact ⟨pk_us, pk_us⟩
            · simp only [if_neg (show ¬ b ≤ i + 1 by omega)]
              exact ⟨pk_un (by omega), pk_un (by omega)⟩
      · simp only [if_neg e]
        exact ⟨pk_un (by omega), pk_un (by omega)⟩
    · simp only [wY_performWrite_4]
      refine br_f (nI_nle (by omega) (by omega)) ?_
      rw [dc_i8, show nI (l * 8 + (i + 1)) - 1 = nI (l * 8 + i) from nI_pred (l * 8 + i), nI_clamp (n := l * 8 + i) (by omega), nI_clamp (n := l * 8 + (i + 1)) (by omega)]
      exact ⟨vp_in_nI (by omega) (by decide), vp_in_nI (by omega) (by decide), nm_e ⟨vp_in_nI (by omega) (by decide), vp_in_nI (by omega) (by decide), nm_e (nm_r (pk_m1 i) (g2 post hp))⟩⟩
theorem dy_perf {l c : Nat} (v : Int32) (hl : l < 4) (hc : c < 4) : ∃ lv' lw', (∀ l' b, l' < 4 → b < 8 → lv' (l' * 8 + b) = (if l' = l then (if b = 0 then v else lv (l * 8 + (b - 1))) else lv (l' * 8 + b)) ∧ lw' (l' * 8 + b) = (if l' = l then (if b = 0 then nI c else lw (l * 8 + (b - 1))) else lw (l' * 8 + b))) ∧ ∀ post : SY → Prop, post (nI N, nI L, m, ow, sd, (upd wc l (wc l + 1)), tc, lv', lw', tk, sh, co, (upd vo (l * 5 + c) v), ke, pe, oP, bz, ro, fy, ca) → wpY_performWrite post (nI N, nI L, m, ow, sd, wc, tc, lv, lw, tk, sh, co, vo, ke, pe, oP, bz, ro, fy, ca) (nI c) (nI l) v := by
  obtain ⟨lv', lw', g1, g2⟩ := dy_perf4 (N := N) (L := L) (m := m) (ow := ow) (sd := sd) (wc := wc) (tc := tc) (tk := tk) (sh := sh) (co := co) (vo := vo) (ke := ke) (pe := pe) (oP := oP) (bz := bz) (ro := ro) (fy := fy) (ca := ca) v hl hc 7 8 lv lw (by decide) (by decide)
  refine ⟨lv', lw', ?_, fun post hp => ?_⟩
  · intro l' b hl' hb
    obtain ⟨a1, a2⟩ := g1 l' b hl' hb
    rw [a1, a2]
    simp only [if_pos (show b ≤ 7 by omega)]
    exact ⟨trivial, trivial⟩
  · simp only [wpY_performWrite]
    exact ⟨8, g2 post hp⟩
theorem dy_comp62 {l c r : Nat} (hl : l < 4) (hc : c < 4) {post : Int32 → SY → Prop} (h : post 3 (nI N, nI L, m, ow, sd, wc, (upd tc l (nI r)), lv, lw, tk, sh, co, vo, ke, (upd pe (l * 5 + c) 0), (upd oP (l * 5 + c) 0), bz, ro, fy, ca)) : wY_complete_62 post (nI c) (nI l) (nI r) (nI N) (nI L) m ow sd wc tc lv lw tk sh co vo ke pe oP bz ro fy ca := by
  simp only [wY_complete_62]
  rw [dc_i5, nI_clamp (n := l) (by omega), nI_clamp (n := l * 5 + c) (by omega)]
  exact ⟨vp_in_nI (by omega) (by decide), nm_e ⟨vp_in_nI (by omega) (by decide), nm_e ⟨vp_in_nI (by omega) (by decide), nm_e h⟩⟩⟩
theorem dy_comp5 {l c : Nat} (hl : l < 4) (hc : c < 4) : ∀ (B R : List Nat) (i n : Nat) (tk : Nat → Int32), i + B.length ≤ 4 → R.length ≤ i → (∀ x, x ∈ B → x < 4) → tc l = nI (i + B.length) → dc_at tk (l * 5) R → dc_at tk (l * 5 + i) B → B.length < n → ∃ tk', dc_at tk' (l * 5) (R ++ dc_rm B c) ∧ (∀ q, q < l * 5 ∨ l * 5 + 5 ≤ q → tk' q = tk q) ∧ ∀ post : Int32 → SY → Prop, post 3 (nI N, nI L, m, ow, sd, wc, (upd tc l (nI (R ++ dc_rm B c).length)), lv, lw, tk', sh, co, vo, ke, (upd pe (l * 5 + c) 0), (upd oP (l * 5 + c) 0), bz, ro, fy, ca) → wY_complete_5 post (nI c) (nI l) (nI N) (nI L) m n (nI R.length) (nI i) ow sd wc tc lv lw tk sh co vo ke pe oP bz ro fy ca := by
  intro B
  induction B with
  | nil =>
    intro R i n tk h1 hR h2 h3 h4 h5 h6
    obtain ⟨n, rfl⟩ : ∃ k, n = k + 1 := ⟨n - 1, by omega⟩
    have e0 : R ++ dc_rm [] c = R := List.append_nil R
    rw [e0]
    refine ⟨tk, h4, fun _ _ => rfl, fun post hp => ?_⟩
    simp only [wY_complete_5]
    by_cases e : 4 ≤ i
    · exact br_t (nI_le (a := 4) e (by simp at h1; omega)) (dy_comp62 hl hc hp)
    · refine br_f (nI_ge (b := 4) (by omega) (by decide)) ?_
      rw [nI_clamp (n := l) (by omega), h3]
      exact ⟨vp_in_nI hl (by decide), br_t (nI_le (by simp) (by omega)) (dy_comp62 hl hc hp)⟩
  | cons b B ih =>
    intro R i n tk h1 hR h2 h3 h4 h5 h6
    rw [List.length_cons] at h1 h3 h6
    obtain ⟨n, rfl⟩ : ∃ k, n = k + 1 := ⟨n - 1, by omega⟩
    have hb : b < 4 := h2 b List.mem_cons_self
    rw [dc_rm_cons]
    by_cases e : b = c
    · rw [if_pos e]
      obtain ⟨tk', g1, g2, g3⟩ := ih R (i + 1) n tk (by omega) (by omega) (fun x hx => h2 x (List.mem_cons_of_mem _ hx)) (by rw [h3]; exact congrArg nI (by omega)) h4 h5.2 (by omega)
      refine ⟨tk', g1, g2, fun post hp => ?_⟩
      simp only [wY_complete_5]
      refine br_f (nI_ge (b := 4) (by omega) (by decide)) ?_
      rw [nI_clamp (n := l) (by omega), h3, dc_i5, nI_clamp (n := l * 5 + i) (by omega), h5.1]
      exact ⟨vp_in_nI hl (by decide), br_f (nI_ge (by omega) (by omega)) ⟨vp_in_nI (by omega) (by decide), nm_e (br_t (congrArg nI e) (nm_r (nI_1 i) (g3 post hp)))⟩⟩
    · rw [if_neg e]
      obtain ⟨tk', g1, g2, g3⟩ := ih (R ++ [b]) (i + 1) n (upd tk (l * 5 + R.length) (nI b)) (by omega) (by rw [List.length_append, List.length_singleton]; omega) (fun x hx => h2 x (List.mem_cons_of_mem _ hx)) (by rw [h3]; exact congrArg nI (by omega)) (by
        rw [dc_at_app]
        exact ⟨dc_at_congr R _ (fun q _ hq => pk_un (by omega)) h4, pk_us, trivial⟩) (dc_at_congr B _ (fun q hq _ => pk_un (by omega)) h5.2) (by omega)
      have ea : R ++ [b] ++ dc_rm B c = R ++ b :: dc_rm B c := by rw [List.append_assoc, List.singleton_append]
      rw [ea] at g1 g3
      refine ⟨tk', g1, fun q hq => (g2 q hq).trans (pk_un (by omega)), fun post hp => ?_⟩
      simp only [wY_complete_5]
      refine br_f (nI_ge (b := 4) (by omega) (by decide)) ?_
      rw [nI_clamp (n := l) (by omega), h3, dc_i5, nI_clamp (n := l * 5 + i) (by omega), h5.1]
      refine ⟨vp_in_nI hl (by decide), br_f (nI_ge (by omega) (by omega)) ⟨vp_in_nI (by omega) (by decide), nm_e (br_f (by rw [nI_eq (by omega) (by omega)]; exact e) ?_)⟩⟩
      rw [dc_i5, nI_clamp (n := l * 5 + R.length) (by omega)]
      refine ⟨vp_in_nI (by omega) (by decide), nm_e (nm_r (nI_1 _) (nm_r (nI_1 i) ?_))⟩
      have := g3 post hp
      rw [List.length_append, List.length_singleton] at this
      exact this
theorem dy_comp {l c : Nat} (hP : dc_PY T tc tk) (hT : dc_TT N T) (hN : N ≤ 4) (hl : l < 4) (hc : c < 4) : ∃ tk', dc_PY (dc_tu T l (dc_rm (T l) c)) (upd tc l (nI (dc_rm (T l) c).length)) tk' ∧ ∀ post : Int32 → SY → Prop, post 3 (nI N, nI L, m, ow, sd, wc, (upd tc l (nI (dc_rm (T l) c).length)), lv, lw, tk', sh, co, vo, ke, (upd pe (l * 5 + c) 0), (upd oP (l * 5 + c) 0), bz, ro, fy, ca) → wpY_complete post (nI N, nI L, m, ow, sd, wc, tc, lv, lw, tk, sh, co, vo, ke, pe, oP, bz, ro, fy, ca) (nI c) (nI l) := by
  have g := hP l hl
  have k := dc_len_le (hT l hl).1 (hT l hl).2
  obtain ⟨tk', g1, g2, g3⟩ := dy_comp5 (N := N) (L := L) (m := m) (ow := ow) (sd := sd) (wc := wc) (tc := tc) (lv := lv) (lw := lw) (sh := sh) (co := co) (vo := vo) (ke := ke) (pe := pe) (oP := oP) (bz := bz) (ro := ro) (fy := fy) (ca := ca) hl hc (T l) [] 0 ((T l).length + 1) tk (by omega) (Nat.le_refl _) (fun x hx => by have := (hT l hl).2 x hx; omega) (by rw [g.1, Nat.zero_add]) trivial g.2 (by omega)
  refine ⟨tk', ?_, fun post hp => ?_⟩
  · intro l' hl'
    by_cases e : l' = l
    · subst e
      rw [dc_tu_eq, pk_us]
      exact ⟨rfl, g1⟩
    · rw [dc_tu_ne T _ e, pk_un e]
      have g' := hP l' hl'
      have k' := dc_len_le (hT l' hl').1 (hT l' hl').2
      exact ⟨g'.1, dc_at_congr _ _ (fun q h1 h2 => g2 q (by omega)) g'.2⟩
  · simp only [wpY_complete]
    exact ⟨(T l).length + 1, g3 post hp⟩
theorem dy_PY_app {l c : Nat} (hP : dc_PY T tc tk) (hT : dc_TT N T) (hN : N ≤ 4) (hl : l < 4) (hc : c < N) (hcT : ¬ c ∈ T l) : dc_PY (dc_tu T l (T l ++ [c])) (upd tc l (nI ((T l).length + 1))) (upd tk (l * 5 + (T l).length) (nI c)) := by
  have k := dc_len_lt (hT l hl).1 (hT l hl).2 hc hcT
  intro l' hl'
  by_cases e : l' = l
  · subst e
    rw [dc_tu_eq, pk_us, List.length_append, List.length_singleton, dc_at_app]
    exact ⟨rfl, dc_at_congr _ _ (fun q _ hq => pk_un (by omega)) (hP l' hl').2, pk_us, trivial⟩
  · rw [dc_tu_ne T _ e, pk_un e]
    have k' := dc_len_le (hT l' hl').1 (hT l' hl').2
    exact ⟨(hP l' hl').1, dc_at_congr _ _ (fun q h1 h2 => pk_un (by omega)) (hP l' hl').2⟩
theorem dy_take211 {l c j : Nat} (hl : l < 4) (hj : j < 4) {post : SY → Prop} {J : Int32 → Int32 → Int32 → Int32 → (Nat → Int32) → (Nat → Int32) → (Nat → Int32) → (Nat → Int32) → (Nat → Int32) → (Nat → Int32) → (Nat → Int32) → (Nat → Int32) → (Nat → Int32) → (Nat → Int32) → (Nat → Int32) → (Nat → Int32) → (Nat → Int32) → (Nat → Int32) → (Nat → Int32) → (Nat → Int32) → (Nat → Int32) → Prop} (h : J (nI (j + 1)) (nI N) (nI L) m ow sd wc tc lv lw tk (upd sh (l * 5 + j) 0) co vo ke pe oP bz ro fy ca) : wY_take_211 post J (nI l) (nI c) (nI j) (nI N) (nI L) m ow sd wc tc lv lw tk sh co vo ke pe oP bz ro fy ca := by
  simp only [wY_take_211]
  rw [dc_i5, nI_clamp (n := l * 5 + j) (by omega), dc_nb0]
  exact ⟨vp_in_nI (by omega) (by decide), nm_e (nm_r (nI_1 j) h)⟩
theorem dc_SY_step {l j : Nat} {S : Nat → Nat → Bool} {sh : Nat → Int32} (hl : l < 4) (hj : j < 4) (h : dc_SY (fun l' c' => if l' = l ∧ c' < j then false else S l' c') sh) : dc_SY (fun l' c' => if l' = l ∧ c' < j + 1 then false else S l' c') (upd sh (l * 5 + j) 0) := by
  intro l' c' hl' hc'
  by_cases e : l' = l ∧ c' = j
  · obtain ⟨rfl, rfl⟩ := e
    rw [pk_us]
    dsimp only
    rw [if_pos ⟨rfl, by omega⟩]; rfl
  · rw [pk_un (by omega), h l' c' hl' hc']
    dsimp only
    by_cases z : l' = l ∧ c' < j
    · rw [if_pos z, if_pos ⟨z.1, by omega⟩]
    · rw [if_neg z, if_neg (by omega)]
theorem dy_take172 {l c : Nat} (hS : ∀ c, c < 5 → S l c = true → c < N) (hN : N ≤ 4) (hl : l < 4) (hc : c < 4) : ∀ (n j : Nat) (sh fy ca : Nat → Int32), N < n + j → j ≤ N → dc_FY (dc_iv F (S l) j l c) fy → dc_SY (fun l' c' => if l' = l ∧ c' < j then false else S l' c') sh → ∃ sh' fy' ca', dc_FY (dc_iv F (S l) N l c) fy' ∧ dc_SY (fun l' c' => if l' = l then false else S l' c') sh' ∧ (∀ a b p, a < 4 → b < 4 → p < 5 → ca' (((a * 5 + b) * 6 + 3) * 5 + p) = ca (((a * 5 + b) * 6 + 3) * 5 + p)) ∧ ∀ post : SY → Prop, post (nI N, nI L, m, (upd ow l (nI c)), sd, wc, tc, lv, lw, tk, sh', co, vo, ke, pe, oP, bz, ro, fy', ca') → wY_take_172 post (nI l) (nI c) n (nI j) (nI N) (nI L) m ow sd wc tc lv lw tk sh co vo ke pe oP bz ro fy ca := by
  intro n
  induction n with
  | zero => intro j sh fy ca h1 h2; omega
  | succ n ih =>
    intro j sh fy ca h1 h2 hF hS'
    by_cases hj : j < N
    · have es := hS' l j hl (by omega)
      dsimp only at es
      rw [if_neg (by omega)] at es
      cases b : S l j with
      | false =>
        obtain ⟨sh', fy', ca', g1, g2, g3, g4⟩ := ih (j + 1) (upd sh (l * 5 + j) 0) fy ca (by omega) (by omega) (dc_FY_congr hF (dc_iv_no F (S l) j l c (Or.inr b))) (dc_SY_step hl (by omega) hS')
        refine ⟨sh', fy', ca', g1, g2, g3, fun post hp => ?_⟩
        rw [b] at es
        simp only [wY_take_172]
        refine br_f (nI_ge hj (by omega)) ?_
        rw [dc_i5, nI_clamp (n := l * 5 + j) (by omega)]
        exact ⟨vp_in_nI (by omega) (by decide), br_t es (dy_take211 hl (by omega) (g4 post hp))⟩
      | true =>
        have en : ¬ sh (l * 5 + j) = 0 := by rw [es, b]; decide
        by_cases e : j = c
        · obtain ⟨sh', fy', ca', g1, g2, g3, g4⟩ := ih (j + 1) (upd sh (l * 5 + j) 0) fy ca (by omega) (by omega) (dc_FY_congr hF (dc_iv_no F (S l) j l c (Or.inl e))) (dc_SY_step hl (by omega) hS')
          refine ⟨sh', fy', ca', g1, g2, g3, fun post hp => ?_⟩
          simp only [wY_take_172]
          refine br_f (nI_ge hj (by omega)) ?_
          rw [dc_i5, nI_clamp (n := l * 5 + j) (by omega)]
          exact ⟨vp_in_nI (by omega) (by decide), br_f en (br_t (congrArg nI e) (dy_take211 hl (by omega) (g4 post hp)))⟩
        · obtain ⟨sh', fy', ca', g1, g2, g3, g4⟩ := ih (j + 1) (upd sh (l * 5 + j) 0) (upd fy (((l * 5 + c) * 6 + 2) * 5 + j) 1) (upd ca (((l * 5 + c) * 6 + 2) * 5 + j) 0) (by omega) (by omega) (dc_FY_congr (dc_FY_set hF hl hc (by decide) (by omega) rfl) (dc_iv_yes F (S l) j l c e b)) (dc_SY_step hl (by omega) hS')
          refine ⟨sh', fy', ca', g1, g2, fun a b' p ha hb' hp => (g3 a b' p ha hb' hp).trans (pk_un (by omega)), fun post hp => ?_⟩
          simp only [wY_take_172]
          refine br_f (nI_ge hj (by omega)) ?_
          rw [dc_i5, nI_clamp (n := l * 5 + j) (by omega)]
          exact ⟨vp_in_nI (by omega) (by decide), br_f en (br_f (by rw [nI_eq (by omega) (by omega)]; exact e) (dy_send 2 l c j 0 hl hc (by decide) (by omega) (dy_take211 hl (by omega) (g4 post hp))))⟩
    · have e : j = N := by omega
      subst e
      refine ⟨sh, fy, ca, hF, ?_, fun _ _ _ _ _ _ => rfl, fun post hp => ?_⟩
      · intro l' c' hl' hc'
        rw [hS' l' c' hl' hc']
        dsimp only
        by_cases z : l' = l
        · subst z
          rw [if_pos rfl]
          by_cases y : c' < j
          · rw [if_pos ⟨rfl, y⟩]
          · rw [if_neg (fun x => y x.2)]
            cases w : S l' c' with
            | false => rfl
            | true => exact absurd (hS c' (by omega) w) y
        · rw [if_neg z, if_neg (fun x => z x.1)]
      · simp only [wY_take_172]
        refine br_t (nI_le (Nat.le_refl _) (by omega)) ?_
        rw [nI_clamp (n := l) (by omega)]
        exact ⟨vp_in_nI hl (by decide), nm_e hp⟩
end
end
section
/-! both sides in step: arguments, fullness, the states of messages -/
section
variable {N L : Nat} {m : Int32} {T : Nat → List Nat} {F : Nat → Nat → Nat → Nat → Bool} {S : Nat → Nat → Bool} {ow sm sd wc wv wk cs cv ta tO tp lr pv br fg tc lv lw tk sh co vo ke pe oP bz ro fy ca : Nat → Int32}
theorem lk_line (v1 : Int32) (hL : L ≤ 4) : (∃ l, l < L ∧ v1 = nI l ∧ (∀ post : Int32 → Prop, post 1 → wpX_goodLine post (nI N, nI L, m, ow, sm, sd, wc, wv, wk, cs, cv, ta, tO, tp, lr, pv, br, fg) v1) ∧ (∀ post : Int32 → Prop, post 0 → wpY_badLine post (nI N, nI L, m, ow, sd, wc, tc, lv, lw, tk, sh, co, vo, ke, pe, oP, bz, ro, fy, ca) v1)) ∨ ((∀ post : Int32 → Prop, post 0 → wpX_goodLine post (nI N, nI L, m, ow, sm, sd, wc, wv, wk, cs, cv, ta, tO, tp, lr, pv, br, fg) v1) ∧ (∀ post : Int32 → Prop, post 1 → wpY_badLine post (nI N, nI L, m, ow, sd, wc, tc, lv, lw, tk, sh, co, vo, ke, pe, oP, bz, ro, fy, ca) v1)) := by
  simp only [wpX_goodLine, wpY_badLine]
  by_cases z : v1 < 0
  · exact Or.inr ⟨fun _ h => br_t z h, fun _ h => br_t z h⟩
  · obtain ⟨l, h1, rfl⟩ := nI_of z
    by_cases y : l < L
    · exact Or.inl ⟨l, y, rfl, fun _ h => br_f z (br_f (nI_ge y (by omega)) h), fun _ h => br_f z (br_t (nI_lt y (by omega)) h)⟩
    · exact Or.inr ⟨fun _ h => br_f z (br_t (nI_le (by omega) h1) h), fun _ h => br_f z (br_f (nI_nlt (by omega) h1) h)⟩
theorem lk_cell (v1 v2 : Int32) (hN : N ≤ 4) (hL : L ≤ 4) : (∃ c l, c < N ∧ l < L ∧ v1 = nI c ∧ v2 = nI l ∧ (∀ post : Int32 → Prop, post 1 → wpX_goodCell post (nI N, nI L, m, ow, sm, sd, wc, wv, wk, cs, cv, ta, tO, tp, lr, pv, br, fg) v1 v2) ∧ (∀ post : Int32 → Prop, post 0 → wpY_bad post (nI N, nI L, m, ow, sd, wc, tc, lv, lw, tk, sh, co, vo, ke, pe, oP, bz, ro, fy, ca) v1 v2)) ∨ ((∀ post : Int32 → Prop, post 0 → wpX_goodCell post (nI N, nI L, m, ow, sm, sd, wc, wv, wk, cs, cv, ta, tO, tp, lr, pv, br, fg) v1 v2) ∧ (∀ post : Int32 → Prop, post 1 → wpY_bad post (nI N, nI L, m, ow, sd, wc, tc, lv, lw, tk, sh, co, vo, ke, pe, oP, bz, ro, fy, ca) v1 v2)) := by
  by_cases z : v1 < 0
  · right
    refine ⟨fun post h => ?_, fun post h => ?_⟩
    · simp only [wpX_goodCell, wpX_goodCache]
      exact br_t z (br_t (by trivial) h)
    · simp only [wpY_bad]
      exact br_t z h
  · obtain ⟨c, h1, rfl⟩ := nI_of z
    by_cases y : c < N
    · rcases lk_line (N := N) (L := L) (m := m) (ow := ow) (sm := sm) (sd := sd) (wc := wc) (wv := wv) (wk := wk) (cs := cs) (cv := cv) (ta := ta) (tO := tO) (tp := tp) (lr := lr) (pv := pv) (br := br) (fg := fg) (tc := tc) (lv := lv) (lw := lw) (tk := tk) (sh := sh) (co := co) (vo := vo) (ke := ke) (pe := pe) (oP := oP) (bz := bz) (ro := ro) (fy := fy) (ca := ca) v2 hL with ⟨l, hl, e, gx, gy⟩ | ⟨gx, gy⟩
      · refine Or.inl ⟨c, l, y, hl, rfl, e, fun post h => ?_, fun post h => ?_⟩
        · simp only [wpX_goodCell, wpX_goodCache]
          exact br_f z (br_f (nI_ge y (by omega)) (br_f (by decide) (gx _ (br_f (by decide) h))))
        · simp only [wpY_bad]
          exact br_f z (br_f (nI_ge y (by omega)) (gy _ (br_t rfl h)))
      · refine Or.inr ⟨fun post h => ?_, fun post h => ?_⟩
        · simp only [wpX_goodCell, wpX_goodCache]
          exact br_f z (br_f (nI_ge y (by omega)) (br_f (by decide) (gx _ (br_t rfl h))))
        · simp only [wpY_bad]
          exact br_f z (br_f (nI_ge y (by omega)) (gy _ (br_f (by decide) h)))
    · refine Or.inr ⟨fun post h => ?_, fun post h => ?_⟩
      · simp only [wpX_goodCell, wpX_goodCache]
        exact br_f z (br_t (nI_le (by omega) h1) (br_t (by trivial) h))
      · simp only [wpY_bad]
        exact br_f z (br_t (nI_le (by omega) h1) h)
theorem lk_full4 {c : Nat} (hQ : dc_Q ta pe) (hL : L ≤ 4) (hc : c < 4) : ∀ (n j : Nat) (x : Int32), L < n + j → j ≤ L → ∃ r : Int32, (r = 0 ∨ r = 1) ∧ (∀ post : Int32 → Prop, post r → wX_isFull_4 post (nI c) (nI N) (nI L) m ow sm sd wc wv wk cs cv ta tO tp lr pv br fg n x (nI j)) ∧ (∀ post : Int32 → Prop, post r → wY_full_4 post (nI c) (nI N) (nI L) m ow sd wc tc lv lw tk sh co vo ke pe oP bz ro fy ca n x (nI j)) := by
  intro n
  induction n with
  | zero => intro j x h1 h2; omega
  | succ n ih =>
    intro j x h1 h2
    by_cases hj : j < L
    · have e := hQ j c (by omega) hc
      by_cases z : ta (j * 4 + c) = 0
      · obtain ⟨r, hr, gx, gy⟩ := ih (j + 1) x (by omega) (by omega)
        refine ⟨r, hr, fun post h => ?_, fun post h => ?_⟩
        · simp only [wX_isFull_4]
          refine br_f (nI_ge hj (by omega)) ?_
          rw [dc_i4, nI_clamp (by omega)]
          exact ⟨vp_in_nI (by omega) (by decide), br_t z (nm_r (nI_1 j) (gx post h))⟩
        · simp only [wY_full_4]
          refine br_f (nI_ge hj (by omega)) ?_
          rw [dc_i5, nI_clamp (by omega), e]
          exact ⟨vp_in_nI (by omega) (by decide), br_t z (nm_r (nI_1 j) (gy post h))⟩
      · obtain ⟨r, hr, gx, gy⟩ := ih (j + 1) (x + 1) (by omega) (by omega)
        refine ⟨r, hr, fun post h => ?_, fun post h => ?_⟩
        · simp only [wX_isFull_4]
          refine br_f (nI_ge hj (by omega)) ?_
          rw [dc_i4, nI_clamp (by omega)]
          exact ⟨vp_in_nI (by omega) (by decide), br_f z (nm_e (nm_r (nI_1 j) (gx post h)))⟩
        · simp only [wY_full_4]
          refine br_f (nI_ge hj (by omega)) ?_
          rw [dc_i5, nI_clamp (by omega), e]
          exact ⟨vp_in_nI (by omega) (by decide), br_f z (nm_e (nm_r (nI_1 j) (gy post h)))⟩
    · have e : j = L := by omega
      subst e
      simp only [wX_isFull_4, wY_full_4]
      by_cases z : x < m
      · exact ⟨0, Or.inl rfl, fun post h => br_t (nI_le (Nat.le_refl _) (by omega)) (br_t z h), fun post h => br_t (nI_le (Nat.le_refl _) (by omega)) (br_t z h)⟩
      · exact ⟨1, Or.inr rfl, fun post h => br_t (nI_le (Nat.le_refl _) (by omega)) (br_f z h), fun post h => br_t (nI_le (Nat.le_refl _) (by omega)) (br_f z h)⟩
theorem lk_full {c : Nat} (hQ : dc_Q ta pe) (hL : L ≤ 4) (hc : c < 4) : ∃ r : Int32, (r = 0 ∨ r = 1) ∧ (∀ post : Int32 → Prop, post r → wpX_isFull post (nI N, nI L, m, ow, sm, sd, wc, wv, wk, cs, cv, ta, tO, tp, lr, pv, br, fg) (nI c)) ∧ (∀ post : Int32 → Prop, post r → wpY_full post (nI N, nI L, m, ow, sd, wc, tc, lv, lw, tk, sh, co, vo, ke, pe, oP, bz, ro, fy, ca) (nI c)) := by
  obtain ⟨r, hr, gx, gy⟩ := lk_full4 (N := N) (L := L) (m := m) (ow := ow) (sm := sm) (sd := sd) (wc := wc) (wv := wv) (wk := wk) (cs := cs) (cv := cv) (ta := ta) (tO := tO) (tp := tp) (lr := lr) (pv := pv) (br := br) (fg := fg) (tc := tc) (lv := lv) (lw := lw) (tk := tk) (sh := sh) (co := co) (vo := vo) (ke := ke) (pe := pe) (oP := oP) (bz := bz) (ro := ro) (fy := fy) (ca := ca) hQ hL hc (L + 1) 0 0 (by omega) (by omega)
  refine ⟨r, hr, fun post h => ?_, fun post h => ?_⟩
  · simp only [wpX_isFull]
    exact ⟨L + 1, gx post h⟩
  · simp only [wpY_full]
    exact ⟨L + 1, gy post h⟩
theorem lk_fwd57 {l c p : Nat} (hX : dc_FX F fg) (hY : dc_FY F fy) (hPX : dc_PX T tp) (hPY : dc_PY T tc tk) (hT : dc_TT N T) (hN : N ≤ 4) (hL : L ≤ 4) (hl : l < L) (hc : c < N) (hp : p < N) : ∀ n j : Nat, N < n + j → j ≤ N → ∃ r : Int32, (r = 0 ∨ r = 1) ∧ (∀ post : Int32 → Prop, post r → wX_forwardHeld_57 post (nI l) (nI c) (nI p) (nI (l * 4 + c)) (nI N) (nI L) m ow sm sd wc wv wk cs cv ta tO tp lr pv br fg n (nI j)) ∧ (∀ post : Int32 → Prop, post r → wY_isHeld_42 post (nI l) (nI c) (nI p) (nI N) (nI L) m ow sd wc tc lv lw tk sh co vo ke pe oP bz ro fy ca n (nI j)) := by
  intro n
  induction n with
  | zero => intro j h1 h2; omega
  | succ n ih =>
    intro j h1 h2
    by_cases hj : j < N
    · have hl4 : l < 4 := by omega
      have ey := hY l j 1 p hl4 (by omega) (by decide) (by omega)
      obtain ⟨r, hr, gx, gy⟩ := ih (j + 1) (by omega) (by omega)
      by_cases e : j = c
      · refine ⟨r, hr, fun post h => ?_, fun post h => ?_⟩
        · simp only [wX_forwardHeld_57]
          exact br_f (nI_ge hj (by omega)) (nm_e (br_t (congrArg nI e) (nm_r (nI_1 j) (gx post h))))
        · simp only [wY_isHeld_42]
          refine br_f (nI_ge hj (by omega)) (dy_name 1 l j p ?_)
          exact br_t (congrArg nI e) (nm_r (nI_1 j) (gy post h))
      · have ne : ¬ nI j = nI c := by rw [nI_eq (by omega) (by omega)]; exact e
        cases b1 : F l j 1 p with
        | false =>
          rw [b1] at ey
          refine ⟨r, hr, fun post h => ?_, fun post h => ?_⟩
          · simp only [wX_forwardHeld_57]
            refine br_f (nI_ge hj (by omega)) (nm_r (dc_i4 l j) (br_f ne ?_))
            refine dx_fly (k := 1) hX hl4 (by omega) (by decide) (by omega) ?_
            rw [b1]
            exact br_t rfl (nm_r (nI_1 j) (gx post h))
          · simp only [wY_isHeld_42]
            refine br_f (nI_ge hj (by omega)) (dy_name 1 l j p ?_)
            rw [nI_clamp (by omega), ey]
            exact br_f ne ⟨vp_in_nI (by omega) (by decide), br_t rfl (nm_r (nI_1 j) (gy post h))⟩
        | true =>
          rw [b1] at ey
          cases b2 : dc_bf (T l) j c with
          | false =>
            refine ⟨r, hr, fun post h => ?_, fun post h => ?_⟩
            · simp only [wX_forwardHeld_57]
              refine br_f (nI_ge hj (by omega)) (nm_r (dc_i4 l j) (br_f ne ?_))
              refine dx_fly (k := 1) hX hl4 (by omega) (by decide) (by omega) ?_
              rw [b1]
              refine br_f (by decide) (dx_ob hPX hT hN hl4 (by omega) (by omega) ?_)
              rw [b2]
              exact br_t rfl (nm_r (nI_1 j) (gx post h))
            · simp only [wY_isHeld_42]
              refine br_f (nI_ge hj (by omega)) (dy_name 1 l j p ?_)
              rw [nI_clamp (by omega), ey]
              refine br_f ne ⟨vp_in_nI (by omega) (by decide), br_f (by decide) (dy_before hPY hT hj hc hl hN hL ?_)⟩
              rw [b2]
              exact br_t rfl (nm_r (nI_1 j) (gy post h))
          | true =>
            refine ⟨1, Or.inr rfl, fun post h => ?_, fun post h => ?_⟩
            · simp only [wX_forwardHeld_57]
              refine br_f (nI_ge hj (by omega)) (nm_r (dc_i4 l j) (br_f ne ?_))
              refine dx_fly (k := 1) hX hl4 (by omega) (by decide) (by omega) ?_
              rw [b1]
              refine br_f (by decide) (dx_ob hPX hT hN hl4 (by omega) (by omega) ?_)
              rw [b2]
              exact br_f (by decide) h
            · simp only [wY_isHeld_42]
              refine br_f (nI_ge hj (by omega)) (dy_name 1 l j p ?_)
              rw [nI_clamp (by omega), ey]
              refine br_f ne ⟨vp_in_nI (by omega) (by decide), br_f (by decide) (dy_before hPY hT hj hc hl hN hL ?_)⟩
              rw [b2]
              exact br_f (by decide) h
    · have e : j = N := by omega
      subst e
      simp only [wX_forwardHeld_57, wY_isHeld_42]
      exact ⟨0, Or.inl rfl, fun post h => br_t (nI_le (Nat.le_refl _) (by omega)) h, fun post h => br_t (nI_le (Nat.le_refl _) (by omega)) h⟩
theorem lk_fwd43 {l c p : Nat} (hQ : dc_Q ta pe) (hX : dc_FX F fg) (hY : dc_FY F fy) (hPX : dc_PX T tp) (hPY : dc_PY T tc tk) (hT : dc_TT N T) (hN : N ≤ 4) (hL : L ≤ 4) (hl : l < L) (hc : c < N) (hp : p < N) : ∃ r : Int32, (r = 0 ∨ r = 1) ∧ (∀ post : Int32 → Prop, post r → wX_forwardHeld_43 post (nI l) (nI c) (nI p) (nI (l * 4 + c)) (nI N) (nI L) m ow sm sd wc wv wk cs cv ta tO tp lr pv br fg) ∧ (∀ post : Int32 → Prop, post r → wY_isHeld_28 post (nI l) (nI c) (nI p) (nI N) (nI L) m ow sd wc tc lv lw tk sh co vo ke pe oP bz ro fy ca) := by
  have e := hQ l c (by omega) (by omega)
  cases b : dc_w (ta (l * 4 + c)) with
  | false =>
    refine ⟨0, Or.inl rfl, fun post h => ?_, fun post h => ?_⟩
    · simp only [wX_forwardHeld_43]
      refine dx_wpend (by omega) ?_
      rw [b]
      exact br_t rfl h
    · simp only [wY_isHeld_28]
      refine dy_writing (by omega) (by omega) ?_
      rw [e, b]
      exact br_t rfl h
  | true =>
    obtain ⟨r, hr, gx, gy⟩ := lk_fwd57 (m := m) (ow := ow) (sm := sm) (sd := sd) (wc := wc) (wv := wv) (wk := wk) (cs := cs) (cv := cv) (ta := ta) (tO := tO) (tp := tp) (lr := lr) (pv := pv) (br := br) (fg := fg) (tc := tc) (lv := lv) (lw := lw) (tk := tk) (sh := sh) (co := co) (vo := vo) (ke := ke) (pe := pe) (oP := oP) (bz := bz) (ro := ro) (fy := fy) (ca := ca) hX hY hPX hPY hT hN hL hl hc hp (N + 1) 0 (by omega) (by omega)
    refine ⟨r, hr, fun post h => ?_, fun post h => ?_⟩
    · simp only [wX_forwardHeld_43]
      refine dx_wpend (by omega) ?_
      rw [b]
      exact br_f (by decide) ⟨N + 1, gx post h⟩
    · simp only [wY_isHeld_28]
      refine dy_writing (by omega) (by omega) ?_
      rw [e, b]
      exact br_f (by decide) ⟨N + 1, gy post h⟩
theorem lk_fwd {l c p : Nat} (hQ : dc_Q ta pe) (hX : dc_FX F fg) (hY : dc_FY F fy) (hPX : dc_PX T tp) (hPY : dc_PY T tc tk) (hT : dc_TT N T) (hN : N ≤ 4) (hL : L ≤ 4) (hl : l < L) (hc : c < N) (hp : p < N) : ∃ r : Int32, (r = 0 ∨ r = 1) ∧ (∀ post : Int32 → Prop, post r → wpX_forwardHeld post (nI N, nI L, m, ow, sm, sd, wc, wv, wk, cs, cv, ta, tO, tp, lr, pv, br, fg) (nI l) (nI c) (nI p)) ∧ (∀ post : Int32 → Prop, post r → wpY_isHeld post (nI N, nI L, m, ow, sd, wc, tc, lv, lw, tk, sh, co, vo, ke, pe, oP, bz, ro, fy, ca) (nI 1) (nI l) (nI c) (nI p)) := by
  have e := hQ l p (by omega) (by omega)
  obtain ⟨r, hr, gx, gy⟩ := lk_fwd43 (m := m) (ow := ow) (sm := sm) (sd := sd) (wc := wc) (wv := wv) (wk := wk) (cs := cs) (cv := cv) (ta := ta) (tO := tO) (tp := tp) (lr := lr) (pv := pv) (br := br) (fg := fg) (tc := tc) (lv := lv) (lw := lw) (tk := tk) (sh := sh) (co := co) (vo := vo) (ke := ke) (pe := pe) (oP := oP) (bz := bz) (ro := ro) (fy := fy) (ca := ca) hQ hX hY hPX hPY hT hN hL hl hc hp
  have p4 : nI p < 4 := nI_lt (b := 4) (by omega) (by decide)
  cases b : dc_w (ta (l * 4 + p)) with
  | false =>
    refine ⟨r, hr, fun post h => ?_, fun post h => ?_⟩
    · simp only [wpX_forwardHeld]
      refine br_t p4 (nm_r (dc_i4 l c) (nm_r (dc_i4 l p) (dx_wpend (by omega) ?_)))
      rw [b]
      exact br_t rfl (gx post h)
    · simp only [wpY_isHeld]
      refine br_t rfl (dy_writing (by omega) (by omega) ?_)
      rw [e, b]
      exact br_t rfl (gy post h)
  | true =>
    cases b2 : dc_bf (T l) p c with
    | false =>
      refine ⟨r, hr, fun post h => ?_, fun post h => ?_⟩
      · simp only [wpX_forwardHeld]
        refine br_t p4 (nm_r (dc_i4 l c) (nm_r (dc_i4 l p) (dx_wpend (by omega) ?_)))
        rw [b]
        refine br_f (by decide) (dx_ob hPX hT hN (by omega) (by omega) (by omega) ?_)
        rw [b2]
        exact br_t rfl (gx post h)
      · simp only [wpY_isHeld]
        refine br_t rfl (dy_writing (by omega) (by omega) ?_)
        rw [e, b]
        refine br_f (by decide) (dy_before hPY hT hp hc hl hN hL ?_)
        rw [b2]
        exact br_t rfl (gy post h)
    | true =>
      refine ⟨1, Or.inr rfl, fun post h => ?_, fun post h => ?_⟩
      · simp only [wpX_forwardHeld]
        refine br_t p4 (nm_r (dc_i4 l c) (nm_r (dc_i4 l p) (dx_wpend (by omega) ?_)))
        rw [b]
        refine br_f (by decide) (dx_ob hPX hT hN (by omega) (by omega) (by omega) ?_)
        rw [b2]
        exact br_f (by decide) h
      · simp only [wpY_isHeld]
        refine br_t rfl (dy_writing (by omega) (by omega) ?_)
        rw [e, b]
        refine br_f (by decide) (dy_before hPY hT hp hc hl hN hL ?_)
        rw [b2]
        exact br_f (by decide) h
theorem lk_inv {l c p : Nat} (hQ : dc_Q ta pe) (hPX : dc_PX T tp) (hPY : dc_PY T tc tk) (hT : dc_TT N T) (hN : N ≤ 4) (hL : L ≤ 4) (hl : l < L) (hc : c < N) (hp : p < N) : ∃ r : Int32, (r = 0 ∨ r = 1) ∧ (∀ post : Int32 → Prop, post r → wpX_invalidationHeld post (nI N, nI L, m, ow, sm, sd, wc, wv, wk, cs, cv, ta, tO, tp, lr, pv, br, fg) (nI l) (nI c) (nI p)) ∧ (∀ post : Int32 → Prop, post r → wpY_isHeld post (nI N, nI L, m, ow, sd, wc, tc, lv, lw, tk, sh, co, vo, ke, pe, oP, bz, ro, fy, ca) (nI 2) (nI l) (nI c) (nI p)) := by
  have e := hQ l p (by omega) (by omega)
  have p4 : nI p < 4 := nI_lt (b := 4) (by omega) (by decide)
  by_cases t1 : ta (l * 4 + p) = 1
  · cases b2 : dc_bf (T l) p c with
    | false =>
      refine ⟨0, Or.inl rfl, fun post h => ?_, fun post h => ?_⟩
      · simp only [wpX_invalidationHeld]
        refine br_t p4 (nm_r (dc_i4 l c) (nm_r (dc_i4 l p) ?_))
        rw [nI_clamp (by omega)]
        refine ⟨vp_in_nI (by omega) (by decide), br_t t1 (dx_ob hPX hT hN (by omega) (by omega) (by omega) ?_)⟩
        rw [b2]
        exact br_t rfl h
      · simp only [wpY_isHeld]
        refine br_f (by decide) (br_t rfl ?_)
        rw [dc_i5, nI_clamp (by omega), e]
        refine ⟨vp_in_nI (by omega) (by decide), br_t t1 (dy_before hPY hT hp hc hl hN hL ?_)⟩
        rw [b2]
        exact br_t rfl h
    | true =>
      refine ⟨1, Or.inr rfl, fun post h => ?_, fun post h => ?_⟩
      · simp only [wpX_invalidationHeld]
        refine br_t p4 (nm_r (dc_i4 l c) (nm_r (dc_i4 l p) ?_))
        rw [nI_clamp (by omega)]
        refine ⟨vp_in_nI (by omega) (by decide), br_t t1 (dx_ob hPX hT hN (by omega) (by omega) (by omega) ?_)⟩
        rw [b2]
        exact br_f (by decide) h
      · simp only [wpY_isHeld]
        refine br_f (by decide) (br_t rfl ?_)
        rw [dc_i5, nI_clamp (by omega), e]
        refine ⟨vp_in_nI (by omega) (by decide), br_t t1 (dy_before hPY hT hp hc hl hN hL ?_)⟩
        rw [b2]
        exact br_f (by decide) h
  · refine ⟨0, Or.inl rfl, fun post h => ?_, fun post h => ?_⟩
    · simp only [wpX_invalidationHeld]
      refine br_t p4 (nm_r (dc_i4 l c) (nm_r (dc_i4 l p) ?_))
      rw [nI_clamp (by omega)]
      exact ⟨vp_in_nI (by omega) (by decide), br_f t1 h⟩
    · simp only [wpY_isHeld]
      refine br_f (by decide) (br_t rfl ?_)
      rw [dc_i5, nI_clamp (by omega), e]
      exact ⟨vp_in_nI (by omega) (by decide), br_f t1 h⟩
theorem lk_done2 {l c : Nat} (hX : dc_FX F fg) (hY : dc_FY F fy) (hN : N ≤ 4) (hl : l < 4) (hc : c < N) : ∀ n j : Nat, N < n + j → j ≤ N → ∃ r : Int32, (r = 0 ∨ r = 1) ∧ (∀ post : Int32 → Prop, post r → wX_doneHeld_2 post (nI l) (nI c) (nI N) (nI L) m ow sm sd wc wv wk cs cv ta tO tp lr pv br fg n (nI j)) ∧ (∀ post : Int32 → Prop, post r → wY_isHeld_145 post (nI l) (nI c) (nI N) (nI L) m ow sd wc tc lv lw tk sh co vo ke pe oP bz ro fy ca n (nI j)) := by
  intro n
  induction n with
  | zero => intro j h1 h2; omega
  | succ n ih =>
    intro j h1 h2
    by_cases hj : j < N
    · have ey := hY l j 1 c hl (by omega) (by decide) (by omega)
      cases b1 : F l j 1 c with
      | false =>
        rw [b1] at ey
        obtain ⟨r, hr, gx, gy⟩ := ih (j + 1) (by omega) (by omega)
        refine ⟨r, hr, fun post h => ?_, fun post h => ?_⟩
        · simp only [wX_doneHeld_2]
          refine br_f (nI_ge hj (by omega)) (nm_r (dc_i4 l j) ?_)
          refine dx_fly (k := 1) hX hl (by omega) (by decide) (by omega) ?_
          rw [b1]
          exact br_t rfl (nm_r (nI_1 j) (gx post h))
        · simp only [wY_isHeld_145]
          refine br_f (nI_ge hj (by omega)) (dy_name 1 l j c ?_)
          rw [nI_clamp (by omega), ey]
          exact ⟨vp_in_nI (by omega) (by decide), br_t rfl (nm_r (nI_1 j) (gy post h))⟩
      | true =>
        rw [b1] at ey
        refine ⟨1, Or.inr rfl, fun post h => ?_, fun post h => ?_⟩
        · simp only [wX_doneHeld_2]
          refine br_f (nI_ge hj (by omega)) (nm_r (dc_i4 l j) ?_)
          refine dx_fly (k := 1) hX hl (by omega) (by decide) (by omega) ?_
          rw [b1]
          exact br_f (by decide) h
        · simp only [wY_isHeld_145]
          refine br_f (nI_ge hj (by omega)) (dy_name 1 l j c ?_)
          rw [nI_clamp (by omega), ey]
          exact ⟨vp_in_nI (by omega) (by decide), br_f (by decide) h⟩
    · have e : j = N := by omega
      subst e
      simp only [wX_doneHeld_2, wY_isHeld_145]
      exact ⟨0, Or.inl rfl, fun post h => br_t (nI_le (Nat.le_refl _) (by omega)) h, fun post h => br_t (nI_le (Nat.le_refl _) (by omega)) h⟩
/-- the state of a message: 0, 1 or 2, on both sides alike -/
theorem lk_stat {l c k p : Nat} (h : dc_RR N L T F S ow sm sd wc wv wk cs cv ta tO tp lr pv br fg tc lv lw tk sh co vo ke pe oP bz ro fy ca) (hl : l < L) (hc : c < N) (hk : k < 6) (hp : p < 5) : ∃ r : Int32, (r = 0 ∨ r = 1 ∨ r = 2) ∧ (r = 0 ↔ F l c k p = false) ∧ (∀ post : Int32 → Prop, post r → wpX_status post (nI N, nI L, m, ow, sm, sd, wc, wv, wk, cs, cv, ta, tO, tp, lr, pv, br, fg) (nI k) (nI l) (nI c) (nI p)) ∧ (∀ post : Int32 → Prop, post r → wY_message_42 post (nI k) (nI l) (nI c) (nI p) (nI N) (nI L) m ow sd wc tc lv lw tk sh co vo ke pe oP bz ro fy ca) := by
  obtain ⟨⟨hN2, hN, hL1, hL⟩, -, -, hQ, -, -, -, -, -, -, -, hX, hY, hPX, hPY, hT, hI⟩ := h
  have hl4 : l < 4 := by omega
  have ey := hY l c k p hl4 (by omega) hk hp
  cases b : F l c k p with
  | false =>
    rw [b] at ey
    refine ⟨0, Or.inl rfl, ⟨fun _ => rfl, fun _ => rfl⟩, fun post g => ?_, fun post g => ?_⟩
    · simp only [wpX_status]
      refine nm_r (dc_i4 l c) (dx_fly hX hl4 (by omega) hk hp ?_)
      rw [b]
      exact br_t rfl g
    · simp only [wY_message_42]
      refine dy_name k l c p ?_
      rw [nI_clamp (by omega), ey]
      exact ⟨vp_in_nI (by omega) (by decide), br_t rfl g⟩
  | true =>
    rw [b] at ey
    have hic := ((hI l c hl4 (by omega)).2.2.2.1) k p hk hp b
    -- the held part
    have key : ∃ h : Int32, (h = 0 ∨ h = 1) ∧ (∀ post : Int32 → Prop, wX_status_73 post h (nI N) (nI L) m ow sm sd wc wv wk cs cv ta tO tp lr pv br fg → ((nI k = 1 → wpX_forwardHeld (fun r_64 => wX_status_73 post r_64 (nI N) (nI L) m ow sm sd wc wv wk cs cv ta tO tp lr pv br fg) (nI N, nI L, m, ow, sm, sd, wc, wv, wk, cs, cv, ta, tO, tp, lr, pv, br, fg) (nI l) (nI c) (nI p)) ∧ (¬ nI k = 1 → ((nI k = 2 → wpX_invalidationHeld (fun r_45 => wX_status_73 post r_45 (nI N) (nI L) m ow sm sd wc wv wk cs cv ta tO tp lr pv br fg) (nI N, nI L, m, ow, sm, sd, wc, wv, wk, cs, cv, ta, tO, tp, lr, pv, br, fg) (nI l) (nI c) (nI p)) ∧ (¬ nI k = 2 → ((nI k = 5 → wpX_doneHeld (fun r_26 => wX_status_73 post r_26 (nI N) (nI L) m ow sm sd wc wv wk cs cv ta tO tp lr pv br fg) (nI N, nI L, m, ow, sm, sd, wc, wv, wk, cs, cv, ta, tO, tp, lr, pv, br, fg) (nI l) (nI c)) ∧ (¬ nI k = 5 → wX_status_73 post 0 (nI N) (nI L) m ow sm sd wc wv wk cs cv ta tO tp lr pv br fg))))))) ∧ (∀ post : Int32 → Prop, post h → wpY_isHeld post (nI N, nI L, m, ow, sd, wc, tc, lv, lw, tk, sh, co, vo, ke, pe, oP, bz, ro, fy, ca) (nI k) (nI l) (nI c) (nI p)) := by
      by_cases k1 : k = 1
      · subst k1
        obtain ⟨r, hr, gx, gy⟩ := lk_fwd (m := m) (ow := ow) (sm := sm) (sd := sd) (wc := wc) (wv := wv) (wk := wk) (cs := cs) (cv := cv) (ta := ta) (tO := tO) (tp := tp) (lr := lr) (pv := pv) (br := br) (fg := fg) (tc := tc) (lv := lv) (lw := lw) (tk := tk) (sh := sh) (co := co) (vo := vo) (ke := ke) (pe := pe) (oP := oP) (bz := bz) (ro := ro) (fy := fy) (ca := ca) hQ hX hY hPX hPY hT hN hL hl hc (hic.2.2.2.2.2.1 rfl).1
        exact ⟨r, hr, fun post g => br_t rfl (gx _ g), gy⟩
      · have n1 : ¬ nI k = 1 := by rw [show (1 : Int32) = nI 1 from rfl, nI_eq (by omega) (by omega)]; exact k1
        by_cases k2 : k = 2
        · subst k2
          obtain ⟨r, hr, gx, gy⟩ := lk_inv (m := m) (ow := ow) (sm := sm) (sd := sd) (wc := wc) (wv := wv) (wk := wk) (cs := cs) (cv := cv) (ta := ta) (tO := tO) (tp := tp) (lr := lr) (pv := pv) (br := br) (fg := fg) (tc := tc) (lv := lv) (lw := lw) (tk := tk) (sh := sh) (co := co) (vo := vo) (ke := ke) (pe := pe) (oP := oP) (bz := bz) (ro := ro) (fy := fy) (ca := ca) hQ hPX hPY hT hN hL hl hc (hic.2.2.2.2.2.2.2.1 rfl).1
          exact ⟨r, hr, fun post g => br_f n1 (br_t rfl (gx _ g)), gy⟩
        · have n2 : ¬ nI k = 2 := by rw [show (2 : Int32) = nI 2 from rfl, nI_eq (by omega) (by omega)]; exact k2
          by_cases k5 : k = 5
          · subst k5
            obtain ⟨r, hr, gx, gy⟩ := lk_done2 (N := N) (L := L) (m := m) (ow := ow) (sm := sm) (sd := sd) (wc := wc) (wv := wv) (wk := wk) (cs := cs) (cv := cv) (ta := ta) (tO := tO) (tp := tp) (lr := lr) (pv := pv) (br := br) (fg := fg) (tc := tc) (lv := lv) (lw := lw) (tk := tk) (sh := sh) (co := co) (vo := vo) (ke := ke) (pe := pe) (oP := oP) (bz := bz) (ro := ro) (fy := fy) (ca := ca) hX hY hN hl4 hc (N + 1) 0 (by omega) (by omega)
            refine ⟨r, hr, fun post g => br_f n1 (br_f n2 (br_t rfl ?_)), fun post g => ?_⟩
            · simp only [wpX_doneHeld]
              exact ⟨N + 1, gx _ g⟩
            · simp only [wpY_isHeld]
              exact br_f (by decide) (br_f (by decide) (br_t rfl ⟨N + 1, gy _ g⟩))
          · have n5 : ¬ nI k = 5 := by rw [show (5 : Int32) = nI 5 from rfl, nI_eq (by omega) (by omega)]; exact k5
            refine ⟨0, Or.inl rfl, fun post g => br_f n1 (br_f n2 (br_f n5 g)), fun post g => ?_⟩
            simp only [wpY_isHeld]
            exact br_f n1 (br_f n2 (br_f n5 g))
    obtain ⟨h, hh, gx, gy⟩ := key
    rcases hh with rfl | rfl
    · refine ⟨2, Or.inr (Or.inr rfl), ⟨fun z => absurd z (by decide), fun z => by cases z⟩, fun post g => ?_, fun post g => ?_⟩
      · simp only [wpX_status]
        refine nm_r (dc_i4 l c) (dx_fly hX hl4 (by omega) hk hp ?_)
        rw [b]
        refine br_f (by decide) (gx post ?_)
        simp only [wX_status_73]
        exact br_t (by trivial) g
      · simp only [wY_message_42]
        refine dy_name k l c p ?_
        rw [nI_clamp (by omega), ey]
        exact ⟨vp_in_nI (by omega) (by decide), br_f (by decide) (gy _ (br_t rfl g))⟩
    · refine ⟨1, Or.inr (Or.inl rfl), ⟨fun z => absurd z (by decide), fun z => by cases z⟩, fun post g => ?_, fun post g => ?_⟩
      · simp only [wpX_status]
        refine nm_r (dc_i4 l c) (dx_fly hX hl4 (by omega) hk hp ?_)
        rw [b]
        refine br_f (by decide) (gx post ?_)
        simp only [wX_status_73]
        exact br_f (by decide) g
      · simp only [wY_message_42]
        refine dy_name k l c p ?_
        rw [nI_clamp (by omega), ey]
        exact ⟨vp_in_nI (by omega) (by decide), br_f (by decide) (gy _ (br_f (by decide) g))⟩
end
end
section
/-! the relation owed; small changes of a state; the caches' calls -/
def i_Rel (_ : Nat) (u : SX) (v : SY) : Prop := dc_Rl u v
theorem i_up {k : Nat} {u : SX} {v : SY} (h : i_Rel k u v) : i_Rel (k + 5) u v := h
def dc_Ok (X : (Int32 → SX → Prop) → Prop) (Y : (Int32 → SY → Prop) → Prop) : Prop := ∃ (r : Int32) (u : SX) (v : SY), dc_Rl u v ∧ (∀ post : Int32 → SX → Prop, post r u → X post) ∧ (∀ post : Int32 → SY → Prop, post r v → Y post)
theorem dc_Ok_use {X : (Int32 → SX → Prop) → Prop} {Y : (Int32 → SY → Prop) → Prop} (h : dc_Ok X Y) {k : Nat} : X (fun r u => Y (fun r' v => r' = r ∧ i_Rel k u v)) := by
  obtain ⟨r, u, v, hR, gx, gy⟩ := h
  exact gx _ (gy _ ⟨rfl, hR⟩)
theorem dc_WR_upd {wc wv wk lv lw lv' lw' : Nat → Int32} {l : Nat} {v w : Int32} (h : dc_WR wc wv wk lv lw) (hl : l < 4) (g : ∀ l' b, l' < 4 → b < 8 → lv' (l' * 8 + b) = (if l' = l then (if b = 0 then v else lv (l * 8 + (b - 1))) else lv (l' * 8 + b)) ∧ lw' (l' * 8 + b) = (if l' = l then (if b = 0 then w else lw (l * 8 + (b - 1))) else lw (l' * 8 + b))) : dc_WR (upd wc l (wc l + 1)) (upd wv (l * 8 + dc_m8 (wc l)) v) (upd wk (l * 8 + dc_m8 (wc l)) w) lv' lw' := by
  intro l' b hl' hb
  obtain ⟨g1, g2⟩ := g l' b hl' hb
  have hm := dc_m8_lt (wc l)
  rw [g1, g2]
  by_cases e : l' = l
  · subst e
    rw [if_pos rfl, if_pos rfl, pk_us, dc_m8_s]
    by_cases b0 : b = 0
    · subst b0
      rw [if_pos rfl, if_pos rfl]
      rw [show ((dc_m8 (wc l') + 1) % 8 + 7 - 0) % 8 = dc_m8 (wc l') by omega]
      exact ⟨pk_us.symm, pk_us.symm⟩
    · rw [if_neg b0, if_neg b0]
      rw [show ((dc_m8 (wc l') + 1) % 8 + 7 - b) % 8 = (dc_m8 (wc l') + 7 - (b - 1)) % 8 by omega]
      rw [pk_un (by omega), pk_un (by omega)]
      exact h l' (b - 1) hl' (by omega)
  · rw [if_neg e, if_neg e, pk_un e, pk_un (by omega), pk_un (by omega)]
    exact h l' b hl' hb
section
variable {N L : Nat} {m : Int32} {T : Nat → List Nat} {F : Nat → Nat → Nat → Nat → Bool} {S : Nat → Nat → Bool} {ow sm sd wc wv wk cs cv ta tO tp lr pv br fg tc lv lw tk sh co vo ke pe oP bz ro fy ca : Nat → Int32}
theorem rr_cs {l c : Nat} (v : Int32) (h : dc_RR N L T F S ow sm sd wc wv wk cs cv ta tO tp lr pv br fg tc lv lw tk sh co vo ke pe oP bz ro fy ca) (hl : l < 4) (hc : c < 4) : dc_RR N L T F S ow sm sd wc wv wk (upd cs (l * 4 + c) v) cv ta tO tp lr pv br fg tc lv lw tk sh (upd co (l * 5 + c) v) vo ke pe oP bz ro fy ca := by
  obtain ⟨a1, a2, a3, a4, a5, a6, a7, a8, a9, a10, a11, a12, a13, a14, a15, a16, a17⟩ := h
  exact ⟨a1, dc_Q_upd a2 hl hc, a3, a4, a5, a6, a7, a8, a9, a10, a11, a12, a13, a14, a15, a16, a17⟩
theorem rr_cv {l c : Nat} (v : Int32) (h : dc_RR N L T F S ow sm sd wc wv wk cs cv ta tO tp lr pv br fg tc lv lw tk sh co vo ke pe oP bz ro fy ca) (hl : l < 4) (hc : c < 4) : dc_RR N L T F S ow sm sd wc wv wk cs (upd cv (l * 4 + c) v) ta tO tp lr pv br fg tc lv lw tk sh co (upd vo (l * 5 + c) v) ke pe oP bz ro fy ca := by
  obtain ⟨a1, a2, a3, a4, a5, a6, a7, a8, a9, a10, a11, a12, a13, a14, a15, a16, a17⟩ := h
  exact ⟨a1, a2, dc_Q_upd a3 hl hc, a4, a5, a6, a7, a8, a9, a10, a11, a12, a13, a14, a15, a16, a17⟩
theorem rr_lr {l c : Nat} (v : Int32) (h : dc_RR N L T F S ow sm sd wc wv wk cs cv ta tO tp lr pv br fg tc lv lw tk sh co vo ke pe oP bz ro fy ca) (hl : l < 4) (hc : c < 4) : dc_RR N L T F S ow sm sd wc wv wk cs cv ta tO tp (upd lr (l * 4 + c) v) pv br fg tc lv lw tk sh co vo ke pe oP bz (upd ro (l * 5 + c) v) fy ca := by
  obtain ⟨a1, a2, a3, a4, a5, a6, a7, a8, a9, a10, a11, a12, a13, a14, a15, a16, a17⟩ := h
  exact ⟨a1, a2, a3, a4, a5, dc_Q_upd a6 hl hc, a7, a8, a9, a10, a11, a12, a13, a14, a15, a16, a17⟩
theorem rr_pv {l c : Nat} (v : Int32) (h : dc_RR N L T F S ow sm sd wc wv wk cs cv ta tO tp lr pv br fg tc lv lw tk sh co vo ke pe oP bz ro fy ca) (hl : l < 4) (hc : c < 4) : dc_RR N L T F S ow sm sd wc wv wk cs cv ta tO tp lr (upd pv (l * 4 + c) v) br fg tc lv lw tk sh co vo (upd ke (l * 5 + c) v) pe oP bz ro fy ca := by
  obtain ⟨a1, a2, a3, a4, a5, a6, a7, a8, a9, a10, a11, a12, a13, a14, a15, a16, a17⟩ := h
  exact ⟨a1, a2, a3, a4, a5, a6, dc_Q_upd a7 hl hc, a8, a9, a10, a11, a12, a13, a14, a15, a16, a17⟩
theorem rr_perf {l c : Nat} {v : Int32} {lv' lw' : Nat → Int32} (h : dc_RR N L T F S ow sm sd wc wv wk cs cv ta tO tp lr pv br fg tc lv lw tk sh co vo ke pe oP bz ro fy ca) (hl : l < 4) (hc : c < 4) (g : ∀ l' b, l' < 4 → b < 8 → lv' (l' * 8 + b) = (if l' = l then (if b = 0 then v else lv (l * 8 + (b - 1))) else lv (l' * 8 + b)) ∧ lw' (l' * 8 + b) = (if l' = l then (if b = 0 then nI c else lw (l * 8 + (b - 1))) else lw (l' * 8 + b))) : dc_RR N L T F S ow sm sd (upd wc l (wc l + 1)) (upd wv (l * 8 + dc_m8 (wc l)) v) (upd wk (l * 8 + dc_m8 (wc l)) (nI c)) cs (upd cv (l * 4 + c) v) ta tO tp lr pv br fg tc lv' lw' tk sh co (upd vo (l * 5 + c) v) ke pe oP bz ro fy ca := by
  obtain ⟨a1, a2, a3, a4, a5, a6, a7, a8, a9, a10, a11, a12, a13, a14, a15, a16, a17⟩ := h
  exact ⟨a1, a2, dc_Q_upd a3 hl hc, a4, a5, a6, a7, a8, a9, a10, dc_WR_upd a11 hl g, a12, a13, a14, a15, a16, a17⟩
theorem rr_start {l c : Nat} (w v : Int32) (hw : w = 1 ∨ w = 2 ∨ w = 3 ∨ w = 4) (h : dc_RR N L T F S ow sm sd wc wv wk cs cv ta tO tp lr pv br fg tc lv lw tk sh co vo ke pe oP bz ro fy ca) (hl : l < 4) (hc : c < N) (t0 : ta (l * 4 + c) = 0) : dc_RR N L T (dc_set F l c 0 4 true) S ow sm sd wc wv wk cs cv (upd ta (l * 4 + c) w) (upd tO (l * 4 + c) v) (upd tp (l * 4 + c) 0) lr pv br (upd fg ((l * 4 + c) * 6 + 0) (fg ((l * 4 + c) * 6 + 0) ||| ((1 : Int32) <<< (nI 4 &&& 31)))) tc lv lw tk sh co vo ke (upd pe (l * 5 + c) w) (upd oP (l * 5 + c) v) bz ro (upd fy (((l * 5 + c) * 6 + 0) * 5 + 4) 1) (upd ca (((l * 5 + c) * 6 + 0) * 5 + 4) 0) := by
  obtain ⟨a1, a2, a3, a4, a5, a6, a7, a8, a9, a10, a11, a12, a13, a14, a15, a16, a17⟩ := h
  have hc4 : c < 4 := by have := a1.2.1; omega
  have I := (a17 l c hl hc4).2
  rw [t0] at I
  refine ⟨a1, a2, a3, dc_Q_upd a4 hl hc4, dc_Q_upd a5 hl hc4, a6, a7, a8, a9, a10, a11, dc_FX_or a12 hl hc4 (by decide) (by decide), dc_FY_set a13 hl hc4 (by decide) (by decide) rfl, ?_, a15, a16, ?_⟩
  · intro l' c' hl' hc'
    by_cases e : l' = l ∧ c' = c
    · obtain ⟨rfl, rfl⟩ := e
      rw [pk_us, (dc_pl_mem _ _).mpr (I.2.1 rfl)]
      rfl
    · rw [pk_un (by omega)]
      exact a14 l' c' hl' hc'
  · refine dc_IA_step (l := l) (c := c) a17 hc (fun _ _ _ _ _ => Iff.rfl) (fun l' c' e => dc_set_ne F e) (fun l' c' _ h' e => pk_un (by omega)) (fun _ _ _ _ _ => rfl) (fun _ _ _ _ _ => rfl) (fun l' c' p _ _ _ e => pk_un (by omega)) ?_
    rw [pk_us, dc_set_eq]
    exact dc_IC_req I hw
theorem dx_start {cell : Nat} (w v : Int32) (hcell : cell < 16) {post : SX → Prop} (h : post (nI N, nI L, m, ow, sm, sd, wc, wv, wk, cs, cv, (upd ta cell w), (upd tO cell v), (upd tp cell 0), lr, pv, br, (upd fg (cell * 6 + 0) (fg (cell * 6 + 0) ||| ((1 : Int32) <<< (nI 4 &&& 31)))))) : wpX_start post (nI N, nI L, m, ow, sm, sd, wc, wv, wk, cs, cv, ta, tO, tp, lr, pv, br, fg) (nI cell) w v := by
  simp only [wpX_start]
  rw [nI_clamp (by omega)]
  exact ⟨vp_in_nI hcell (by decide), nm_e ⟨vp_in_nI hcell (by decide), nm_e ⟨vp_in_nI hcell (by decide), nm_e (dx_send 0 cell 4 (by decide) hcell h)⟩⟩⟩
theorem dy_start {l c : Nat} (w v : Int32) (hl : l < 4) (hc : c < 4) {post : Int32 → SY → Prop} (h : post 2 (nI N, nI L, m, ow, sd, wc, tc, lv, lw, tk, sh, co, vo, ke, (upd pe (l * 5 + c) w), (upd oP (l * 5 + c) v), bz, ro, (upd fy (((l * 5 + c) * 6 + 0) * 5 + 4) 1), (upd ca (((l * 5 + c) * 6 + 0) * 5 + 4) 0))) : wpY_start post (nI N, nI L, m, ow, sd, wc, tc, lv, lw, tk, sh, co, vo, ke, pe, oP, bz, ro, fy, ca) (nI c) (nI l) w v := by
  simp only [wpY_start]
  rw [dc_i5, nI_clamp (by omega)]
  exact ⟨vp_in_nI (by omega) (by decide), nm_e ⟨vp_in_nI (by omega) (by decide), nm_e (dy_send 0 l c 4 0 hl hc (by decide) (by decide) h)⟩⟩
theorem lk_load (v1 v2 : Int32) (h : dc_RR N L T F S ow sm sd wc wv wk cs cv ta tO tp lr pv br fg tc lv lw tk sh co vo ke pe oP bz ro fy ca) : dc_Ok (fun post => wpX_load post (nI N, nI L, m, ow, sm, sd, wc, wv, wk, cs, cv, ta, tO, tp, lr, pv, br, fg) v1 v2) (fun post => wpY_load post (nI N, nI L, m, ow, sd, wc, tc, lv, lw, tk, sh, co, vo, ke, pe, oP, bz, ro, fy, ca) v1 v2) := by
  have h0 := h
  obtain ⟨⟨hN2, hN, hL1, hL⟩, qcs, qcv, qta, -⟩ := h0
  rcases lk_cell (N := N) (L := L) (m := m) (ow := ow) (sm := sm) (sd := sd) (wc := wc) (wv := wv) (wk := wk) (cs := cs) (cv := cv) (ta := ta) (tO := tO) (tp := tp) (lr := lr) (pv := pv) (br := br) (fg := fg) (tc := tc) (lv := lv) (lw := lw) (tk := tk) (sh := sh) (co := co) (vo := vo) (ke := ke) (pe := pe) (oP := oP) (bz := bz) (ro := ro) (fy := fy) (ca := ca) v1 v2 hN hL with ⟨c, l, hc, hl, rfl, rfl, gx, gy⟩ | ⟨gx, gy⟩
  · have hl4 : l < 4 := by omega
    have hc4 : c < 4 := by omega
    have e1 := qcs l c hl4 hc4
    have e2 := qcv l c hl4 hc4
    have e3 := qta l c hl4 hc4
    by_cases z : cs (l * 4 + c) = 0
    · by_cases y : ta (l * 4 + c) = 0
      · obtain ⟨r, hr, fx, fy'⟩ := lk_full (N := N) (L := L) (m := m) (ow := ow) (sm := sm) (sd := sd) (wc := wc) (wv := wv) (wk := wk) (cs := cs) (cv := cv) (ta := ta) (tO := tO) (tp := tp) (lr := lr) (pv := pv) (br := br) (fg := fg) (tc := tc) (lv := lv) (lw := lw) (tk := tk) (sh := sh) (co := co) (vo := vo) (ke := ke) (pe := pe) (oP := oP) (bz := bz) (ro := ro) (fy := fy) (ca := ca) qta hL hc4
        rcases hr with rfl | rfl
        · refine ⟨2, _, _, dc_in (m := m) (sd := sd) (rr_start 1 0 (Or.inl rfl) h hl4 hc y), fun post hp => ?_, fun post hp => ?_⟩
          · simp only [wpX_load]
            refine gx _ (br_f (by decide) (nm_r (dc_i4 l c) ?_))
            rw [nI_clamp (by omega)]
            exact ⟨vp_in_nI (by omega) (by decide), br_t z ⟨vp_in_nI (by omega) (by decide), br_t y (fx _ (br_t rfl (dx_start 1 0 (by omega) hp)))⟩⟩
          · simp only [wpY_load]
            refine gy _ (br_t rfl (nm_r (dc_i5 l c) ?_))
            rw [nI_clamp (by omega), e1, e3]
            exact ⟨vp_in_nI (by omega) (by decide), br_t z ⟨vp_in_nI (by omega) (by decide), br_t y (fy' _ (br_t rfl (dy_start 1 0 hl4 hc4 hp)))⟩⟩
        · refine ⟨4, _, _, dc_in (m := m) (sd := sd) h, fun post hp => ?_, fun post hp => ?_⟩
          · simp only [wpX_load]
            refine gx _ (br_f (by decide) (nm_r (dc_i4 l c) ?_))
            rw [nI_clamp (by omega)]
            exact ⟨vp_in_nI (by omega) (by decide), br_t z ⟨vp_in_nI (by omega) (by decide), br_t y (fx _ (br_f (by decide) hp))⟩⟩
          · simp only [wpY_load]
            refine gy _ (br_t rfl (nm_r (dc_i5 l c) ?_))
            rw [nI_clamp (by omega), e1, e3]
            exact ⟨vp_in_nI (by omega) (by decide), br_t z ⟨vp_in_nI (by omega) (by decide), br_t y (fy' _ (br_f (by decide) hp))⟩⟩
      · refine ⟨3, _, _, dc_in (m := m) (sd := sd) h, fun post hp => ?_, fun post hp => ?_⟩
        · simp only [wpX_load]
          refine gx _ (br_f (by decide) (nm_r (dc_i4 l c) ?_))
          rw [nI_clamp (by omega)]
          exact ⟨vp_in_nI (by omega) (by decide), br_t z ⟨vp_in_nI (by omega) (by decide), br_f y hp⟩⟩
        · simp only [wpY_load]
          refine gy _ (br_t rfl (nm_r (dc_i5 l c) ?_))
          rw [nI_clamp (by omega), e1, e3]
          exact ⟨vp_in_nI (by omega) (by decide), br_t z ⟨vp_in_nI (by omega) (by decide), br_f y hp⟩⟩
    · refine ⟨1, _, _, dc_in (m := m) (sd := sd) (rr_lr (cv (l * 4 + c)) h hl4 hc4), fun post hp => ?_, fun post hp => ?_⟩
      · simp only [wpX_load]
        refine gx _ (br_f (by decide) (nm_r (dc_i4 l c) ?_))
        rw [nI_clamp (by omega)]
        exact ⟨vp_in_nI (by omega) (by decide), br_f z ⟨vp_in_nI (by omega) (by decide), vp_in_nI (by omega) (by decide), nm_e hp⟩⟩
      · simp only [wpY_load]
        refine gy _ (br_t rfl (nm_r (dc_i5 l c) ?_))
        rw [nI_clamp (by omega), e1, e2]
        exact ⟨vp_in_nI (by omega) (by decide), br_f z ⟨vp_in_nI (by omega) (by decide), vp_in_nI (by omega) (by decide), nm_e hp⟩⟩
  · refine ⟨-1, _, _, dc_in (m := m) (sd := sd) h, fun post hp => ?_, fun post hp => ?_⟩
    · simp only [wpX_load]
      exact gx _ (br_t rfl hp)
    · simp only [wpY_load]
      exact gy _ (br_f (by decide) hp)
theorem lk_store (v1 v2 v3 : Int32) (h : dc_RR N L T F S ow sm sd wc wv wk cs cv ta tO tp lr pv br fg tc lv lw tk sh co vo ke pe oP bz ro fy ca) : dc_Ok (fun post => wpX_store post (nI N, nI L, m, ow, sm, sd, wc, wv, wk, cs, cv, ta, tO, tp, lr, pv, br, fg) v1 v2 v3) (fun post => wpY_store post (nI N, nI L, m, ow, sd, wc, tc, lv, lw, tk, sh, co, vo, ke, pe, oP, bz, ro, fy, ca) v1 v2 v3) := by
  have h0 := h
  obtain ⟨⟨hN2, hN, hL1, hL⟩, qcs, qcv, qta, -⟩ := h0
  rcases lk_cell (N := N) (L := L) (m := m) (ow := ow) (sm := sm) (sd := sd) (wc := wc) (wv := wv) (wk := wk) (cs := cs) (cv := cv) (ta := ta) (tO := tO) (tp := tp) (lr := lr) (pv := pv) (br := br) (fg := fg) (tc := tc) (lv := lv) (lw := lw) (tk := tk) (sh := sh) (co := co) (vo := vo) (ke := ke) (pe := pe) (oP := oP) (bz := bz) (ro := ro) (fy := fy) (ca := ca) v1 v2 hN hL with ⟨c, l, hc, hl, rfl, rfl, gx, gy⟩ | ⟨gx, gy⟩
  · have hl4 : l < 4 := by omega
    have hc4 : c < 4 := by omega
    have e1 := qcs l c hl4 hc4
    have e3 := qta l c hl4 hc4
    by_cases y : ta (l * 4 + c) = 0
    · by_cases z : cs (l * 4 + c) = 3
      · obtain ⟨lv', lw', g1, g2⟩ := dy_perf (N := N) (L := L) (m := m) (ow := ow) (sd := sd) (wc := wc) (tc := tc) (lv := lv) (lw := lw) (tk := tk) (sh := sh) (co := co) (vo := vo) (ke := ke) (pe := pe) (oP := oP) (bz := bz) (ro := ro) (fy := fy) (ca := ca) v3 hl4 hc4
        refine ⟨1, _, _, dc_in (m := m) (sd := sd) (rr_perf h hl4 hc4 g1), fun post hp => ?_, fun post hp => ?_⟩
        · simp only [wpX_store]
          refine gx _ (br_f (by decide) (nm_r (dc_i4 l c) ?_))
          rw [nI_clamp (by omega)]
          exact ⟨vp_in_nI (by omega) (by decide), br_t y ⟨vp_in_nI (by omega) (by decide), br_t z (dx_perf v3 hl4 hc4 hp)⟩⟩
        · simp only [wpY_store]
          refine gy _ (br_t rfl (nm_r (dc_i5 l c) ?_))
          rw [nI_clamp (by omega), e1, e3]
          exact ⟨vp_in_nI (by omega) (by decide), br_t y ⟨vp_in_nI (by omega) (by decide), br_t z (g2 _ hp)⟩⟩
      · obtain ⟨r, hr, fx, fy'⟩ := lk_full (N := N) (L := L) (m := m) (ow := ow) (sm := sm) (sd := sd) (wc := wc) (wv := wv) (wk := wk) (cs := cs) (cv := cv) (ta := ta) (tO := tO) (tp := tp) (lr := lr) (pv := pv) (br := br) (fg := fg) (tc := tc) (lv := lv) (lw := lw) (tk := tk) (sh := sh) (co := co) (vo := vo) (ke := ke) (pe := pe) (oP := oP) (bz := bz) (ro := ro) (fy := fy) (ca := ca) qta hL hc4
        rcases hr with rfl | rfl
        · refine ⟨2, _, _, dc_in (m := m) (sd := sd) (rr_start 2 v3 (Or.inr (Or.inl rfl)) h hl4 hc y), fun post hp => ?_, fun post hp => ?_⟩
          · simp only [wpX_store]
            refine gx _ (br_f (by decide) (nm_r (dc_i4 l c) ?_))
            rw [nI_clamp (by omega)]
            exact ⟨vp_in_nI (by omega) (by decide), br_t y ⟨vp_in_nI (by omega) (by decide), br_f z (fx _ (br_t rfl (dx_start 2 v3 (by omega) hp)))⟩⟩
          · simp only [wpY_store]
            refine gy _ (br_t rfl (nm_r (dc_i5 l c) ?_))
            rw [nI_clamp (by omega), e1, e3]
            exact ⟨vp_in_nI (by omega) (by decide), br_t y ⟨vp_in_nI (by omega) (by decide), br_f z (fy' _ (br_t rfl (dy_start 2 v3 hl4 hc4 hp)))⟩⟩
        · refine ⟨4, _, _, dc_in (m := m) (sd := sd) h, fun post hp => ?_, fun post hp => ?_⟩
          · simp only [wpX_store]
            refine gx _ (br_f (by decide) (nm_r (dc_i4 l c) ?_))
            rw [nI_clamp (by omega)]
            exact ⟨vp_in_nI (by omega) (by decide), br_t y ⟨vp_in_nI (by omega) (by decide), br_f z (fx _ (br_f (by decide) hp))⟩⟩
          · simp only [wpY_store]
            refine gy _ (br_t rfl (nm_r (dc_i5 l c) ?_))
            rw [nI_clamp (by omega), e1, e3]
            exact ⟨vp_in_nI (by omega) (by decide), br_t y ⟨vp_in_nI (by omega) (by decide), br_f z (fy' _ (br_f (by decide) hp))⟩⟩
    · refine ⟨3, _, _, dc_in (m := m) (sd := sd) h, fun post hp => ?_, fun post hp => ?_⟩
      · simp only [wpX_store]
        refine gx _ (br_f (by decide) (nm_r (dc_i4 l c) ?_))
        rw [nI_clamp (by omega)]
        exact ⟨vp_in_nI (by omega) (by decide), br_f y hp⟩
      · simp only [wpY_store]
        refine gy _ (br_t rfl (nm_r (dc_i5 l c) ?_))
        rw [nI_clamp (by omega), e3]
        exact ⟨vp_in_nI (by omega) (by decide), br_f y hp⟩
  · refine ⟨-1, _, _, dc_in (m := m) (sd := sd) h, fun post hp => ?_, fun post hp => ?_⟩
    · simp only [wpX_store]
      exact gx _ (br_t rfl hp)
    · simp only [wpY_store]
      exact gy _ (br_f (by decide) hp)
theorem lk_add (v1 v2 v3 : Int32) (h : dc_RR N L T F S ow sm sd wc wv wk cs cv ta tO tp lr pv br fg tc lv lw tk sh co vo ke pe oP bz ro fy ca) : dc_Ok (fun post => wpX_add post (nI N, nI L, m, ow, sm, sd, wc, wv, wk, cs, cv, ta, tO, tp, lr, pv, br, fg) v1 v2 v3) (fun post => wpY_add post (nI N, nI L, m, ow, sd, wc, tc, lv, lw, tk, sh, co, vo, ke, pe, oP, bz, ro, fy, ca) v1 v2 v3) := by
  have h0 := h
  obtain ⟨⟨hN2, hN, hL1, hL⟩, qcs, qcv, qta, -⟩ := h0
  rcases lk_cell (N := N) (L := L) (m := m) (ow := ow) (sm := sm) (sd := sd) (wc := wc) (wv := wv) (wk := wk) (cs := cs) (cv := cv) (ta := ta) (tO := tO) (tp := tp) (lr := lr) (pv := pv) (br := br) (fg := fg) (tc := tc) (lv := lv) (lw := lw) (tk := tk) (sh := sh) (co := co) (vo := vo) (ke := ke) (pe := pe) (oP := oP) (bz := bz) (ro := ro) (fy := fy) (ca := ca) v1 v2 hN hL with ⟨c, l, hc, hl, rfl, rfl, gx, gy⟩ | ⟨gx, gy⟩
  · have hl4 : l < 4 := by omega
    have hc4 : c < 4 := by omega
    have e1 := qcs l c hl4 hc4
    have e2 := qcv l c hl4 hc4
    have e3 := qta l c hl4 hc4
    by_cases y : ta (l * 4 + c) = 0
    · by_cases z : cs (l * 4 + c) = 3
      · obtain ⟨lv', lw', g1, g2⟩ := dy_perf (N := N) (L := L) (m := m) (ow := ow) (sd := sd) (wc := wc) (tc := tc) (lv := lv) (lw := lw) (tk := tk) (sh := sh) (co := co) (vo := vo) (ke := ke) (pe := pe) (oP := oP) (bz := bz) (ro := upd ro (l * 5 + c) (cv (l * 4 + c))) (fy := fy) (ca := ca) (cv (l * 4 + c) + v3) hl4 hc4
        refine ⟨1, _, _, dc_in (m := m) (sd := sd) (rr_perf (rr_lr (cv (l * 4 + c)) h hl4 hc4) hl4 hc4 g1), fun post hp => ?_, fun post hp => ?_⟩
        · simp only [wpX_add]
          refine gx _ (br_f (by decide) (nm_r (dc_i4 l c) ?_))
          rw [nI_clamp (by omega)]
          exact ⟨vp_in_nI (by omega) (by decide), br_t y ⟨vp_in_nI (by omega) (by decide), br_t z ⟨vp_in_nI (by omega) (by decide), nm_e ⟨vp_in_nI (by omega) (by decide), nm_e (dx_perf _ hl4 hc4 hp)⟩⟩⟩⟩
        · simp only [wpY_add]
          refine gy _ (br_t rfl (nm_r (dc_i5 l c) ?_))
          rw [nI_clamp (by omega), e1, e2, e3]
          exact ⟨vp_in_nI (by omega) (by decide), br_t y ⟨vp_in_nI (by omega) (by decide), br_t z ⟨vp_in_nI (by omega) (by decide), nm_e ⟨vp_in_nI (by omega) (by decide), nm_e (g2 _ hp)⟩⟩⟩⟩
      · obtain ⟨r, hr, fx, fy'⟩ := lk_full (N := N) (L := L) (m := m) (ow := ow) (sm := sm) (sd := sd) (wc := wc) (wv := wv) (wk := wk) (cs := cs) (cv := cv) (ta := ta) (tO := tO) (tp := tp) (lr := lr) (pv := pv) (br := br) (fg := fg) (tc := tc) (lv := lv) (lw := lw) (tk := tk) (sh := sh) (co := co) (vo := vo) (ke := ke) (pe := pe) (oP := oP) (bz := bz) (ro := ro) (fy := fy) (ca := ca) qta hL hc4
        rcases hr with rfl | rfl
        · refine ⟨2, _, _, dc_in (m := m) (sd := sd) (rr_start 3 v3 (Or.inr (Or.inr (Or.inl rfl))) h hl4 hc y), fun post hp => ?_, fun post hp => ?_⟩
          · simp only [wpX_add]
            refine gx _ (br_f (by decide) (nm_r (dc_i4 l c) ?_))
            rw [nI_clamp (by omega)]
            exact ⟨vp_in_nI (by omega) (by decide), br_t y ⟨vp_in_nI (by omega) (by decide), br_f z (fx _ (br_t rfl (dx_start 3 v3 (by omega) hp)))⟩⟩
          · simp only [wpY_add]
            refine gy _ (br_t rfl (nm_r (dc_i5 l c) ?_))
            rw [nI_clamp (by omega), e1, e3]
            exact ⟨vp_in_nI (by omega) (by decide), br_t y ⟨vp_in_nI (by omega) (by decide), br_f z (fy' _ (br_t rfl (dy_start 3 v3 hl4 hc4 hp)))⟩⟩
        · refine ⟨4, _, _, dc_in (m := m) (sd := sd) h, fun post hp => ?_, fun post hp => ?_⟩
          · simp only [wpX_add]
            refine gx _ (br_f (by decide) (nm_r (dc_i4 l c) ?_))
            rw [nI_clamp (by omega)]
            exact ⟨vp_in_nI (by omega) (by decide), br_t y ⟨vp_in_nI (by omega) (by decide), br_f z (fx _ (br_f (by decide) hp))⟩⟩
          · simp only [wpY_add]
            refine gy _ (br_t rfl (nm_r (dc_i5 l c) ?_))
            rw [nI_clamp (by omega), e1, e3]
            exact ⟨vp_in_nI (by omega) (by decide), br_t y ⟨vp_in_nI (by omega) (by decide), br_f z (fy' _ (br_f (by decide) hp))⟩⟩
    · refine ⟨3, _, _, dc_in (m := m) (sd := sd) h, fun post hp => ?_, fun post hp => ?_⟩
      · simp only [wpX_add]
        refine gx _ (br_f (by decide) (nm_r (dc_i4 l c) ?_))
        rw [nI_clamp (by omega)]
        exact ⟨vp_in_nI (by omega) (by decide), br_f y hp⟩
      · simp only [wpY_add]
        refine gy _ (br_t rfl (nm_r (dc_i5 l c) ?_))
        rw [nI_clamp (by omega), e3]
        exact ⟨vp_in_nI (by omega) (by decide), br_f y hp⟩
  · refine ⟨-1, _, _, dc_in (m := m) (sd := sd) h, fun post hp => ?_, fun post hp => ?_⟩
    · simp only [wpX_add]
      exact gx _ (br_t rfl hp)
    · simp only [wpY_add]
      exact gy _ (br_f (by decide) hp)
theorem lk_evict (v1 v2 : Int32) (h : dc_RR N L T F S ow sm sd wc wv wk cs cv ta tO tp lr pv br fg tc lv lw tk sh co vo ke pe oP bz ro fy ca) : dc_Ok (fun post => wpX_evict post (nI N, nI L, m, ow, sm, sd, wc, wv, wk, cs, cv, ta, tO, tp, lr, pv, br, fg) v1 v2) (fun post => wpY_evict post (nI N, nI L, m, ow, sd, wc, tc, lv, lw, tk, sh, co, vo, ke, pe, oP, bz, ro, fy, ca) v1 v2) := by
  have h0 := h
  obtain ⟨⟨hN2, hN, hL1, hL⟩, qcs, qcv, qta, -⟩ := h0
  rcases lk_cell (N := N) (L := L) (m := m) (ow := ow) (sm := sm) (sd := sd) (wc := wc) (wv := wv) (wk := wk) (cs := cs) (cv := cv) (ta := ta) (tO := tO) (tp := tp) (lr := lr) (pv := pv) (br := br) (fg := fg) (tc := tc) (lv := lv) (lw := lw) (tk := tk) (sh := sh) (co := co) (vo := vo) (ke := ke) (pe := pe) (oP := oP) (bz := bz) (ro := ro) (fy := fy) (ca := ca) v1 v2 hN hL with ⟨c, l, hc, hl, rfl, rfl, gx, gy⟩ | ⟨gx, gy⟩
  · have hl4 : l < 4 := by omega
    have hc4 : c < 4 := by omega
    have e1 := qcs l c hl4 hc4
    have e2 := qcv l c hl4 hc4
    have e3 := qta l c hl4 hc4
    by_cases y : ta (l * 4 + c) = 0
    · by_cases z : cs (l * 4 + c) = 0
      · refine ⟨0, _, _, dc_in (m := m) (sd := sd) h, fun post hp => ?_, fun post hp => ?_⟩
        · simp only [wpX_evict]
          refine gx _ (br_f (by decide) (nm_r (dc_i4 l c) ?_))
          rw [nI_clamp (by omega)]
          exact ⟨vp_in_nI (by omega) (by decide), br_t y ⟨vp_in_nI (by omega) (by decide), br_t z hp⟩⟩
        · simp only [wpY_evict]
          refine gy _ (br_t rfl (nm_r (dc_i5 l c) ?_))
          rw [nI_clamp (by omega), e1, e3]
          exact ⟨vp_in_nI (by omega) (by decide), br_t y ⟨vp_in_nI (by omega) (by decide), br_t z hp⟩⟩
      · by_cases w : cs (l * 4 + c) = 1
        · refine ⟨1, _, _, dc_in (m := m) (sd := sd) (rr_cs 0 h hl4 hc4), fun post hp => ?_, fun post hp => ?_⟩
          · simp only [wpX_evict]
            refine gx _ (br_f (by decide) (nm_r (dc_i4 l c) ?_))
            rw [nI_clamp (by omega)]
            exact ⟨vp_in_nI (by omega) (by decide), br_t y ⟨vp_in_nI (by omega) (by decide), br_f z ⟨vp_in_nI (by omega) (by decide), br_t w ⟨vp_in_nI (by omega) (by decide), nm_e hp⟩⟩⟩⟩
          · simp only [wpY_evict]
            refine gy _ (br_t rfl (nm_r (dc_i5 l c) ?_))
            rw [nI_clamp (by omega), e1, e3]
            exact ⟨vp_in_nI (by omega) (by decide), br_t y ⟨vp_in_nI (by omega) (by decide), br_f z ⟨vp_in_nI (by omega) (by decide), br_t w ⟨vp_in_nI (by omega) (by decide), nm_e hp⟩⟩⟩⟩
        · obtain ⟨r, hr, fx, fy'⟩ := lk_full (N := N) (L := L) (m := m) (ow := ow) (sm := sm) (sd := sd) (wc := wc) (wv := wv) (wk := wk) (cs := cs) (cv := cv) (ta := ta) (tO := tO) (tp := tp) (lr := lr) (pv := pv) (br := br) (fg := fg) (tc := tc) (lv := lv) (lw := lw) (tk := tk) (sh := sh) (co := co) (vo := vo) (ke := ke) (pe := pe) (oP := oP) (bz := bz) (ro := ro) (fy := fy) (ca := ca) qta hL hc4
          rcases hr with rfl | rfl
          · refine ⟨2, _, _, dc_in (m := m) (sd := sd) (rr_start 4 0 (Or.inr (Or.inr (Or.inr rfl))) (rr_cs 0 (rr_pv (cv (l * 4 + c)) h hl4 hc4) hl4 hc4) hl4 hc y), fun post hp => ?_, fun post hp => ?_⟩
            · simp only [wpX_evict]
              refine gx _ (br_f (by decide) (nm_r (dc_i4 l c) ?_))
              rw [nI_clamp (by omega)]
              exact ⟨vp_in_nI (by omega) (by decide), br_t y ⟨vp_in_nI (by omega) (by decide), br_f z ⟨vp_in_nI (by omega) (by decide), br_f w (fx _ (br_t rfl ⟨vp_in_nI (by omega) (by decide), vp_in_nI (by omega) (by decide), nm_e ⟨vp_in_nI (by omega) (by decide), nm_e (dx_start 4 0 (by omega) hp)⟩⟩))⟩⟩⟩
            · simp only [wpY_evict]
              refine gy _ (br_t rfl (nm_r (dc_i5 l c) ?_))
              rw [nI_clamp (by omega), e1, e2, e3]
              exact ⟨vp_in_nI (by omega) (by decide), br_t y ⟨vp_in_nI (by omega) (by decide), br_f z ⟨vp_in_nI (by omega) (by decide), br_f w (fy' _ (br_t rfl ⟨vp_in_nI (by omega) (by decide), vp_in_nI (by omega) (by decide), nm_e ⟨vp_in_nI (by omega) (by decide), nm_e (dy_start 4 0 hl4 hc4 hp)⟩⟩))⟩⟩⟩
          · refine ⟨4, _, _, dc_in (m := m) (sd := sd) h, fun post hp => ?_, fun post hp => ?_⟩
            · simp only [wpX_evict]
              refine gx _ (br_f (by decide) (nm_r (dc_i4 l c) ?_))
              rw [nI_clamp (by omega)]
              exact ⟨vp_in_nI (by omega) (by decide), br_t y ⟨vp_in_nI (by omega) (by decide), br_f z ⟨vp_in_nI (by omega) (by decide), br_f w (fx _ (br_f (by decide) hp))⟩⟩⟩
            · simp only [wpY_evict]
              refine gy _ (br_t rfl (nm_r (dc_i5 l c) ?_))
              rw [nI_clamp (by omega), e1, e3]
              exact ⟨vp_in_nI (by omega) (by decide), br_t y ⟨vp_in_nI (by omega) (by decide), br_f z ⟨vp_in_nI (by omega) (by decide), br_f w (fy' _ (br_f (by decide) hp))⟩⟩⟩
    · refine ⟨3, _, _, dc_in (m := m) (sd := sd) h, fun post hp => ?_, fun post hp => ?_⟩
      · simp only [wpX_evict]
        refine gx _ (br_f (by decide) (nm_r (dc_i4 l c) ?_))
        rw [nI_clamp (by omega)]
        exact ⟨vp_in_nI (by omega) (by decide), br_f y hp⟩
      · simp only [wpY_evict]
        refine gy _ (br_t rfl (nm_r (dc_i5 l c) ?_))
        rw [nI_clamp (by omega), e3]
        exact ⟨vp_in_nI (by omega) (by decide), br_f y hp⟩
  · refine ⟨-1, _, _, dc_in (m := m) (sd := sd) h, fun post hp => ?_, fun post hp => ?_⟩
    · simp only [wpX_evict]
      exact gx _ (br_t rfl hp)
    · simp only [wpY_evict]
      exact gy _ (br_f (by decide) hp)
end
theorem i_vc_load {k : Nat} {u : SX} {v : SY} (I : i_Rel k u v) (hk : k + 5 ≤ 2563) (v1 : Int32) (v2 : Int32) : wpX_load (fun r u' => wpY_load (fun r' v' => r' = r ∧ i_Rel (k + 5) u' v') v v1 v2) u v1 v2 := by
  refine dc_el (P := fun u v => wpX_load (fun r u' => wpY_load (fun r' v' => r' = r ∧ i_Rel (k + 5) u' v') v v1 v2) u v1 v2) ?_ I
  intro N L m T F S ow sm sd wc wv wk cs cv ta tO tp lr pv br fg tc lv lw tk sh co vo ke pe oP bz ro fy ca h
  exact dc_Ok_use (lk_load (m := m) (sd := sd) v1 v2 h)
theorem i_vc_store {k : Nat} {u : SX} {v : SY} (I : i_Rel k u v) (hk : k + 5 ≤ 2563) (v1 : Int32) (v2 : Int32) (v3 : Int32) : wpX_store (fun r u' => wpY_store (fun r' v' => r' = r ∧ i_Rel (k + 5) u' v') v v1 v2 v3) u v1 v2 v3 := by
  refine dc_el (P := fun u v => wpX_store (fun r u' => wpY_store (fun r' v' => r' = r ∧ i_Rel (k + 5) u' v') v v1 v2 v3) u v1 v2 v3) ?_ I
  intro N L m T F S ow sm sd wc wv wk cs cv ta tO tp lr pv br fg tc lv lw tk sh co vo ke pe oP bz ro fy ca h
  exact dc_Ok_use (lk_store (m := m) (sd := sd) v1 v2 v3 h)
theorem i_vc_add {k : Nat} {u : SX} {v : SY} (I : i_Rel k u v) (hk : k + 5 ≤ 2563) (v1 : Int32) (v2 : Int32) (v3 : Int32) : wpX_add (fun r u' => wpY_add (fun r' v' => r' = r ∧ i_Rel (k + 5) u' v') v v1 v2 v3) u v1 v2 v3 := by
  refine dc_el (P := fun u v => wpX_add (fun r u' => wpY_add (fun r' v' => r' = r ∧ i_Rel (k + 5) u' v') v v1 v2 v3) u v1 v2 v3) ?_ I
  intro N L m T F S ow sm sd wc wv wk cs cv ta tO tp lr pv br fg tc lv lw tk sh co vo ke pe oP bz ro fy ca h
  exact dc_Ok_use (lk_add (m := m) (sd := sd) v1 v2 v3 h)
theorem i_vc_evict {k : Nat} {u : SX} {v : SY} (I : i_Rel k u v) (hk : k + 5 ≤ 2563) (v1 : Int32) (v2 : Int32) : wpX_evict (fun r u' => wpY_evict (fun r' v' => r' = r ∧ i_Rel (k + 5) u' v') v v1 v2) u v1 v2 := by
  refine dc_el (P := fun u v => wpX_evict (fun r u' => wpY_evict (fun r' v' => r' = r ∧ i_Rel (k + 5) u' v') v v1 v2) u v1 v2) ?_ I
  intro N L m T F S ow sm sd wc wv wk cs cv ta tO tp lr pv br fg tc lv lw tk sh co vo ke pe oP bz ro fy ca h
  exact dc_Ok_use (lk_evict (m := m) (sd := sd) v1 v2 h)
end
section
/-! home takes a request -/
def dc_sup (o c j q : Nat) (w a b : Int32) : Prop := (o = 4 ∧ j = 3 ∧ q = 4 ∧ w = a) ∨ (o ≠ 4 ∧ o = c ∧ j = 3 ∧ q = 4 ∧ w = b) ∨ (o ≠ 4 ∧ o ≠ c ∧ j = 1 ∧ q = o ∧ w = 0)
theorem dc_sup_ex (o c : Nat) (a b : Int32) : ∃ (j q : Nat) (w : Int32), dc_sup o c j q w a b := by
  by_cases h : o = 4
  · exact ⟨3, 4, a, Or.inl ⟨h, rfl, rfl, rfl⟩⟩
  · by_cases g : o = c
    · exact ⟨3, 4, b, Or.inr (Or.inl ⟨h, g, rfl, rfl, rfl⟩)⟩
    · exact ⟨1, o, 0, Or.inr (Or.inr ⟨h, g, rfl, rfl, rfl⟩)⟩
theorem dc_iv_set (F : Nat → Nat → Nat → Nat → Bool) (s : Nat → Bool) (n l c j q : Nat) (hj : j ≠ 2) (a b k p : Nat) : dc_set (dc_iv F s n l c) l c j q true a b k p = dc_iv (dc_set F l c j q true) s n l c a b k p := by
  unfold dc_set dc_iv
  dsimp only
  by_cases e : a = l ∧ b = c ∧ k = j ∧ p = q
  · rw [if_pos e, if_neg (fun z => hj (e.2.2.1.symm.trans z.2.2.1)), if_pos e]
  · rw [if_neg e]
    by_cases z : a = l ∧ b = c ∧ k = 2 ∧ p < n ∧ p ≠ c ∧ s p = true
    · rw [if_pos z, if_pos z]
    · rw [if_neg z, if_neg z, if_neg e]
section
variable {N L : Nat} {m : Int32} {T : Nat → List Nat} {F : Nat → Nat → Nat → Nat → Bool} {S : Nat → Nat → Bool} {ow sm sd wc wv wk cs cv ta tO tp lr pv br fg tc lv lw tk sh co vo ke pe oP bz ro fy ca : Nat → Int32}
theorem rr_ow {l o : Nat} (h : dc_RR N L T F S ow sm sd wc wv wk cs cv ta tO tp lr pv br fg tc lv lw tk sh co vo ke pe oP bz ro fy ca) (ho : o < N ∨ o = 4) : dc_RR N L T F S (upd ow l (nI o)) sm sd wc wv wk cs cv ta tO tp lr pv br fg tc lv lw tk sh co vo ke pe oP bz ro fy ca := by
  obtain ⟨a1, a2, a3, a4, a5, a6, a7, a8, a9, a10, a11, a12, a13, a14, a15, a16, a17⟩ := h
  exact ⟨a1, a2, a3, a4, a5, a6, a7, dc_OW_upd a8 ho, a9, a10, a11, a12, a13, a14, a15, a16, a17⟩
theorem rr_sd {sd' : Nat → Int32} (h : dc_RR N L T F S ow sm sd wc wv wk cs cv ta tO tp lr pv br fg tc lv lw tk sh co vo ke pe oP bz ro fy ca) : dc_RR N L T F S ow sm sd' wc wv wk cs cv ta tO tp lr pv br fg tc lv lw tk sh co vo ke pe oP bz ro fy ca := h
theorem rr_S {S' : Nat → Nat → Bool} {sm' sh' : Nat → Int32} (h : dc_RR N L T F S ow sm sd wc wv wk cs cv ta tO tp lr pv br fg tc lv lw tk sh co vo ke pe oP bz ro fy ca) (h1 : dc_SX N S' sm') (h2 : dc_SY S' sh') : dc_RR N L T F S' ow sm' sd wc wv wk cs cv ta tO tp lr pv br fg tc lv lw tk sh' co vo ke pe oP bz ro fy ca := by
  obtain ⟨a1, a2, a3, a4, a5, a6, a7, a8, a9, a10, a11, a12, a13, a14, a15, a16, a17⟩ := h
  exact ⟨a1, a2, a3, a4, a5, a6, a7, a8, h1, h2, a11, a12, a13, a14, a15, a16, a17⟩
theorem dc_TT_app {l c : Nat} (hT : dc_TT N T) (hl : l < 4) (hc : c < N) (hcT : ¬ c ∈ T l) : dc_TT N (dc_tu T l (T l ++ [c])) := by
  intro l' hl'
  by_cases e : l' = l
  · subst e
    rw [dc_tu_eq]
    refine ⟨?_, ?_⟩
    · rw [List.nodup_append]
      refine ⟨(hT l' hl).1, by simp, ?_⟩
      intro a ha b hb e
      rw [List.mem_singleton] at hb
      rw [e, hb] at ha
      exact hcT ha
    · intro x hx
      rw [List.mem_append, List.mem_singleton] at hx
      rcases hx with z | z
      · exact (hT l' hl).2 x z
      · rw [z]; exact hc
  · rw [dc_tu_ne T _ e]; exact hT l' hl'
theorem dc_TT_rm {l c : Nat} (hT : dc_TT N T) (hl : l < 4) : dc_TT N (dc_tu T l (dc_rm (T l) c)) := by
  intro l' hl'
  by_cases e : l' = l
  · subst e
    rw [dc_tu_eq]
    exact ⟨dc_rm_nodup _ _ (hT l' hl).1, fun x hx => (hT l' hl).2 x ((dc_rm_mem _ _ _).mp hx).1⟩
  · rw [dc_tu_ne T _ e]; exact hT l' hl'
theorem rr_req {l c : Nat} {F' : Nat → Nat → Nat → Nat → Bool} {fg' fy' br' ca' : Nat → Int32} (h : dc_RR N L T F S ow sm sd wc wv wk cs cv ta tO tp lr pv br fg tc lv lw tk sh co vo ke pe oP bz ro fy ca) (hl : l < 4) (hc : c < N) (hcT : ¬ c ∈ T l) (hX : dc_FX F' fg') (hY : dc_FY F' fy') (hF : ∀ l' c', ¬ (l' = l ∧ c' = c) → F' l' c' = F l' c') (h2 : ∀ l' c', l' < 4 → c' < 4 → ¬ (l' = l ∧ c' = c) → br' (l' * 4 + c') = br (l' * 4 + c')) (h4 : ∀ l' c' p, l' < 4 → c' < 4 → p < 5 → ¬ (l' = l ∧ c' = c) → ca' (((l' * 5 + c') * 6 + 3) * 5 + p) = ca (((l' * 5 + c') * 6 + 3) * 5 + p)) (hI : dc_IC N (ta (l * 4 + c)) True (F' l c) (br' (l * 4 + c)) (bz (l * 5 + c)) (fun p => ca' (((l * 5 + c) * 6 + 3) * 5 + p))) : dc_RR N L (dc_tu T l (T l ++ [c])) F' S ow sm sd wc wv wk cs cv ta tO (upd tp (l * 4 + c) (nI ((T l).length + 1))) lr pv br' fg' (upd tc l (nI ((T l).length + 1))) lv lw (upd tk (l * 5 + (T l).length) (nI c)) sh co vo ke pe oP bz ro fy' ca' := by
  obtain ⟨a1, a2, a3, a4, a5, a6, a7, a8, a9, a10, a11, a12, a13, a14, a15, a16, a17⟩ := h
  have hN := a1.2.1
  refine ⟨a1, a2, a3, a4, a5, a6, a7, a8, a9, a10, a11, hX, hY, dx_PX_app a14 hl (by omega) hcT, dy_PY_app a15 a16 hN hl hc hcT, dc_TT_app a16 hl hc hcT, ?_⟩
  refine dc_IA_step (l := l) (c := c) a17 hc ?_ hF (fun _ _ _ _ _ => rfl) h2 (fun _ _ _ _ _ => rfl) h4 ?_
  · intro l' c' _ _ e
    by_cases z : l' = l
    · subst z
      rw [dc_tu_eq, List.mem_append, List.mem_singleton]
      constructor
      · rintro (y | y)
        · exact y
        · exact absurd ⟨rfl, y⟩ e
      · intro y; exact Or.inl y
    · rw [dc_tu_ne T _ z]
  · have e : (c ∈ dc_tu T l (T l ++ [c]) l) = True := by
      rw [dc_tu_eq]
      simp
    rw [e]
    exact hI
theorem dx_supply {l c o j q : Nat} {w : Int32} (ho : ow l = nI o) (ho5 : o < 5) (hs : dc_sup o c j q w (sd l) (cv (l * 4 + c))) (hl : l < 4) (hc : c < 4) {post : SX → Prop} (h : post (nI N, nI L, m, ow, sm, sd, wc, wv, wk, cs, cv, ta, tO, tp, lr, pv, (if j = 3 then upd br (l * 4 + c) w else br), (upd fg ((l * 4 + c) * 6 + j) (fg ((l * 4 + c) * 6 + j) ||| ((1 : Int32) <<< (nI q &&& 31)))))) : wpX_supplyData post (nI N, nI L, m, ow, sm, sd, wc, wv, wk, cs, cv, ta, tO, tp, lr, pv, br, fg) (nI l) (nI c) := by
  simp only [wpX_supplyData]
  rw [nI_clamp (n := l) (by omega), ho]
  refine nm_r (dc_i4 l c) ⟨vp_in_nI hl (by decide), nm_e ?_⟩
  rw [nI_clamp (n := l * 4 + c) (by omega)]
  rcases hs with ⟨rfl, rfl, rfl, rfl⟩ | ⟨n4, rfl, rfl, rfl, rfl⟩ | ⟨n4, nc, rfl, rfl, rfl⟩
  · rw [if_pos rfl] at h
    exact br_t rfl ⟨vp_in_nI (by omega) (by decide), vp_in_nI (by omega) (by decide), nm_e (dx_send 3 (l * 4 + c) 4 (by decide) (by omega) h)⟩
  · rw [if_pos rfl] at h
    exact br_f (by rw [show (4 : Int32) = nI 4 from rfl, nI_eq (by omega) (by omega)]; exact n4) (br_t rfl ⟨vp_in_nI (by omega) (by decide), vp_in_nI (by omega) (by decide), nm_e (dx_send 3 _ 4 (by decide) (by omega) h)⟩)
  · rw [if_neg (by decide)] at h
    exact br_f (by rw [show (4 : Int32) = nI 4 from rfl, nI_eq (by omega) (by omega)]; exact n4) (br_f (by rw [nI_eq (by omega) (by omega)]; exact nc) (dx_send 1 (l * 4 + c) _ (by decide) (by omega) h))
theorem dy_supply {l c o j q : Nat} {w : Int32} (ho5 : o < 5) (hs : dc_sup o c j q w (sd l) (vo (l * 5 + c))) (hl : l < 4) (hc : c < 4) (hp : ¬ pe (l * 5 + c) = 4) {post : SY → Prop} (h : wY_take_151 post (nI l) (nI c) (nI (l * 5 + c)) (nI N) (nI L) m ow sd wc tc lv lw tk sh co vo ke pe oP bz ro (upd fy (((l * 5 + c) * 6 + j) * 5 + q) 1) (upd ca (((l * 5 + c) * 6 + j) * 5 + q) w)) : wY_take_50 post (nI l) (nI c) (nI (l * 5 + c)) (nI o) (nI N) (nI L) m ow sd wc tc lv lw tk sh co vo ke pe oP bz ro fy ca := by
  simp only [wY_take_50]
  rw [nI_clamp (n := l) (by omega), nI_clamp (n := l * 5 + c) (by omega)]
  refine ⟨vp_in_nI (by omega) (by decide), br_f hp ?_⟩
  rcases hs with ⟨rfl, rfl, rfl, rfl⟩ | ⟨n4, rfl, rfl, rfl, rfl⟩ | ⟨n4, nc, rfl, rfl, rfl⟩
  · exact br_t rfl ⟨vp_in_nI (by omega) (by decide), dy_send 3 l c 4 _ hl hc (by decide) (by decide) h⟩
  · exact br_f (by rw [show (4 : Int32) = nI 4 from rfl, nI_eq (by omega) (by omega)]; exact n4) (br_t rfl ⟨vp_in_nI (by omega) (by decide), dy_send 3 l _ 4 _ hl hc (by decide) (by decide) h⟩)
  · exact br_f (by rw [show (4 : Int32) = nI 4 from rfl, nI_eq (by omega) (by omega)]; exact n4) (br_f (by rw [nI_eq (by omega) (by omega)]; exact nc) (dy_send 1 l c _ 0 hl hc (by decide) (by omega) h))
theorem dy_take {l c : Nat} (hP : dc_PY T tc tk) (hl : l < 4) (hlen : (T l).length < 4) {post : SY → Prop} (h : wY_take_50 post (nI l) (nI c) (nI (l * 5 + c)) (ow l) (nI N) (nI L) m ow sd wc (upd tc l (nI ((T l).length + 1))) lv lw (upd tk (l * 5 + (T l).length) (nI c)) sh co vo ke pe oP bz ro fy ca) : wpY_take post (nI N, nI L, m, ow, sd, wc, tc, lv, lw, tk, sh, co, vo, ke, pe, oP, bz, ro, fy, ca) (nI l) (nI c) := by
  have g := (hP l hl).1
  simp only [wpY_take]
  rw [nI_clamp (n := l) (by omega), g, dc_i5 l (T l).length, nI_clamp (n := l * 5 + (T l).length) (by omega), nI_1]
  refine nm_r (dc_i5 l c) ⟨vp_in_nI hl (by decide), nm_e ⟨vp_in_nI hl (by decide), br_f (nI_ge (b := 4) (by omega) (by decide)) ?_⟩⟩
  exact ⟨vp_in_nI hl (by decide), vp_in_nI (by omega) (by decide), nm_e ⟨vp_in_nI hl (by decide), vp_in_nI hl (by decide), nm_e h⟩⟩
theorem dc_sup_ok {o c j q N : Nat} {w a b : Int32} (h : dc_sup o c j q w a b) (ho : o < N ∨ o = 4) (hN : N ≤ 4) : (j = 1 ∧ q < N ∨ j = 3 ∧ q = 4) ∧ j ≠ 2 ∧ j < 6 ∧ q < 5 := by
  rcases h with ⟨h1, rfl, rfl, -⟩ | ⟨h1, h2, rfl, rfl, -⟩ | ⟨h1, h2, rfl, rfl, -⟩
  · exact ⟨Or.inr ⟨rfl, rfl⟩, by decide, by decide, by decide⟩
  · exact ⟨Or.inr ⟨rfl, rfl⟩, by decide, by decide, by decide⟩
  · exact ⟨Or.inl ⟨rfl, by omega⟩, by decide, by decide, by omega⟩
theorem dc_ord_IC {N l c j q : Nat} {t w bz' : Int32} {f : Nat → Nat → Bool} {br ca' : Nat → Int32} (ht : t = 1 ∨ t = 2 ∨ t = 3) (hj : j = 1 ∧ q < N ∨ j = 3 ∧ q = 4) (hq : q < 5) (h1 : f j q = true) (hf : ∀ k p, k < 6 → p < 5 → f k p = true → (k = j ∧ p = q) ∨ (k = 2 ∧ p < N ∧ (t = 2 ∨ t = 3))) (hca : j = 3 → ca' (((l * 5 + c) * 6 + 3) * 5 + q) = w) : dc_IC N t True f ((if j = 3 then upd br (l * 4 + c) w else br) (l * 4 + c)) bz' (fun p => ca' (((l * 5 + c) * 6 + 3) * 5 + p)) := by
  refine dc_IC_ord ht trivial j q ?_ hq h1 hf
  rcases hj with z | ⟨rfl, rfl⟩
  · exact Or.inl z
  · right
    refine ⟨rfl, Or.inr rfl, ?_⟩
    rw [if_pos rfl, pk_us]
    exact hca rfl
theorem lk_take {l c : Nat} {fg1 fy1 : Nat → Int32} (h : dc_RR N L T F S ow sm sd wc wv wk cs cv ta tO tp lr pv br fg tc lv lw tk sh co vo ke pe oP bz ro fy ca) (hl : l < L) (hc : c < N) (hF : F l c 0 4 = true) (hX : dc_FX (dc_set F l c 0 4 false) fg1) (hY : dc_FY (dc_set F l c 0 4 false) fy1) : ∃ (u : SX) (v : SY), dc_RL L u v ∧ (∀ post : SX → Prop, post u → wpX_takeRequest post (nI N, nI L, m, ow, sm, sd, wc, wv, wk, cs, cv, ta, tO, tp, lr, pv, br, fg1) (nI l) (nI c)) ∧ (∀ post : SY → Prop, post v → wpY_take post (nI N, nI L, m, ow, sd, wc, tc, lv, lw, tk, sh, co, vo, ke, pe, oP, bz, ro, fy1, ca) (nI l) (nI c)) := by
  have h0 := h
  obtain ⟨⟨hN2, hN, hL1, hL⟩, qcs, qcv, qta, qtO, qlr, qpv, hOW, hSX, hSY, hWR, -, -, hPX, hPY, hTT, hIA⟩ := h0
  have hl4 : l < 4 := by omega
  have hc4 : c < 4 := by omega
  have I := (hIA l c hl4 hc4).2
  obtain ⟨-, ho, t0, hno⟩ := dc_IC_req1 I (by decide) hF
  have hlen := dc_len_lt (hTT l hl4).1 (hTT l hl4).2 hc ho
  obtain ⟨o, hoN, eo⟩ := hOW l hl4
  have e2 := qcv l c hl4 hc4
  have e3 := qta l c hl4 hc4
  have e4 := qpv l c hl4 hc4
  have hne : ∀ l' c', ¬ (l' = l ∧ c' = c) → dc_set F l c 0 4 false l' c' = F l' c' := fun l' c' e => dc_set_ne F e
  by_cases t4 : ta (l * 4 + c) = 4
  · have hRR := rr_req (F' := dc_set (dc_set F l c 0 4 false) l c 5 4 true) (br' := br) h hl4 hc ho (dc_FX_or hX hl4 hc4 (by decide : 5 < 6) (by decide : 4 < 5)) (dc_FY_set (x := 1) hY hl4 hc4 (by decide : 5 < 6) (by decide : 4 < 5) rfl) (fun l' c' e => (dc_set_ne _ e).trans (hne l' c' e)) (fun _ _ _ _ _ => rfl) (ca' := upd ca (((l * 5 + c) * 6 + 5) * 5 + 4) 0) (fun l' c' p _ _ _ e => pk_un (by omega)) (by
      rw [t4, dc_set_eq, dc_set_eq]
      exact dc_IC_put hno trivial)
    by_cases oc : o = c
    · refine ⟨_, _, dc_inL (m := m) (sd := upd sd l (pv (l * 4 + c))) (rr_ow (l := l) (o := 4) (rr_sd (sd' := upd sd l (pv (l * 4 + c))) hRR) (Or.inr rfl)), fun post hp => ?_, fun post hp => ?_⟩
      · simp only [wpX_takeRequest]
        refine nm_r (dc_i4 l c) (dx_append hPX hTT hN hl4 hc ?_)
        rw [nI_clamp (by omega)]
        refine ⟨vp_in_nI (by omega) (by decide), br_t t4 ?_⟩
        simp only [wpX_takePut]
        refine nm_r (dc_i4 l c) ?_
        rw [nI_clamp (n := l) (by omega), nI_clamp (n := l * 4 + c) (by omega), eo]
        exact ⟨vp_in_nI (by omega) (by decide), br_t (congrArg nI oc) ⟨vp_in_nI (by omega) (by decide), vp_in_nI (by omega) (by decide), nm_e ⟨vp_in_nI (by omega) (by decide), nm_e (dx_send 5 (l * 4 + c) 4 (by decide) (by omega) hp)⟩⟩⟩
      · refine dy_take hPY hl4 (by omega) ?_
        simp only [wY_take_50]
        rw [nI_clamp (n := l) (by omega), nI_clamp (n := l * 5 + c) (by omega), e3, e4, eo]
        exact ⟨vp_in_nI (by omega) (by decide), br_t t4 (br_t (congrArg nI oc) ⟨vp_in_nI (by omega) (by decide), vp_in_nI (by omega) (by decide), nm_e ⟨vp_in_nI (by omega) (by decide), nm_e (dy_send 5 l c 4 0 hl4 hc4 (by decide) (by decide) hp)⟩⟩)⟩
    · have ne : ¬ nI o = nI c := by rw [nI_eq (by omega) (by omega)]; exact oc
      refine ⟨_, _, dc_inL (m := m) (sd := sd) hRR, fun post hp => ?_, fun post hp => ?_⟩
      · simp only [wpX_takeRequest]
        refine nm_r (dc_i4 l c) (dx_append hPX hTT hN hl4 hc ?_)
        rw [nI_clamp (by omega)]
        refine ⟨vp_in_nI (by omega) (by decide), br_t t4 ?_⟩
        simp only [wpX_takePut]
        refine nm_r (dc_i4 l c) ?_
        rw [nI_clamp (n := l) (by omega), nI_clamp (n := l * 4 + c) (by omega), eo]
        exact ⟨vp_in_nI (by omega) (by decide), br_f ne (dx_send 5 (l * 4 + c) 4 (by decide) (by omega) hp)⟩
      · refine dy_take hPY hl4 (by omega) ?_
        simp only [wY_take_50]
        rw [nI_clamp (n := l) (by omega), nI_clamp (n := l * 5 + c) (by omega), e3, e4, eo]
        exact ⟨vp_in_nI (by omega) (by decide), br_t t4 (br_f ne (dy_send 5 l c 4 0 hl4 hc4 (by decide) (by decide) hp))⟩
  · obtain ⟨j, q, w, hs⟩ := dc_sup_ex o c (sd l) (cv (l * 4 + c))
    obtain ⟨hj, j2, j6, q5⟩ := dc_sup_ok hs hoN hN
    have p4 : ¬ pe (l * 5 + c) = 4 := by rw [e3]; exact t4
    have hs' : dc_sup o c j q w (sd l) (vo (l * 5 + c)) := by rw [e2]; exact hs
    have hbr : ∀ l' c', l' < 4 → c' < 4 → ¬ (l' = l ∧ c' = c) → (if j = 3 then upd br (l * 4 + c) w else br) (l' * 4 + c') = br (l' * 4 + c') := by
      intro l' c' _ _ e
      by_cases j3 : j = 3
      · rw [if_pos j3, pk_un (by omega)]
      · rw [if_neg j3]
    have hca : ∀ l' c' p, l' < 4 → c' < 4 → p < 5 → ¬ (l' = l ∧ c' = c) → upd ca (((l * 5 + c) * 6 + j) * 5 + q) w (((l' * 5 + c') * 6 + 3) * 5 + p) = ca (((l' * 5 + c') * 6 + 3) * 5 + p) := fun l' c' p _ _ _ e => pk_un (by omega)
    by_cases t1 : ta (l * 4 + c) = 1
    · have hRR := rr_req (F' := dc_set (dc_set F l c 0 4 false) l c j q true) (br' := if j = 3 then upd br (l * 4 + c) w else br) h hl4 hc ho (dc_FX_or hX hl4 hc4 j6 q5) (dc_FY_set (x := 1) hY hl4 hc4 j6 q5 rfl) (fun l' c' e => (dc_set_ne _ e).trans (hne l' c' e)) hbr (ca' := upd ca (((l * 5 + c) * 6 + j) * 5 + q) w) hca (by
        rw [t1, dc_set_eq, dc_set_eq]
        refine dc_ord_IC (Or.inl rfl) hj q5 (if_pos ⟨rfl, rfl⟩) ?_ (fun z => by subst z; exact pk_us)
        intro k p hk hp z
        by_cases y : k = j ∧ p = q
        · exact Or.inl y
        · rw [dc_st, if_neg y, hno k p hk hp] at z
          cases z)
      have hS1 : dc_SX N (fun l' c' => if l' = l ∧ c' = c then true else S l' c') (upd sm l (sm l ||| ((1 : Int32) <<< (nI c &&& 31)))) := by
        intro l' hl'
        obtain ⟨s1, s2⟩ := hSX l' hl'
        by_cases e : l' = l
        · subst e
          rw [pk_us, s1, dc_mk_or _ (by omega)]
          refine ⟨dc_mk_congr fun p _ => by simp, ?_⟩
          intro c' hc' z
          by_cases y : c' = c
          · rw [y]; exact hc
          · simp only [y, and_false, if_false] at z
            exact s2 c' hc' z
        · rw [pk_un e, s1]
          refine ⟨dc_mk_congr fun p _ => by simp [e], ?_⟩
          intro c' hc' z
          simp only [e, false_and, if_false] at z
          exact s2 c' hc' z
      have hS2 : dc_SY (fun l' c' => if l' = l ∧ c' = c then true else S l' c') (upd sh (l * 5 + c) 1) := by
        intro l' c' hl' hc'
        dsimp only
        by_cases e : l' = l ∧ c' = c
        · obtain ⟨rfl, rfl⟩ := e
          rw [pk_us, if_pos ⟨rfl, rfl⟩]; rfl
        · rw [pk_un (by omega), if_neg e]
          exact hSY l' c' hl' hc'
      refine ⟨_, _, dc_inL (m := m) (sd := sd) (rr_S hRR hS1 hS2), fun post hp => ?_, fun post hp => ?_⟩
      · simp only [wpX_takeRequest]
        refine nm_r (dc_i4 l c) (dx_append hPX hTT hN hl4 hc ?_)
        rw [nI_clamp (n := l * 4 + c) (by omega), nI_clamp (n := l) (by omega)]
        exact ⟨vp_in_nI (by omega) (by decide), br_f t4 ⟨vp_in_nI (by omega) (by decide), br_t t1 ⟨vp_in_nI (by omega) (by decide), vp_in_nI (by omega) (by decide), nm_e (dx_supply eo (by omega) hs hl4 hc4 hp)⟩⟩⟩
      · refine dy_take hPY hl4 (by omega) ?_
        rw [eo]
        refine dy_supply (by omega) hs' hl4 hc4 p4 ?_
        simp only [wY_take_151]
        rw [nI_clamp (n := l * 5 + c) (by omega), e3, dc_nb1]
        exact ⟨vp_in_nI (by omega) (by decide), br_t t1 ⟨vp_in_nI (by omega) (by decide), nm_e hp⟩⟩
    · have t23 : ta (l * 4 + c) = 2 ∨ ta (l * 4 + c) = 3 := by
        rcases I.1 with z | z | z | z | z
        · exact absurd z t0
        · exact absurd z t1
        · exact Or.inl z
        · exact Or.inr z
        · exact absurd z t4
      obtain ⟨sm1, sm2⟩ := hSX l hl4
      obtain ⟨fgI, gI1, gI2⟩ := dx_inv (N := N) (L := L) (m := m) (ow := ow) (sm := sm) (sd := sd) (wc := wc) (wv := wv) (wk := wk) (cs := cs) (cv := cv) (ta := ta) (tO := tO) (tp := upd tp (l * 4 + c) (nI ((T l).length + 1))) (lr := lr) (pv := pv) (br := br) (fg := fg1) (S l) sm1 hX hN hl4 hc4
      obtain ⟨sh', fy', ca', gY1, gY2, gY3, gY4⟩ := dy_take172 (S := S) (F := dc_set (dc_set F l c 0 4 false) l c j q true) (N := N) (L := L) (m := m) (ow := ow) (sd := sd) (wc := wc) (tc := upd tc l (nI ((T l).length + 1))) (lv := lv) (lw := lw) (tk := upd tk (l * 5 + (T l).length) (nI c)) (co := co) (vo := vo) (ke := ke) (pe := pe) (oP := oP) (bz := bz) (ro := ro) sm2 hN hl4 hc4 (N + 1) 0 sh (upd fy1 (((l * 5 + c) * 6 + j) * 5 + q) 1) (upd ca (((l * 5 + c) * 6 + j) * 5 + q) w) (by omega) (by omega) (dc_FY_congr (dc_FY_set hY hl4 hc4 j6 q5 rfl) (fun a b k p => (dc_iv_0 _ _ l c a b k p).symm)) (by
        intro l' c' hl' hc'
        dsimp only
        rw [if_neg (by omega)]
        exact hSY l' c' hl' hc')
      have hRR := rr_req (F' := dc_iv (dc_set (dc_set F l c 0 4 false) l c j q true) (S l) N l c) (br' := if j = 3 then upd br (l * 4 + c) w else br) h hl4 hc ho (dc_FX_congr (dc_FX_or gI1 hl4 hc4 j6 q5) (dc_iv_set _ _ N l c j q j2)) gY1 (by
        intro l' c' e
        funext k p
        rw [dc_iv, if_neg (fun z => e ⟨z.1, z.2.1⟩), dc_set_ne _ e, hne l' c' e]) hbr (ca' := ca') (fun l' c' p h1 h2 h3 e => (gY3 l' c' p h1 h2 h3).trans (hca l' c' p h1 h2 h3 e)) (by
        refine dc_ord_IC (Or.inr t23) hj q5 ?_ ?_ (fun z => by
          subst z
          rw [gY3 l c q hl4 hc4 q5]; exact pk_us)
        · rw [dc_iv, if_neg (fun z => j2 z.2.2.1), dc_set_eq]
          exact if_pos ⟨rfl, rfl⟩
        · intro k p hk hp z
          by_cases y : k = j ∧ p = q
          · exact Or.inl y
          · right
            rw [dc_iv] at z
            by_cases x : l = l ∧ c = c ∧ k = 2 ∧ p < N ∧ p ≠ c ∧ S l p = true
            · exact ⟨x.2.2.1, x.2.2.2.1, t23⟩
            · rw [if_neg x, dc_set_eq, dc_set_eq, dc_st, if_neg y, hno k p hk hp] at z
              cases z)
      have hS1 : dc_SX N (fun l' c' => if l' = l then false else S l' c') (upd sm l 0) := by
        intro l' hl'
        obtain ⟨s1, s2⟩ := hSX l' hl'
        by_cases e : l' = l
        · subst e
          rw [pk_us]
          refine ⟨?_, ?_⟩
          · simp only [if_true]; exact dc_mk_0.symm
          · intro c' hc' z
            simp at z
        · rw [pk_un e, s1]
          refine ⟨dc_mk_congr fun p _ => by simp [e], ?_⟩
          intro c' hc' z
          simp only [e, if_false] at z
          exact s2 c' hc' z
      refine ⟨_, _, dc_inL (m := m) (sd := sd) (rr_ow (l := l) (o := c) (rr_S hRR hS1 gY2) (Or.inl hc)), fun post hp => ?_, fun post hp => ?_⟩
      · simp only [wpX_takeRequest]
        refine nm_r (dc_i4 l c) (dx_append hPX hTT hN hl4 hc ?_)
        rw [nI_clamp (n := l * 4 + c) (by omega), nI_clamp (n := l) (by omega)]
        refine ⟨vp_in_nI (by omega) (by decide), br_f t4 ⟨vp_in_nI (by omega) (by decide), br_f t1 (gI2 _ ?_)⟩⟩
        refine dx_supply eo (by omega) hs hl4 hc4 ?_
        exact ⟨vp_in_nI (by omega) (by decide), nm_e ⟨vp_in_nI (by omega) (by decide), nm_e hp⟩⟩
      · refine dy_take hPY hl4 (by omega) ?_
        rw [eo]
        refine dy_supply (by omega) hs' hl4 hc4 p4 ?_
        simp only [wY_take_151]
        rw [nI_clamp (n := l * 5 + c) (by omega), e3]
        exact ⟨vp_in_nI (by omega) (by decide), br_f t1 ⟨N + 1, gY4 post hp⟩⟩
def dc_Dv (L : Nat) (X : (Int32 → SX → Prop) → Prop) (Y : (Int32 → SY → Prop) → Prop) : Prop := ∃ (r : Int32) (u : SX) (v : SY), (r = 2 ∨ r = 3) ∧ dc_RL L u v ∧ (∀ post : Int32 → SX → Prop, post r u → X post) ∧ (∀ post : Int32 → SY → Prop, post r v → Y post)
end
end
section
/-! the other deliveries -/
theorem dc_IC_emp {N : Nat} {t : Int32} {o : Prop} {f : Nat → Nat → Bool} {bx bz : Int32} {cr : Nat → Int32} (ht : t = 1 ∨ t = 4) (h : ∀ k p, k < 6 → p < 5 → f k p = false) : dc_IC N t o f bx bz cr := by
  refine ⟨?_, ?_, ?_, ?_, ?_⟩
  · rcases ht with z | z
    · exact Or.inr (Or.inl z)
    · exact Or.inr (Or.inr (Or.inr (Or.inr z)))
  · intro z
    rcases ht with y | y
    · exact absurd (y.symm.trans z) (by decide)
    · exact absurd (y.symm.trans z) (by decide)
  · intro k p hk hp e
    rw [h k p hk hp] at e
    cases e
  · intro k k' p p' hk hk' hp hp' e
    rw [h k p (by omega) hp] at e
    cases e
  · intro z
    exfalso
    rcases ht with y | y
    · rw [y] at z; exact absurd z (by decide)
    · rw [y] at z; exact absurd z (by decide)
theorem dc_p2 (a : Nat) : nI a + 2 = nI (a + 2) := by rw [show (2 : Int32) = nI 2 from rfl, nI_add]
theorem dc_p3 (a : Nat) : nI a + 3 = nI (a + 3) := by rw [show (3 : Int32) = nI 3 from rfl, nI_add]
theorem dc_p4 (a : Nat) : nI a + 4 = nI (a + 4) := by rw [show (4 : Int32) = nI 4 from rfl, nI_add]
section
variable {N L : Nat} {m : Int32} {T : Nat → List Nat} {F : Nat → Nat → Nat → Nat → Bool} {S : Nat → Nat → Bool} {ow sm sd wc wv wk cs cv ta tO tp lr pv br fg tc lv lw tk sh co vo ke pe oP bz ro fy ca : Nat → Int32}
theorem rr_msg {l c : Nat} {F' : Nat → Nat → Nat → Nat → Bool} {fg' fy' br' bz' ca' : Nat → Int32} (h : dc_RR N L T F S ow sm sd wc wv wk cs cv ta tO tp lr pv br fg tc lv lw tk sh co vo ke pe oP bz ro fy ca) (hc : c < N) (hX : dc_FX F' fg') (hY : dc_FY F' fy') (hF : ∀ l' c', ¬ (l' = l ∧ c' = c) → F' l' c' = F l' c') (h2 : ∀ l' c', l' < 4 → c' < 4 → ¬ (l' = l ∧ c' = c) → br' (l' * 4 + c') = br (l' * 4 + c')) (h3 : ∀ l' c', l' < 4 → c' < 4 → ¬ (l' = l ∧ c' = c) → bz' (l' * 5 + c') = bz (l' * 5 + c')) (h4 : ∀ l' c' p, l' < 4 → c' < 4 → p < 5 → ¬ (l' = l ∧ c' = c) → ca' (((l' * 5 + c') * 6 + 3) * 5 + p) = ca (((l' * 5 + c') * 6 + 3) * 5 + p)) (hI : dc_IC N (ta (l * 4 + c)) (c ∈ T l) (F' l c) (br' (l * 4 + c)) (bz' (l * 5 + c)) (fun p => ca' (((l * 5 + c) * 6 + 3) * 5 + p))) : dc_RR N L T F' S ow sm sd wc wv wk cs cv ta tO tp lr pv br' fg' tc lv lw tk sh co vo ke pe oP bz' ro fy' ca' := by
  obtain ⟨a1, a2, a3, a4, a5, a6, a7, a8, a9, a10, a11, a12, a13, a14, a15, a16, a17⟩ := h
  exact ⟨a1, a2, a3, a4, a5, a6, a7, a8, a9, a10, a11, hX, hY, a14, a15, a16, dc_IA_step (l := l) (c := c) a17 hc (fun _ _ _ _ _ => Iff.rfl) hF (fun _ _ _ _ _ => rfl) h2 h3 h4 hI⟩
theorem lk_fin {l c : Nat} (h : dc_RR N L T F S ow sm sd wc wv wk cs cv ta tO tp lr pv br fg tc lv lw tk sh co vo ke pe oP bz ro fy ca) (hl : l < 4) (hc : c < N) (hcT : c ∈ T l) (hno : ∀ k p, k < 6 → p < 5 → F l c k p = false) : ∃ tp' tk', dc_RR N L (dc_tu T l (dc_rm (T l) c)) F S ow sm sd wc wv wk cs cv (upd ta (l * 4 + c) 0) (upd tO (l * 4 + c) 0) tp' lr pv br fg (upd tc l (nI (dc_rm (T l) c).length)) lv lw tk' sh co vo ke (upd pe (l * 5 + c) 0) (upd oP (l * 5 + c) 0) bz ro fy ca ∧ (∀ post : SX → Prop, post (nI N, nI L, m, ow, sm, sd, wc, wv, wk, cs, cv, (upd ta (l * 4 + c) 0), (upd tO (l * 4 + c) 0), tp', lr, pv, br, fg) → wpX_finish post (nI N, nI L, m, ow, sm, sd, wc, wv, wk, cs, cv, ta, tO, tp, lr, pv, br, fg) (nI l) (nI (l * 4 + c))) ∧ (∀ post : Int32 → SY → Prop, post 3 (nI N, nI L, m, ow, sd, wc, (upd tc l (nI (dc_rm (T l) c).length)), lv, lw, tk', sh, co, vo, ke, (upd pe (l * 5 + c) 0), (upd oP (l * 5 + c) 0), bz, ro, fy, ca) → wpY_complete post (nI N, nI L, m, ow, sd, wc, tc, lv, lw, tk, sh, co, vo, ke, pe, oP, bz, ro, fy, ca) (nI c) (nI l)) := by
  obtain ⟨a1, a2, a3, a4, a5, a6, a7, a8, a9, a10, a11, a12, a13, a14, a15, a16, a17⟩ := h
  have hN := a1.2.1
  have hc4 : c < 4 := by omega
  obtain ⟨tp', x1, x2⟩ := dx_finish (N := N) (L := L) (m := m) (ow := ow) (sm := sm) (sd := sd) (wc := wc) (wv := wv) (wk := wk) (cs := cs) (cv := cv) (ta := ta) (tO := tO) (tp := tp) (lr := lr) (pv := pv) (br := br) (fg := fg) a14 a16 hN hl hc hcT
  obtain ⟨tk', y1, y2⟩ := dy_comp (N := N) (L := L) (m := m) (ow := ow) (sd := sd) (wc := wc) (tc := tc) (lv := lv) (lw := lw) (tk := tk) (sh := sh) (co := co) (vo := vo) (ke := ke) (pe := pe) (oP := oP) (bz := bz) (ro := ro) (fy := fy) (ca := ca) (c := c) a15 a16 hN hl hc4
  refine ⟨tp', tk', ⟨a1, a2, a3, dc_Q_upd a4 hl hc4, dc_Q_upd a5 hl hc4, a6, a7, a8, a9, a10, a11, a12, a13, x1, y1, dc_TT_rm a16 hl, ?_⟩, x2, y2⟩
  refine dc_IA_step (l := l) (c := c) a17 hc ?_ (fun _ _ _ => rfl) (fun l' c' _ _ e => pk_un (by omega)) (fun _ _ _ _ _ => rfl) (fun _ _ _ _ _ => rfl) (fun _ _ _ _ _ _ _ => rfl) ?_
  · intro l' c' _ _ e
    by_cases z : l' = l
    · subst z
      rw [dc_tu_eq, dc_rm_mem]
      exact ⟨fun y => y.1, fun y => ⟨y, fun x => e ⟨rfl, x⟩⟩⟩
    · rw [dc_tu_ne T _ z]
  · rw [pk_us]
    refine dc_IC_idle hno ?_
    rw [dc_tu_eq, dc_rm_mem]
    exact fun y => y.2 rfl
theorem dy_271f {l c k : Nat} (hY : dc_FY F fy) (hl : l < 4) (hc : c < 4) (hk : k < 6) (hno : ∀ q, q < 5 → F l c k q = false) {post : Int32 → SY → Prop} {J : Int32 → Prop} (hJ : J (nI (k + 1))) : ∀ n p, 5 < n + p → p ≤ 5 → wY_move_271 post J (nI l) (nI c) (nI (l * 5 + c)) (nI k) (nI N) (nI L) m ow sd wc tc lv lw tk sh co vo ke pe oP bz ro fy ca n (nI p) := by
  intro n
  induction n with
  | zero => intro p h1 h2; omega
  | succ n ih =>
    intro p h1 h2
    simp only [wY_move_271]
    by_cases hp : p < 5
    · refine br_f (nI_nlt (a := 4) (by omega) (by decide)) (dy_name k l c p ?_)
      rw [nI_clamp (by omega), hY l c k p hl hc hk hp, hno p hp]
      exact ⟨vp_in_nI (by omega) (by decide), br_t rfl (nm_r (nI_1 p) (ih (p + 1) (by omega) (by omega)))⟩
    · exact br_t (nI_lt (a := 4) (by omega) (by omega)) (nm_r (nI_1 k) hJ)
theorem dy_271t {l c k q : Nat} (hY : dc_FY F fy) (hl : l < 4) (hc : c < 4) (hk : k < 6) (hq : q < 5) (hF : F l c k q = true) {post : Int32 → SY → Prop} {J : Int32 → Prop} (hp2 : post 2 (nI N, nI L, m, ow, sd, wc, tc, lv, lw, tk, sh, co, vo, ke, pe, oP, bz, ro, fy, ca)) : ∀ n p, 5 < n + p → p ≤ q → wY_move_271 post J (nI l) (nI c) (nI (l * 5 + c)) (nI k) (nI N) (nI L) m ow sd wc tc lv lw tk sh co vo ke pe oP bz ro fy ca n (nI p) := by
  intro n
  induction n with
  | zero => intro p h1 h2; omega
  | succ n ih =>
    intro p h1 h2
    simp only [wY_move_271]
    refine br_f (nI_nlt (a := 4) (by omega) (by decide)) (dy_name k l c p ?_)
    rw [nI_clamp (by omega), hY l c k p hl hc hk (by omega)]
    refine ⟨vp_in_nI (by omega) (by decide), ?_⟩
    cases b : F l c k p with
    | true => exact br_f (by decide) hp2
    | false =>
      have : p ≠ q := by
        intro e
        rw [e, hF] at b
        cases b
      exact br_t rfl (nm_r (nI_1 p) (ih (p + 1) (by omega) (by omega)))
theorem dy_262f {l c : Nat} (hY : dc_FY F fy) (hl : l < 4) (hc : c < 4) (hno : ∀ k p, 1 ≤ k → k ≤ 4 → p < 5 → F l c k p = false) {post : Int32 → SY → Prop} (hE : ∀ n, wY_move_262 post (nI l) (nI c) (nI (l * 5 + c)) (nI N) (nI L) m ow sd wc tc lv lw tk sh co vo ke pe oP bz ro fy ca (n + 1) (nI 5)) : ∀ n k, 5 < n + k → 1 ≤ k → k ≤ 5 → wY_move_262 post (nI l) (nI c) (nI (l * 5 + c)) (nI N) (nI L) m ow sd wc tc lv lw tk sh co vo ke pe oP bz ro fy ca n (nI k) := by
  intro n
  induction n with
  | zero => intro k h1 h2 h3; omega
  | succ n ih =>
    intro k h1 h2 h3
    by_cases hk : k < 5
    · simp only [wY_move_262]
      exact br_f (nI_nlt (a := 4) (by omega) (by decide)) ⟨6, dy_271f hY hl hc (by omega) (fun q hq => hno k q h2 (by omega) hq) (ih (k + 1) (by omega) (by omega) (by omega)) 6 0 (by omega) (by omega)⟩
    · have e : k = 5 := by omega
      subst e
      exact hE n
theorem dy_262t {l c k' q : Nat} (hY : dc_FY F fy) (hl : l < 4) (hc : c < 4) (hk' : k' ≤ 4) (hq : q < 5) (hF : F l c k' q = true) {post : Int32 → SY → Prop} (hp2 : post 2 (nI N, nI L, m, ow, sd, wc, tc, lv, lw, tk, sh, co, vo, ke, pe, oP, bz, ro, fy, ca)) : ∀ n k, 5 < n + k → 1 ≤ k → k ≤ k' → wY_move_262 post (nI l) (nI c) (nI (l * 5 + c)) (nI N) (nI L) m ow sd wc tc lv lw tk sh co vo ke pe oP bz ro fy ca n (nI k) := by
  intro n
  induction n with
  | zero => intro k h1 h2 h3; omega
  | succ n ih =>
    intro k h1 h2 h3
    simp only [wY_move_262]
    by_cases e : k = k'
    · subst e
      exact br_f (nI_nlt (a := 4) (by omega) (by decide)) ⟨6, dy_271t hY hl hc (by omega) hq hF hp2 6 0 (by omega) (by omega)⟩
    · by_cases z : ∃ p, p < 5 ∧ F l c k p = true
      · obtain ⟨p, h5, h6⟩ := z
        exact br_f (nI_nlt (a := 4) (by omega) (by decide)) ⟨6, dy_271t hY hl hc (by omega) h5 h6 hp2 6 0 (by omega) (by omega)⟩
      · refine br_f (nI_nlt (a := 4) (by omega) (by decide)) ⟨6, dy_271f hY hl hc (by omega) (fun p hp => ?_) (ih (k + 1) (by omega) (by omega) (by omega)) 6 0 (by omega) (by omega)⟩
        cases b : F l c k p with
        | false => rfl
        | true => exact absurd ⟨p, hp, b⟩ z
/-- a write completes, or waits on, on both sides alike -/
theorem lk_cw {l c : Nat} (h : dc_RR N L T F S ow sm sd wc wv wk cs cv ta tO tp lr pv br fg tc lv lw tk sh co vo ke pe oP bz ro fy ca) (hl : l < 4) (hc : c < N) (hcT : c ∈ T l) (ht : ta (l * 4 + c) = 2 ∨ ta (l * 4 + c) = 3) : ∃ (b r : Int32) (u : SX) (v : SY), ((b = 0 ∧ r = 2) ∨ (b = 1 ∧ r = 3)) ∧ dc_RL L u v ∧ (∀ post : Int32 → SX → Prop, post b u → wpX_completeWrite post (nI N, nI L, m, ow, sm, sd, wc, wv, wk, cs, cv, ta, tO, tp, lr, pv, br, fg) (nI l) (nI c)) ∧ (∀ post : Int32 → SY → Prop, post r v → ∃ n, wY_move_262 post (nI l) (nI c) (nI (l * 5 + c)) (nI N) (nI L) m ow sd wc tc lv lw tk sh co vo ke pe oP bz ro fy ca n (nI 1)) := by
  have h0 := h
  obtain ⟨⟨hN2, hN, hL1, hL⟩, qcs, qcv, qta, qtO, qlr, qpv, hOW, hSX, hSY, hWR, hX, hY, hPX, hPY, hTT, hIA⟩ := h0
  have hc4 : c < 4 := by omega
  have e3 := qta l c hl hc4
  have e4 := qtO l c hl hc4
  have eX : ((fg ((l * 4 + c) * 6 + 1) ||| fg ((l * 4 + c) * 6 + 2)) ||| fg ((l * 4 + c) * 6 + 3)) ||| fg ((l * 4 + c) * 6 + 4) = dc_mk (fun p => ((F l c 1 p || F l c 2 p) || F l c 3 p) || F l c 4 p) := by
    rw [hX l c 1 hl hc4 (by decide), hX l c 2 hl hc4 (by decide), hX l c 3 hl hc4 (by decide), hX l c 4 hl hc4 (by decide), dc_mk_orf, dc_mk_orf, dc_mk_orf]
  by_cases A : ∀ k p, 1 ≤ k → k ≤ 4 → p < 5 → F l c k p = false
  · have z0 : dc_mk (fun p => ((F l c 1 p || F l c 2 p) || F l c 3 p) || F l c 4 p) = 0 := by
      rw [dc_mk_z]
      intro p hp
      rw [A 1 p (by decide) (by decide) hp, A 2 p (by decide) (by decide) hp, A 3 p (by decide) (by decide) hp, A 4 p (by decide) (by decide) hp]
      rfl
    obtain ⟨eb, hno⟩ := dc_IC_wr (hIA l c hl hc4).2 ht hcT A
    by_cases t3 : ta (l * 4 + c) = 3
    · obtain ⟨lv', lw', g1, g2⟩ := dy_perf (N := N) (L := L) (m := m) (ow := ow) (sd := sd) (wc := wc) (tc := tc) (lv := lv) (lw := lw) (tk := tk) (sh := sh) (co := upd co (l * 5 + c) 3) (vo := vo) (ke := ke) (pe := pe) (oP := oP) (bz := bz) (ro := upd ro (l * 5 + c) (br (l * 4 + c))) (fy := fy) (ca := ca) (br (l * 4 + c) + tO (l * 4 + c)) hl hc4
      obtain ⟨tp', tk', hR, fx, fy'⟩ := lk_fin (m := m) (rr_perf (rr_cs 3 (rr_lr (br (l * 4 + c)) h hl hc4) hl hc4) hl hc4 g1) hl hc hcT hno
      refine ⟨1, 3, _, _, Or.inr ⟨rfl, rfl⟩, dc_inL (m := m) (sd := sd) hR, fun post hp => ?_, fun post hp => ⟨6, ?_⟩⟩
      · simp only [wpX_completeWrite]
        refine nm_r (dc_i4 l c) (nm_r (dc_j6 _) ?_)
        rw [nI_1, dc_p2, dc_p3, dc_p4, nI_clamp (n := (l * 4 + c) * 6 + 1) (by omega), nI_clamp (n := (l * 4 + c) * 6 + 2) (by omega), nI_clamp (n := (l * 4 + c) * 6 + 3) (by omega), nI_clamp (n := (l * 4 + c) * 6 + 4) (by omega), nI_clamp (n := l * 4 + c) (by omega), eX]
        refine ⟨vp_in_nI (by omega) (by decide), vp_in_nI (by omega) (by decide), vp_in_nI (by omega) (by decide), vp_in_nI (by omega) (by decide), nm_r z0 (br_t rfl (dx_wpend (by omega) ?_))⟩
        rw [dc_w_t ht]
        refine br_f (by decide) ⟨vp_in_nI (by omega) (by decide), nm_e ⟨vp_in_nI (by omega) (by decide), br_t t3 ⟨vp_in_nI (by omega) (by decide), vp_in_nI (by omega) (by decide), nm_e ⟨vp_in_nI (by omega) (by decide), nm_r (Int32.add_comm _ _) ?_⟩⟩⟩⟩
        simp only [wX_completeWrite_109]
        rw [nI_clamp (n := l * 4 + c) (by omega)]
        exact ⟨vp_in_nI (by omega) (by decide), nm_e (dx_perf _ hl hc4 (fx _ hp))⟩
      · refine dy_262f hY hl hc4 A (fun n => ?_) 6 1 (by omega) (by omega) (by omega)
        simp only [wY_move_262]
        refine br_t (nI_lt (a := 4) (by omega) (by decide)) ?_
        rw [nI_clamp (n := l * 5 + c) (by omega), e3, e4, eb]
        refine ⟨vp_in_nI (by omega) (by decide), nm_e ⟨vp_in_nI (by omega) (by decide), br_t t3 ⟨vp_in_nI (by omega) (by decide), vp_in_nI (by omega) (by decide), nm_e ⟨vp_in_nI (by omega) (by decide), vp_in_nI (by omega) (by decide), nm_e ?_⟩⟩⟩⟩
        simp only [wY_move_364]
        rw [nI_clamp (n := l * 5 + c) (by omega)]
        exact ⟨vp_in_nI (by omega) (by decide), nm_e (g2 _ (fy' _ hp))⟩
    · obtain ⟨lv', lw', g1, g2⟩ := dy_perf (N := N) (L := L) (m := m) (ow := ow) (sd := sd) (wc := wc) (tc := tc) (lv := lv) (lw := lw) (tk := tk) (sh := sh) (co := upd co (l * 5 + c) 3) (vo := vo) (ke := ke) (pe := pe) (oP := oP) (bz := bz) (ro := ro) (fy := fy) (ca := ca) (tO (l * 4 + c)) hl hc4
      obtain ⟨tp', tk', hR, fx, fy'⟩ := lk_fin (m := m) (rr_perf (rr_cs 3 h hl hc4) hl hc4 g1) hl hc hcT hno
      refine ⟨1, 3, _, _, Or.inr ⟨rfl, rfl⟩, dc_inL (m := m) (sd := sd) hR, fun post hp => ?_, fun post hp => ⟨6, ?_⟩⟩
      · simp only [wpX_completeWrite]
        refine nm_r (dc_i4 l c) (nm_r (dc_j6 _) ?_)
        rw [nI_1, dc_p2, dc_p3, dc_p4, nI_clamp (n := (l * 4 + c) * 6 + 1) (by omega), nI_clamp (n := (l * 4 + c) * 6 + 2) (by omega), nI_clamp (n := (l * 4 + c) * 6 + 3) (by omega), nI_clamp (n := (l * 4 + c) * 6 + 4) (by omega), nI_clamp (n := l * 4 + c) (by omega), eX]
        refine ⟨vp_in_nI (by omega) (by decide), vp_in_nI (by omega) (by decide), vp_in_nI (by omega) (by decide), vp_in_nI (by omega) (by decide), nm_r z0 (br_t rfl (dx_wpend (by omega) ?_))⟩
        rw [dc_w_t ht]
        refine br_f (by decide) ⟨vp_in_nI (by omega) (by decide), nm_e ⟨vp_in_nI (by omega) (by decide), br_f t3 ?_⟩⟩
        simp only [wX_completeWrite_109]
        rw [nI_clamp (n := l * 4 + c) (by omega)]
        exact ⟨vp_in_nI (by omega) (by decide), nm_e (dx_perf _ hl hc4 (fx _ hp))⟩
      · refine dy_262f hY hl hc4 A (fun n => ?_) 6 1 (by omega) (by omega) (by omega)
        simp only [wY_move_262]
        refine br_t (nI_lt (a := 4) (by omega) (by decide)) ?_
        rw [nI_clamp (n := l * 5 + c) (by omega), e3, e4]
        refine ⟨vp_in_nI (by omega) (by decide), nm_e ⟨vp_in_nI (by omega) (by decide), br_f t3 ?_⟩⟩
        simp only [wY_move_364]
        rw [nI_clamp (n := l * 5 + c) (by omega)]
        exact ⟨vp_in_nI (by omega) (by decide), nm_e (g2 _ (fy' _ hp))⟩
  · have z0 : ¬ dc_mk (fun p => ((F l c 1 p || F l c 2 p) || F l c 3 p) || F l c 4 p) = 0 := by
      rw [dc_mk_z]
      intro z
      apply A
      intro k p h1 h2 hp
      have := z p hp
      simp only [Bool.or_eq_false_iff] at this
      have hk : k = 1 ∨ k = 2 ∨ k = 3 ∨ k = 4 := by omega
      rcases hk with rfl | rfl | rfl | rfl
      · exact this.1.1.1
      · exact this.1.1.2
      · exact this.1.2
      · exact this.2
    have ⟨k', q, h1, h2, hq, hF⟩ : ∃ k' q, 1 ≤ k' ∧ k' ≤ 4 ∧ q < 5 ∧ F l c k' q = true := by
      apply Classical.byContradiction
      intro z
      apply A
      intro k p h1 h2 hp
      cases b : F l c k p with
      | false => rfl
      | true => exact absurd ⟨k, p, h1, h2, hp, b⟩ z
    refine ⟨0, 2, _, _, Or.inl ⟨rfl, rfl⟩, dc_inL (m := m) (sd := sd) h, fun post hp => ?_, fun post hp => ⟨6, dy_262t hY hl hc4 h2 hq hF hp 6 1 (by omega) (by omega) h1⟩⟩
    simp only [wpX_completeWrite]
    refine nm_r (dc_i4 l c) (nm_r (dc_j6 _) ?_)
    rw [nI_1, dc_p2, dc_p3, dc_p4, nI_clamp (n := (l * 4 + c) * 6 + 1) (by omega), nI_clamp (n := (l * 4 + c) * 6 + 2) (by omega), nI_clamp (n := (l * 4 + c) * 6 + 3) (by omega), nI_clamp (n := (l * 4 + c) * 6 + 4) (by omega), eX]
    exact ⟨vp_in_nI (by omega) (by decide), vp_in_nI (by omega) (by decide), vp_in_nI (by omega) (by decide), vp_in_nI (by omega) (by decide), nm_e (br_f z0 hp)⟩
end
end
section
/-! one message delivered, both sides in step -/
section
variable {N L : Nat} {m : Int32} {T : Nat → List Nat} {F : Nat → Nat → Nat → Nat → Bool} {S : Nat → Nat → Bool} {ow sm sd wc wv wk cs cv ta tO tp lr pv br fg tc lv lw tk sh co vo ke pe oP bz ro fy ca : Nat → Int32}
theorem lk_dn0 {l c p : Nat} (h : dc_RR N L T F S ow sm sd wc wv wk cs cv ta tO tp lr pv br fg tc lv lw tk sh co vo ke pe oP bz ro fy ca) (hl : l < L) (hc : c < N) (hp5 : p < 5) (hF : F l c 0 p = true) : dc_Dv L (fun post => wpX_deliverNow post (nI N, nI L, m, ow, sm, sd, wc, wv, wk, cs, cv, ta, tO, tp, lr, pv, br, fg) (nI 0) (nI l) (nI c) (nI p)) (fun post => wpY_move post (nI N, nI L, m, ow, sd, wc, tc, lv, lw, tk, sh, co, vo, ke, pe, oP, bz, ro, fy, ca) (nI 0) (nI l) (nI c) (nI p)) := by
  have h0 := h
  obtain ⟨⟨hN2, hN, hL1, hL⟩, qcs, qcv, qta, qtO, qlr, qpv, hOW, hSX, hSY, hWR, hX, hY, hPX, hPY, hTT, hIA⟩ := h0
  have hl4 : l < 4 := by omega
  have hc4 : c < 4 := by omega
  have I := (hIA l c hl4 hc4).2
  have p4 : p = 4 := (dc_IC_req1 I hp5 hF).1
  subst p4
  obtain ⟨u, v, hR, gx, gy⟩ := lk_take (m := m) (sd := sd) h hl hc hF (dc_FX_no hX hl4 hc4 (by decide : 0 < 6) hp5) (dc_FY_set (x := 0) hY hl4 hc4 (by decide : 0 < 6) hp5 rfl)
  refine ⟨2, u, v, Or.inl rfl, hR, fun post hp => ?_, fun post hp => ?_⟩
  · simp only [wpX_deliverNow]
    refine nm_r (dc_i4 l c) (dx_remove 0 (l * 4 + c) 4 (by decide) (by omega) ?_)
    refine br_t rfl (gx _ ?_)
    obtain ⟨x1, x2, x3, x4, x5, x6, x7, x8, x9, x10, x11, x12, x13, x14, x15, x16, x17, x18⟩ := u
    exact br_t rfl hp
  · simp only [wpY_move]
    refine dy_name 0 l c 4 (nm_r (dc_i5 l c) (nm_r (dc_i5 l 4) ?_))
    rw [nI_clamp (n := ((l * 5 + c) * 6 + 0) * 5 + 4) (by omega), dc_nb0]
    refine ⟨vp_in_nI (by omega) (by decide), nm_e (br_t rfl (gy _ ?_))⟩
    obtain ⟨y1, y2, y3, y4, y5, y6, y7, y8, y9, y10, y11, y12, y13, y14, y15, y16, y17, y18, y19, y20⟩ := v
    exact hp
theorem lk_fw2 {l c p : Nat} (hQ : dc_Q cs co) (hT : dc_Q ta pe) (hl : l < 4) (hc : c < 4) (hp : p < 4) : ∃ cs' co', dc_Q cs' co' ∧ (∀ post : SX → Prop, post (nI N, nI L, m, ow, sm, sd, wc, wv, wk, cs', cv, ta, tO, tp, lr, pv, br, (upd fg ((l * 4 + c) * 6 + 3) (fg ((l * 4 + c) * 6 + 3) ||| ((1 : Int32) <<< (nI p &&& 31))))) → wX_takeForward_62 post (nI p) (nI (l * 4 + c)) (nI (l * 4 + p)) (nI N) (nI L) m ow sm sd wc wv wk cs cv ta tO tp lr pv br fg) ∧ (∀ (post : Int32 → SY → Prop) (z : Int32), post 2 (nI N, nI L, m, ow, sd, wc, tc, lv, lw, tk, sh, co', vo, ke, pe, oP, bz, ro, (upd fy (((l * 5 + c) * 6 + 3) * 5 + p) 1), (upd ca (((l * 5 + c) * 6 + 3) * 5 + p) z)) → wY_move_79 post (nI l) (nI c) (nI p) (nI (l * 5 + p)) z (nI N) (nI L) m ow sd wc tc lv lw tk sh co vo ke pe oP bz ro fy ca) := by
  have e1 := hQ l p hl hp
  have e3 := hT l c hl hc
  cases b : dc_w (ta (l * 4 + c)) with
  | true =>
    refine ⟨_, _, dc_Q_upd (v := 0) hQ hl hp, fun post g => ?_, fun post z g => ?_⟩
    · simp only [wX_takeForward_62]
      refine dx_wpend (by omega) ?_
      rw [b, nI_clamp (n := l * 4 + p) (by omega)]
      exact br_f (by decide) ⟨vp_in_nI (by omega) (by decide), nm_e (dx_send 3 (l * 4 + c) p (by decide) (by omega) g)⟩
    · simp only [wY_move_79]
      refine dy_send 3 l c p z hl hc (by decide) (by omega) ?_
      dsimp only
      refine dy_writing hl (by omega) ?_
      rw [e3, b, nI_clamp (n := l * 5 + p) (by omega)]
      exact br_f (by decide) ⟨vp_in_nI (by omega) (by decide), nm_e g⟩
  | false =>
    by_cases c3 : cs (l * 4 + p) = 3
    · refine ⟨_, _, dc_Q_upd (v := 2) hQ hl hp, fun post g => ?_, fun post z g => ?_⟩
      · simp only [wX_takeForward_62]
        refine dx_wpend (by omega) ?_
        rw [b, nI_clamp (n := l * 4 + p) (by omega)]
        exact br_t rfl ⟨vp_in_nI (by omega) (by decide), br_t c3 ⟨vp_in_nI (by omega) (by decide), nm_e (dx_send 3 (l * 4 + c) p (by decide) (by omega) g)⟩⟩
      · simp only [wY_move_79]
        refine dy_send 3 l c p z hl hc (by decide) (by omega) ?_
        dsimp only
        refine dy_writing hl (by omega) ?_
        rw [e3, b, nI_clamp (n := l * 5 + p) (by omega), e1]
        exact br_t rfl ⟨vp_in_nI (by omega) (by decide), br_t c3 ⟨vp_in_nI (by omega) (by decide), nm_e g⟩⟩
    · refine ⟨cs, co, hQ, fun post g => ?_, fun post z g => ?_⟩
      · simp only [wX_takeForward_62]
        refine dx_wpend (by omega) ?_
        rw [b, nI_clamp (n := l * 4 + p) (by omega)]
        exact br_t rfl ⟨vp_in_nI (by omega) (by decide), br_f c3 (dx_send 3 (l * 4 + c) p (by decide) (by omega) g)⟩
      · simp only [wY_move_79]
        refine dy_send 3 l c p z hl hc (by decide) (by omega) ?_
        dsimp only
        refine dy_writing hl (by omega) ?_
        rw [e3, b, nI_clamp (n := l * 5 + p) (by omega), e1]
        exact br_t rfl ⟨vp_in_nI (by omega) (by decide), br_f c3 g⟩
theorem rr_Qcs {cs' co' : Nat → Int32} (h : dc_RR N L T F S ow sm sd wc wv wk cs cv ta tO tp lr pv br fg tc lv lw tk sh co vo ke pe oP bz ro fy ca) (hQ : dc_Q cs' co') : dc_RR N L T F S ow sm sd wc wv wk cs' cv ta tO tp lr pv br fg tc lv lw tk sh co' vo ke pe oP bz ro fy ca := by
  obtain ⟨a1, a2, a3, a4, a5, a6, a7, a8, a9, a10, a11, a12, a13, a14, a15, a16, a17⟩ := h
  exact ⟨a1, hQ, a3, a4, a5, a6, a7, a8, a9, a10, a11, a12, a13, a14, a15, a16, a17⟩
theorem lk_dn1 {l c p : Nat} (h : dc_RR N L T F S ow sm sd wc wv wk cs cv ta tO tp lr pv br fg tc lv lw tk sh co vo ke pe oP bz ro fy ca) (hl : l < L) (hc : c < N) (hp5 : p < 5) (hF : F l c 1 p = true) : dc_Dv L (fun post => wpX_deliverNow post (nI N, nI L, m, ow, sm, sd, wc, wv, wk, cs, cv, ta, tO, tp, lr, pv, br, fg) (nI 1) (nI l) (nI c) (nI p)) (fun post => wpY_move post (nI N, nI L, m, ow, sd, wc, tc, lv, lw, tk, sh, co, vo, ke, pe, oP, bz, ro, fy, ca) (nI 1) (nI l) (nI c) (nI p)) := by
  have h0 := h
  obtain ⟨⟨hN2, hN, hL1, hL⟩, qcs, qcv, qta, qtO, qlr, qpv, hOW, hSX, hSY, hWR, hX, hY, hPX, hPY, hTT, hIA⟩ := h0
  have hl4 : l < 4 := by omega
  have hc4 : c < 4 := by omega
  have I := (hIA l c hl4 hc4).2
  have pN : p < N := ((I.2.2.1 1 p (by decide) hp5 hF).2.2.2.2.2.1 rfl).1
  have p4 : nI p < 4 := nI_lt (b := 4) (by omega) (by decide)
  have eta := qta l p hl4 (by omega)
  have epv := qpv l p hl4 (by omega)
  have ecv := qcv l p hl4 (by omega)
  have hX1 := dc_FX_no hX hl4 hc4 (by decide : 1 < 6) hp5
  have hY1 := dc_FY_set (b := false) (x := 0) hY hl4 hc4 (by decide : 1 < 6) hp5 rfl
  have key : ∀ v : Int32, dc_RR N L T (dc_set (dc_set F l c 1 p false) l c 3 p true) S ow sm sd wc wv wk cs cv ta tO tp lr pv (upd br (l * 4 + c) v) (upd (upd fg ((l * 4 + c) * 6 + 1) (fg ((l * 4 + c) * 6 + 1) &&& (((1 : Int32) <<< (nI p &&& 31)) ^^^ (-1)))) ((l * 4 + c) * 6 + 3) (upd fg ((l * 4 + c) * 6 + 1) (fg ((l * 4 + c) * 6 + 1) &&& (((1 : Int32) <<< (nI p &&& 31)) ^^^ (-1))) ((l * 4 + c) * 6 + 3) ||| ((1 : Int32) <<< (nI p &&& 31)))) tc lv lw tk sh co vo ke pe oP bz ro (upd (upd fy (((l * 5 + c) * 6 + 1) * 5 + p) 0) (((l * 5 + c) * 6 + 3) * 5 + p) 1) (upd ca (((l * 5 + c) * 6 + 3) * 5 + p) v) := by
    intro v
    refine rr_msg (l := l) (c := c) h hc (dc_FX_or hX1 hl4 hc4 (by decide : 3 < 6) hp5) (dc_FY_set hY1 hl4 hc4 (by decide : 3 < 6) hp5 rfl) (fun l' c' e => (dc_set_ne _ e).trans (dc_set_ne F e)) (fun l' c' _ _ e => pk_un (by omega)) (fun _ _ _ _ _ => rfl) (fun l' c' p' _ _ _ e => pk_un (by omega)) ?_
    rw [dc_set_eq, dc_set_eq, pk_us]
    exact dc_IC_fwd I hp5 hF pk_us
  by_cases t4 : ta (l * 4 + p) = 4
  · obtain ⟨cs', co', hQ', gx, gy⟩ := lk_fw2 (N := N) (L := L) (m := m) (ow := ow) (sm := sm) (sd := sd) (wc := wc) (wv := wv) (wk := wk) (cs := cs) (cv := cv) (ta := ta) (tO := tO) (tp := tp) (lr := lr) (pv := pv) (br := upd br (l * 4 + c) (pv (l * 4 + p))) (fg := upd fg ((l * 4 + c) * 6 + 1) (fg ((l * 4 + c) * 6 + 1) &&& (((1 : Int32) <<< (nI p &&& 31)) ^^^ (-1)))) (tc := tc) (lv := lv) (lw := lw) (tk := tk) (sh := sh) (co := co) (vo := vo) (ke := ke) (pe := pe) (oP := oP) (bz := bz) (ro := ro) (fy := upd fy (((l * 5 + c) * 6 + 1) * 5 + p) 0) (ca := ca) qcs qta hl4 hc4 (show p < 4 by omega)
    refine ⟨2, _, _, Or.inl rfl, dc_inL (m := m) (sd := sd) (rr_Qcs (key (pv (l * 4 + p))) hQ'), fun post hp => ?_, fun post hp => ?_⟩
    · simp only [wpX_deliverNow]
      refine nm_r (dc_i4 l c) (dx_remove 1 (l * 4 + c) p (by decide) (by omega) ?_)
      refine br_f (by decide) (br_t rfl ?_)
      simp only [wpX_takeForward]
      refine br_t p4 (nm_r (dc_i4 l c) (nm_r (dc_i4 l p) ?_))
      rw [nI_clamp (n := l * 4 + p) (by omega), nI_clamp (n := l * 4 + c) (by omega)]
      exact ⟨vp_in_nI (by omega) (by decide), br_t t4 ⟨vp_in_nI (by omega) (by decide), vp_in_nI (by omega) (by decide), nm_e (gx _ (br_t rfl hp))⟩⟩
    · simp only [wpY_move]
      refine dy_name 1 l c p (nm_r (dc_i5 l c) (nm_r (dc_i5 l p) ?_))
      rw [nI_clamp (n := ((l * 5 + c) * 6 + 1) * 5 + p) (by omega), dc_nb0, nI_clamp (n := l * 5 + p) (by omega), eta, epv]
      exact ⟨vp_in_nI (by omega) (by decide), nm_e (br_f (by decide) (br_t rfl ⟨vp_in_nI (by omega) (by decide), br_t t4 ⟨vp_in_nI (by omega) (by decide), gy _ _ hp⟩⟩))⟩
  · obtain ⟨cs', co', hQ', gx, gy⟩ := lk_fw2 (N := N) (L := L) (m := m) (ow := ow) (sm := sm) (sd := sd) (wc := wc) (wv := wv) (wk := wk) (cs := cs) (cv := cv) (ta := ta) (tO := tO) (tp := tp) (lr := lr) (pv := pv) (br := upd br (l * 4 + c) (cv (l * 4 + p))) (fg := upd fg ((l * 4 + c) * 6 + 1) (fg ((l * 4 + c) * 6 + 1) &&& (((1 : Int32) <<< (nI p &&& 31)) ^^^ (-1)))) (tc := tc) (lv := lv) (lw := lw) (tk := tk) (sh := sh) (co := co) (vo := vo) (ke := ke) (pe := pe) (oP := oP) (bz := bz) (ro := ro) (fy := upd fy (((l * 5 + c) * 6 + 1) * 5 + p) 0) (ca := ca) qcs qta hl4 hc4 (show p < 4 by omega)
    refine ⟨2, _, _, Or.inl rfl, dc_inL (m := m) (sd := sd) (rr_Qcs (key (cv (l * 4 + p))) hQ'), fun post hp => ?_, fun post hp => ?_⟩
    · simp only [wpX_deliverNow]
      refine nm_r (dc_i4 l c) (dx_remove 1 (l * 4 + c) p (by decide) (by omega) ?_)
      refine br_f (by decide) (br_t rfl ?_)
      simp only [wpX_takeForward]
      refine br_t p4 (nm_r (dc_i4 l c) (nm_r (dc_i4 l p) ?_))
      rw [nI_clamp (n := l * 4 + p) (by omega), nI_clamp (n := l * 4 + c) (by omega)]
      exact ⟨vp_in_nI (by omega) (by decide), br_f t4 ⟨vp_in_nI (by omega) (by decide), vp_in_nI (by omega) (by decide), nm_e (gx _ (br_t rfl hp))⟩⟩
    · simp only [wpY_move]
      refine dy_name 1 l c p (nm_r (dc_i5 l c) (nm_r (dc_i5 l p) ?_))
      rw [nI_clamp (n := ((l * 5 + c) * 6 + 1) * 5 + p) (by omega), dc_nb0, nI_clamp (n := l * 5 + p) (by omega), eta, ecv]
      exact ⟨vp_in_nI (by omega) (by decide), nm_e (br_f (by decide) (br_t rfl ⟨vp_in_nI (by omega) (by decide), br_f t4 ⟨vp_in_nI (by omega) (by decide), gy _ _ hp⟩⟩))⟩
theorem lk_dn2 {l c p : Nat} (h : dc_RR N L T F S ow sm sd wc wv wk cs cv ta tO tp lr pv br fg tc lv lw tk sh co vo ke pe oP bz ro fy ca) (hl : l < L) (hc : c < N) (hp5 : p < 5) (hF : F l c 2 p = true) : dc_Dv L (fun post => wpX_deliverNow post (nI N, nI L, m, ow, sm, sd, wc, wv, wk, cs, cv, ta, tO, tp, lr, pv, br, fg) (nI 2) (nI l) (nI c) (nI p)) (fun post => wpY_move post (nI N, nI L, m, ow, sd, wc, tc, lv, lw, tk, sh, co, vo, ke, pe, oP, bz, ro, fy, ca) (nI 2) (nI l) (nI c) (nI p)) := by
  have h0 := h
  obtain ⟨⟨hN2, hN, hL1, hL⟩, qcs, qcv, qta, qtO, qlr, qpv, hOW, hSX, hSY, hWR, hX, hY, hPX, hPY, hTT, hIA⟩ := h0
  have hl4 : l < 4 := by omega
  have hc4 : c < 4 := by omega
  have I := (hIA l c hl4 hc4).2
  have pN : p < N := ((I.2.2.1 2 p (by decide) hp5 hF).2.2.2.2.2.2.2.1 rfl).1
  have p4 : nI p < 4 := nI_lt (b := 4) (by omega) (by decide)
  have ecs := qcs l p hl4 (by omega)
  have hX1 := dc_FX_no hX hl4 hc4 (by decide : 2 < 6) hp5
  have hY1 := dc_FY_set (b := false) (x := 0) hY hl4 hc4 (by decide : 2 < 6) hp5 rfl
  have key := rr_msg (l := l) (c := c) (br' := br) (bz' := bz) (ca' := upd ca (((l * 5 + c) * 6 + 4) * 5 + p) 0) h hc (dc_FX_or hX1 hl4 hc4 (by decide : 4 < 6) hp5) (dc_FY_set (x := 1) hY1 hl4 hc4 (by decide : 4 < 6) hp5 rfl) (fun l' c' e => (dc_set_ne _ e).trans (dc_set_ne F e)) (fun _ _ _ _ _ => rfl) (fun _ _ _ _ _ => rfl) (fun l' c' p' _ _ _ e => pk_un (by omega)) (by
    rw [dc_set_eq, dc_set_eq]
    have J := dc_IC_inv I hp5 hF
    obtain ⟨b1, b2, b3, b4, b5⟩ := J
    refine ⟨b1, b2, ?_, b4, b5⟩
    intro k q hk hq z
    have g := b3 k q hk hq z
    exact ⟨g.1, g.2.1, g.2.2.1, g.2.2.2.1, g.2.2.2.2.1, g.2.2.2.2.2.1, fun y => ⟨(g.2.2.2.2.2.2.1 y).1, (pk_un (by omega)).trans (g.2.2.2.2.2.2.1 y).2⟩, g.2.2.2.2.2.2.2.1, g.2.2.2.2.2.2.2.2⟩)
  by_cases c1 : cs (l * 4 + p) = 1
  · refine ⟨2, _, _, Or.inl rfl, dc_inL (m := m) (sd := sd) (rr_cs (l := l) (c := p) 0 key hl4 (by omega)), fun post hp => ?_, fun post hp => ?_⟩
    · simp only [wpX_deliverNow]
      refine nm_r (dc_i4 l c) (dx_remove 2 (l * 4 + c) p (by decide) (by omega) ?_)
      refine br_f (by decide) (br_f (by decide) (br_t rfl ?_))
      simp only [wpX_takeInvalidation]
      refine br_t p4 (nm_r (dc_i4 l c) (nm_r (dc_i4 l p) ?_))
      rw [nI_clamp (n := l * 4 + p) (by omega)]
      exact ⟨vp_in_nI (by omega) (by decide), br_t c1 ⟨vp_in_nI (by omega) (by decide), nm_e (dx_send 4 (l * 4 + c) p (by decide) (by omega) (br_t rfl hp))⟩⟩
    · simp only [wpY_move]
      refine dy_name 2 l c p (nm_r (dc_i5 l c) (nm_r (dc_i5 l p) ?_))
      rw [nI_clamp (n := ((l * 5 + c) * 6 + 2) * 5 + p) (by omega), dc_nb0, nI_clamp (n := l * 5 + p) (by omega), ecs]
      exact ⟨vp_in_nI (by omega) (by decide), nm_e (br_f (by decide) (br_f (by decide) (br_t rfl ⟨vp_in_nI (by omega) (by decide), br_t c1 ⟨vp_in_nI (by omega) (by decide), nm_e (dy_send 4 l c p 0 hl4 hc4 (by decide) hp5 hp)⟩⟩)))⟩
  · refine ⟨2, _, _, Or.inl rfl, dc_inL (m := m) (sd := sd) key, fun post hp => ?_, fun post hp => ?_⟩
    · simp only [wpX_deliverNow]
      refine nm_r (dc_i4 l c) (dx_remove 2 (l * 4 + c) p (by decide) (by omega) ?_)
      refine br_f (by decide) (br_f (by decide) (br_t rfl ?_))
      simp only [wpX_takeInvalidation]
      refine br_t p4 (nm_r (dc_i4 l c) (nm_r (dc_i4 l p) ?_))
      rw [nI_clamp (n := l * 4 + p) (by omega)]
      exact ⟨vp_in_nI (by omega) (by decide), br_f c1 (dx_send 4 (l * 4 + c) p (by decide) (by omega) (br_t rfl hp))⟩
    · simp only [wpY_move]
      refine dy_name 2 l c p (nm_r (dc_i5 l c) (nm_r (dc_i5 l p) ?_))
      rw [nI_clamp (n := ((l * 5 + c) * 6 + 2) * 5 + p) (by omega), dc_nb0, nI_clamp (n := l * 5 + p) (by omega), ecs]
      exact ⟨vp_in_nI (by omega) (by decide), nm_e (br_f (by decide) (br_f (by decide) (br_t rfl ⟨vp_in_nI (by omega) (by decide), br_f c1 (dy_send 4 l c p 0 hl4 hc4 (by decide) hp5 hp)⟩)))⟩
theorem lk_dn5 {l c p : Nat} (h : dc_RR N L T F S ow sm sd wc wv wk cs cv ta tO tp lr pv br fg tc lv lw tk sh co vo ke pe oP bz ro fy ca) (hl : l < L) (hc : c < N) (hp5 : p < 5) (hF : F l c 5 p = true) : dc_Dv L (fun post => wpX_deliverNow post (nI N, nI L, m, ow, sm, sd, wc, wv, wk, cs, cv, ta, tO, tp, lr, pv, br, fg) (nI 5) (nI l) (nI c) (nI p)) (fun post => wpY_move post (nI N, nI L, m, ow, sd, wc, tc, lv, lw, tk, sh, co, vo, ke, pe, oP, bz, ro, fy, ca) (nI 5) (nI l) (nI c) (nI p)) := by
  have h0 := h
  obtain ⟨⟨hN2, hN, hL1, hL⟩, qcs, qcv, qta, qtO, qlr, qpv, hOW, hSX, hSY, hWR, hX, hY, hPX, hPY, hTT, hIA⟩ := h0
  have hl4 : l < 4 := by omega
  have hc4 : c < 4 := by omega
  have I := (hIA l c hl4 hc4).2
  have t4 := ((I.2.2.1 5 p (by decide) hp5 hF).2.2.2.2.1 rfl).1
  obtain ⟨hcT, hno⟩ := dc_IC_dn I hp5 hF
  have hX1 := dc_FX_no hX hl4 hc4 (by decide : 5 < 6) hp5
  have hY1 := dc_FY_set (b := false) (x := 0) hY hl4 hc4 (by decide : 5 < 6) hp5 rfl
  have key := rr_msg (l := l) (c := c) (br' := br) (bz' := bz) (ca' := ca) h hc hX1 hY1 (fun l' c' e => dc_set_ne F e) (fun _ _ _ _ _ => rfl) (fun _ _ _ _ _ => rfl) (fun _ _ _ _ _ _ _ => rfl) (by
    rw [dc_set_eq]
    exact dc_IC_emp (Or.inr t4) hno)
  obtain ⟨tp', tk', hR, gx, gy⟩ := lk_fin (m := m) key hl4 hc hcT (by
    intro k q hk hq
    rw [dc_set_eq]
    exact hno k q hk hq)
  refine ⟨3, _, _, Or.inr rfl, dc_inL (m := m) (sd := sd) hR, fun post hp => ?_, fun post hp => ?_⟩
  · simp only [wpX_deliverNow]
    refine nm_r (dc_i4 l c) (dx_remove 5 (l * 4 + c) p (by decide) (by omega) ?_)
    exact br_f (by decide) (br_f (by decide) (br_f (by decide) (br_f (by decide) (br_f (by decide) (gx _ (br_f (by decide) hp))))))
  · simp only [wpY_move]
    refine dy_name 5 l c p (nm_r (dc_i5 l c) (nm_r (dc_i5 l p) ?_))
    rw [nI_clamp (n := ((l * 5 + c) * 6 + 5) * 5 + p) (by omega), dc_nb0]
    exact ⟨vp_in_nI (by omega) (by decide), nm_e (br_f (by decide) (br_f (by decide) (br_f (by decide) (br_t rfl (gy _ hp)))))⟩
theorem lk_dn4 {l c p : Nat} (h : dc_RR N L T F S ow sm sd wc wv wk cs cv ta tO tp lr pv br fg tc lv lw tk sh co vo ke pe oP bz ro fy ca) (hl : l < L) (hc : c < N) (hp5 : p < 5) (hF : F l c 4 p = true) : dc_Dv L (fun post => wpX_deliverNow post (nI N, nI L, m, ow, sm, sd, wc, wv, wk, cs, cv, ta, tO, tp, lr, pv, br, fg) (nI 4) (nI l) (nI c) (nI p)) (fun post => wpY_move post (nI N, nI L, m, ow, sd, wc, tc, lv, lw, tk, sh, co, vo, ke, pe, oP, bz, ro, fy, ca) (nI 4) (nI l) (nI c) (nI p)) := by
  have h0 := h
  obtain ⟨⟨hN2, hN, hL1, hL⟩, qcs, qcv, qta, qtO, qlr, qpv, hOW, hSX, hSY, hWR, hX, hY, hPX, hPY, hTT, hIA⟩ := h0
  have hl4 : l < 4 := by omega
  have hc4 : c < 4 := by omega
  have I := (hIA l c hl4 hc4).2
  have g := I.2.2.1 4 p (by decide) hp5 hF
  have ht := g.2.2.2.2.2.2.2.2 rfl
  have hcT := g.2.2.2.1 (by decide)
  have hX1 := dc_FX_no hX hl4 hc4 (by decide : 4 < 6) hp5
  have hY1 := dc_FY_set (b := false) (x := 0) hY hl4 hc4 (by decide : 4 < 6) hp5 rfl
  have key := rr_msg (l := l) (c := c) (br' := br) (bz' := bz) (ca' := ca) h hc hX1 hY1 (fun l' c' e => dc_set_ne F e) (fun _ _ _ _ _ => rfl) (fun _ _ _ _ _ => rfl) (fun _ _ _ _ _ _ _ => rfl) (by
    rw [dc_set_eq]
    exact dc_IC_ack I)
  obtain ⟨b, r, u, v, hb, hR, gx, gy⟩ := lk_cw (m := m) key hl4 hc hcT ht
  refine ⟨r, u, v, by rcases hb with z | z; exact Or.inl z.2; exact Or.inr z.2, hR, fun post hp => ?_, fun post hp => ?_⟩
  · simp only [wpX_deliverNow]
    refine nm_r (dc_i4 l c) (dx_remove 4 (l * 4 + c) p (by decide) (by omega) ?_)
    refine br_f (by decide) (br_f (by decide) (br_f (by decide) (br_f (by decide) (br_t rfl (gx _ ?_)))))
    obtain ⟨x1, x2, x3, x4, x5, x6, x7, x8, x9, x10, x11, x12, x13, x14, x15, x16, x17, x18⟩ := u
    rcases hb with ⟨rfl, rfl⟩ | ⟨rfl, rfl⟩
    · exact br_t rfl hp
    · exact br_f (by decide) hp
  · simp only [wpY_move]
    refine dy_name 4 l c p (nm_r (dc_i5 l c) (nm_r (dc_i5 l p) ?_))
    rw [nI_clamp (n := ((l * 5 + c) * 6 + 4) * 5 + p) (by omega), dc_nb0]
    refine ⟨vp_in_nI (by omega) (by decide), nm_e (br_f (by decide) (br_f (by decide) (br_f (by decide) (br_f (by decide) (br_f (by decide) ?_)))))⟩
    simp only [wY_move_240]
    exact br_f (by decide) (gy post hp)
theorem lk_dn3 {l c p : Nat} (h : dc_RR N L T F S ow sm sd wc wv wk cs cv ta tO tp lr pv br fg tc lv lw tk sh co vo ke pe oP bz ro fy ca) (hl : l < L) (hc : c < N) (hp5 : p < 5) (hF : F l c 3 p = true) : dc_Dv L (fun post => wpX_deliverNow post (nI N, nI L, m, ow, sm, sd, wc, wv, wk, cs, cv, ta, tO, tp, lr, pv, br, fg) (nI 3) (nI l) (nI c) (nI p)) (fun post => wpY_move post (nI N, nI L, m, ow, sd, wc, tc, lv, lw, tk, sh, co, vo, ke, pe, oP, bz, ro, fy, ca) (nI 3) (nI l) (nI c) (nI p)) := by
  have h0 := h
  obtain ⟨⟨hN2, hN, hL1, hL⟩, qcs, qcv, qta, qtO, qlr, qpv, hOW, hSX, hSY, hWR, hX, hY, hPX, hPY, hTT, hIA⟩ := h0
  have hl4 : l < 4 := by omega
  have hc4 : c < 4 := by omega
  have I := (hIA l c hl4 hc4).2
  have g := I.2.2.1 3 p (by decide) hp5 hF
  have ht := (g.2.2.2.2.2.2.1 rfl).1
  have ec : ca (((l * 5 + c) * 6 + 3) * 5 + p) = br (l * 4 + c) := (g.2.2.2.2.2.2.1 rfl).2
  have hcT := g.2.2.2.1 (by decide)
  have eta := qta l c hl4 hc4
  have hX1 := dc_FX_no hX hl4 hc4 (by decide : 3 < 6) hp5
  have hY1 := dc_FY_set (b := false) (x := 0) hY hl4 hc4 (by decide : 3 < 6) hp5 rfl
  by_cases t1 : ta (l * 4 + c) = 1
  · rw [t1] at I
    obtain ⟨-, -, hno⟩ := dc_IC_rd I hp5 hF
    have key := rr_msg (l := l) (c := c) (br' := br) (bz' := bz) (ca' := ca) h hc hX1 hY1 (fun l' c' e => dc_set_ne F e) (fun _ _ _ _ _ => rfl) (fun _ _ _ _ _ => rfl) (fun _ _ _ _ _ _ _ => rfl) (by
      rw [dc_set_eq]
      exact dc_IC_emp (Or.inl t1) hno)
    obtain ⟨tp', tk', hR, gx, gy⟩ := lk_fin (m := m) (rr_lr (br (l * 4 + c)) (rr_cv (br (l * 4 + c)) (rr_cs 1 key hl4 hc4) hl4 hc4) hl4 hc4) hl4 hc hcT (by
      intro k q hk hq
      rw [dc_set_eq]
      exact hno k q hk hq)
    refine ⟨3, _, _, Or.inr rfl, dc_inL (m := m) (sd := sd) hR, fun post hp => ?_, fun post hp => ?_⟩
    · simp only [wpX_deliverNow]
      refine nm_r (dc_i4 l c) (dx_remove 3 (l * 4 + c) p (by decide) (by omega) ?_)
      refine br_f (by decide) (br_f (by decide) (br_f (by decide) (br_t rfl ?_)))
      simp only [wpX_takeData]
      refine nm_r (dc_i4 l c) ?_
      rw [nI_clamp (n := l * 4 + c) (by omega)]
      exact ⟨vp_in_nI (by omega) (by decide), br_t t1 ⟨vp_in_nI (by omega) (by decide), nm_e ⟨vp_in_nI (by omega) (by decide), vp_in_nI (by omega) (by decide), nm_e ⟨vp_in_nI (by omega) (by decide), vp_in_nI (by omega) (by decide), nm_e (gx _ (br_f (by decide) hp))⟩⟩⟩⟩
    · simp only [wpY_move]
      refine dy_name 3 l c p (nm_r (dc_i5 l c) (nm_r (dc_i5 l p) ?_))
      rw [nI_clamp (n := ((l * 5 + c) * 6 + 3) * 5 + p) (by omega), dc_nb0, nI_clamp (n := l * 5 + c) (by omega), eta, ec]
      exact ⟨vp_in_nI (by omega) (by decide), nm_e (br_f (by decide) (br_f (by decide) (br_f (by decide) (br_f (by decide) (br_t rfl ⟨vp_in_nI (by omega) (by decide), br_t t1 ⟨vp_in_nI (by omega) (by decide), nm_e ⟨vp_in_nI (by omega) (by decide), vp_in_nI (by omega) (by decide), nm_e ⟨vp_in_nI (by omega) (by decide), vp_in_nI (by omega) (by decide), nm_e (gy _ hp)⟩⟩⟩⟩)))))⟩
  · have ht' : ta (l * 4 + c) = 2 ∨ ta (l * 4 + c) = 3 := by
      rcases ht with z | z
      · exact absurd z t1
      · exact z
    have key := rr_msg (l := l) (c := c) (br' := br) (bz' := upd bz (l * 5 + c) (ca (((l * 5 + c) * 6 + 3) * 5 + p))) (ca' := ca) h hc hX1 hY1 (fun l' c' e => dc_set_ne F e) (fun _ _ _ _ _ => rfl) (fun l' c' _ _ e => pk_un (by omega)) (fun _ _ _ _ _ _ _ => rfl) (by
      rw [dc_set_eq, pk_us]
      exact dc_IC_dat I hp5 hF)
    obtain ⟨b, r, u, v, hb, hR, gx, gy⟩ := lk_cw (m := m) key hl4 hc hcT ht'
    refine ⟨r, u, v, by rcases hb with z | z; exact Or.inl z.2; exact Or.inr z.2, hR, fun post hp => ?_, fun post hp => ?_⟩
    · simp only [wpX_deliverNow]
      refine nm_r (dc_i4 l c) (dx_remove 3 (l * 4 + c) p (by decide) (by omega) ?_)
      refine br_f (by decide) (br_f (by decide) (br_f (by decide) (br_t rfl ?_)))
      simp only [wpX_takeData]
      refine nm_r (dc_i4 l c) ?_
      rw [nI_clamp (n := l * 4 + c) (by omega)]
      refine ⟨vp_in_nI (by omega) (by decide), br_f t1 (gx _ ?_)⟩
      obtain ⟨x1, x2, x3, x4, x5, x6, x7, x8, x9, x10, x11, x12, x13, x14, x15, x16, x17, x18⟩ := u
      rcases hb with ⟨rfl, rfl⟩ | ⟨rfl, rfl⟩
      · exact ⟨rfl, br_t rfl hp⟩
      · exact ⟨rfl, br_f (by decide) hp⟩
    · simp only [wpY_move]
      refine dy_name 3 l c p (nm_r (dc_i5 l c) (nm_r (dc_i5 l p) ?_))
      rw [nI_clamp (n := ((l * 5 + c) * 6 + 3) * 5 + p) (by omega), dc_nb0, nI_clamp (n := l * 5 + c) (by omega), eta]
      refine ⟨vp_in_nI (by omega) (by decide), nm_e (br_f (by decide) (br_f (by decide) (br_f (by decide) (br_f (by decide) (br_t rfl ⟨vp_in_nI (by omega) (by decide), br_f t1 ?_⟩)))))⟩
      simp only [wY_move_240]
      rw [nI_clamp (n := ((l * 5 + c) * 6 + 3) * 5 + p) (by omega), nI_clamp (n := l * 5 + c) (by omega)]
      exact br_t rfl ⟨vp_in_nI (by omega) (by decide), vp_in_nI (by omega) (by decide), nm_e (gy post hp)⟩
theorem lk_dn {l c k p : Nat} (h : dc_RR N L T F S ow sm sd wc wv wk cs cv ta tO tp lr pv br fg tc lv lw tk sh co vo ke pe oP bz ro fy ca) (hl : l < L) (hc : c < N) (hk : k < 6) (hp5 : p < 5) (hF : F l c k p = true) : dc_Dv L (fun post => wpX_deliverNow post (nI N, nI L, m, ow, sm, sd, wc, wv, wk, cs, cv, ta, tO, tp, lr, pv, br, fg) (nI k) (nI l) (nI c) (nI p)) (fun post => wpY_move post (nI N, nI L, m, ow, sd, wc, tc, lv, lw, tk, sh, co, vo, ke, pe, oP, bz, ro, fy, ca) (nI k) (nI l) (nI c) (nI p)) := by
  have e : k = 0 ∨ k = 1 ∨ k = 2 ∨ k = 3 ∨ k = 4 ∨ k = 5 := by omega
  rcases e with rfl | rfl | rfl | rfl | rfl | rfl
  · exact lk_dn0 h hl hc hp5 hF
  · exact lk_dn1 h hl hc hp5 hF
  · exact lk_dn2 h hl hc hp5 hF
  · exact lk_dn3 h hl hc hp5 hF
  · exact lk_dn4 h hl hc hp5 hF
  · exact lk_dn5 h hl hc hp5 hF
end
end
section
/-! names of messages; counts of ready messages; the n-th of them -/
def dc_Og (X : (Int32 → Prop) → Prop) (Y : (Int32 → Prop) → Prop) : Prop := ∃ r : Int32, (∀ post : Int32 → Prop, post r → X post) ∧ (∀ post : Int32 → Prop, post r → Y post)
theorem dc_Og_use {X : (Int32 → Prop) → Prop} {Y : (Int32 → Prop) → Prop} (h : dc_Og X Y) {R : Prop} (hR : R) : X (fun r => Y (fun r' => r' = r ∧ R)) := by
  obtain ⟨r, gx, gy⟩ := h
  exact gx _ (gy _ ⟨rfl, hR⟩)
theorem dc_cn_uniq {q : Nat → Bool} {a b : Nat} (ha : q a = true) (hb : q b = true) (h : dc_cn q a = dc_cn q b) : a = b := by
  rcases Nat.lt_trichotomy a b with z | z | z
  · have := dc_cn_mono' q (show a + 1 ≤ b by omega)
    rw [dc_cn_t ha] at this
    omega
  · exact z
  · have := dc_cn_mono' q (show b + 1 ≤ a by omega)
    rw [dc_cn_t hb] at this
    omega
theorem dc_cn_lt {q : Nat → Bool} {a n : Nat} (ha : q a = true) (h : a < n) : dc_cn q a < dc_cn q n := by
  have := dc_cn_mono' q (show a + 1 ≤ n by omega)
  rw [dc_cn_t ha] at this
  omega
section
variable {N L : Nat} {m : Int32} {T : Nat → List Nat} {F : Nat → Nat → Nat → Nat → Bool} {S : Nat → Nat → Bool} {ow sm sd wc wv wk cs cv ta tO tp lr pv br fg tc lv lw tk sh co vo ke pe oP bz ro fy ca : Nat → Int32}
theorem lk_name (v1 v2 v3 v4 : Int32) (hN : N ≤ 4) (hL : L ≤ 4) : (∃ k l c p, k < 6 ∧ l < L ∧ c < N ∧ p < 5 ∧ v1 = nI k ∧ v2 = nI l ∧ v3 = nI c ∧ v4 = nI p ∧ (∀ post : Int32 → Prop, post 1 → wpX_goodName post (nI N, nI L, m, ow, sm, sd, wc, wv, wk, cs, cv, ta, tO, tp, lr, pv, br, fg) v1 v2 v3 v4) ∧ (∀ post : Int32 → Prop, wY_message_42 post v1 v2 v3 v4 (nI N) (nI L) m ow sd wc tc lv lw tk sh co vo ke pe oP bz ro fy ca → wpY_message post (nI N, nI L, m, ow, sd, wc, tc, lv, lw, tk, sh, co, vo, ke, pe, oP, bz, ro, fy, ca) v1 v2 v3 v4)) ∨ ((∀ post : Int32 → Prop, post 0 → wpX_goodName post (nI N, nI L, m, ow, sm, sd, wc, wv, wk, cs, cv, ta, tO, tp, lr, pv, br, fg) v1 v2 v3 v4) ∧ (∀ post : Int32 → Prop, post (-1) → wpY_message post (nI N, nI L, m, ow, sd, wc, tc, lv, lw, tk, sh, co, vo, ke, pe, oP, bz, ro, fy, ca) v1 v2 v3 v4)) := by
  simp only [wpX_goodName, wpY_message]
  by_cases k0 : v1 < 0
  · exact Or.inr ⟨fun _ h => br_t k0 h, fun _ h => br_t k0 h⟩
  · obtain ⟨k, hk31, rfl⟩ := nI_of k0
    by_cases k6 : k < 6
    · have k5 : nI k ≤ 5 := nI_le (b := 5) (by omega) (by decide)
      have k5' : ¬ 5 < nI k := nI_nlt (a := 5) (by omega) (by decide)
      rcases lk_cell (N := N) (L := L) (m := m) (ow := ow) (sm := sm) (sd := sd) (wc := wc) (wv := wv) (wk := wk) (cs := cs) (cv := cv) (ta := ta) (tO := tO) (tp := tp) (lr := lr) (pv := pv) (br := br) (fg := fg) (tc := tc) (lv := lv) (lw := lw) (tk := tk) (sh := sh) (co := co) (vo := vo) (ke := ke) (pe := pe) (oP := oP) (bz := bz) (ro := ro) (fy := fy) (ca := ca) v3 v2 hN hL with ⟨c, l, hc, hl, e3, e2, gx, gy⟩ | ⟨gx, gy⟩
      · by_cases p4 : v4 = 4
        · exact Or.inl ⟨k, l, c, 4, k6, hl, hc, by decide, rfl, e2, e3, p4, fun _ h => br_f k0 (br_t k5 (gx _ (br_f (by decide) (br_t p4 h)))), fun _ h => br_f k0 (br_f k5' (gy _ (br_t rfl (br_t p4 h))))⟩
        · by_cases p0 : v4 < 0
          · refine Or.inr ⟨fun _ h => br_f k0 (br_t k5 (gx _ (br_f (by decide) (br_f p4 ?_)))), fun _ h => br_f k0 (br_f k5' (gy _ (br_t rfl (br_f p4 (br_t p0 h)))))⟩
            simp only [wpX_goodCache]
            exact br_t p0 (br_t (by trivial) h)
          · obtain ⟨p, hp31, rfl⟩ := nI_of p0
            by_cases pN : p < N
            · refine Or.inl ⟨k, l, c, p, k6, hl, hc, by omega, rfl, e2, e3, rfl, fun _ h => br_f k0 (br_t k5 (gx _ (br_f (by decide) (br_f p4 ?_)))), fun _ h => br_f k0 (br_f k5' (gy _ (br_t rfl (br_f p4 (br_f p0 (br_t (nI_lt pN (by omega)) h))))))⟩
              simp only [wpX_goodCache]
              exact br_f p0 (br_f (nI_ge pN (by omega)) (br_f (by decide) h))
            · refine Or.inr ⟨fun _ h => br_f k0 (br_t k5 (gx _ (br_f (by decide) (br_f p4 ?_)))), fun _ h => br_f k0 (br_f k5' (gy _ (br_t rfl (br_f p4 (br_f p0 (br_f (nI_nlt (by omega) hp31) h))))))⟩
              simp only [wpX_goodCache]
              exact br_f p0 (br_t (nI_le (by omega) hp31) (br_t (by trivial) h))
      · exact Or.inr ⟨fun _ h => br_f k0 (br_t k5 (gx _ (br_t rfl h))), fun _ h => br_f k0 (br_f k5' (gy _ (br_f (by decide) h)))⟩
    · have k5 : ¬ nI k ≤ 5 := nI_ge (a := 5) (by omega) hk31
      have k5' : 5 < nI k := nI_lt (a := 5) (by omega) hk31
      exact Or.inr ⟨fun _ h => br_f k0 (br_f k5 h), fun _ h => br_f k0 (br_t k5' h)⟩
theorem lk_message (v1 v2 v3 v4 : Int32) (h : dc_RR N L T F S ow sm sd wc wv wk cs cv ta tO tp lr pv br fg tc lv lw tk sh co vo ke pe oP bz ro fy ca) : dc_Og (fun post => wpX_message post (nI N, nI L, m, ow, sm, sd, wc, wv, wk, cs, cv, ta, tO, tp, lr, pv, br, fg) v1 v2 v3 v4) (fun post => wpY_message post (nI N, nI L, m, ow, sd, wc, tc, lv, lw, tk, sh, co, vo, ke, pe, oP, bz, ro, fy, ca) v1 v2 v3 v4) := by
  rcases lk_name (N := N) (L := L) (m := m) (ow := ow) (sm := sm) (sd := sd) (wc := wc) (wv := wv) (wk := wk) (cs := cs) (cv := cv) (ta := ta) (tO := tO) (tp := tp) (lr := lr) (pv := pv) (br := br) (fg := fg) (tc := tc) (lv := lv) (lw := lw) (tk := tk) (sh := sh) (co := co) (vo := vo) (ke := ke) (pe := pe) (oP := oP) (bz := bz) (ro := ro) (fy := fy) (ca := ca) v1 v2 v3 v4 h.1.2.1 h.1.2.2.2 with ⟨k, l, c, p, hk, hl, hc, hp, rfl, rfl, rfl, rfl, gx, gy⟩ | ⟨gx, gy⟩
  · obtain ⟨r, -, -, fx, fy'⟩ := lk_stat (m := m) h hl hc hk hp
    refine ⟨r, fun post g => ?_, fun post g => gy _ (fy' _ g)⟩
    simp only [wpX_message]
    exact gx _ (br_f (by decide) (fx _ g))
  · refine ⟨-1, fun post g => ?_, fun post g => gy _ g⟩
    simp only [wpX_message]
    exact gx _ (br_t rfl g)
theorem lk_deliver (v1 v2 v3 v4 : Int32) (h : dc_RR N L T F S ow sm sd wc wv wk cs cv ta tO tp lr pv br fg tc lv lw tk sh co vo ke pe oP bz ro fy ca) : dc_Ok (fun post => wpX_deliver post (nI N, nI L, m, ow, sm, sd, wc, wv, wk, cs, cv, ta, tO, tp, lr, pv, br, fg) v1 v2 v3 v4) (fun post => wpY_deliver post (nI N, nI L, m, ow, sd, wc, tc, lv, lw, tk, sh, co, vo, ke, pe, oP, bz, ro, fy, ca) v1 v2 v3 v4) := by
  rcases lk_name (N := N) (L := L) (m := m) (ow := ow) (sm := sm) (sd := sd) (wc := wc) (wv := wv) (wk := wk) (cs := cs) (cv := cv) (ta := ta) (tO := tO) (tp := tp) (lr := lr) (pv := pv) (br := br) (fg := fg) (tc := tc) (lv := lv) (lw := lw) (tk := tk) (sh := sh) (co := co) (vo := vo) (ke := ke) (pe := pe) (oP := oP) (bz := bz) (ro := ro) (fy := fy) (ca := ca) v1 v2 v3 v4 h.1.2.1 h.1.2.2.2 with ⟨k, l, c, p, hk, hl, hc, hp, rfl, rfl, rfl, rfl, gx, gy⟩ | ⟨gx, gy⟩
  · obtain ⟨r, hr, hr0, fx, fy'⟩ := lk_stat (m := m) h hl hc hk hp
    by_cases r2 : r = 2
    · subst r2
      have hF : F l c k p = true := by
        cases b : F l c k p with
        | true => rfl
        | false => exact absurd (hr0.mpr b) (by decide)
      obtain ⟨r, u, v, -, hR, dx, dy⟩ := lk_dn (m := m) (sd := sd) h hl hc hk hp hF
      obtain ⟨x1, x2, x3, x4, x5, x6, x7, x8, x9, x10, x11, x12, x13, x14, x15, x16, x17, x18⟩ := u
      obtain ⟨y1, y2, y3, y4, y5, y6, y7, y8, y9, y10, y11, y12, y13, y14, y15, y16, y17, y18, y19, y20⟩ := v
      refine ⟨r, _, _, ⟨L, hR⟩, fun post g => ?_, fun post g => ?_⟩
      · simp only [wpX_deliver]
        exact gx _ (br_f (by decide) (fx _ (br_t rfl (dx _ g))))
      · simp only [wpY_deliver]
        exact gy _ (fy' _ (br_t rfl (dy _ g)))
    · refine ⟨r, _, _, dc_in (m := m) (sd := sd) h, fun post g => ?_, fun post g => ?_⟩
      · simp only [wpX_deliver]
        exact gx _ (br_f (by decide) (fx _ (br_f r2 g)))
      · simp only [wpY_deliver]
        exact gy _ (fy' _ (br_f r2 g))
  · refine ⟨-1, _, _, dc_in (m := m) (sd := sd) h, fun post g => ?_, fun post g => ?_⟩
    · simp only [wpX_deliver]
      exact gx _ (br_t rfl g)
    · simp only [wpY_deliver]
      exact gy _ (br_f (by decide) g)
/-- the states of all messages -/
def dc_SS (N L : Nat) (m : Int32) (F : Nat → Nat → Nat → Nat → Bool) (s : Nat → Nat → Int32) (ow sm sd wc wv wk cs cv ta tO tp lr pv br fg tc lv lw tk sh co vo ke pe oP bz ro fy ca : Nat → Int32) : Prop := ∀ l c k p, l < L → c < N → k < 6 → p < 5 → (s l ((c * 6 + k) * 5 + p) = 0 ∨ s l ((c * 6 + k) * 5 + p) = 1 ∨ s l ((c * 6 + k) * 5 + p) = 2) ∧ (s l ((c * 6 + k) * 5 + p) = 0 ↔ F l c k p = false) ∧ (F l c k p = true → p < N ∨ p = 4) ∧ (∀ post : Int32 → Prop, post (s l ((c * 6 + k) * 5 + p)) → wpX_status post (nI N, nI L, m, ow, sm, sd, wc, wv, wk, cs, cv, ta, tO, tp, lr, pv, br, fg) (nI k) (nI l) (nI c) (nI p)) ∧ (∀ post : Int32 → Prop, post (s l ((c * 6 + k) * 5 + p)) → wY_message_42 post (nI k) (nI l) (nI c) (nI p) (nI N) (nI L) m ow sd wc tc lv lw tk sh co vo ke pe oP bz ro fy ca)
theorem lk_SS (h : dc_RR N L T F S ow sm sd wc wv wk cs cv ta tO tp lr pv br fg tc lv lw tk sh co vo ke pe oP bz ro fy ca) : ∃ s, dc_SS N L m F s ow sm sd wc wv wk cs cv ta tO tp lr pv br fg tc lv lw tk sh co vo ke pe oP bz ro fy ca := by
  have A : ∀ x : Nat × Nat, ∃ r : Int32, x.1 < L → x.2 / 30 < N → ((r = 0 ∨ r = 1 ∨ r = 2) ∧ (r = 0 ↔ F x.1 (x.2 / 30) (x.2 % 30 / 5) (x.2 % 5) = false) ∧ (∀ post : Int32 → Prop, post r → wpX_status post (nI N, nI L, m, ow, sm, sd, wc, wv, wk, cs, cv, ta, tO, tp, lr, pv, br, fg) (nI (x.2 % 30 / 5)) (nI x.1) (nI (x.2 / 30)) (nI (x.2 % 5))) ∧ (∀ post : Int32 → Prop, post r → wY_message_42 post (nI (x.2 % 30 / 5)) (nI x.1) (nI (x.2 / 30)) (nI (x.2 % 5)) (nI N) (nI L) m ow sd wc tc lv lw tk sh co vo ke pe oP bz ro fy ca)) := by
    intro x
    by_cases h1 : x.1 < L
    · by_cases h2 : x.2 / 30 < N
      · obtain ⟨r, hr⟩ := lk_stat (m := m) (k := x.2 % 30 / 5) (p := x.2 % 5) h h1 h2 (by omega) (by omega)
        exact ⟨r, fun _ _ => hr⟩
      · exact ⟨0, fun _ z => absurd z h2⟩
    · exact ⟨0, fun z => absurd z h1⟩
  obtain ⟨s, hs⟩ := Classical.axiomOfChoice A
  refine ⟨fun l m => s (l, m), ?_⟩
  intro l c k p hl hc hk hp
  have z := hs (l, (c * 6 + k) * 5 + p) hl (show ((c * 6 + k) * 5 + p) / 30 < N by omega)
  dsimp only at z
  rw [show ((c * 6 + k) * 5 + p) / 30 = c by omega, show ((c * 6 + k) * 5 + p) % 30 / 5 = k by omega, show ((c * 6 + k) * 5 + p) % 5 = p by omega] at z
  refine ⟨z.1, z.2.1, ?_, z.2.2⟩
  intro hF
  have hN := h.1.2.1
  have hL := h.1.2.2.2
  have hIA := h.2.2.2.2.2.2.2.2.2.2.2.2.2.2.2.2
  exact ((hIA l c (by omega) (by omega)).2.2.2.1 k p hk hp hF).1
def dc_q (s : Nat → Nat → Int32) (l : Nat) : Nat → Bool := fun m => decide (s l m = 2)
theorem dc_q_t {s : Nat → Nat → Int32} {l m : Nat} (h : s l m = 2) : dc_q s l m = true := decide_eq_true h
theorem dc_q_f {s : Nat → Nat → Int32} {l m : Nat} (h : ¬ s l m = 2) : ¬ dc_q s l m = true := fun z => h (of_decide_eq_true z)
theorem dc_q_2 {s : Nat → Nat → Int32} {l m : Nat} (h : dc_q s l m = true) : s l m = 2 := of_decide_eq_true h
theorem dx_ready24 {s : Nat → Nat → Int32} {l c k : Nat} (hS : dc_SS N L m F s ow sm sd wc wv wk cs cv ta tO tp lr pv br fg tc lv lw tk sh co vo ke pe oP bz ro fy ca) (hl : l < L) (hc : c < N) (hk : k < 6) {post : Int32 → Prop} {J4 J15 : Int32 → Int32 → Prop} (hJ : J15 (nI (dc_cn (dc_q s l) ((c * 6 + (k + 1)) * 5))) (nI (k + 1))) : ∀ n p, 5 < n + p → p ≤ 5 → wX_readyIn_24 post J4 J15 (nI l) (nI c) (nI k) (nI N) (nI L) m ow sm sd wc wv wk cs cv ta tO tp lr pv br fg n (nI (dc_cn (dc_q s l) ((c * 6 + k) * 5 + p))) (nI p) := by
  intro n
  induction n with
  | zero => intro p h1 h2; omega
  | succ n ih =>
    intro p h1 h2
    simp only [wX_readyIn_24]
    by_cases hp : p < 5
    · refine br_f (nI_nlt (a := 4) (by omega) (by decide)) ((hS l c k p hl hc hk hp).2.2.2.1 _ ?_)
      have z := ih (p + 1) (by omega) (by omega)
      refine br_c (fun y => nm_r (nI_1 _) (nm_r (nI_1 p) ?_)) (fun y => nm_r (nI_1 p) ?_)
      · rw [← Nat.add_assoc, dc_cn_t (dc_q_t y)] at z; exact z
      · rw [← Nat.add_assoc, dc_cn_f (dc_q_f y)] at z; exact z
    · have e : p = 5 := by omega
      subst e
      rw [show (c * 6 + k) * 5 + 5 = (c * 6 + (k + 1)) * 5 by omega]
      exact br_t (nI_lt (a := 4) (by decide) (by decide)) (nm_r (nI_1 k) hJ)
theorem dx_ready15 {s : Nat → Nat → Int32} {l c : Nat} (hS : dc_SS N L m F s ow sm sd wc wv wk cs cv ta tO tp lr pv br fg tc lv lw tk sh co vo ke pe oP bz ro fy ca) (hl : l < L) (hc : c < N) {post : Int32 → Prop} {J4 : Int32 → Int32 → Prop} (hJ : J4 (nI (dc_cn (dc_q s l) ((c + 1) * 30))) (nI (c + 1))) : ∀ n k, 6 < n + k → k ≤ 6 → wX_readyIn_15 post J4 (nI l) (nI c) (nI N) (nI L) m ow sm sd wc wv wk cs cv ta tO tp lr pv br fg n (nI (dc_cn (dc_q s l) ((c * 6 + k) * 5))) (nI k) := by
  intro n
  induction n with
  | zero => intro k h1 h2; omega
  | succ n ih =>
    intro k h1 h2
    simp only [wX_readyIn_15]
    by_cases hk : k < 6
    · exact br_f (nI_nlt (a := 5) (by omega) (by decide)) ⟨6, dx_ready24 hS hl hc hk (ih (k + 1) (by omega) (by omega)) 6 0 (by omega) (by omega)⟩
    · have e : k = 6 := by omega
      subst e
      rw [show (c * 6 + 6) * 5 = (c + 1) * 30 by omega]
      exact br_t (nI_lt (a := 5) (by decide) (by decide)) (nm_r (nI_1 c) hJ)
theorem dx_ready4 {s : Nat → Nat → Int32} {l : Nat} (hS : dc_SS N L m F s ow sm sd wc wv wk cs cv ta tO tp lr pv br fg tc lv lw tk sh co vo ke pe oP bz ro fy ca) (hl : l < L) (hN : N ≤ 4) {post : Int32 → Prop} (h : post (nI (dc_cn (dc_q s l) (N * 30)))) : ∀ n c, N < n + c → c ≤ N → wX_readyIn_4 post (nI l) (nI N) (nI L) m ow sm sd wc wv wk cs cv ta tO tp lr pv br fg n (nI (dc_cn (dc_q s l) (c * 30))) (nI c) := by
  intro n
  induction n with
  | zero => intro c h1 h2; omega
  | succ n ih =>
    intro c h1 h2
    simp only [wX_readyIn_4]
    by_cases hc : c < N
    · have z := dx_ready15 (post := post) hS hl hc (ih (c + 1) (by omega) (by omega)) 7 0 (by omega) (by omega)
      rw [show (c * 6 + 0) * 5 = c * 30 by omega] at z
      exact br_f (nI_ge hc (by omega)) ⟨7, z⟩
    · have e : c = N := by omega
      subst e
      exact br_t (nI_le (Nat.le_refl _) (by omega)) h
theorem dx_ready {s : Nat → Nat → Int32} {l : Nat} (hS : dc_SS N L m F s ow sm sd wc wv wk cs cv ta tO tp lr pv br fg tc lv lw tk sh co vo ke pe oP bz ro fy ca) (hl : l < L) (hN : N ≤ 4) {post : Int32 → Prop} (h : post (nI (dc_cn (dc_q s l) (N * 30)))) : wpX_readyIn post (nI N, nI L, m, ow, sm, sd, wc, wv, wk, cs, cv, ta, tO, tp, lr, pv, br, fg) (nI l) := by
  simp only [wpX_readyIn]
  have z := dx_ready4 hS hl hN h (N + 1) 0 (by omega) (by omega)
  exact ⟨N + 1, z⟩
theorem dy_msg {s : Nat → Nat → Int32} {l c k p : Nat} (hS : dc_SS N L m F s ow sm sd wc wv wk cs cv ta tO tp lr pv br fg tc lv lw tk sh co vo ke pe oP bz ro fy ca) (hN : N ≤ 4) (hL : L ≤ 4) (hl : l < L) (hc : c < N) (hk : k < 6) (hp : p < 5) {post : Int32 → Prop} (h : post (if p < N ∨ p = 4 then s l ((c * 6 + k) * 5 + p) else -1)) : wpY_message post (nI N, nI L, m, ow, sd, wc, tc, lv, lw, tk, sh, co, vo, ke, pe, oP, bz, ro, fy, ca) (nI k) (nI l) (nI c) (nI p) := by
  have g := (hS l c k p hl hc hk hp).2.2.2.2
  simp only [wpY_message]
  refine br_f (nI_pos (by omega)) (br_f (nI_nlt (a := 5) (by omega) (by decide)) (dy_bad hc hl hN hL (br_t rfl ?_)))
  by_cases p4 : p = 4
  · rw [if_pos (Or.inr p4)] at h
    subst p4
    exact br_t rfl (g _ h)
  · have n4 : ¬ nI p = 4 := by rw [show (4 : Int32) = nI 4 from rfl, nI_eq (by omega) (by omega)]; exact p4
    by_cases pN : p < N
    · rw [if_pos (Or.inl pN)] at h
      exact br_f n4 (br_f (nI_pos (by omega)) (br_t (nI_lt pN (by omega)) (g _ h)))
    · rw [if_neg (by omega)] at h
      exact br_f n4 (br_f (nI_pos (by omega)) (br_f (nI_nlt (by omega) (by omega)) h))
end
end
section
/-! the reference's counts, the n-th ready message on both sides -/
theorem dc_lt2 {x : Int32} (h : x = -1 ∨ x = 0 ∨ x = 1 ∨ x = 2) : (x < 2 ↔ ¬ x = 2) ∧ (x < 1 ↔ (x = -1 ∨ x = 0)) := by
  rcases h with rfl | rfl | rfl | rfl <;> decide
section
variable {N L : Nat} {m : Int32} {T : Nat → List Nat} {F : Nat → Nat → Nat → Nat → Bool} {S : Nat → Nat → Bool} {ow sm sd wc wv wk cs cv ta tO tp lr pv br fg tc lv lw tk sh co vo ke pe oP bz ro fy ca : Nat → Int32}
theorem dy_count26 {s : Nat → Nat → Int32} {l c k : Nat} {q : Nat → Bool} {x2 : Int32} (hS : dc_SS N L m F s ow sm sd wc wv wk cs cv ta tO tp lr pv br fg tc lv lw tk sh co vo ke pe oP bz ro fy ca) (hN : N ≤ 4) (hL : L ≤ 4) (hl : l < L) (hc : c < N) (hk : k < 6) (hq : ∀ p, p < 5 → (q ((c * 6 + k) * 5 + p) = true ↔ ¬ (if p < N ∨ p = 4 then s l ((c * 6 + k) * 5 + p) else -1) < x2)) {post : Int32 → Prop} {J5 J17 : Int32 → Int32 → Prop} (hJ : J17 (nI (dc_cn q ((c * 6 + (k + 1)) * 5))) (nI (k + 1))) : ∀ n p, 5 < n + p → p ≤ 5 → wY_count_26 post J5 J17 (nI l) x2 (nI c) (nI k) (nI N) (nI L) m ow sd wc tc lv lw tk sh co vo ke pe oP bz ro fy ca n (nI (dc_cn q ((c * 6 + k) * 5 + p))) (nI p) := by
  intro n
  induction n with
  | zero => intro p h1 h2; omega
  | succ n ih =>
    intro p h1 h2
    simp only [wY_count_26]
    by_cases hp : p < 5
    · refine br_f (nI_nlt (a := 4) (by omega) (by decide)) (dy_msg hS hN hL hl hc hk hp ?_)
      have z := ih (p + 1) (by omega) (by omega)
      have hqp := hq p hp
      refine br_c (fun y => nm_r (nI_1 p) ?_) (fun y => nm_r (nI_1 _) (nm_r (nI_1 p) ?_))
      · rw [← Nat.add_assoc, dc_cn_f (fun x => (hqp.mp x) y)] at z; exact z
      · rw [← Nat.add_assoc, dc_cn_t (hqp.mpr y)] at z; exact z
    · have e : p = 5 := by omega
      subst e
      rw [show (c * 6 + k) * 5 + 5 = (c * 6 + (k + 1)) * 5 by omega]
      exact br_t (nI_lt (a := 4) (by decide) (by decide)) (nm_r (nI_1 k) hJ)
theorem dy_count17 {s : Nat → Nat → Int32} {l c : Nat} {q : Nat → Bool} {x2 : Int32} (hS : dc_SS N L m F s ow sm sd wc wv wk cs cv ta tO tp lr pv br fg tc lv lw tk sh co vo ke pe oP bz ro fy ca) (hN : N ≤ 4) (hL : L ≤ 4) (hl : l < L) (hc : c < N) (hq : ∀ k p, k < 6 → p < 5 → (q ((c * 6 + k) * 5 + p) = true ↔ ¬ (if p < N ∨ p = 4 then s l ((c * 6 + k) * 5 + p) else -1) < x2)) {post : Int32 → Prop} {J5 : Int32 → Int32 → Prop} (hJ : J5 (nI (dc_cn q ((c + 1) * 30))) (nI (c + 1))) : ∀ n k, 6 < n + k → k ≤ 6 → wY_count_17 post J5 (nI l) x2 (nI c) (nI N) (nI L) m ow sd wc tc lv lw tk sh co vo ke pe oP bz ro fy ca n (nI (dc_cn q ((c * 6 + k) * 5))) (nI k) := by
  intro n
  induction n with
  | zero => intro k h1 h2; omega
  | succ n ih =>
    intro k h1 h2
    simp only [wY_count_17]
    by_cases hk : k < 6
    · exact br_f (nI_nlt (a := 5) (by omega) (by decide)) ⟨6, dy_count26 hS hN hL hl hc hk (fun p hp => hq k p hk hp) (ih (k + 1) (by omega) (by omega)) 6 0 (by omega) (by omega)⟩
    · have e : k = 6 := by omega
      subst e
      rw [show (c * 6 + 6) * 5 = (c + 1) * 30 by omega]
      exact br_t (nI_lt (a := 5) (by decide) (by decide)) (nm_r (nI_1 c) hJ)
theorem dy_count5 {s : Nat → Nat → Int32} {l : Nat} {q : Nat → Bool} {x2 : Int32} (hS : dc_SS N L m F s ow sm sd wc wv wk cs cv ta tO tp lr pv br fg tc lv lw tk sh co vo ke pe oP bz ro fy ca) (hN : N ≤ 4) (hL : L ≤ 4) (hl : l < L) (hq : ∀ c k p, c < N → k < 6 → p < 5 → (q ((c * 6 + k) * 5 + p) = true ↔ ¬ (if p < N ∨ p = 4 then s l ((c * 6 + k) * 5 + p) else -1) < x2)) {post : Int32 → Prop} (h : post (nI (dc_cn q (N * 30)))) : ∀ n c, N < n + c → c ≤ N → wY_count_5 post (nI l) x2 (nI N) (nI L) m ow sd wc tc lv lw tk sh co vo ke pe oP bz ro fy ca n (nI (dc_cn q (c * 30))) (nI c) := by
  intro n
  induction n with
  | zero => intro c h1 h2; omega
  | succ n ih =>
    intro c h1 h2
    simp only [wY_count_5]
    by_cases hc : c < N
    · have z := dy_count17 (post := post) hS hN hL hl hc (fun k p => hq c k p hc) (ih (c + 1) (by omega) (by omega)) 7 0 (by omega) (by omega)
      rw [show (c * 6 + 0) * 5 = c * 30 by omega] at z
      exact br_f (nI_ge hc (by omega)) ⟨7, z⟩
    · have e : c = N := by omega
      subst e
      exact br_t (nI_le (Nat.le_refl _) (by omega)) h
theorem dy_count {s : Nat → Nat → Int32} {l : Nat} {q : Nat → Bool} {x2 : Int32} (hS : dc_SS N L m F s ow sm sd wc wv wk cs cv ta tO tp lr pv br fg tc lv lw tk sh co vo ke pe oP bz ro fy ca) (hN : N ≤ 4) (hL : L ≤ 4) (hl : l < L) (hq : ∀ c k p, c < N → k < 6 → p < 5 → (q ((c * 6 + k) * 5 + p) = true ↔ ¬ (if p < N ∨ p = 4 then s l ((c * 6 + k) * 5 + p) else -1) < x2)) {post : Int32 → Prop} (h : post (nI (dc_cn q (N * 30)))) : wpY_count post (nI N, nI L, m, ow, sd, wc, tc, lv, lw, tk, sh, co, vo, ke, pe, oP, bz, ro, fy, ca) (nI l) x2 := by
  simp only [wpY_count]
  have z := dy_count5 hS hN hL hl hq h (N + 1) 0 (by omega) (by omega)
  exact ⟨N + 1, z⟩
/-- what the reference sees of a message, against its state -/
theorem dc_ysee {s : Nat → Nat → Int32} {l c k p : Nat} (hS : dc_SS N L m F s ow sm sd wc wv wk cs cv ta tO tp lr pv br fg tc lv lw tk sh co vo ke pe oP bz ro fy ca) (hl : l < L) (hc : c < N) (hk : k < 6) (hp : p < 5) : ((if p < N ∨ p = 4 then s l ((c * 6 + k) * 5 + p) else -1) = 2 ↔ s l ((c * 6 + k) * 5 + p) = 2) ∧ ((if p < N ∨ p = 4 then s l ((c * 6 + k) * 5 + p) else -1) < 2 ↔ ¬ s l ((c * 6 + k) * 5 + p) = 2) ∧ ((if p < N ∨ p = 4 then s l ((c * 6 + k) * 5 + p) else -1) < 1 ↔ F l c k p = false) := by
  obtain ⟨h1, h2, h3, -⟩ := hS l c k p hl hc hk hp
  by_cases z : p < N ∨ p = 4
  · rw [if_pos z]
    obtain ⟨g1, g2⟩ := dc_lt2 (Or.inr h1)
    refine ⟨Iff.rfl, g1, ?_⟩
    rw [g2, ← h2]
    constructor
    · rintro (y | y)
      · rcases h1 with x | x | x <;> rw [x] at y <;> exact absurd y (by decide)
      · exact y
    · exact Or.inr
  · rw [if_neg z]
    have f : F l c k p = false := by
      cases b : F l c k p with
      | false => rfl
      | true => exact absurd (h3 b) z
    have e := h2.mpr f
    rw [e, f]
    decide
theorem dy_ready {s : Nat → Nat → Int32} {l : Nat} (hS : dc_SS N L m F s ow sm sd wc wv wk cs cv ta tO tp lr pv br fg tc lv lw tk sh co vo ke pe oP bz ro fy ca) (hN : N ≤ 4) (hL : L ≤ 4) (hl : l < L) {post : Int32 → Prop} (h : post (nI (dc_cn (dc_q s l) (N * 30)))) : wpY_ready post (nI N, nI L, m, ow, sd, wc, tc, lv, lw, tk, sh, co, vo, ke, pe, oP, bz, ro, fy, ca) (nI l) := by
  simp only [wpY_ready, wpY_badLine]
  refine br_f (nI_pos (by omega)) (br_t (nI_lt hl (by omega)) (br_t (by trivial) ?_))
  refine dy_count hS hN hL hl (fun c k p hc hk hp => ?_) h
  rw [(dc_ysee hS hl hc hk hp).2.1, Classical.not_not]
  exact ⟨dc_q_2, dc_q_t⟩
theorem dx_nth26 {s : Nat → Nat → Int32} {l c k G : Nat} (hS : dc_SS N L m F s ow sm sd wc wv wk cs cv ta tO tp lr pv br fg tc lv lw tk sh co vo ke pe oP bz ro fy ca) (hN : N ≤ 4) (hl : l < L) (hc : c < N) (hk : k < 6) {post : Int32 → SX → Prop} (hD : ∀ p, p < 5 → dc_q s l ((c * 6 + k) * 5 + p) = true → dc_cn (dc_q s l) ((c * 6 + k) * 5 + p) = G → ∃ r u, post r u ∧ ∀ post' : Int32 → SX → Prop, post' r u → wpX_deliverNow post' (nI N, nI L, m, ow, sm, sd, wc, wv, wk, cs, cv, ta, tO, tp, lr, pv, br, fg) (nI k) (nI l) (nI c) (nI p)) {J5 J17 : Int32 → Int32 → Prop} (hG : G < 2 ^ 31) (hJ : dc_cn (dc_q s l) ((c * 6 + (k + 1)) * 5) ≤ G → J17 (nI (G - dc_cn (dc_q s l) ((c * 6 + (k + 1)) * 5))) (nI (k + 1))) : ∀ n p, 5 < n + p → p ≤ 5 → dc_cn (dc_q s l) ((c * 6 + k) * 5 + p) ≤ G → wX_deliverNth_26 post J5 J17 (nI l) (nI c) (nI k) (nI N) (nI L) m ow sm sd wc wv wk cs cv ta tO tp lr pv br fg n (nI (G - dc_cn (dc_q s l) ((c * 6 + k) * 5 + p))) (nI p) := by
  intro n
  induction n with
  | zero => intro p h1 h2; omega
  | succ n ih =>
    intro p h1 h2 h3
    simp only [wX_deliverNth_26]
    by_cases hp : p < 5
    · refine br_f (nI_nlt (a := 4) (by omega) (by decide)) ((hS l c k p hl hc hk hp).2.2.2.1 _ ?_)
      refine br_c (fun y => ?_) (fun y => nm_r (nI_1 p) ?_)
      · have qy := dc_q_t y
        by_cases e : dc_cn (dc_q s l) ((c * 6 + k) * 5 + p) = G
        · obtain ⟨r, u, hu, g⟩ := hD p hp qy e
          obtain ⟨x1, x2, x3, x4, x5, x6, x7, x8, x9, x10, x11, x12, x13, x14, x15, x16, x17, x18⟩ := u
          refine br_t ?_ (g _ hu)
          rw [e, Nat.sub_self]; rfl
        · have z := ih (p + 1) (by omega) (by omega)
          rw [← Nat.add_assoc, dc_cn_t qy] at z
          refine br_f (nI_ne0 (by omega) (by omega)) (nm_r ?_ (nm_r (nI_1 p) (z (by omega))))
          rw [show G - dc_cn (dc_q s l) ((c * 6 + k) * 5 + p) = G - (dc_cn (dc_q s l) ((c * 6 + k) * 5 + p) + 1) + 1 by omega]
          exact pk_m1 _
      · have z := ih (p + 1) (by omega) (by omega)
        rw [← Nat.add_assoc, dc_cn_f (dc_q_f y)] at z
        exact z h3
    · have e : p = 5 := by omega
      subst e
      rw [show (c * 6 + k) * 5 + 5 = (c * 6 + (k + 1)) * 5 by omega] at h3 ⊢
      exact br_t (nI_lt (a := 4) (by decide) (by decide)) (nm_r (nI_1 k) (hJ h3))
theorem dx_nth17 {s : Nat → Nat → Int32} {l c G : Nat} (hS : dc_SS N L m F s ow sm sd wc wv wk cs cv ta tO tp lr pv br fg tc lv lw tk sh co vo ke pe oP bz ro fy ca) (hN : N ≤ 4) (hl : l < L) (hc : c < N) {post : Int32 → SX → Prop} (hD : ∀ k p, k < 6 → p < 5 → dc_q s l ((c * 6 + k) * 5 + p) = true → dc_cn (dc_q s l) ((c * 6 + k) * 5 + p) = G → ∃ r u, post r u ∧ ∀ post' : Int32 → SX → Prop, post' r u → wpX_deliverNow post' (nI N, nI L, m, ow, sm, sd, wc, wv, wk, cs, cv, ta, tO, tp, lr, pv, br, fg) (nI k) (nI l) (nI c) (nI p)) {J5 : Int32 → Int32 → Prop} (hG : G < 2 ^ 31) (hJ : dc_cn (dc_q s l) ((c + 1) * 30) ≤ G → J5 (nI (G - dc_cn (dc_q s l) ((c + 1) * 30))) (nI (c + 1))) : ∀ n k, 6 < n + k → k ≤ 6 → dc_cn (dc_q s l) ((c * 6 + k) * 5) ≤ G → wX_deliverNth_17 post J5 (nI l) (nI c) (nI N) (nI L) m ow sm sd wc wv wk cs cv ta tO tp lr pv br fg n (nI (G - dc_cn (dc_q s l) ((c * 6 + k) * 5))) (nI k) := by
  intro n
  induction n with
  | zero => intro k h1 h2; omega
  | succ n ih =>
    intro k h1 h2 h3
    simp only [wX_deliverNth_17]
    by_cases hk : k < 6
    · exact br_f (nI_nlt (a := 5) (by omega) (by decide)) ⟨6, dx_nth26 hS hN hl hc hk (fun p => hD k p hk) hG (ih (k + 1) (by omega) (by omega)) 6 0 (by omega) (by omega) h3⟩
    · have e : k = 6 := by omega
      subst e
      rw [show (c * 6 + 6) * 5 = (c + 1) * 30 by omega] at h3 ⊢
      exact br_t (nI_lt (a := 5) (by decide) (by decide)) (nm_r (nI_1 c) (hJ h3))
theorem dx_nth5 {s : Nat → Nat → Int32} {l G : Nat} (hS : dc_SS N L m F s ow sm sd wc wv wk cs cv ta tO tp lr pv br fg tc lv lw tk sh co vo ke pe oP bz ro fy ca) (hN : N ≤ 4) (hl : l < L) {post : Int32 → SX → Prop} (hD : ∀ c k p, c < N → k < 6 → p < 5 → dc_q s l ((c * 6 + k) * 5 + p) = true → dc_cn (dc_q s l) ((c * 6 + k) * 5 + p) = G → ∃ r u, post r u ∧ ∀ post' : Int32 → SX → Prop, post' r u → wpX_deliverNow post' (nI N, nI L, m, ow, sm, sd, wc, wv, wk, cs, cv, ta, tO, tp, lr, pv, br, fg) (nI k) (nI l) (nI c) (nI p)) (hG : G < dc_cn (dc_q s l) (N * 30)) : ∀ n c, N < n + c → c ≤ N → dc_cn (dc_q s l) (c * 30) ≤ G → wX_deliverNth_5 post (nI l) (nI N) (nI L) m ow sm sd wc wv wk cs cv ta tO tp lr pv br fg n (nI (G - dc_cn (dc_q s l) (c * 30))) (nI c) := by
  have hG31 : G < 2 ^ 31 := by have := dc_cn_le (dc_q s l) (N * 30); omega
  intro n
  induction n with
  | zero => intro c h1 h2; omega
  | succ n ih =>
    intro c h1 h2 h3
    simp only [wX_deliverNth_5]
    by_cases hc : c < N
    · have z := dx_nth17 (post := post) hS hN hl hc (fun k p => hD c k p hc) hG31 (ih (c + 1) (by omega) (by omega)) 7 0 (by omega) (by omega)
      rw [show (c * 6 + 0) * 5 = c * 30 by omega] at z
      exact br_f (nI_ge hc (by omega)) ⟨7, z h3⟩
    · have e : c = N := by omega
      subst e
      omega
theorem dx_nth {s : Nat → Nat → Int32} {l G : Nat} (hS : dc_SS N L m F s ow sm sd wc wv wk cs cv ta tO tp lr pv br fg tc lv lw tk sh co vo ke pe oP bz ro fy ca) (hN : N ≤ 4) (hl : l < L) {post : Int32 → SX → Prop} (hD : ∀ c k p, c < N → k < 6 → p < 5 → dc_q s l ((c * 6 + k) * 5 + p) = true → dc_cn (dc_q s l) ((c * 6 + k) * 5 + p) = G → ∃ r u, post r u ∧ ∀ post' : Int32 → SX → Prop, post' r u → wpX_deliverNow post' (nI N, nI L, m, ow, sm, sd, wc, wv, wk, cs, cv, ta, tO, tp, lr, pv, br, fg) (nI k) (nI l) (nI c) (nI p)) (hG : G < dc_cn (dc_q s l) (N * 30)) : wpX_deliverNth post (nI N, nI L, m, ow, sm, sd, wc, wv, wk, cs, cv, ta, tO, tp, lr, pv, br, fg) (nI l) (nI G) := by
  simp only [wpX_deliverNth]
  have z := dx_nth5 hS hN hl hD hG (N + 1) 0 (by omega) (by omega) (Nat.zero_le _)
  exact ⟨N + 1, z⟩
theorem dy_pick87 {s : Nat → Nat → Int32} {l c k G : Nat} {b : Int32} (hS : dc_SS N L m F s ow sm sd wc wv wk cs cv ta tO tp lr pv br fg tc lv lw tk sh co vo ke pe oP bz ro fy ca) (hN : N ≤ 4) (hL : L ≤ 4) (hl : l < L) (hc : c < N) (hk : k < 6) {post : Int32 → SY → Prop} (hD : ∀ p, p < 5 → dc_q s l ((c * 6 + k) * 5 + p) = true → dc_cn (dc_q s l) ((c * 6 + k) * 5 + p) = G → ∃ r u, post r u ∧ ∀ post' : Int32 → SY → Prop, post' r u → wpY_move post' (nI N, nI L, m, ow, sd, wc, tc, lv, lw, tk, sh, co, vo, ke, pe, oP, bz, ro, fy, ca) (nI k) (nI l) (nI c) (nI p)) {J57 J66 J78 : Int32 → Int32 → Prop} (hG : G < 2 ^ 31) (hJ : dc_cn (dc_q s l) ((c * 6 + (k + 1)) * 5) ≤ G → J78 (nI (G - dc_cn (dc_q s l) ((c * 6 + (k + 1)) * 5))) (nI (k + 1))) : ∀ n p, 5 < n + p → p ≤ 5 → dc_cn (dc_q s l) ((c * 6 + k) * 5 + p) ≤ G → wY_pick_87 post J57 J66 J78 b (nI l) (nI c) (nI k) (nI N) (nI L) m ow sd wc tc lv lw tk sh co vo ke pe oP bz ro fy ca n (nI (G - dc_cn (dc_q s l) ((c * 6 + k) * 5 + p))) (nI p) := by
  intro n
  induction n with
  | zero => intro p h1 h2; omega
  | succ n ih =>
    intro p h1 h2 h3
    simp only [wY_pick_87]
    by_cases hp : p < 5
    · refine br_f (nI_nlt (a := 4) (by omega) (by decide)) (dy_msg hS hN hL hl hc hk hp ?_)
      have hys := (dc_ysee hS hl hc hk hp).1
      refine br_c (fun y => ?_) (fun y => nm_r (nI_1 p) ?_)
      · have qy := dc_q_t (hys.mp y)
        by_cases e : dc_cn (dc_q s l) ((c * 6 + k) * 5 + p) = G
        · obtain ⟨r, u, hu, g⟩ := hD p hp qy e
          obtain ⟨y1, y2, y3, y4, y5, y6, y7, y8, y9, y10, y11, y12, y13, y14, y15, y16, y17, y18, y19, y20⟩ := u
          refine br_t ?_ (g _ hu)
          rw [e, Nat.sub_self]; rfl
        · have z := ih (p + 1) (by omega) (by omega)
          rw [← Nat.add_assoc, dc_cn_t qy] at z
          refine br_f (nI_ne0 (by omega) (by omega)) (nm_r ?_ (nm_r (nI_1 p) (z (by omega))))
          rw [show G - dc_cn (dc_q s l) ((c * 6 + k) * 5 + p) = G - (dc_cn (dc_q s l) ((c * 6 + k) * 5 + p) + 1) + 1 by omega]
          exact pk_m1 _
      · have z := ih (p + 1) (by omega) (by omega)
        rw [← Nat.add_assoc, dc_cn_f (dc_q_f (fun x => y (hys.mpr x)))] at z
        exact z h3
    · have e : p = 5 := by omega
      subst e
      rw [show (c * 6 + k) * 5 + 5 = (c * 6 + (k + 1)) * 5 by omega] at h3 ⊢
      exact br_t (nI_lt (a := 4) (by decide) (by decide)) (nm_r (nI_1 k) (hJ h3))
theorem dy_pick78 {s : Nat → Nat → Int32} {l c G : Nat} {b : Int32} (hS : dc_SS N L m F s ow sm sd wc wv wk cs cv ta tO tp lr pv br fg tc lv lw tk sh co vo ke pe oP bz ro fy ca) (hN : N ≤ 4) (hL : L ≤ 4) (hl : l < L) (hc : c < N) {post : Int32 → SY → Prop} (hD : ∀ k p, k < 6 → p < 5 → dc_q s l ((c * 6 + k) * 5 + p) = true → dc_cn (dc_q s l) ((c * 6 + k) * 5 + p) = G → ∃ r u, post r u ∧ ∀ post' : Int32 → SY → Prop, post' r u → wpY_move post' (nI N, nI L, m, ow, sd, wc, tc, lv, lw, tk, sh, co, vo, ke, pe, oP, bz, ro, fy, ca) (nI k) (nI l) (nI c) (nI p)) {J57 J66 : Int32 → Int32 → Prop} (hG : G < 2 ^ 31) (hJ : dc_cn (dc_q s l) ((c + 1) * 30) ≤ G → J66 (nI (G - dc_cn (dc_q s l) ((c + 1) * 30))) (nI (c + 1))) : ∀ n k, 6 < n + k → k ≤ 6 → dc_cn (dc_q s l) ((c * 6 + k) * 5) ≤ G → wY_pick_78 post J57 J66 b (nI l) (nI c) (nI N) (nI L) m ow sd wc tc lv lw tk sh co vo ke pe oP bz ro fy ca n (nI (G - dc_cn (dc_q s l) ((c * 6 + k) * 5))) (nI k) := by
  intro n
  induction n with
  | zero => intro k h1 h2; omega
  | succ n ih =>
    intro k h1 h2 h3
    simp only [wY_pick_78]
    by_cases hk : k < 6
    · exact br_f (nI_nlt (a := 5) (by omega) (by decide)) ⟨6, dy_pick87 hS hN hL hl hc hk (fun p => hD k p hk) hG (ih (k + 1) (by omega) (by omega)) 6 0 (by omega) (by omega) h3⟩
    · have e : k = 6 := by omega
      subst e
      rw [show (c * 6 + 6) * 5 = (c + 1) * 30 by omega] at h3 ⊢
      exact br_t (nI_lt (a := 5) (by decide) (by decide)) (nm_r (nI_1 c) (hJ h3))
theorem dy_pick66 {s : Nat → Nat → Int32} {l G : Nat} {b : Int32} (hS : dc_SS N L m F s ow sm sd wc wv wk cs cv ta tO tp lr pv br fg tc lv lw tk sh co vo ke pe oP bz ro fy ca) (hN : N ≤ 4) (hL : L ≤ 4) (hl : l < L) {post : Int32 → SY → Prop} (hD : ∀ c k p, c < N → k < 6 → p < 5 → dc_q s l ((c * 6 + k) * 5 + p) = true → dc_cn (dc_q s l) ((c * 6 + k) * 5 + p) = G → ∃ r u, post r u ∧ ∀ post' : Int32 → SY → Prop, post' r u → wpY_move post' (nI N, nI L, m, ow, sd, wc, tc, lv, lw, tk, sh, co, vo, ke, pe, oP, bz, ro, fy, ca) (nI k) (nI l) (nI c) (nI p)) {J57 : Int32 → Int32 → Prop} (hG : G < 2 ^ 31) (hJ : dc_cn (dc_q s l) (N * 30) ≤ G → J57 (nI (G - dc_cn (dc_q s l) (N * 30))) (nI (l + 1))) : ∀ n c, N < n + c → c ≤ N → dc_cn (dc_q s l) (c * 30) ≤ G → wY_pick_66 post J57 b (nI l) (nI N) (nI L) m ow sd wc tc lv lw tk sh co vo ke pe oP bz ro fy ca n (nI (G - dc_cn (dc_q s l) (c * 30))) (nI c) := by
  intro n
  induction n with
  | zero => intro c h1 h2; omega
  | succ n ih =>
    intro c h1 h2 h3
    simp only [wY_pick_66]
    by_cases hc : c < N
    · have z := dy_pick78 (b := b) (post := post) (J57 := J57) hS hN hL hl hc (fun k p => hD c k p hc) hG (ih (c + 1) (by omega) (by omega)) 7 0 (by omega) (by omega)
      rw [show (c * 6 + 0) * 5 = c * 30 by omega] at z
      exact br_f (nI_ge hc (by omega)) ⟨7, z h3⟩
    · have e : c = N := by omega
      subst e
      exact br_t (nI_le (Nat.le_refl _) (by omega)) (nm_r (nI_1 l) (hJ h3))
/-- the lines from a to b; bs l: the ready ones of the lines a .. l - 1 -/
theorem dy_pick57 {s : Nat → Nat → Int32} {a b G : Nat} {bs : Nat → Nat} (hS : dc_SS N L m F s ow sm sd wc wv wk cs cv ta tO tp lr pv br fg tc lv lw tk sh co vo ke pe oP bz ro fy ca) (hN : N ≤ 4) (hL : L ≤ 4) (hb : b < L) (hbs : ∀ l, a ≤ l → l ≤ b → bs (l + 1) = bs l + dc_cn (dc_q s l) (N * 30)) (hG : G < bs (b + 1)) (hG31 : G < 2 ^ 31) {post : Int32 → SY → Prop} (hD : ∀ l c k p, a ≤ l → l ≤ b → c < N → k < 6 → p < 5 → dc_q s l ((c * 6 + k) * 5 + p) = true → bs l + dc_cn (dc_q s l) ((c * 6 + k) * 5 + p) = G → ∃ r u, post r u ∧ ∀ post' : Int32 → SY → Prop, post' r u → wpY_move post' (nI N, nI L, m, ow, sd, wc, tc, lv, lw, tk, sh, co, vo, ke, pe, oP, bz, ro, fy, ca) (nI k) (nI l) (nI c) (nI p)) : ∀ n l, b + 1 < n + l → a ≤ l → l ≤ b + 1 → bs l ≤ G → wY_pick_57 post (nI b) (nI N) (nI L) m ow sd wc tc lv lw tk sh co vo ke pe oP bz ro fy ca n (nI (G - bs l)) (nI l) := by
  intro n
  induction n with
  | zero => intro l h1 h2; omega
  | succ n ih =>
    intro l h1 h2 h3 h4
    simp only [wY_pick_57]
    by_cases hlb : l ≤ b
    · have eb := hbs l h2 hlb
      have z := dy_pick66 (G := G - bs l) (b := nI b) (post := post) (J57 := wY_pick_57 post (nI b) (nI N) (nI L) m ow sd wc tc lv lw tk sh co vo ke pe oP bz ro fy ca n) hS hN hL (show l < L by omega) (fun c k p hc hk hp hq hcn => hD l c k p h2 hlb hc hk hp hq (by omega)) (by omega) (fun h5 => by
        have y := ih (l + 1) (by omega) (by omega) (by omega) (by omega)
        rw [eb, Nat.sub_add_eq] at y
        exact y) (N + 1) 0 (by omega) (by omega) (Nat.zero_le _)
      exact br_f (nI_nlt (by omega) (by omega)) ⟨N + 1, z⟩
    · have e : l = b + 1 := by omega
      subst e
      omega
theorem dy_pick6 {s : Nat → Nat → Int32} {a b K j : Nat} {bs : Nat → Nat} (v : Int32) (hS : dc_SS N L m F s ow sm sd wc wv wk cs cv ta tO tp lr pv br fg tc lv lw tk sh co vo ke pe oP bz ro fy ca) (hN : N ≤ 4) (hL : L ≤ 4) (hb : b < L) (hab : a ≤ b) (hbs : ∀ l, a ≤ l → l ≤ b → bs (l + 1) = bs l + dc_cn (dc_q s l) (N * 30)) (ha : bs a = 0) (hK : bs (b + 1) = K) (hK31 : K < 2 ^ 31) {post : Int32 → SY → Prop} (h0 : K = 0 → post 0 (nI N, nI L, m, ow, sd, wc, tc, lv, lw, tk, sh, co, vo, ke, pe, oP, bz, ro, fy, ca)) (hj : 0 < K → j < K ∧ ((0 ≤ v - v / nI K * nI K ∧ v - v / nI K * nI K = nI j) ∨ (¬ 0 ≤ v - v / nI K * nI K ∧ v - v / nI K * nI K + nI K = nI j))) (hD : 0 < K → ∀ l c k p, a ≤ l → l ≤ b → c < N → k < 6 → p < 5 → dc_q s l ((c * 6 + k) * 5 + p) = true → bs l + dc_cn (dc_q s l) ((c * 6 + k) * 5 + p) = j → ∃ r u, post r u ∧ ∀ post' : Int32 → SY → Prop, post' r u → wpY_move post' (nI N, nI L, m, ow, sd, wc, tc, lv, lw, tk, sh, co, vo, ke, pe, oP, bz, ro, fy, ca) (nI k) (nI l) (nI c) (nI p)) : ∀ n l, b + 1 < n + l → a ≤ l → l ≤ b + 1 → wY_pick_6 post (nI a) (nI b) v (nI N) (nI L) m ow sd wc tc lv lw tk sh co vo ke pe oP bz ro fy ca n (nI (bs l)) (nI l) := by
  intro n
  induction n with
  | zero => intro l h1 h2; omega
  | succ n ih =>
    intro l h1 h2 h3
    simp only [wY_pick_6]
    by_cases hlb : l ≤ b
    · refine br_f (nI_nlt (by omega) (by omega)) (dy_ready hS hN hL (show l < L by omega) ?_)
      refine nm_r (nI_add _ _) (nm_r (nI_1 l) ?_)
      rw [← hbs l h2 hlb]
      exact ih (l + 1) (by omega) (by omega) (by omega)
    · have e : l = b + 1 := by omega
      subst e
      rw [hK]
      refine br_t (nI_lt (by omega) (by omega)) ?_
      by_cases k0 : K = 0
      · refine br_f ?_ (h0 k0)
        rw [k0]; decide
      · obtain ⟨hjK, hv⟩ := hj (by omega)
        refine br_t (show (0 : Int32) < nI K from nI_lt (a := 0) (by omega) hK31) ⟨nI_ne0 (by omega) hK31, ?_⟩
        have w := dy_pick57 (G := j) hS hN hL hb hbs (by omega) (by omega) (hD (by omega)) (b + 2) a (by omega) (Nat.le_refl _) (by omega) (by omega)
        rw [ha, Nat.sub_zero] at w
        rcases hv with ⟨z1, z2⟩ | ⟨z1, z2⟩
        · exact nm_e (br_t z1 ⟨b + 2, by rw [z2]; exact w⟩)
        · exact nm_e (br_f z1 (nm_r z2 ⟨b + 2, w⟩))
theorem dy_pick {s : Nat → Nat → Int32} {a b K j : Nat} {bs : Nat → Nat} (v : Int32) (hS : dc_SS N L m F s ow sm sd wc wv wk cs cv ta tO tp lr pv br fg tc lv lw tk sh co vo ke pe oP bz ro fy ca) (hN : N ≤ 4) (hL : L ≤ 4) (hb : b < L) (hab : a ≤ b) (hbs : ∀ l, a ≤ l → l ≤ b → bs (l + 1) = bs l + dc_cn (dc_q s l) (N * 30)) (ha : bs a = 0) (hK : bs (b + 1) = K) (hK31 : K < 2 ^ 31) {post : Int32 → SY → Prop} (h0 : K = 0 → post 0 (nI N, nI L, m, ow, sd, wc, tc, lv, lw, tk, sh, co, vo, ke, pe, oP, bz, ro, fy, ca)) (hj : 0 < K → j < K ∧ ((0 ≤ v - v / nI K * nI K ∧ v - v / nI K * nI K = nI j) ∨ (¬ 0 ≤ v - v / nI K * nI K ∧ v - v / nI K * nI K + nI K = nI j))) (hD : 0 < K → ∀ l c k p, a ≤ l → l ≤ b → c < N → k < 6 → p < 5 → dc_q s l ((c * 6 + k) * 5 + p) = true → bs l + dc_cn (dc_q s l) ((c * 6 + k) * 5 + p) = j → ∃ r u, post r u ∧ ∀ post' : Int32 → SY → Prop, post' r u → wpY_move post' (nI N, nI L, m, ow, sd, wc, tc, lv, lw, tk, sh, co, vo, ke, pe, oP, bz, ro, fy, ca) (nI k) (nI l) (nI c) (nI p)) : wpY_pick post (nI N, nI L, m, ow, sd, wc, tc, lv, lw, tk, sh, co, vo, ke, pe, oP, bz, ro, fy, ca) (nI a) (nI b) v := by
  simp only [wpY_pick]
  have z := dy_pick6 v hS hN hL hb hab hbs ha hK hK31 h0 hj hD (b + 2) a (by omega) (Nat.le_refl _) (by omega)
  rw [ha] at z
  exact ⟨b + 2, z⟩
end
end
section
/-! deliverAny, settle, ready, inFlight -/
theorem dc_bs_mono {bs t : Nat → Nat} {a b : Nat} (h : ∀ l, a ≤ l → l ≤ b → bs (l + 1) = bs l + t l) : ∀ d l, a ≤ l → l + d ≤ b + 1 → bs l ≤ bs (l + d) := by
  intro d
  induction d with
  | zero => intro l _ _; exact Nat.le_refl _
  | succ d ih =>
    intro l h1 h2
    have z := ih l h1 (by omega)
    have y := h (l + d) (by omega) (by omega)
    rw [← Nat.add_assoc, y]
    omega
theorem dc_find {bs : Nat → Nat} {q : Nat → Nat → Bool} {b E G : Nat} : ∀ d a, a + d = b + 1 → (∀ l, a ≤ l → l ≤ b → bs (l + 1) = bs l + dc_cn (q l) E) → bs a ≤ G → G < bs (b + 1) → ∃ l M, a ≤ l ∧ l ≤ b ∧ M < E ∧ q l M = true ∧ bs l + dc_cn (q l) M = G := by
  intro d
  induction d with
  | zero =>
    intro a h1 _ h2 h3
    have e : a = b + 1 := by omega
    rw [e] at h2
    omega
  | succ d ih =>
    intro a h1 h h2 h3
    by_cases z : G < bs (a + 1)
    · rw [h a (Nat.le_refl _) (by omega)] at z
      obtain ⟨M, m1, m2, m3⟩ := dc_cn_find (q := q a) E (G - bs a) (by omega)
      exact ⟨a, M, Nat.le_refl _, by omega, m1, m2, by omega⟩
    · obtain ⟨l, M, g1, g2, g3⟩ := ih (a + 1) (by omega) (fun l k1 k2 => h l (by omega) k2) (by omega) h3
      exact ⟨l, M, by omega, g2, g3⟩
theorem dc_find_u {bs : Nat → Nat} {q : Nat → Nat → Bool} {a b E : Nat} (h : ∀ l, a ≤ l → l ≤ b → bs (l + 1) = bs l + dc_cn (q l) E) {l M l' M' : Nat} (h1 : a ≤ l) (h2 : l ≤ b) (h3 : M < E) (h4 : q l M = true) (h1' : a ≤ l') (h2' : l' ≤ b) (h3' : M' < E) (h4' : q l' M' = true) (e : bs l + dc_cn (q l) M = bs l' + dc_cn (q l') M') : l = l' ∧ M = M' := by
  have c1 := dc_cn_lt h4 h3
  have c2 := dc_cn_lt h4' h3'
  have b1 := h l h1 h2
  have b2 := h l' h1' h2'
  rcases Nat.lt_trichotomy l l' with z | z | z
  · have y := dc_bs_mono (t := fun l => dc_cn (q l) E) h (l' - (l + 1)) (l + 1) (by omega) (by omega)
    rw [show l + 1 + (l' - (l + 1)) = l' by omega] at y
    omega
  · subst z
    exact ⟨rfl, dc_cn_uniq h4 h4' (by omega)⟩
  · have y := dc_bs_mono (t := fun l => dc_cn (q l) E) h (l - (l' + 1)) (l' + 1) (by omega) (by omega)
    rw [show l' + 1 + (l - (l' + 1)) = l by omega] at y
    omega
def dc_bs (t : Nat → Nat) : Nat → Nat
  | 0 => 0
  | n + 1 => dc_bs t n + t n
section
variable {N L : Nat} {m : Int32} {T : Nat → List Nat} {F : Nat → Nat → Nat → Nat → Bool} {S : Nat → Nat → Bool} {ow sm sd wc wv wk cs cv ta tO tp lr pv br fg tc lv lw tk sh co vo ke pe oP bz ro fy ca : Nat → Int32}
theorem dx_rem {v : Int32} {K j : Nat} (h0 : 0 < K) (hK : K < 2 ^ 31) (hj : (0 ≤ v - v / nI K * nI K ∧ v - v / nI K * nI K = nI j) ∨ (¬ 0 ≤ v - v / nI K * nI K ∧ v - v / nI K * nI K + nI K = nI j)) {post : Int32 → Prop} (h : post (nI j)) : wpX_remainder post (nI N, nI L, m, ow, sm, sd, wc, wv, wk, cs, cv, ta, tO, tp, lr, pv, br, fg) v (nI K) := by
  simp only [wpX_remainder]
  refine br_t (nI_le (a := 1) (by omega) hK) ⟨nI_ne0 h0 hK, ?_⟩
  rcases hj with ⟨z1, z2⟩ | ⟨z1, z2⟩
  · exact nm_e (br_t z1 (by rw [z2]; exact h))
  · exact nm_e (br_f z1 (nm_r z2 h))
/-- the chosen message of the lines a to b: one outcome for both sides -/
theorem lk_pick {s : Nat → Nat → Int32} {a b G : Nat} {bs : Nat → Nat} (h : dc_RR N L T F S ow sm sd wc wv wk cs cv ta tO tp lr pv br fg tc lv lw tk sh co vo ke pe oP bz ro fy ca) (hS : dc_SS N L m F s ow sm sd wc wv wk cs cv ta tO tp lr pv br fg tc lv lw tk sh co vo ke pe oP bz ro fy ca) (hb : b < L) (hab : a ≤ b) (hbs : ∀ l, a ≤ l → l ≤ b → bs (l + 1) = bs l + dc_cn (dc_q s l) (N * 30)) (ha : bs a = 0) (hG : G < bs (b + 1)) : ∃ (r : Int32) (u : SX) (v : SY), (r = 2 ∨ r = 3) ∧ dc_RL L u v ∧ (∀ (post : Int32 → SX → Prop) l c k p, post r u → a ≤ l → l ≤ b → c < N → k < 6 → p < 5 → dc_q s l ((c * 6 + k) * 5 + p) = true → bs l + dc_cn (dc_q s l) ((c * 6 + k) * 5 + p) = G → ∃ r u, post r u ∧ ∀ post' : Int32 → SX → Prop, post' r u → wpX_deliverNow post' (nI N, nI L, m, ow, sm, sd, wc, wv, wk, cs, cv, ta, tO, tp, lr, pv, br, fg) (nI k) (nI l) (nI c) (nI p)) ∧ (∀ (post : Int32 → SY → Prop) l c k p, post r v → a ≤ l → l ≤ b → c < N → k < 6 → p < 5 → dc_q s l ((c * 6 + k) * 5 + p) = true → bs l + dc_cn (dc_q s l) ((c * 6 + k) * 5 + p) = G → ∃ r u, post r u ∧ ∀ post' : Int32 → SY → Prop, post' r u → wpY_move post' (nI N, nI L, m, ow, sd, wc, tc, lv, lw, tk, sh, co, vo, ke, pe, oP, bz, ro, fy, ca) (nI k) (nI l) (nI c) (nI p)) := by
  obtain ⟨l, M, f1, f2, f3, f4, f5⟩ := dc_find (q := dc_q s) (E := N * 30) (G := G) (b + 1 - a) a (by omega) hbs (by omega) hG
  have eM : (M / 30 * 6 + M % 30 / 5) * 5 + M % 5 = M := by omega
  have hc : M / 30 < N := by omega
  have hk : M % 30 / 5 < 6 := by omega
  have hp : M % 5 < 5 := by omega
  have hF : F l (M / 30) (M % 30 / 5) (M % 5) = true := by
    cases bb : F l (M / 30) (M % 30 / 5) (M % 5) with
    | true => rfl
    | false =>
      have := (hS l (M / 30) (M % 30 / 5) (M % 5) (by omega) hc hk hp).2.1.mpr bb
      rw [eM, dc_q_2 f4] at this
      exact absurd this (by decide)
  obtain ⟨r, u, v, hr, hR, gx, gy⟩ := lk_dn (m := m) (sd := sd) h (show l < L by omega) hc hk hp hF
  refine ⟨r, u, v, hr, hR, ?_, ?_⟩
  · intro post l' c k p hu k1 k2 k3 k4 k5 k6 k7
    obtain ⟨e1, e2⟩ := dc_find_u hbs f1 f2 f3 f4 k1 k2 (show (c * 6 + k) * 5 + p < N * 30 by omega) k6 (f5.trans k7.symm)
    rw [← e1, show c = M / 30 by omega, show k = M % 30 / 5 by omega, show p = M % 5 by omega]
    exact ⟨r, u, hu, gx⟩
  · intro post l' c k p hu k1 k2 k3 k4 k5 k6 k7
    obtain ⟨e1, e2⟩ := dc_find_u hbs f1 f2 f3 f4 k1 k2 (show (c * 6 + k) * 5 + p < N * 30 by omega) k6 (f5.trans k7.symm)
    rw [← e1, show c = M / 30 by omega, show k = M % 30 / 5 by omega, show p = M % 5 by omega]
    exact ⟨r, v, hu, gy⟩
theorem dx_any42 {s : Nat → Nat → Int32} {G : Nat} {bs : Nat → Nat} (hS : dc_SS N L m F s ow sm sd wc wv wk cs cv ta tO tp lr pv br fg tc lv lw tk sh co vo ke pe oP bz ro fy ca) (hN : N ≤ 4) (hL : L ≤ 4) (hbs : ∀ l, l < L → bs (l + 1) = bs l + dc_cn (dc_q s l) (N * 30)) (hG : G < bs L) (hG31 : G < 2 ^ 31) {post : Int32 → SX → Prop} (hD : ∀ l c k p, l < L → c < N → k < 6 → p < 5 → dc_q s l ((c * 6 + k) * 5 + p) = true → bs l + dc_cn (dc_q s l) ((c * 6 + k) * 5 + p) = G → ∃ r u, post r u ∧ ∀ post' : Int32 → SX → Prop, post' r u → wpX_deliverNow post' (nI N, nI L, m, ow, sm, sd, wc, wv, wk, cs, cv, ta, tO, tp, lr, pv, br, fg) (nI k) (nI l) (nI c) (nI p)) : ∀ n l, L < n + l → l ≤ L → bs l ≤ G → wX_deliverAny_42 post (nI N) (nI L) m ow sm sd wc wv wk cs cv ta tO tp lr pv br fg n (nI (G - bs l)) (nI l) := by
  intro n
  induction n with
  | zero => intro l h1 h2; omega
  | succ n ih =>
    intro l h1 h2 h3
    simp only [wX_deliverAny_42]
    by_cases hl : l < L
    · have eb := hbs l hl
      have cle := dc_cn_le (dc_q s l) (N * 30)
      refine br_f (nI_ge hl (by omega)) (dx_ready hS hl hN ?_)
      refine pk_le (dc_cn (dc_q s l) (N * 30)) (G - bs l) (fun z => ?_) (fun z => ?_)
      · refine nm_r (pk_sub z) (nm_r (nI_1 l) ?_)
        have y := ih (l + 1) (by omega) (by omega) (by omega)
        rw [eb, Nat.sub_add_eq] at y
        exact y
      · refine dx_nth hS hN hl (fun c k p hc hk hp hq hcn => ?_) z
        obtain ⟨r, u, hu, g⟩ := hD l c k p hl hc hk hp hq (by omega)
        obtain ⟨x1, x2, x3, x4, x5, x6, x7, x8, x9, x10, x11, x12, x13, x14, x15, x16, x17, x18⟩ := u
        exact ⟨r, _, hu, g⟩
    · have e : l = L := by omega
      subst e
      omega
theorem dx_any4 {s : Nat → Nat → Int32} {K j : Nat} {bs : Nat → Nat} (v : Int32) (hS : dc_SS N L m F s ow sm sd wc wv wk cs cv ta tO tp lr pv br fg tc lv lw tk sh co vo ke pe oP bz ro fy ca) (hN : N ≤ 4) (hL : L ≤ 4) (hbs : ∀ l, l < L → bs (l + 1) = bs l + dc_cn (dc_q s l) (N * 30)) (h00 : bs 0 = 0) (hK : bs L = K) (hK31 : K < 2 ^ 31) {post : Int32 → SX → Prop} (h0 : K = 0 → post 0 (nI N, nI L, m, ow, sm, sd, wc, wv, wk, cs, cv, ta, tO, tp, lr, pv, br, fg)) (hj : 0 < K → j < K ∧ ((0 ≤ v - v / nI K * nI K ∧ v - v / nI K * nI K = nI j) ∨ (¬ 0 ≤ v - v / nI K * nI K ∧ v - v / nI K * nI K + nI K = nI j))) (hD : 0 < K → ∀ l c k p, l < L → c < N → k < 6 → p < 5 → dc_q s l ((c * 6 + k) * 5 + p) = true → bs l + dc_cn (dc_q s l) ((c * 6 + k) * 5 + p) = j → ∃ r u, post r u ∧ ∀ post' : Int32 → SX → Prop, post' r u → wpX_deliverNow post' (nI N, nI L, m, ow, sm, sd, wc, wv, wk, cs, cv, ta, tO, tp, lr, pv, br, fg) (nI k) (nI l) (nI c) (nI p)) : ∀ n l, L < n + l → l ≤ L → wX_deliverAny_4 post v (nI N) (nI L) m ow sm sd wc wv wk cs cv ta tO tp lr pv br fg n (nI (bs l)) (nI l) := by
  intro n
  induction n with
  | zero => intro l h1 h2; omega
  | succ n ih =>
    intro l h1 h2
    simp only [wX_deliverAny_4]
    by_cases hl : l < L
    · refine br_f (nI_ge hl (by omega)) (dx_ready hS hl hN ?_)
      refine nm_r (nI_add _ _) (nm_r (nI_1 l) ?_)
      rw [← hbs l hl]
      exact ih (l + 1) (by omega) (by omega)
    · have e : l = L := by omega
      subst e
      rw [hK]
      refine br_t (nI_le (Nat.le_refl _) (by omega)) ?_
      by_cases k0 : K = 0
      · refine br_t ?_ (h0 k0)
        rw [k0]; rfl
      · obtain ⟨hjK, hv⟩ := hj (by omega)
        refine br_f (nI_ne0 (by omega) hK31) (dx_rem (by omega) hK31 hv ?_)
        have w := dx_any42 (G := j) hS hN hL hbs (by omega) (by omega) (hD (by omega)) (l + 1) 0 (by omega) (by omega) (by omega)
        rw [h00, Nat.sub_zero] at w
        exact ⟨l + 1, w⟩
theorem dc_bs_le {t : Nat → Nat} {E : Nat} (h : ∀ l, t l ≤ E) : ∀ n, dc_bs t n ≤ n * E := by
  intro n
  induction n with
  | zero => exact Nat.zero_le _
  | succ n ih =>
    have := h n
    rw [Nat.add_mul, Nat.one_mul]
    show dc_bs t n + t n ≤ _
    omega
theorem lk_any (v : Int32) (h : dc_RR N L T F S ow sm sd wc wv wk cs cv ta tO tp lr pv br fg tc lv lw tk sh co vo ke pe oP bz ro fy ca) : dc_Ok (fun post => wpX_deliverAny post (nI N, nI L, m, ow, sm, sd, wc, wv, wk, cs, cv, ta, tO, tp, lr, pv, br, fg) v) (fun post => wpY_deliverAny post (nI N, nI L, m, ow, sd, wc, tc, lv, lw, tk, sh, co, vo, ke, pe, oP, bz, ro, fy, ca) v) := by
  obtain ⟨s, hS⟩ := lk_SS (m := m) h
  have hN := h.1.2.1
  have hL := h.1.2.2.2
  have hL1 := h.1.2.2.1
  have hbs : ∀ l, dc_bs (fun l => dc_cn (dc_q s l) (N * 30)) (l + 1) = dc_bs (fun l => dc_cn (dc_q s l) (N * 30)) l + dc_cn (dc_q s l) (N * 30) := fun _ => rfl
  have hb0 : dc_bs (fun l => dc_cn (dc_q s l) (N * 30)) 0 = 0 := rfl
  have hle := dc_bs_le (t := fun l => dc_cn (dc_q s l) (N * 30)) (E := N * 30) (fun l => dc_cn_le _ _) L
  generalize dc_bs (fun l => dc_cn (dc_q s l) (N * 30)) = bs at hbs hb0 hle
  have hK31 : bs L < 2 ^ 31 := by
    have : L * (N * 30) ≤ 4 * (4 * 30) := Nat.mul_le_mul hL (Nat.mul_le_mul_right 30 hN)
    omega
  have eL : L - 1 + 1 = L := by omega
  have eY : nI L - 1 = nI (L - 1) := by
    have := nI_pred (L - 1)
    rw [eL] at this
    exact this
  by_cases k0 : bs L = 0
  · refine ⟨0, _, _, dc_in (m := m) (sd := sd) h, fun post g => ?_, fun post g => ?_⟩
    · simp only [wpX_deliverAny]
      have z := dx_any4 (j := 0) v hS hN hL (fun l _ => hbs l) hb0 k0 (by decide) (fun _ => g) (fun y => absurd y (Nat.lt_irrefl 0)) (fun y => absurd y (Nat.lt_irrefl 0)) (L + 1) 0 (by omega) (by omega)
      rw [hb0] at z
      exact ⟨L + 1, z⟩
    · simp only [wpY_deliverAny]
      rw [eY]
      exact dy_pick (a := 0) (b := L - 1) (j := 0) (bs := bs) v hS hN hL (by omega) (by omega) (fun l _ _ => hbs l) hb0 (by rw [eL]; exact k0) (by decide) (fun _ => g) (fun y => absurd y (Nat.lt_irrefl 0)) (fun y => absurd y (Nat.lt_irrefl 0))
  · obtain ⟨j, hj, hv⟩ := dc_rem v (K := bs L) (by omega) hK31
    obtain ⟨r, u, w, hr, hR, gx, gy⟩ := lk_pick (a := 0) (b := L - 1) (G := j) (bs := bs) h hS (by omega) (by omega) (fun l _ _ => hbs l) hb0 (by rw [eL]; exact hj)
    obtain ⟨y1, y2, y3, y4, y5, y6, y7, y8, y9, y10, y11, y12, y13, y14, y15, y16, y17, y18, y19, y20⟩ := w
    refine ⟨r, u, _, ⟨L, hR⟩, fun post g => ?_, fun post g => ?_⟩
    · simp only [wpX_deliverAny]
      have z := dx_any4 (j := j) (post := post) v hS hN hL (fun l _ => hbs l) hb0 rfl hK31 (fun y => absurd y k0) (fun _ => ⟨hj, hv⟩) (fun _ l c k p hl => gx post l c k p g (Nat.zero_le _) (by omega)) (L + 1) 0 (by omega) (by omega)
      rw [hb0] at z
      exact ⟨L + 1, z⟩
    · simp only [wpY_deliverAny]
      rw [eY]
      exact dy_pick (a := 0) (b := L - 1) (j := j) (bs := bs) v hS hN hL (by omega) (by omega) (fun l _ _ => hbs l) hb0 (by rw [eL]) hK31 (fun y => absurd y k0) (fun _ => ⟨hj, hv⟩) (fun _ l c k p h1 h2 => gy _ l c k p g h1 h2)
/-- one round of settle -/
theorem lk_step {l : Nat} (v : Int32) (h : dc_RR N L T F S ow sm sd wc wv wk cs cv ta tO tp lr pv br fg tc lv lw tk sh co vo ke pe oP bz ro fy ca) (hl : l < L) : ((∀ post : Int32 → Prop, post 0 → wpX_readyIn post (nI N, nI L, m, ow, sm, sd, wc, wv, wk, cs, cv, ta, tO, tp, lr, pv, br, fg) (nI l)) ∧ (∀ post : Int32 → SY → Prop, post 0 (nI N, nI L, m, ow, sd, wc, tc, lv, lw, tk, sh, co, vo, ke, pe, oP, bz, ro, fy, ca) → wpY_pick post (nI N, nI L, m, ow, sd, wc, tc, lv, lw, tk, sh, co, vo, ke, pe, oP, bz, ro, fy, ca) (nI l) (nI l) v)) ∨ (∃ (K j : Nat) (r : Int32) (u : SX) (w : SY), 0 < K ∧ K < 2 ^ 31 ∧ (r = 2 ∨ r = 3) ∧ dc_RL L u w ∧ (∀ post : Int32 → Prop, post (nI K) → wpX_readyIn post (nI N, nI L, m, ow, sm, sd, wc, wv, wk, cs, cv, ta, tO, tp, lr, pv, br, fg) (nI l)) ∧ (∀ post : Int32 → Prop, post (nI j) → wpX_remainder post (nI N, nI L, m, ow, sm, sd, wc, wv, wk, cs, cv, ta, tO, tp, lr, pv, br, fg) v (nI K)) ∧ (∀ post : Int32 → SX → Prop, post r u → wpX_deliverNth post (nI N, nI L, m, ow, sm, sd, wc, wv, wk, cs, cv, ta, tO, tp, lr, pv, br, fg) (nI l) (nI j)) ∧ (∀ post : Int32 → SY → Prop, post r w → wpY_pick post (nI N, nI L, m, ow, sd, wc, tc, lv, lw, tk, sh, co, vo, ke, pe, oP, bz, ro, fy, ca) (nI l) (nI l) v)) := by
  obtain ⟨s, hS⟩ := lk_SS (m := m) h
  have hN := h.1.2.1
  have hL := h.1.2.2.2
  have cle := dc_cn_le (dc_q s l) (N * 30)
  have hbs : ∀ l', l ≤ l' → l' ≤ l → (fun x => if x = l then 0 else dc_cn (dc_q s l) (N * 30)) (l' + 1) = (fun x => if x = l then 0 else dc_cn (dc_q s l) (N * 30)) l' + dc_cn (dc_q s l') (N * 30) := by
    intro l' h1 h2
    have e : l' = l := by omega
    subst e
    dsimp only
    rw [if_pos rfl, if_neg (by omega)]
    omega
  have ha : (fun x => if x = l then 0 else dc_cn (dc_q s l) (N * 30)) l = 0 := if_pos rfl
  have hK : (fun x => if x = l then 0 else dc_cn (dc_q s l) (N * 30)) (l + 1) = dc_cn (dc_q s l) (N * 30) := if_neg (by omega)
  generalize (fun x => if x = l then 0 else dc_cn (dc_q s l) (N * 30)) = bs at hbs ha hK
  by_cases k0 : dc_cn (dc_q s l) (N * 30) = 0
  · left
    refine ⟨fun post g => dx_ready hS hl hN (by rw [k0]; exact g), fun post g => ?_⟩
    exact dy_pick (a := l) (b := l) (j := 0) (bs := bs) v hS hN hL hl (Nat.le_refl _) hbs ha (hK.trans k0) (by decide) (fun _ => g) (fun y => absurd y (Nat.lt_irrefl 0)) (fun y => absurd y (Nat.lt_irrefl 0))
  · right
    have hK31 : dc_cn (dc_q s l) (N * 30) < 2 ^ 31 := by omega
    obtain ⟨j, hj, hv⟩ := dc_rem v (K := dc_cn (dc_q s l) (N * 30)) (by omega) hK31
    obtain ⟨r, u, w, hr, hR, gx, gy⟩ := lk_pick (a := l) (b := l) (G := j) (bs := bs) h hS hl (Nat.le_refl _) hbs ha (by rw [hK]; exact hj)
    refine ⟨dc_cn (dc_q s l) (N * 30), j, r, u, w, by omega, hK31, hr, hR, fun post g => dx_ready hS hl hN g, fun post g => dx_rem (by omega) hK31 hv g, fun post g => ?_, fun post g => ?_⟩
    · exact dx_nth hS hN hl (fun c k p h1 h2 h3 h4 h5 => gx post l c k p g (Nat.le_refl _) (Nat.le_refl _) h1 h2 h3 h4 (by omega)) hj
    · exact dy_pick (a := l) (b := l) (j := j) (bs := bs) v hS hN hL hl (Nat.le_refl _) hbs ha hK hK31 (fun y => absurd y k0) (fun _ => ⟨hj, hv⟩) (fun _ l' c k p h1 h2 => gy _ l' c k p g h1 h2)
theorem dy_still {l : Nat} {v cnt : Int32} (hq : ∀ post : Int32 → SY → Prop, post 0 (nI N, nI L, m, ow, sd, wc, tc, lv, lw, tk, sh, co, vo, ke, pe, oP, bz, ro, fy, ca) → wpY_pick post (nI N, nI L, m, ow, sd, wc, tc, lv, lw, tk, sh, co, vo, ke, pe, oP, bz, ro, fy, ca) (nI l) (nI l) v) {post : Int32 → SY → Prop} (g : post cnt (nI N, nI L, m, ow, sd, wc, tc, lv, lw, tk, sh, co, vo, ke, pe, oP, bz, ro, fy, ca)) : ∀ d i, d + i = 36 → wY_settle_15 post (nI l) v (d + 1) cnt (nI i) (nI N) (nI L) m ow sd wc tc lv lw tk sh co vo ke pe oP bz ro fy ca := by
  intro d
  induction d with
  | zero =>
    intro i hi
    have e : i = 36 := by omega
    subst e
    simp only [wY_settle_15]
    exact br_t (nI_le (a := 36) (Nat.le_refl _) (by decide)) g
  | succ d ih =>
    intro i hi
    simp only [wY_settle_15]
    exact br_f (nI_ge (b := 36) (by omega) (by decide)) (hq _ (br_t rfl (nm_r (nI_1 i) (ih (i + 1) (by omega)))))
end
theorem lk_settle15 {l L : Nat} (v : Int32) (hl : l < L) : ∀ (d i : Nat) (cnt : Int32), d + i = 36 → ∀ (N : Nat) (m : Int32) (T : Nat → List Nat) (F : Nat → Nat → Nat → Nat → Bool) (S : Nat → Nat → Bool) (ow sm sd wc wv wk cs cv ta tO tp lr pv br fg tc lv lw tk sh co vo ke pe oP bz ro fy ca : Nat → Int32), dc_RR N L T F S ow sm sd wc wv wk cs cv ta tO tp lr pv br fg tc lv lw tk sh co vo ke pe oP bz ro fy ca → dc_Ok (fun post => wX_settle_15 post (nI l) v (d + 1) cnt (nI i) (nI N) (nI L) m ow sm sd wc wv wk cs cv ta tO tp lr pv br fg) (fun post => wY_settle_15 post (nI l) v (d + 1) cnt (nI i) (nI N) (nI L) m ow sd wc tc lv lw tk sh co vo ke pe oP bz ro fy ca) := by
  intro d
  induction d with
  | zero =>
    intro i cnt hi N m T F S ow sm sd wc wv wk cs cv ta tO tp lr pv br fg tc lv lw tk sh co vo ke pe oP bz ro fy ca h
    have e : i = 36 := by omega
    subst e
    refine ⟨cnt, _, _, dc_in (m := m) (sd := sd) h, fun post g => ?_, fun post g => ?_⟩
    · simp only [wX_settle_15]
      exact br_t (nI_le (a := 36) (Nat.le_refl _) (by decide)) g
    · simp only [wY_settle_15]
      exact br_t (nI_le (a := 36) (Nat.le_refl _) (by decide)) g
  | succ d ih =>
    intro i cnt hi N m T F S ow sm sd wc wv wk cs cv ta tO tp lr pv br fg tc lv lw tk sh co vo ke pe oP bz ro fy ca h
    rcases lk_step (m := m) v h hl with ⟨gx, gy⟩ | ⟨K, j, r, u, w, hK, hK31, hr, hR, g1, g2, g3, g4⟩
    · refine ⟨cnt, _, _, dc_in (m := m) (sd := sd) h, fun post g => ?_, fun post g => ?_⟩
      · simp only [wX_settle_15]
        exact br_f (nI_ge (b := 36) (by omega) (by decide)) (gx _ (br_t rfl g))
      · exact dy_still gy g (d + 1) i hi
    · have r0 : ¬ r = 0 := by
        rcases hr with rfl | rfl <;> decide
      refine dc_elL (L := L) (P := fun u w => (∀ post : Int32 → SX → Prop, post r u → wpX_deliverNth post (nI N, nI L, m, ow, sm, sd, wc, wv, wk, cs, cv, ta, tO, tp, lr, pv, br, fg) (nI l) (nI j)) → (∀ post : Int32 → SY → Prop, post r w → wpY_pick post (nI N, nI L, m, ow, sd, wc, tc, lv, lw, tk, sh, co, vo, ke, pe, oP, bz, ro, fy, ca) (nI l) (nI l) v) → dc_Ok (fun post => wX_settle_15 post (nI l) v (d + 1 + 1) cnt (nI i) (nI N) (nI L) m ow sm sd wc wv wk cs cv ta tO tp lr pv br fg) (fun post => wY_settle_15 post (nI l) v (d + 1 + 1) cnt (nI i) (nI N) (nI L) m ow sd wc tc lv lw tk sh co vo ke pe oP bz ro fy ca)) ?_ hR g3 g4
      intro N' m' T' F' S' ow' sm' sd' wc' wv' wk' cs' cv' ta' tO' tp' lr' pv' br' fg' tc' lv' lw' tk' sh' co' vo' ke' pe' oP' bz' ro' fy' ca' h' g3 g4
      obtain ⟨rr, u2, w2, hR2, f1, f2⟩ := ih (i + 1) (cnt + 1) (by omega) N' m' T' F' S' _ _ _ _ _ _ _ _ _ _ _ _ _ _ _ _ _ _ _ _ _ _ _ _ _ _ _ _ _ h'
      refine ⟨rr, u2, w2, hR2, fun post g => ?_, fun post g => ?_⟩
      · simp only [wX_settle_15]
        exact br_f (nI_ge (b := 36) (by omega) (by decide)) (g1 _ (br_f (nI_ne0 hK hK31) (g2 _ (g3 _ (nm_e (nm_r (nI_1 i) (f1 post g)))))))
      · simp only [wY_settle_15]
        exact br_f (nI_ge (b := 36) (by omega) (by decide)) (g4 _ (br_f r0 (nm_e (nm_r (nI_1 i) (f2 post g)))))
section
variable {N L : Nat} {m : Int32} {T : Nat → List Nat} {F : Nat → Nat → Nat → Nat → Bool} {S : Nat → Nat → Bool} {ow sm sd wc wv wk cs cv ta tO tp lr pv br fg tc lv lw tk sh co vo ke pe oP bz ro fy ca : Nat → Int32}
theorem lk_settle (v1 v2 : Int32) (h : dc_RR N L T F S ow sm sd wc wv wk cs cv ta tO tp lr pv br fg tc lv lw tk sh co vo ke pe oP bz ro fy ca) : dc_Ok (fun post => wpX_settle post (nI N, nI L, m, ow, sm, sd, wc, wv, wk, cs, cv, ta, tO, tp, lr, pv, br, fg) v1 v2) (fun post => wpY_settle post (nI N, nI L, m, ow, sd, wc, tc, lv, lw, tk, sh, co, vo, ke, pe, oP, bz, ro, fy, ca) v1 v2) := by
  rcases lk_line (N := N) (L := L) (m := m) (ow := ow) (sm := sm) (sd := sd) (wc := wc) (wv := wv) (wk := wk) (cs := cs) (cv := cv) (ta := ta) (tO := tO) (tp := tp) (lr := lr) (pv := pv) (br := br) (fg := fg) (tc := tc) (lv := lv) (lw := lw) (tk := tk) (sh := sh) (co := co) (vo := vo) (ke := ke) (pe := pe) (oP := oP) (bz := bz) (ro := ro) (fy := fy) (ca := ca) v1 h.1.2.2.2 with ⟨l, hl, rfl, gx, gy⟩ | ⟨gx, gy⟩
  · obtain ⟨r, u, w, hR, f1, f2⟩ := lk_settle15 v2 hl 36 0 0 (by decide) N m T F S _ _ _ _ _ _ _ _ _ _ _ _ _ _ _ _ _ _ _ _ _ _ _ _ _ _ _ _ _ h
    refine ⟨r, u, w, hR, fun post g => ?_, fun post g => ?_⟩
    · simp only [wpX_settle]
      exact gx _ (br_f (by decide) ⟨37, f1 post g⟩)
    · simp only [wpY_settle]
      exact gy _ (br_t rfl ⟨37, f2 post g⟩)
  · refine ⟨-1, _, _, dc_in (m := m) (sd := sd) h, fun post g => ?_, fun post g => ?_⟩
    · simp only [wpX_settle]
      exact gx _ (br_t rfl g)
    · simp only [wpY_settle]
      exact gy _ (br_f (by decide) g)
theorem lk_ready (v1 : Int32) (h : dc_RR N L T F S ow sm sd wc wv wk cs cv ta tO tp lr pv br fg tc lv lw tk sh co vo ke pe oP bz ro fy ca) : dc_Og (fun post => wpX_ready post (nI N, nI L, m, ow, sm, sd, wc, wv, wk, cs, cv, ta, tO, tp, lr, pv, br, fg) v1) (fun post => wpY_ready post (nI N, nI L, m, ow, sd, wc, tc, lv, lw, tk, sh, co, vo, ke, pe, oP, bz, ro, fy, ca) v1) := by
  rcases lk_line (N := N) (L := L) (m := m) (ow := ow) (sm := sm) (sd := sd) (wc := wc) (wv := wv) (wk := wk) (cs := cs) (cv := cv) (ta := ta) (tO := tO) (tp := tp) (lr := lr) (pv := pv) (br := br) (fg := fg) (tc := tc) (lv := lv) (lw := lw) (tk := tk) (sh := sh) (co := co) (vo := vo) (ke := ke) (pe := pe) (oP := oP) (bz := bz) (ro := ro) (fy := fy) (ca := ca) v1 h.1.2.2.2 with ⟨l, hl, rfl, gx, gy⟩ | ⟨gx, gy⟩
  · obtain ⟨s, hS⟩ := lk_SS (m := m) h
    refine ⟨nI (dc_cn (dc_q s l) (N * 30)), fun post g => ?_, fun post g => ?_⟩
    · simp only [wpX_ready]
      exact gx _ (br_f (by decide) (dx_ready hS hl h.1.2.1 g))
    · exact dy_ready hS h.1.2.1 h.1.2.2.2 hl g
  · refine ⟨-1, fun post g => ?_, fun post g => ?_⟩
    · simp only [wpX_ready]
      exact gx _ (br_t rfl g)
    · simp only [wpY_ready]
      exact gy _ (br_f (by decide) g)
def dc_qF (F : Nat → Nat → Nat → Nat → Bool) (l : Nat) : Nat → Bool := fun x => F l (x / 30) (x % 30 / 5) (x % 5)
theorem dc_qF_at (F : Nat → Nat → Nat → Nat → Bool) (l : Nat) {c k p : Nat} (hk : k < 6) (hp : p < 5) : dc_qF F l ((c * 6 + k) * 5 + p) = F l c k p := by
  unfold dc_qF
  rw [show ((c * 6 + k) * 5 + p) / 30 = c by omega, show ((c * 6 + k) * 5 + p) % 30 / 5 = k by omega, show ((c * 6 + k) * 5 + p) % 5 = p by omega]
theorem dx_inf31 {l t : Nat} (hX : dc_FX F fg) (hl : l < 4) (ht : t < 24) {post : Int32 → Prop} {J : Int32 → Int32 → Prop} (hJ : J (nI (dc_cn (dc_qF F l) ((t + 1) * 5))) (nI (l * 24 + (t + 1)))) : ∀ n p, 5 < n + p → p ≤ 5 → wX_inFlight_31 post J (nI l) (nI (l * 24 + t)) (nI N) (nI L) m ow sm sd wc wv wk cs cv ta tO tp lr pv br fg n (nI (dc_cn (dc_qF F l) (t * 5 + p))) (nI p) := by
  have e6 : (l * 4 + t / 6) * 6 + t % 6 = l * 24 + t := by omega
  have ex := hX l (t / 6) (t % 6) hl (by omega) (by omega)
  rw [e6] at ex
  intro n
  induction n with
  | zero => intro p h1 h2; omega
  | succ n ih =>
    intro p h1 h2
    simp only [wX_inFlight_31]
    by_cases hp : p < 5
    · refine br_f (nI_nlt (a := 4) (by omega) (by decide)) ?_
      rw [nI_clamp (n := l * 24 + t) (by omega), ex]
      have z := ih (p + 1) (by omega) (by omega)
      have eq : dc_qF F l (t * 5 + p) = F l (t / 6) (t % 6) p := by
        rw [← dc_qF_at F l (c := t / 6) (k := t % 6) (by omega) hp, show (t / 6 * 6 + t % 6) * 5 + p = t * 5 + p by omega]
      refine ⟨vp_in_nI (by omega) (by decide), br_c (fun y => nm_r (nI_1 p) ?_) (fun y => nm_r (nI_1 _) (nm_r (nI_1 p) ?_))⟩
      · have y' := (dc_mk_and _ hp).mp y
        rw [← Nat.add_assoc, dc_cn_f (by rw [eq, y']; decide)] at z
        exact z
      · have y' : F l (t / 6) (t % 6) p = true := by
          cases b : F l (t / 6) (t % 6) p with
          | true => rfl
          | false => exact absurd ((dc_mk_and _ hp).mpr b) y
        rw [← Nat.add_assoc, dc_cn_t (by rw [eq, y'])] at z
        exact z
    · have e : p = 5 := by omega
      subst e
      rw [show t * 5 + 5 = (t + 1) * 5 by omega]
      exact br_t (nI_lt (a := 4) (by decide) (by decide)) (nm_r (nI_1 _) hJ)
theorem dx_inf17 {l : Nat} (hX : dc_FX F fg) (hl : l < 4) {post : Int32 → Prop} (h : post (nI (dc_cn (dc_qF F l) 120))) : ∀ n t, 24 < n + t → t ≤ 24 → wX_inFlight_17 post (nI l) (nI N) (nI L) m ow sm sd wc wv wk cs cv ta tO tp lr pv br fg n (nI (dc_cn (dc_qF F l) (t * 5))) (nI (l * 24 + t)) := by
  intro n
  induction n with
  | zero => intro t h1 h2; omega
  | succ n ih =>
    intro t h1 h2
    simp only [wX_inFlight_17]
    rw [dc_j24, show nI (l * 24) + 24 = nI (l * 24 + 24) from nI_add (l * 24) 24]
    by_cases ht : t < 24
    · exact br_f (nI_ge (by omega) (by omega)) ⟨6, dx_inf31 hX hl ht (ih (t + 1) (by omega) (by omega)) 6 0 (by omega) (by omega)⟩
    · have e : t = 24 := by omega
      subst e
      exact br_t (nI_le (Nat.le_refl _) (by omega)) h
theorem lk_inFlight (v1 : Int32) (h : dc_RR N L T F S ow sm sd wc wv wk cs cv ta tO tp lr pv br fg tc lv lw tk sh co vo ke pe oP bz ro fy ca) : dc_Og (fun post => wpX_inFlight post (nI N, nI L, m, ow, sm, sd, wc, wv, wk, cs, cv, ta, tO, tp, lr, pv, br, fg) v1) (fun post => wpY_inFlight post (nI N, nI L, m, ow, sd, wc, tc, lv, lw, tk, sh, co, vo, ke, pe, oP, bz, ro, fy, ca) v1) := by
  have hN := h.1.2.1
  have hL := h.1.2.2.2
  rcases lk_line (N := N) (L := L) (m := m) (ow := ow) (sm := sm) (sd := sd) (wc := wc) (wv := wv) (wk := wk) (cs := cs) (cv := cv) (ta := ta) (tO := tO) (tp := tp) (lr := lr) (pv := pv) (br := br) (fg := fg) (tc := tc) (lv := lv) (lw := lw) (tk := tk) (sh := sh) (co := co) (vo := vo) (ke := ke) (pe := pe) (oP := oP) (bz := bz) (ro := ro) (fy := fy) (ca := ca) v1 h.1.2.2.2 with ⟨l, hl, rfl, gx, gy⟩ | ⟨gx, gy⟩
  · obtain ⟨s, hS⟩ := lk_SS (m := m) h
    have hX : dc_FX F fg := h.2.2.2.2.2.2.2.2.2.2.2.1
    have hIA := h.2.2.2.2.2.2.2.2.2.2.2.2.2.2.2.2
    have tail : dc_cn (dc_qF F l) 120 = dc_cn (dc_qF F l) (N * 30) := by
      have z := dc_cn_tail (q := dc_qF F l) (N * 30) (120 - N * 30) (by
        intro i h1 h2
        obtain ⟨a, b⟩ := hIA l (i / 30) (by omega) (by omega)
        rw [a (by omega)] at b
        exact dc_IC_none b (by omega) (by omega))
      rw [show N * 30 + (120 - N * 30) = 120 by omega] at z
      exact z
    refine ⟨nI (dc_cn (dc_qF F l) 120), fun post g => ?_, fun post g => ?_⟩
    · simp only [wpX_inFlight]
      refine gx _ (br_f (by decide) (nm_r (dc_j24 l) ⟨25, ?_⟩))
      exact dx_inf17 hX (by omega) g 25 0 (by omega) (by omega)
    · simp only [wpY_inFlight]
      refine gy _ (br_t rfl (dy_count (q := dc_qF F l) hS hN hL hl (fun c k p hc hk hp => ?_) ?_))
      · rw [(dc_ysee hS hl hc hk hp).2.2, dc_qF_at F l hk hp]
        simp
      · rw [← tail]; exact g
  · refine ⟨-1, fun post g => ?_, fun post g => ?_⟩
    · simp only [wpX_inFlight]
      exact gx _ (br_t rfl g)
    · simp only [wpY_inFlight]
      exact gy _ (br_f (by decide) g)
end
end
section
/-! the getters and the start -/
section
variable {N L : Nat} {m : Int32} {T : Nat → List Nat} {F : Nat → Nat → Nat → Nat → Bool} {S : Nat → Nat → Bool} {ow sm sd wc wv wk cs cv ta tO tp lr pv br fg tc lv lw tk sh co vo ke pe oP bz ro fy ca : Nat → Int32}
theorem lk_copy (v1 v2 : Int32) (h : dc_RR N L T F S ow sm sd wc wv wk cs cv ta tO tp lr pv br fg tc lv lw tk sh co vo ke pe oP bz ro fy ca) : dc_Og (fun post => wpX_copy post (nI N, nI L, m, ow, sm, sd, wc, wv, wk, cs, cv, ta, tO, tp, lr, pv, br, fg) v1 v2) (fun post => wpY_copy post (nI N, nI L, m, ow, sd, wc, tc, lv, lw, tk, sh, co, vo, ke, pe, oP, bz, ro, fy, ca) v1 v2) := by
  obtain ⟨⟨hN2, hN, hL1, hL⟩, qcs, qcv, qta, qtO, qlr, qpv, -⟩ := h
  rcases lk_cell (N := N) (L := L) (m := m) (ow := ow) (sm := sm) (sd := sd) (wc := wc) (wv := wv) (wk := wk) (cs := cs) (cv := cv) (ta := ta) (tO := tO) (tp := tp) (lr := lr) (pv := pv) (br := br) (fg := fg) (tc := tc) (lv := lv) (lw := lw) (tk := tk) (sh := sh) (co := co) (vo := vo) (ke := ke) (pe := pe) (oP := oP) (bz := bz) (ro := ro) (fy := fy) (ca := ca) v1 v2 hN hL with ⟨c, l, hc, hl, rfl, rfl, gx, gy⟩ | ⟨gx, gy⟩
  · have e := qcs l c (by omega) (by omega)
    refine ⟨cs (l * 4 + c), fun post g => ?_, fun post g => ?_⟩
    · simp only [wpX_copy]
      refine gx _ (br_f (by decide) ?_)
      rw [dc_i4, nI_clamp (by omega)]
      exact ⟨vp_in_nI (by omega) (by decide), g⟩
    · simp only [wpY_copy]
      refine gy _ (br_t rfl ?_)
      rw [dc_i5, nI_clamp (by omega), e]
      exact ⟨vp_in_nI (by omega) (by decide), g⟩
  · refine ⟨-1, fun post g => ?_, fun post g => ?_⟩
    · simp only [wpX_copy]
      exact gx _ (br_t rfl g)
    · simp only [wpY_copy]
      exact gy _ (br_f (by decide) g)
theorem lk_pending (v1 v2 : Int32) (h : dc_RR N L T F S ow sm sd wc wv wk cs cv ta tO tp lr pv br fg tc lv lw tk sh co vo ke pe oP bz ro fy ca) : dc_Og (fun post => wpX_pending post (nI N, nI L, m, ow, sm, sd, wc, wv, wk, cs, cv, ta, tO, tp, lr, pv, br, fg) v1 v2) (fun post => wpY_pending post (nI N, nI L, m, ow, sd, wc, tc, lv, lw, tk, sh, co, vo, ke, pe, oP, bz, ro, fy, ca) v1 v2) := by
  obtain ⟨⟨hN2, hN, hL1, hL⟩, qcs, qcv, qta, qtO, qlr, qpv, -⟩ := h
  rcases lk_cell (N := N) (L := L) (m := m) (ow := ow) (sm := sm) (sd := sd) (wc := wc) (wv := wv) (wk := wk) (cs := cs) (cv := cv) (ta := ta) (tO := tO) (tp := tp) (lr := lr) (pv := pv) (br := br) (fg := fg) (tc := tc) (lv := lv) (lw := lw) (tk := tk) (sh := sh) (co := co) (vo := vo) (ke := ke) (pe := pe) (oP := oP) (bz := bz) (ro := ro) (fy := fy) (ca := ca) v1 v2 hN hL with ⟨c, l, hc, hl, rfl, rfl, gx, gy⟩ | ⟨gx, gy⟩
  · have e := qta l c (by omega) (by omega)
    refine ⟨ta (l * 4 + c), fun post g => ?_, fun post g => ?_⟩
    · simp only [wpX_pending]
      refine gx _ (br_f (by decide) ?_)
      rw [dc_i4, nI_clamp (by omega)]
      exact ⟨vp_in_nI (by omega) (by decide), g⟩
    · simp only [wpY_pending]
      refine gy _ (br_t rfl ?_)
      rw [dc_i5, nI_clamp (by omega), e]
      exact ⟨vp_in_nI (by omega) (by decide), g⟩
  · refine ⟨-1, fun post g => ?_, fun post g => ?_⟩
    · simp only [wpX_pending]
      exact gx _ (br_t rfl g)
    · simp only [wpY_pending]
      exact gy _ (br_f (by decide) g)
theorem lk_result (v1 v2 : Int32) (h : dc_RR N L T F S ow sm sd wc wv wk cs cv ta tO tp lr pv br fg tc lv lw tk sh co vo ke pe oP bz ro fy ca) : dc_Og (fun post => wpX_result post (nI N, nI L, m, ow, sm, sd, wc, wv, wk, cs, cv, ta, tO, tp, lr, pv, br, fg) v1 v2) (fun post => wpY_result post (nI N, nI L, m, ow, sd, wc, tc, lv, lw, tk, sh, co, vo, ke, pe, oP, bz, ro, fy, ca) v1 v2) := by
  obtain ⟨⟨hN2, hN, hL1, hL⟩, qcs, qcv, qta, qtO, qlr, qpv, -⟩ := h
  rcases lk_cell (N := N) (L := L) (m := m) (ow := ow) (sm := sm) (sd := sd) (wc := wc) (wv := wv) (wk := wk) (cs := cs) (cv := cv) (ta := ta) (tO := tO) (tp := tp) (lr := lr) (pv := pv) (br := br) (fg := fg) (tc := tc) (lv := lv) (lw := lw) (tk := tk) (sh := sh) (co := co) (vo := vo) (ke := ke) (pe := pe) (oP := oP) (bz := bz) (ro := ro) (fy := fy) (ca := ca) v1 v2 hN hL with ⟨c, l, hc, hl, rfl, rfl, gx, gy⟩ | ⟨gx, gy⟩
  · have e := qlr l c (by omega) (by omega)
    refine ⟨lr (l * 4 + c), fun post g => ?_, fun post g => ?_⟩
    · simp only [wpX_result]
      refine gx _ (br_f (by decide) ?_)
      rw [dc_i4, nI_clamp (by omega)]
      exact ⟨vp_in_nI (by omega) (by decide), g⟩
    · simp only [wpY_result]
      refine gy _ (br_t rfl ?_)
      rw [dc_i5, nI_clamp (by omega), e]
      exact ⟨vp_in_nI (by omega) (by decide), g⟩
  · refine ⟨0, fun post g => ?_, fun post g => ?_⟩
    · simp only [wpX_result]
      exact gx _ (br_t rfl g)
    · simp only [wpY_result]
      exact gy _ (br_f (by decide) g)
theorem lk_operand (v1 v2 : Int32) (h : dc_RR N L T F S ow sm sd wc wv wk cs cv ta tO tp lr pv br fg tc lv lw tk sh co vo ke pe oP bz ro fy ca) : dc_Og (fun post => wpX_operand post (nI N, nI L, m, ow, sm, sd, wc, wv, wk, cs, cv, ta, tO, tp, lr, pv, br, fg) v1 v2) (fun post => wpY_operand post (nI N, nI L, m, ow, sd, wc, tc, lv, lw, tk, sh, co, vo, ke, pe, oP, bz, ro, fy, ca) v1 v2) := by
  obtain ⟨⟨hN2, hN, hL1, hL⟩, qcs, qcv, qta, qtO, qlr, qpv, -⟩ := h
  rcases lk_cell (N := N) (L := L) (m := m) (ow := ow) (sm := sm) (sd := sd) (wc := wc) (wv := wv) (wk := wk) (cs := cs) (cv := cv) (ta := ta) (tO := tO) (tp := tp) (lr := lr) (pv := pv) (br := br) (fg := fg) (tc := tc) (lv := lv) (lw := lw) (tk := tk) (sh := sh) (co := co) (vo := vo) (ke := ke) (pe := pe) (oP := oP) (bz := bz) (ro := ro) (fy := fy) (ca := ca) v1 v2 hN hL with ⟨c, l, hc, hl, rfl, rfl, gx, gy⟩ | ⟨gx, gy⟩
  · have e := qta l c (by omega) (by omega)
    have e' := qtO l c (by omega) (by omega)
    cases b : dc_w (ta (l * 4 + c)) with
    | false =>
      refine ⟨0, fun post g => ?_, fun post g => ?_⟩
      · simp only [wpX_operand]
        refine gx _ (br_f (by decide) (nm_r (dc_i4 l c) (dx_wpend (by omega) ?_)))
        rw [b]
        exact br_t rfl g
      · simp only [wpY_operand]
        refine gy _ (br_t rfl (dy_writing (by omega) (by omega) ?_))
        rw [e, b]
        exact br_t rfl g
    | true =>
      refine ⟨tO (l * 4 + c), fun post g => ?_, fun post g => ?_⟩
      · simp only [wpX_operand]
        refine gx _ (br_f (by decide) (nm_r (dc_i4 l c) (dx_wpend (by omega) ?_)))
        rw [b, nI_clamp (by omega)]
        exact br_f (by decide) ⟨vp_in_nI (by omega) (by decide), g⟩
      · simp only [wpY_operand]
        refine gy _ (br_t rfl (dy_writing (by omega) (by omega) ?_))
        rw [e, b, dc_i5, nI_clamp (by omega), e']
        exact br_f (by decide) ⟨vp_in_nI (by omega) (by decide), g⟩
  · refine ⟨0, fun post g => ?_, fun post g => ?_⟩
    · simp only [wpX_operand]
      exact gx _ (br_t rfl g)
    · simp only [wpY_operand]
      exact gy _ (br_f (by decide) g)
theorem lk_place (v1 v2 : Int32) (h : dc_RR N L T F S ow sm sd wc wv wk cs cv ta tO tp lr pv br fg tc lv lw tk sh co vo ke pe oP bz ro fy ca) : dc_Og (fun post => wpX_place post (nI N, nI L, m, ow, sm, sd, wc, wv, wk, cs, cv, ta, tO, tp, lr, pv, br, fg) v1 v2) (fun post => wpY_place post (nI N, nI L, m, ow, sd, wc, tc, lv, lw, tk, sh, co, vo, ke, pe, oP, bz, ro, fy, ca) v1 v2) := by
  obtain ⟨⟨hN2, hN, hL1, hL⟩, -, -, -, -, -, -, -, -, -, -, -, -, hPX, hPY, hT, -⟩ := h
  rcases lk_cell (N := N) (L := L) (m := m) (ow := ow) (sm := sm) (sd := sd) (wc := wc) (wv := wv) (wk := wk) (cs := cs) (cv := cv) (ta := ta) (tO := tO) (tp := tp) (lr := lr) (pv := pv) (br := br) (fg := fg) (tc := tc) (lv := lv) (lw := lw) (tk := tk) (sh := sh) (co := co) (vo := vo) (ke := ke) (pe := pe) (oP := oP) (bz := bz) (ro := ro) (fy := fy) (ca := ca) v1 v2 hN hL with ⟨c, l, hc, hl, rfl, rfl, gx, gy⟩ | ⟨gx, gy⟩
  · refine ⟨nI (dc_pl (T l) c), fun post g => ?_, fun post g => dy_place hPY hT hc hl hN hL g⟩
    simp only [wpX_place]
    refine gx _ (br_f (by decide) ?_)
    rw [dc_i4, nI_clamp (by omega), hPX l c (by omega) (by omega)]
    exact ⟨vp_in_nI (by omega) (by decide), g⟩
  · refine ⟨-1, fun post g => ?_, fun post g => ?_⟩
    · simp only [wpX_place]
      exact gx _ (br_t rfl g)
    · simp only [wpY_place]
      exact gy _ (br_f (by decide) g)
theorem lk_held (v1 v2 : Int32) (h : dc_RR N L T F S ow sm sd wc wv wk cs cv ta tO tp lr pv br fg tc lv lw tk sh co vo ke pe oP bz ro fy ca) : dc_Og (fun post => wpX_held post (nI N, nI L, m, ow, sm, sd, wc, wv, wk, cs, cv, ta, tO, tp, lr, pv, br, fg) v1 v2) (fun post => wpY_held post (nI N, nI L, m, ow, sd, wc, tc, lv, lw, tk, sh, co, vo, ke, pe, oP, bz, ro, fy, ca) v1 v2) := by
  obtain ⟨⟨hN2, hN, hL1, hL⟩, qcs, qcv, qta, qtO, qlr, qpv, -⟩ := h
  rcases lk_cell (N := N) (L := L) (m := m) (ow := ow) (sm := sm) (sd := sd) (wc := wc) (wv := wv) (wk := wk) (cs := cs) (cv := cv) (ta := ta) (tO := tO) (tp := tp) (lr := lr) (pv := pv) (br := br) (fg := fg) (tc := tc) (lv := lv) (lw := lw) (tk := tk) (sh := sh) (co := co) (vo := vo) (ke := ke) (pe := pe) (oP := oP) (bz := bz) (ro := ro) (fy := fy) (ca := ca) v1 v2 hN hL with ⟨c, l, hc, hl, rfl, rfl, gx, gy⟩ | ⟨gx, gy⟩
  · have e := qcs l c (by omega) (by omega)
    have e' := qcv l c (by omega) (by omega)
    by_cases z : cs (l * 4 + c) = 0
    · refine ⟨0, fun post g => ?_, fun post g => ?_⟩
      · simp only [wpX_held]
        refine gx _ (br_f (by decide) (nm_r (dc_i4 l c) ?_))
        rw [nI_clamp (by omega)]
        exact ⟨vp_in_nI (by omega) (by decide), br_t z g⟩
      · simp only [wpY_held]
        refine gy _ (br_t rfl (nm_r (dc_i5 l c) ?_))
        rw [nI_clamp (by omega), e]
        exact ⟨vp_in_nI (by omega) (by decide), br_t z g⟩
    · refine ⟨cv (l * 4 + c), fun post g => ?_, fun post g => ?_⟩
      · simp only [wpX_held]
        refine gx _ (br_f (by decide) (nm_r (dc_i4 l c) ?_))
        rw [nI_clamp (by omega)]
        exact ⟨vp_in_nI (by omega) (by decide), br_f z ⟨vp_in_nI (by omega) (by decide), g⟩⟩
      · simp only [wpY_held]
        refine gy _ (br_t rfl (nm_r (dc_i5 l c) ?_))
        rw [nI_clamp (by omega), e, e']
        exact ⟨vp_in_nI (by omega) (by decide), br_f z ⟨vp_in_nI (by omega) (by decide), g⟩⟩
  · refine ⟨0, fun post g => ?_, fun post g => ?_⟩
    · simp only [wpX_held]
      exact gx _ (br_t rfl g)
    · simp only [wpY_held]
      exact gy _ (br_f (by decide) g)
theorem lk_owner (v1 : Int32) (h : dc_RR N L T F S ow sm sd wc wv wk cs cv ta tO tp lr pv br fg tc lv lw tk sh co vo ke pe oP bz ro fy ca) : dc_Og (fun post => wpX_owner post (nI N, nI L, m, ow, sm, sd, wc, wv, wk, cs, cv, ta, tO, tp, lr, pv, br, fg) v1) (fun post => wpY_owner post (nI N, nI L, m, ow, sd, wc, tc, lv, lw, tk, sh, co, vo, ke, pe, oP, bz, ro, fy, ca) v1) := by
  have hL := h.1.2.2.2
  rcases lk_line (N := N) (L := L) (m := m) (ow := ow) (sm := sm) (sd := sd) (wc := wc) (wv := wv) (wk := wk) (cs := cs) (cv := cv) (ta := ta) (tO := tO) (tp := tp) (lr := lr) (pv := pv) (br := br) (fg := fg) (tc := tc) (lv := lv) (lw := lw) (tk := tk) (sh := sh) (co := co) (vo := vo) (ke := ke) (pe := pe) (oP := oP) (bz := bz) (ro := ro) (fy := fy) (ca := ca) v1 hL with ⟨l, hl, rfl, gx, gy⟩ | ⟨gx, gy⟩
  · refine ⟨ow l, fun post g => ?_, fun post g => ?_⟩
    · simp only [wpX_owner]
      refine gx _ (br_f (by decide) ?_)
      rw [nI_clamp (by omega)]
      exact ⟨vp_in_nI (by omega) (by decide), g⟩
    · simp only [wpY_owner]
      refine gy _ (br_t rfl ?_)
      rw [nI_clamp (by omega)]
      exact ⟨vp_in_nI (by omega) (by decide), g⟩
  · refine ⟨-1, fun post g => ?_, fun post g => ?_⟩
    · simp only [wpX_owner]
      exact gx _ (br_t rfl g)
    · simp only [wpY_owner]
      exact gy _ (br_f (by decide) g)
theorem lk_memory (v1 : Int32) (h : dc_RR N L T F S ow sm sd wc wv wk cs cv ta tO tp lr pv br fg tc lv lw tk sh co vo ke pe oP bz ro fy ca) : dc_Og (fun post => wpX_memory post (nI N, nI L, m, ow, sm, sd, wc, wv, wk, cs, cv, ta, tO, tp, lr, pv, br, fg) v1) (fun post => wpY_memory post (nI N, nI L, m, ow, sd, wc, tc, lv, lw, tk, sh, co, vo, ke, pe, oP, bz, ro, fy, ca) v1) := by
  have hL := h.1.2.2.2
  rcases lk_line (N := N) (L := L) (m := m) (ow := ow) (sm := sm) (sd := sd) (wc := wc) (wv := wv) (wk := wk) (cs := cs) (cv := cv) (ta := ta) (tO := tO) (tp := tp) (lr := lr) (pv := pv) (br := br) (fg := fg) (tc := tc) (lv := lv) (lw := lw) (tk := tk) (sh := sh) (co := co) (vo := vo) (ke := ke) (pe := pe) (oP := oP) (bz := bz) (ro := ro) (fy := fy) (ca := ca) v1 hL with ⟨l, hl, rfl, gx, gy⟩ | ⟨gx, gy⟩
  · refine ⟨sd l, fun post g => ?_, fun post g => ?_⟩
    · simp only [wpX_memory]
      refine gx _ (br_f (by decide) ?_)
      rw [nI_clamp (by omega)]
      exact ⟨vp_in_nI (by omega) (by decide), g⟩
    · simp only [wpY_memory]
      refine gy _ (br_t rfl ?_)
      rw [nI_clamp (by omega)]
      exact ⟨vp_in_nI (by omega) (by decide), g⟩
  · refine ⟨0, fun post g => ?_, fun post g => ?_⟩
    · simp only [wpX_memory]
      exact gx _ (br_t rfl g)
    · simp only [wpY_memory]
      exact gy _ (br_f (by decide) g)
theorem lk_writes (v1 : Int32) (h : dc_RR N L T F S ow sm sd wc wv wk cs cv ta tO tp lr pv br fg tc lv lw tk sh co vo ke pe oP bz ro fy ca) : dc_Og (fun post => wpX_writes post (nI N, nI L, m, ow, sm, sd, wc, wv, wk, cs, cv, ta, tO, tp, lr, pv, br, fg) v1) (fun post => wpY_writes post (nI N, nI L, m, ow, sd, wc, tc, lv, lw, tk, sh, co, vo, ke, pe, oP, bz, ro, fy, ca) v1) := by
  have hL := h.1.2.2.2
  rcases lk_line (N := N) (L := L) (m := m) (ow := ow) (sm := sm) (sd := sd) (wc := wc) (wv := wv) (wk := wk) (cs := cs) (cv := cv) (ta := ta) (tO := tO) (tp := tp) (lr := lr) (pv := pv) (br := br) (fg := fg) (tc := tc) (lv := lv) (lw := lw) (tk := tk) (sh := sh) (co := co) (vo := vo) (ke := ke) (pe := pe) (oP := oP) (bz := bz) (ro := ro) (fy := fy) (ca := ca) v1 hL with ⟨l, hl, rfl, gx, gy⟩ | ⟨gx, gy⟩
  · refine ⟨wc l, fun post g => ?_, fun post g => ?_⟩
    · simp only [wpX_writes]
      refine gx _ (br_f (by decide) ?_)
      rw [nI_clamp (by omega)]
      exact ⟨vp_in_nI (by omega) (by decide), g⟩
    · simp only [wpY_writes]
      refine gy _ (br_t rfl ?_)
      rw [nI_clamp (by omega)]
      exact ⟨vp_in_nI (by omega) (by decide), g⟩
  · refine ⟨-1, fun post g => ?_, fun post g => ?_⟩
    · simp only [wpX_writes]
      exact gx _ (br_t rfl g)
    · simp only [wpY_writes]
      exact gy _ (br_f (by decide) g)
theorem dc_ps : ∀ b0 b1 b2 b3 : Bool, (dc_mB false false false false false + ((1 : Int32) <<< (nI 0 &&& 31)) = dc_mB true false false false false) ∧ (dc_mB b0 false false false false + ((1 : Int32) <<< (nI 1 &&& 31)) = dc_mB b0 true false false false) ∧ (dc_mB b0 b1 false false false + ((1 : Int32) <<< (nI 2 &&& 31)) = dc_mB b0 b1 true false false) ∧ (dc_mB b0 b1 b2 false false + ((1 : Int32) <<< (nI 3 &&& 31)) = dc_mB b0 b1 b2 true false) := by decide +kernel
theorem dc_psum (f : Nat → Bool) {j : Nat} (hj : j < 4) (h : f j = true) : dc_mk (fun c => decide (c < j) && f c) + ((1 : Int32) <<< (nI j &&& 31)) = dc_mk (fun c => decide (c < j + 1) && f c) := by
  obtain ⟨h0, h1, h2, h3⟩ := dc_ps (f 0) (f 1) (f 2) (f 3)
  have e : j = 0 ∨ j = 1 ∨ j = 2 ∨ j = 3 := by omega
  rcases e with rfl | rfl | rfl | rfl
  · simpa [dc_mk, h] using h0
  · simpa [dc_mk, h] using h1
  · simpa [dc_mk, h] using h2
  · simpa [dc_mk, h] using h3
theorem dy_shar14 {l : Nat} (hS : dc_SY S sh) (hN : N ≤ 4) (hl : l < 4) {post : Int32 → Prop} (g : post (dc_mk (fun c => decide (c < N) && S l c))) : ∀ n j, N < n + j → j ≤ N → wY_sharers_14 post (nI l) (nI N) (nI L) m ow sd wc tc lv lw tk sh co vo ke pe oP bz ro fy ca n (dc_mk (fun c => decide (c < j) && S l c)) (nI j) := by
  intro n
  induction n with
  | zero => intro j h1 h2; omega
  | succ n ih =>
    intro j h1 h2
    simp only [wY_sharers_14]
    by_cases hj : j < N
    · refine br_f (nI_ge hj (by omega)) ?_
      have e := hS l j hl (by omega)
      rw [dc_i5, nI_clamp (by omega), e]
      have z := ih (j + 1) (by omega) (by omega)
      cases b : S l j with
      | false =>
        have e2 : dc_mk (fun c => decide (c < j + 1) && S l c) = dc_mk (fun c => decide (c < j) && S l c) := by
          refine dc_mk_congr fun p _ => ?_
          by_cases pj : p = j
          · rw [pj, b]; simp
          · have : (p < j + 1) = (p < j) := propext (by omega)
            simp only [this]
        rw [e2] at z
        exact ⟨vp_in_nI (by omega) (by decide), br_t rfl (nm_r (nI_1 j) z)⟩
      | true =>
        rw [← dc_psum (S l) (by omega) b] at z
        exact ⟨vp_in_nI (by omega) (by decide), br_f (by decide) (nm_e (nm_r (nI_1 j) z))⟩
    · have e : j = N := by omega
      subst e
      exact br_t (nI_le (Nat.le_refl _) (by omega)) g
theorem lk_sharers (v1 : Int32) (h : dc_RR N L T F S ow sm sd wc wv wk cs cv ta tO tp lr pv br fg tc lv lw tk sh co vo ke pe oP bz ro fy ca) : dc_Og (fun post => wpX_sharers post (nI N, nI L, m, ow, sm, sd, wc, wv, wk, cs, cv, ta, tO, tp, lr, pv, br, fg) v1) (fun post => wpY_sharers post (nI N, nI L, m, ow, sd, wc, tc, lv, lw, tk, sh, co, vo, ke, pe, oP, bz, ro, fy, ca) v1) := by
  obtain ⟨⟨hN2, hN, hL1, hL⟩, -, -, -, -, -, -, -, hSX, hSY, -⟩ := h
  rcases lk_line (N := N) (L := L) (m := m) (ow := ow) (sm := sm) (sd := sd) (wc := wc) (wv := wv) (wk := wk) (cs := cs) (cv := cv) (ta := ta) (tO := tO) (tp := tp) (lr := lr) (pv := pv) (br := br) (fg := fg) (tc := tc) (lv := lv) (lw := lw) (tk := tk) (sh := sh) (co := co) (vo := vo) (ke := ke) (pe := pe) (oP := oP) (bz := bz) (ro := ro) (fy := fy) (ca := ca) v1 hL with ⟨l, hl, rfl, gx, gy⟩ | ⟨gx, gy⟩
  · obtain ⟨s1, s2⟩ := hSX l (by omega)
    refine ⟨sm l, fun post g => ?_, fun post g => ?_⟩
    · simp only [wpX_sharers]
      refine gx _ (br_f (by decide) ?_)
      rw [nI_clamp (by omega)]
      exact ⟨vp_in_nI (by omega) (by decide), g⟩
    · simp only [wpY_sharers]
      have e1 : dc_mk (fun c => decide (c < N) && S l c) = sm l := by
        rw [s1]
        refine dc_mk_congr fun p hp => ?_
        cases b : S l p with
        | false => simp
        | true => simp [s2 p hp b]
      have e0 : dc_mk (fun c => decide (c < 0) && S l c) = 0 := by
        rw [← dc_mk_0]
        exact dc_mk_congr fun p _ => by simp
      have z := dy_shar14 (N := N) (L := L) (m := m) (ow := ow) (sd := sd) (wc := wc) (tc := tc) (lv := lv) (lw := lw) (tk := tk) (sh := sh) (co := co) (vo := vo) (ke := ke) (pe := pe) (oP := oP) (bz := bz) (ro := ro) (fy := fy) (ca := ca) (l := l) (post := post) hSY hN (by omega) (by rw [e1]; exact g) (N + 1) 0 (by omega) (by omega)
      rw [e0] at z
      exact gy _ (br_t rfl ⟨N + 1, z⟩)
  · refine ⟨-1, fun post g => ?_, fun post g => ?_⟩
    · simp only [wpX_sharers]
      exact gx _ (br_t rfl g)
    · simp only [wpY_sharers]
      exact gy _ (br_f (by decide) g)
theorem lk_written (v1 v2 : Int32) (h : dc_RR N L T F S ow sm sd wc wv wk cs cv ta tO tp lr pv br fg tc lv lw tk sh co vo ke pe oP bz ro fy ca) : dc_Og (fun post => wpX_written post (nI N, nI L, m, ow, sm, sd, wc, wv, wk, cs, cv, ta, tO, tp, lr, pv, br, fg) v1 v2) (fun post => wpY_written post (nI N, nI L, m, ow, sd, wc, tc, lv, lw, tk, sh, co, vo, ke, pe, oP, bz, ro, fy, ca) v1 v2) := by
  obtain ⟨⟨hN2, hN, hL1, hL⟩, -, -, -, -, -, -, -, -, -, hWR, -⟩ := h
  rcases lk_line (N := N) (L := L) (m := m) (ow := ow) (sm := sm) (sd := sd) (wc := wc) (wv := wv) (wk := wk) (cs := cs) (cv := cv) (ta := ta) (tO := tO) (tp := tp) (lr := lr) (pv := pv) (br := br) (fg := fg) (tc := tc) (lv := lv) (lw := lw) (tk := tk) (sh := sh) (co := co) (vo := vo) (ke := ke) (pe := pe) (oP := oP) (bz := bz) (ro := ro) (fy := fy) (ca := ca) v1 hL with ⟨l, hl, rfl, gx, gy⟩ | ⟨gx, gy⟩
  · by_cases n0 : v2 < 0
    · refine ⟨0, fun post g => ?_, fun post g => ?_⟩
      · simp only [wpX_written]
        exact gx _ (br_f (by decide) (br_t n0 g))
      · simp only [wpY_written]
        exact gy _ (br_t rfl (br_t n0 g))
    · by_cases n8 : v2 < 8
      · obtain ⟨b, hb31, rfl⟩ := nI_of n0
        have hb : b < 8 := (nI_ltI (b := 8) hb31 (by decide)).mp n8
        by_cases nw : nI b < wc l
        · have e := (hWR l b (by omega) hb).1
          refine ⟨lv (l * 8 + b), fun post g => ?_, fun post g => ?_⟩
          · simp only [wpX_written]
            refine gx _ (br_f (by decide) (br_f n0 (br_t n8 ?_)))
            rw [nI_clamp (n := l) (by omega)]
            refine ⟨vp_in_nI (by omega) (by decide), br_t nw ⟨vp_in_nI (by omega) (by decide), nm_r (dc_and7 _) ?_⟩⟩
            rw [dc_m8_b _ hb, dc_i8, nI_clamp (by omega), ← e]
            exact ⟨vp_in_nI (by omega) (by decide), g⟩
          · simp only [wpY_written]
            refine gy _ (br_t rfl (br_f n0 (br_t n8 ?_)))
            rw [nI_clamp (n := l) (by omega), dc_i8, nI_clamp (by omega)]
            exact ⟨vp_in_nI (by omega) (by decide), br_t nw ⟨vp_in_nI (by omega) (by decide), g⟩⟩
        · refine ⟨0, fun post g => ?_, fun post g => ?_⟩
          · simp only [wpX_written]
            refine gx _ (br_f (by decide) (br_f n0 (br_t n8 ?_)))
            rw [nI_clamp (n := l) (by omega)]
            exact ⟨vp_in_nI (by omega) (by decide), br_f nw g⟩
          · simp only [wpY_written]
            refine gy _ (br_t rfl (br_f n0 (br_t n8 ?_)))
            rw [nI_clamp (n := l) (by omega)]
            exact ⟨vp_in_nI (by omega) (by decide), br_f nw g⟩
      · refine ⟨0, fun post g => ?_, fun post g => ?_⟩
        · simp only [wpX_written]
          exact gx _ (br_f (by decide) (br_f n0 (br_f n8 g)))
        · simp only [wpY_written]
          exact gy _ (br_t rfl (br_f n0 (br_f n8 g)))
  · refine ⟨0, fun post g => ?_, fun post g => ?_⟩
    · simp only [wpX_written]
      exact gx _ (br_t rfl g)
    · simp only [wpY_written]
      exact gy _ (br_f (by decide) g)
theorem lk_writer (v1 v2 : Int32) (h : dc_RR N L T F S ow sm sd wc wv wk cs cv ta tO tp lr pv br fg tc lv lw tk sh co vo ke pe oP bz ro fy ca) : dc_Og (fun post => wpX_writer post (nI N, nI L, m, ow, sm, sd, wc, wv, wk, cs, cv, ta, tO, tp, lr, pv, br, fg) v1 v2) (fun post => wpY_writer post (nI N, nI L, m, ow, sd, wc, tc, lv, lw, tk, sh, co, vo, ke, pe, oP, bz, ro, fy, ca) v1 v2) := by
  obtain ⟨⟨hN2, hN, hL1, hL⟩, -, -, -, -, -, -, -, -, -, hWR, -⟩ := h
  rcases lk_line (N := N) (L := L) (m := m) (ow := ow) (sm := sm) (sd := sd) (wc := wc) (wv := wv) (wk := wk) (cs := cs) (cv := cv) (ta := ta) (tO := tO) (tp := tp) (lr := lr) (pv := pv) (br := br) (fg := fg) (tc := tc) (lv := lv) (lw := lw) (tk := tk) (sh := sh) (co := co) (vo := vo) (ke := ke) (pe := pe) (oP := oP) (bz := bz) (ro := ro) (fy := fy) (ca := ca) v1 hL with ⟨l, hl, rfl, gx, gy⟩ | ⟨gx, gy⟩
  · by_cases n0 : v2 < 0
    · refine ⟨-1, fun post g => ?_, fun post g => ?_⟩
      · simp only [wpX_writer]
        exact gx _ (br_f (by decide) (br_t n0 g))
      · simp only [wpY_writer]
        exact gy _ (br_t rfl (br_t n0 g))
    · by_cases n8 : v2 < 8
      · obtain ⟨b, hb31, rfl⟩ := nI_of n0
        have hb : b < 8 := (nI_ltI (b := 8) hb31 (by decide)).mp n8
        by_cases nw : nI b < wc l
        · have e := (hWR l b (by omega) hb).2
          refine ⟨lw (l * 8 + b), fun post g => ?_, fun post g => ?_⟩
          · simp only [wpX_writer]
            refine gx _ (br_f (by decide) (br_f n0 (br_t n8 ?_)))
            rw [nI_clamp (n := l) (by omega)]
            refine ⟨vp_in_nI (by omega) (by decide), br_t nw ⟨vp_in_nI (by omega) (by decide), nm_r (dc_and7 _) ?_⟩⟩
            rw [dc_m8_b _ hb, dc_i8, nI_clamp (by omega), ← e]
            exact ⟨vp_in_nI (by omega) (by decide), g⟩
          · simp only [wpY_writer]
            refine gy _ (br_t rfl (br_f n0 (br_t n8 ?_)))
            rw [nI_clamp (n := l) (by omega), dc_i8, nI_clamp (by omega)]
            exact ⟨vp_in_nI (by omega) (by decide), br_t nw ⟨vp_in_nI (by omega) (by decide), g⟩⟩
        · refine ⟨4, fun post g => ?_, fun post g => ?_⟩
          · simp only [wpX_writer]
            refine gx _ (br_f (by decide) (br_f n0 (br_t n8 ?_)))
            rw [nI_clamp (n := l) (by omega)]
            exact ⟨vp_in_nI (by omega) (by decide), br_f nw g⟩
          · simp only [wpY_writer]
            refine gy _ (br_t rfl (br_f n0 (br_t n8 ?_)))
            rw [nI_clamp (n := l) (by omega)]
            exact ⟨vp_in_nI (by omega) (by decide), br_f nw g⟩
      · refine ⟨-1, fun post g => ?_, fun post g => ?_⟩
        · simp only [wpX_writer]
          exact gx _ (br_f (by decide) (br_f n0 (br_f n8 g)))
        · simp only [wpY_writer]
          exact gy _ (br_t rfl (br_f n0 (br_f n8 g)))
  · refine ⟨-1, fun post g => ?_, fun post g => ?_⟩
    · simp only [wpX_writer]
      exact gx _ (br_t rfl g)
    · simp only [wpY_writer]
      exact gy _ (br_f (by decide) g)
theorem lk_init : ∀ (n j : Nat) (ow : Nat → Int32), 4 < n + j → j ≤ 4 → (∀ i, i < j → ow i = 4) → ∃ ow', (∀ i, i < 4 → ow' i = 4) ∧ (∀ post : SX → Prop, post (nI N, nI L, m, ow', sm, sd, wc, wv, wk, cs, cv, ta, tO, tp, lr, pv, br, fg) → wX_init_156 post (nI N) (nI L) m n (nI j) ow sm sd wc wv wk cs cv ta tO tp lr pv br fg) ∧ (∀ post : SY → Prop, post (nI N, nI L, m, ow', sd, wc, tc, lv, lw, tk, sh, co, vo, ke, pe, oP, bz, ro, fy, ca) → wY_init_210 post (nI N) (nI L) m n (nI j) ow sd wc tc lv lw tk sh co vo ke pe oP bz ro fy ca) := by
  intro n
  induction n with
  | zero => intro j ow h1 h2; omega
  | succ n ih =>
    intro j ow h1 h2 h3
    by_cases hj : j < 4
    · obtain ⟨ow', g1, g2, g3⟩ := ih (j + 1) (upd ow j 4) (by omega) (by omega) (by
        intro i hi
        by_cases e : i = j
        · rw [e]; exact pk_us
        · exact (pk_un e).trans (h3 i (by omega)))
      refine ⟨ow', g1, fun post g => ?_, fun post g => ?_⟩
      · simp only [wX_init_156]
        refine br_f (nI_ge (b := 4) (by omega) (by decide)) ?_
        rw [nI_clamp (by omega)]
        exact ⟨vp_in_nI (by omega) (by decide), nm_e (nm_r (nI_1 j) (g2 post g))⟩
      · simp only [wY_init_210]
        refine br_f (nI_ge (b := 4) (by omega) (by decide)) ?_
        rw [nI_clamp (by omega)]
        exact ⟨vp_in_nI (by omega) (by decide), nm_e (nm_r (nI_1 j) (g3 post g))⟩
    · have e : j = 4 := by omega
      subst e
      refine ⟨ow, h3, fun post g => ?_, fun post g => ?_⟩
      · simp only [wX_init_156]
        exact br_t (nI_le (a := 4) (Nat.le_refl _) (by decide)) g
      · simp only [wY_init_210]
        exact br_t (nI_le (a := 4) (Nat.le_refl _) (by decide)) g
end
theorem dc_clamp {lo : Nat} (h1 : 1 ≤ lo) (h2 : lo ≤ 4) (x : Int32) : ∃ N : Nat, lo ≤ N ∧ N ≤ 4 ∧ ((nI lo ≤ x ∧ x ≤ 4 ∧ x = nI N) ∨ (nI lo ≤ x ∧ ¬ x ≤ 4 ∧ N = 4) ∨ (¬ nI lo ≤ x ∧ N = lo)) := by
  by_cases a : nI lo ≤ x
  · by_cases b : x ≤ 4
    · have n0 : ¬ x < 0 := by
        intro z
        have := Int32.lt_of_le_of_lt a z
        exact nI_pos (by omega) this
      obtain ⟨N, hN, rfl⟩ := nI_of n0
      have u1 := (nI_leI (by omega) hN).mp a
      have u2 := (nI_leI (b := 4) hN (by decide)).mp b
      exact ⟨N, u1, u2, Or.inl ⟨a, b, rfl⟩⟩
    · exact ⟨4, h2, Nat.le_refl _, Or.inr (Or.inl ⟨a, b, rfl⟩)⟩
  · exact ⟨lo, Nat.le_refl _, h2, Or.inr (Or.inr ⟨a, rfl⟩)⟩
theorem dx_clamp {lo N : Nat} {x : Int32} (h : (nI lo ≤ x ∧ x ≤ 4 ∧ x = nI N) ∨ (nI lo ≤ x ∧ ¬ x ≤ 4 ∧ N = 4) ∨ (¬ nI lo ≤ x ∧ N = lo)) (u : SX) {post : Int32 → Prop} (g : post (nI N)) : wpX_clamp post u x (nI lo) 4 := by
  obtain ⟨x1, x2, x3, x4, x5, x6, x7, x8, x9, x10, x11, x12, x13, x14, x15, x16, x17, x18⟩ := u
  simp only [wpX_clamp]
  rcases h with ⟨a, b, rfl⟩ | ⟨a, b, rfl⟩ | ⟨a, rfl⟩
  · exact br_t a (br_t b g)
  · exact br_t a (br_f b g)
  · exact br_f a g
theorem dc_RR0 {N L : Nat} {ow : Nat → Int32} (hN : 2 ≤ N ∧ N ≤ 4) (hL : 1 ≤ L ∧ L ≤ 4) (how : ∀ i, i < 4 → ow i = 4) : dc_RR N L (fun _ => []) (fun _ _ _ _ => false) (fun _ _ => false) ow (fun _ => 0) (fun _ => 0) (fun _ => 0) (fun _ => 0) (fun _ => 0) (fun _ => 0) (fun _ => 0) (fun _ => 0) (fun _ => 0) (fun _ => 0) (fun _ => 0) (fun _ => 0) (fun _ => 0) (fun _ => 0) (fun _ => 0) (fun _ => 0) (fun _ => 0) (fun _ => 0) (fun _ => 0) (fun _ => 0) (fun _ => 0) (fun _ => 0) (fun _ => 0) (fun _ => 0) (fun _ => 0) (fun _ => 0) (fun _ => 0) (fun _ => 0) := by
  refine ⟨⟨hN.1, hN.2, hL.1, hL.2⟩, fun _ _ _ _ => rfl, fun _ _ _ _ => rfl, fun _ _ _ _ => rfl, fun _ _ _ _ => rfl, fun _ _ _ _ => rfl, fun _ _ _ _ => rfl, fun l hl => ⟨4, Or.inr rfl, how l hl⟩, fun l hl => ⟨dc_mk_0.symm, fun c _ z => by cases z⟩, fun _ _ _ _ => rfl, fun _ _ _ _ => ⟨rfl, rfl⟩, fun _ _ _ _ _ _ => dc_mk_0.symm, fun _ _ _ _ _ _ _ _ => rfl, fun _ _ _ _ => rfl, fun _ _ => ⟨rfl, trivial⟩, fun _ _ => ⟨List.nodup_nil, fun x hx => by cases hx⟩, ?_⟩
  intro l c hl hc
  exact ⟨fun _ => rfl, dc_IC_idle (fun _ _ _ _ => rfl) (fun z => by cases z)⟩
theorem i_vc0 (k0 : Int32) (k1 : Int32) (k2 : Int32) : wpX_init (fun u => wpY_init (fun v => i_Rel 3 u v) k0 k1 k2) k0 k1 k2 := by
  obtain ⟨N, n1, n2, n3⟩ := dc_clamp (lo := 2) (by decide) (by decide) k0
  obtain ⟨L, l1, l2, l3⟩ := dc_clamp (lo := 1) (by decide) (by decide) k1
  obtain ⟨M, m1, m2, m3⟩ := dc_clamp (lo := 1) (by decide) (by decide) k2
  obtain ⟨ow', g1, g2, g3⟩ := lk_init (N := N) (L := L) (m := nI M) (sm := fun _ => 0) (sd := fun _ => 0) (wc := fun _ => 0) (wv := fun _ => 0) (wk := fun _ => 0) (cs := fun _ => 0) (cv := fun _ => 0) (ta := fun _ => 0) (tO := fun _ => 0) (tp := fun _ => 0) (lr := fun _ => 0) (pv := fun _ => 0) (br := fun _ => 0) (fg := fun _ => 0) (tc := fun _ => 0) (lv := fun _ => 0) (lw := fun _ => 0) (tk := fun _ => 0) (sh := fun _ => 0) (co := fun _ => 0) (vo := fun _ => 0) (ke := fun _ => 0) (pe := fun _ => 0) (oP := fun _ => 0) (bz := fun _ => 0) (ro := fun _ => 0) (fy := fun _ => 0) (ca := fun _ => 0) 5 0 (fun _ => 0) (by decide) (by decide) (fun i hi => absurd hi (Nat.not_lt_zero i))
  have hY : ∀ post : SY → Prop, (∃ n, wY_init_210 post (nI N) (nI L) (nI M) n 0 (fun _ => 0) (fun _ => 0) (fun _ => 0) (fun _ => 0) (fun _ => 0) (fun _ => 0) (fun _ => 0) (fun _ => 0) (fun _ => 0) (fun _ => 0) (fun _ => 0) (fun _ => 0) (fun _ => 0) (fun _ => 0) (fun _ => 0) (fun _ => 0) (fun _ => 0)) → wpY_init post k0 k1 k2 := by
    intro post g
    have s3 : wY_init_181 post k2 (nI L) (nI N) 0 0 (fun _ => 0) (fun _ => 0) (fun _ => 0) (fun _ => 0) (fun _ => 0) (fun _ => 0) (fun _ => 0) (fun _ => 0) (fun _ => 0) (fun _ => 0) (fun _ => 0) (fun _ => 0) (fun _ => 0) (fun _ => 0) (fun _ => 0) (fun _ => 0) (fun _ => 0) := by
      simp only [wY_init_181]
      rcases m3 with ⟨a, b, e⟩ | ⟨a, b, e⟩ | ⟨a, e⟩
      · exact br_t a (br_t b (by rw [e]; exact g))
      · exact br_t a (br_f b (by rw [e] at g; exact g))
      · exact br_f a (by rw [e] at g; exact g)
    have s2 : wY_init_158 post k1 k2 (nI N) 0 0 0 (fun _ => 0) (fun _ => 0) (fun _ => 0) (fun _ => 0) (fun _ => 0) (fun _ => 0) (fun _ => 0) (fun _ => 0) (fun _ => 0) (fun _ => 0) (fun _ => 0) (fun _ => 0) (fun _ => 0) (fun _ => 0) (fun _ => 0) (fun _ => 0) (fun _ => 0) := by
      simp only [wY_init_158]
      rcases l3 with ⟨a, b, e⟩ | ⟨a, b, e⟩ | ⟨a, e⟩
      · exact br_t a (br_t b (by rw [e]; exact s3))
      · exact br_t a (br_f b (by rw [e] at s3; exact s3))
      · exact br_f a (by rw [e] at s3; exact s3)
    simp only [wpY_init]
    rcases n3 with ⟨a, b, e⟩ | ⟨a, b, e⟩ | ⟨a, e⟩
    · exact br_t a (br_t b (by rw [e]; exact s2))
    · exact br_t a (br_f b (by rw [e] at s2; exact s2))
    · exact br_f a (by rw [e] at s2; exact s2)
  unfold wpX_init
  refine dx_clamp (lo := 2) n3 _ (dx_clamp (lo := 1) l3 _ (dx_clamp (lo := 1) m3 _ ⟨5, g2 _ ?_⟩))
  exact hY _ ⟨5, g3 _ (dc_in (dc_RR0 ⟨n1, n2⟩ ⟨l1, l2⟩ g1))⟩
theorem i_vc_message {k : Nat} {u : SX} {v : SY} (I : i_Rel k u v) (hk : k + 5 ≤ 2563) (v1 : Int32) (v2 : Int32) (v3 : Int32) (v4 : Int32) : wpX_message (fun r => wpY_message (fun r' => r' = r ∧ i_Rel (k + 5) u v) v v1 v2 v3 v4) u v1 v2 v3 v4 := by
  refine dc_el (P := fun u v => wpX_message (fun r => wpY_message (fun r' => r' = r ∧ i_Rel (k + 5) u v) v v1 v2 v3 v4) u v1 v2 v3 v4) ?_ I
  intro N L m T F S ow sm sd wc wv wk cs cv ta tO tp lr pv br fg tc lv lw tk sh co vo ke pe oP bz ro fy ca h
  exact dc_Og_use (lk_message (m := m) (sd := sd) v1 v2 v3 v4 h) (dc_in (m := m) (sd := sd) h)
theorem i_vc_deliver {k : Nat} {u : SX} {v : SY} (I : i_Rel k u v) (hk : k + 5 ≤ 2563) (v1 : Int32) (v2 : Int32) (v3 : Int32) (v4 : Int32) : wpX_deliver (fun r u' => wpY_deliver (fun r' v' => r' = r ∧ i_Rel (k + 5) u' v') v v1 v2 v3 v4) u v1 v2 v3 v4 := by
  refine dc_el (P := fun u v => wpX_deliver (fun r u' => wpY_deliver (fun r' v' => r' = r ∧ i_Rel (k + 5) u' v') v v1 v2 v3 v4) u v1 v2 v3 v4) ?_ I
  intro N L m T F S ow sm sd wc wv wk cs cv ta tO tp lr pv br fg tc lv lw tk sh co vo ke pe oP bz ro fy ca h
  exact dc_Ok_use (lk_deliver (m := m) (sd := sd) v1 v2 v3 v4 h)
theorem i_vc_deliverAny {k : Nat} {u : SX} {v : SY} (I : i_Rel k u v) (hk : k + 5 ≤ 2563) (v1 : Int32) : wpX_deliverAny (fun r u' => wpY_deliverAny (fun r' v' => r' = r ∧ i_Rel (k + 5) u' v') v v1) u v1 := by
  refine dc_el (P := fun u v => wpX_deliverAny (fun r u' => wpY_deliverAny (fun r' v' => r' = r ∧ i_Rel (k + 5) u' v') v v1) u v1) ?_ I
  intro N L m T F S ow sm sd wc wv wk cs cv ta tO tp lr pv br fg tc lv lw tk sh co vo ke pe oP bz ro fy ca h
  exact dc_Ok_use (lk_any (m := m) (sd := sd) v1 h)
theorem i_vc_settle {k : Nat} {u : SX} {v : SY} (I : i_Rel k u v) (hk : k + 5 ≤ 2563) (v1 : Int32) (v2 : Int32) : wpX_settle (fun r u' => wpY_settle (fun r' v' => r' = r ∧ i_Rel (k + 5) u' v') v v1 v2) u v1 v2 := by
  refine dc_el (P := fun u v => wpX_settle (fun r u' => wpY_settle (fun r' v' => r' = r ∧ i_Rel (k + 5) u' v') v v1 v2) u v1 v2) ?_ I
  intro N L m T F S ow sm sd wc wv wk cs cv ta tO tp lr pv br fg tc lv lw tk sh co vo ke pe oP bz ro fy ca h
  exact dc_Ok_use (lk_settle (m := m) (sd := sd) v1 v2 h)
theorem i_vc_ready {k : Nat} {u : SX} {v : SY} (I : i_Rel k u v) (hk : k + 5 ≤ 2563) (v1 : Int32) : wpX_ready (fun r => wpY_ready (fun r' => r' = r ∧ i_Rel (k + 5) u v) v v1) u v1 := by
  refine dc_el (P := fun u v => wpX_ready (fun r => wpY_ready (fun r' => r' = r ∧ i_Rel (k + 5) u v) v v1) u v1) ?_ I
  intro N L m T F S ow sm sd wc wv wk cs cv ta tO tp lr pv br fg tc lv lw tk sh co vo ke pe oP bz ro fy ca h
  exact dc_Og_use (lk_ready (m := m) (sd := sd) v1 h) (dc_in (m := m) (sd := sd) h)
theorem i_vc_inFlight {k : Nat} {u : SX} {v : SY} (I : i_Rel k u v) (hk : k + 5 ≤ 2563) (v1 : Int32) : wpX_inFlight (fun r => wpY_inFlight (fun r' => r' = r ∧ i_Rel (k + 5) u v) v v1) u v1 := by
  refine dc_el (P := fun u v => wpX_inFlight (fun r => wpY_inFlight (fun r' => r' = r ∧ i_Rel (k + 5) u v) v v1) u v1) ?_ I
  intro N L m T F S ow sm sd wc wv wk cs cv ta tO tp lr pv br fg tc lv lw tk sh co vo ke pe oP bz ro fy ca h
  exact dc_Og_use (lk_inFlight (m := m) (sd := sd) v1 h) (dc_in (m := m) (sd := sd) h)
theorem i_vc_copy {k : Nat} {u : SX} {v : SY} (I : i_Rel k u v) (hk : k + 5 ≤ 2563) (v1 : Int32) (v2 : Int32) : wpX_copy (fun r => wpY_copy (fun r' => r' = r ∧ i_Rel (k + 5) u v) v v1 v2) u v1 v2 := by
  refine dc_el (P := fun u v => wpX_copy (fun r => wpY_copy (fun r' => r' = r ∧ i_Rel (k + 5) u v) v v1 v2) u v1 v2) ?_ I
  intro N L m T F S ow sm sd wc wv wk cs cv ta tO tp lr pv br fg tc lv lw tk sh co vo ke pe oP bz ro fy ca h
  exact dc_Og_use (lk_copy (m := m) (sd := sd) v1 v2 h) (dc_in (m := m) (sd := sd) h)
theorem i_vc_pending {k : Nat} {u : SX} {v : SY} (I : i_Rel k u v) (hk : k + 5 ≤ 2563) (v1 : Int32) (v2 : Int32) : wpX_pending (fun r => wpY_pending (fun r' => r' = r ∧ i_Rel (k + 5) u v) v v1 v2) u v1 v2 := by
  refine dc_el (P := fun u v => wpX_pending (fun r => wpY_pending (fun r' => r' = r ∧ i_Rel (k + 5) u v) v v1 v2) u v1 v2) ?_ I
  intro N L m T F S ow sm sd wc wv wk cs cv ta tO tp lr pv br fg tc lv lw tk sh co vo ke pe oP bz ro fy ca h
  exact dc_Og_use (lk_pending (m := m) (sd := sd) v1 v2 h) (dc_in (m := m) (sd := sd) h)
theorem i_vc_operand {k : Nat} {u : SX} {v : SY} (I : i_Rel k u v) (hk : k + 5 ≤ 2563) (v1 : Int32) (v2 : Int32) : wpX_operand (fun r => wpY_operand (fun r' => r' = r ∧ i_Rel (k + 5) u v) v v1 v2) u v1 v2 := by
  refine dc_el (P := fun u v => wpX_operand (fun r => wpY_operand (fun r' => r' = r ∧ i_Rel (k + 5) u v) v v1 v2) u v1 v2) ?_ I
  intro N L m T F S ow sm sd wc wv wk cs cv ta tO tp lr pv br fg tc lv lw tk sh co vo ke pe oP bz ro fy ca h
  exact dc_Og_use (lk_operand (m := m) (sd := sd) v1 v2 h) (dc_in (m := m) (sd := sd) h)
theorem i_vc_place {k : Nat} {u : SX} {v : SY} (I : i_Rel k u v) (hk : k + 5 ≤ 2563) (v1 : Int32) (v2 : Int32) : wpX_place (fun r => wpY_place (fun r' => r' = r ∧ i_Rel (k + 5) u v) v v1 v2) u v1 v2 := by
  refine dc_el (P := fun u v => wpX_place (fun r => wpY_place (fun r' => r' = r ∧ i_Rel (k + 5) u v) v v1 v2) u v1 v2) ?_ I
  intro N L m T F S ow sm sd wc wv wk cs cv ta tO tp lr pv br fg tc lv lw tk sh co vo ke pe oP bz ro fy ca h
  exact dc_Og_use (lk_place (m := m) (sd := sd) v1 v2 h) (dc_in (m := m) (sd := sd) h)
theorem i_vc_held {k : Nat} {u : SX} {v : SY} (I : i_Rel k u v) (hk : k + 5 ≤ 2563) (v1 : Int32) (v2 : Int32) : wpX_held (fun r => wpY_held (fun r' => r' = r ∧ i_Rel (k + 5) u v) v v1 v2) u v1 v2 := by
  refine dc_el (P := fun u v => wpX_held (fun r => wpY_held (fun r' => r' = r ∧ i_Rel (k + 5) u v) v v1 v2) u v1 v2) ?_ I
  intro N L m T F S ow sm sd wc wv wk cs cv ta tO tp lr pv br fg tc lv lw tk sh co vo ke pe oP bz ro fy ca h
  exact dc_Og_use (lk_held (m := m) (sd := sd) v1 v2 h) (dc_in (m := m) (sd := sd) h)
theorem i_vc_result {k : Nat} {u : SX} {v : SY} (I : i_Rel k u v) (hk : k + 5 ≤ 2563) (v1 : Int32) (v2 : Int32) : wpX_result (fun r => wpY_result (fun r' => r' = r ∧ i_Rel (k + 5) u v) v v1 v2) u v1 v2 := by
  refine dc_el (P := fun u v => wpX_result (fun r => wpY_result (fun r' => r' = r ∧ i_Rel (k + 5) u v) v v1 v2) u v1 v2) ?_ I
  intro N L m T F S ow sm sd wc wv wk cs cv ta tO tp lr pv br fg tc lv lw tk sh co vo ke pe oP bz ro fy ca h
  exact dc_Og_use (lk_result (m := m) (sd := sd) v1 v2 h) (dc_in (m := m) (sd := sd) h)
theorem i_vc_owner {k : Nat} {u : SX} {v : SY} (I : i_Rel k u v) (hk : k + 5 ≤ 2563) (v1 : Int32) : wpX_owner (fun r => wpY_owner (fun r' => r' = r ∧ i_Rel (k + 5) u v) v v1) u v1 := by
  refine dc_el (P := fun u v => wpX_owner (fun r => wpY_owner (fun r' => r' = r ∧ i_Rel (k + 5) u v) v v1) u v1) ?_ I
  intro N L m T F S ow sm sd wc wv wk cs cv ta tO tp lr pv br fg tc lv lw tk sh co vo ke pe oP bz ro fy ca h
  exact dc_Og_use (lk_owner (m := m) (sd := sd) v1 h) (dc_in (m := m) (sd := sd) h)
theorem i_vc_sharers {k : Nat} {u : SX} {v : SY} (I : i_Rel k u v) (hk : k + 5 ≤ 2563) (v1 : Int32) : wpX_sharers (fun r => wpY_sharers (fun r' => r' = r ∧ i_Rel (k + 5) u v) v v1) u v1 := by
  refine dc_el (P := fun u v => wpX_sharers (fun r => wpY_sharers (fun r' => r' = r ∧ i_Rel (k + 5) u v) v v1) u v1) ?_ I
  intro N L m T F S ow sm sd wc wv wk cs cv ta tO tp lr pv br fg tc lv lw tk sh co vo ke pe oP bz ro fy ca h
  exact dc_Og_use (lk_sharers (m := m) (sd := sd) v1 h) (dc_in (m := m) (sd := sd) h)
theorem i_vc_memory {k : Nat} {u : SX} {v : SY} (I : i_Rel k u v) (hk : k + 5 ≤ 2563) (v1 : Int32) : wpX_memory (fun r => wpY_memory (fun r' => r' = r ∧ i_Rel (k + 5) u v) v v1) u v1 := by
  refine dc_el (P := fun u v => wpX_memory (fun r => wpY_memory (fun r' => r' = r ∧ i_Rel (k + 5) u v) v v1) u v1) ?_ I
  intro N L m T F S ow sm sd wc wv wk cs cv ta tO tp lr pv br fg tc lv lw tk sh co vo ke pe oP bz ro fy ca h
  exact dc_Og_use (lk_memory (m := m) (sd := sd) v1 h) (dc_in (m := m) (sd := sd) h)
theorem i_vc_writes {k : Nat} {u : SX} {v : SY} (I : i_Rel k u v) (hk : k + 5 ≤ 2563) (v1 : Int32) : wpX_writes (fun r => wpY_writes (fun r' => r' = r ∧ i_Rel (k + 5) u v) v v1) u v1 := by
  refine dc_el (P := fun u v => wpX_writes (fun r => wpY_writes (fun r' => r' = r ∧ i_Rel (k + 5) u v) v v1) u v1) ?_ I
  intro N L m T F S ow sm sd wc wv wk cs cv ta tO tp lr pv br fg tc lv lw tk sh co vo ke pe oP bz ro fy ca h
  exact dc_Og_use (lk_writes (m := m) (sd := sd) v1 h) (dc_in (m := m) (sd := sd) h)
theorem i_vc_written {k : Nat} {u : SX} {v : SY} (I : i_Rel k u v) (hk : k + 5 ≤ 2563) (v1 : Int32) (v2 : Int32) : wpX_written (fun r => wpY_written (fun r' => r' = r ∧ i_Rel (k + 5) u v) v v1 v2) u v1 v2 := by
  refine dc_el (P := fun u v => wpX_written (fun r => wpY_written (fun r' => r' = r ∧ i_Rel (k + 5) u v) v v1 v2) u v1 v2) ?_ I
  intro N L m T F S ow sm sd wc wv wk cs cv ta tO tp lr pv br fg tc lv lw tk sh co vo ke pe oP bz ro fy ca h
  exact dc_Og_use (lk_written (m := m) (sd := sd) v1 v2 h) (dc_in (m := m) (sd := sd) h)
theorem i_vc_writer {k : Nat} {u : SX} {v : SY} (I : i_Rel k u v) (hk : k + 5 ≤ 2563) (v1 : Int32) (v2 : Int32) : wpX_writer (fun r => wpY_writer (fun r' => r' = r ∧ i_Rel (k + 5) u v) v v1 v2) u v1 v2 := by
  refine dc_el (P := fun u v => wpX_writer (fun r => wpY_writer (fun r' => r' = r ∧ i_Rel (k + 5) u v) v v1 v2) u v1 v2) ?_ I
  intro N L m T F S ow sm sd wc wv wk cs cv ta tO tp lr pv br fg tc lv lw tk sh co vo ke pe oP bz ro fy ca h
  exact dc_Og_use (lk_writer (m := m) (sd := sd) v1 v2 h) (dc_in (m := m) (sd := sd) h)
end
